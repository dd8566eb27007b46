section
-- ===== PART A: goes FIRST, ahead of the names: the tables' words, and 'selects' of the private methods out of them =====
/-- a private method of a class that the tables say can be made, by its rows of tables_1 -/
def lw_okq (q : MethodName × Nat) : Prop := (q.1.cls ≠ "java/lang/invoke/MethodHandle" ∧ q.1.cls ≠ "java/lang/invoke/VarHandle") ∧ Cond.instantiable q.1.cls q.2 ∈ tables_1 ∧ Cond.privateMethod q.1 ∈ tables_1 ∧ Cond.instanceMethod q.1 ∈ tables_1
set_option maxRecDepth 100000
theorem lw_t1 {w : Cond} (h : w ∈ tables_1_1) : w ∈ tables_1 := List.mem_append_left _ h
theorem lw_t2 {w : Cond} (h : w ∈ tables_1_2) : w ∈ tables_1 := List.mem_append_right _ h
theorem lw_p0 : lw_okq (⟨"LightFlow", "change", "(IZ)V"⟩, 10) := ⟨⟨by decide +kernel, by decide +kernel⟩, lw_t1 (List.mem_of_getElem? (i := 4) rfl), lw_t1 (List.mem_of_getElem? (i := 52) rfl), lw_t1 (List.mem_of_getElem? (i := 53) rfl)⟩
theorem lw_p1 : lw_okq (⟨"LightFlow", "takeAway", "(I)V"⟩, 10) := ⟨⟨by decide +kernel, by decide +kernel⟩, lw_t1 (List.mem_of_getElem? (i := 4) rfl), lw_t1 (List.mem_of_getElem? (i := 56) rfl), lw_t1 (List.mem_of_getElem? (i := 57) rfl)⟩
theorem lw_p2 : lw_okq (⟨"LightFlow", "drop", "(I)V"⟩, 10) := ⟨⟨by decide +kernel, by decide +kernel⟩, lw_t1 (List.mem_of_getElem? (i := 4) rfl), lw_t1 (List.mem_of_getElem? (i := 60) rfl), lw_t1 (List.mem_of_getElem? (i := 61) rfl)⟩
theorem lw_p3 : lw_okq (⟨"LightFlow", "flow", "()V"⟩, 10) := ⟨⟨by decide +kernel, by decide +kernel⟩, lw_t1 (List.mem_of_getElem? (i := 4) rfl), lw_t1 (List.mem_of_getElem? (i := 67) rfl), lw_t1 (List.mem_of_getElem? (i := 68) rfl)⟩
theorem lw_p4 : lw_okq (⟨"LightFlow", "source", "(I)I"⟩, 10) := ⟨⟨by decide +kernel, by decide +kernel⟩, lw_t1 (List.mem_of_getElem? (i := 4) rfl), lw_t1 (List.mem_of_getElem? (i := 71) rfl), lw_t1 (List.mem_of_getElem? (i := 72) rfl)⟩
theorem lw_p5 : lw_okq (⟨"LightFlow", "pass", "(II)V"⟩, 10) := ⟨⟨by decide +kernel, by decide +kernel⟩, lw_t1 (List.mem_of_getElem? (i := 4) rfl), lw_t1 (List.mem_of_getElem? (i := 75) rfl), lw_t1 (List.mem_of_getElem? (i := 76) rfl)⟩
theorem lw_p6 : lw_okq (⟨"LightFlow", "setLamp", "(II)V"⟩, 10) := ⟨⟨by decide +kernel, by decide +kernel⟩, lw_t1 (List.mem_of_getElem? (i := 4) rfl), lw_t1 (List.mem_of_getElem? (i := 100) rfl), lw_t1 (List.mem_of_getElem? (i := 101) rfl)⟩
theorem lw_p7 : lw_okq (⟨"LightFlow", "light", "(I)I"⟩, 10) := ⟨⟨by decide +kernel, by decide +kernel⟩, lw_t1 (List.mem_of_getElem? (i := 4) rfl), lw_t1 (List.mem_of_getElem? (i := 120) rfl), lw_t1 (List.mem_of_getElem? (i := 121) rfl)⟩
theorem lw_p8 : lw_okq (⟨"LightFlow", "walk", "(I)V"⟩, 10) := ⟨⟨by decide +kernel, by decide +kernel⟩, lw_t1 (List.mem_of_getElem? (i := 4) rfl), lw_t1 (List.mem_of_getElem? (i := 152) rfl), lw_t1 (List.mem_of_getElem? (i := 153) rfl)⟩
theorem lw_p9 : lw_okq (⟨"LightFlowModel", "bad", "(I)Z"⟩, 6) := ⟨⟨by decide +kernel, by decide +kernel⟩, lw_t1 (List.mem_of_getElem? (i := 156) rfl), lw_t1 (List.mem_of_getElem? (i := 185) rfl), lw_t1 (List.mem_of_getElem? (i := 186) rfl)⟩
theorem lw_p10 : lw_okq (⟨"LightFlowModel", "badBox", "(II)Z"⟩, 6) := ⟨⟨by decide +kernel, by decide +kernel⟩, lw_t1 (List.mem_of_getElem? (i := 156) rfl), lw_t1 (List.mem_of_getElem? (i := 193) rfl), lw_t1 (List.mem_of_getElem? (i := 194) rfl)⟩
theorem lw_p11 : lw_okq (⟨"LightFlowModel", "inBox", "(III)Z"⟩, 6) := ⟨⟨by decide +kernel, by decide +kernel⟩, lw_t1 (List.mem_of_getElem? (i := 156) rfl), lw_t1 (List.mem_of_getElem? (i := 197) rfl), lw_t1 (List.mem_of_getElem? (i := 198) rfl)⟩
theorem lw_p12 : lw_okq (⟨"LightFlowModel", "shine", "()V"⟩, 6) := ⟨⟨by decide +kernel, by decide +kernel⟩, lw_t1 (List.mem_of_getElem? (i := 156) rfl), lw_t1 (List.mem_of_getElem? (i := 217) rfl), lw_t1 (List.mem_of_getElem? (i := 218) rfl)⟩
theorem lw_p13 : lw_okq (⟨"LightFlowModel", "sees", "(I)Z"⟩, 6) := ⟨⟨by decide +kernel, by decide +kernel⟩, lw_t1 (List.mem_of_getElem? (i := 156) rfl), lw_t1 (List.mem_of_getElem? (i := 221) rfl), lw_t1 (List.mem_of_getElem? (i := 222) rfl)⟩
theorem lw_p14 : lw_okq (⟨"LightFlowModel", "flow", "()Z"⟩, 6) := ⟨⟨by decide +kernel, by decide +kernel⟩, lw_t1 (List.mem_of_getElem? (i := 156) rfl), lw_t1 (List.mem_of_getElem? (i := 225) rfl), lw_t1 (List.mem_of_getElem? (i := 226) rfl)⟩
theorem lw_p15 : lw_okq (⟨"LightFlowModel", "beside", "(II)I"⟩, 6) := ⟨⟨by decide +kernel, by decide +kernel⟩, lw_t1 (List.mem_of_getElem? (i := 156) rfl), lw_t1 (List.mem_of_getElem? (i := 229) rfl), lw_t1 (List.mem_of_getElem? (i := 230) rfl)⟩
def lw_privs_1 : List (MethodName × Nat) := [(⟨"LightFlow", "change", "(IZ)V"⟩, 10), (⟨"LightFlow", "takeAway", "(I)V"⟩, 10), (⟨"LightFlow", "drop", "(I)V"⟩, 10), (⟨"LightFlow", "flow", "()V"⟩, 10), (⟨"LightFlow", "source", "(I)I"⟩, 10), (⟨"LightFlow", "pass", "(II)V"⟩, 10), (⟨"LightFlow", "setLamp", "(II)V"⟩, 10), (⟨"LightFlow", "light", "(I)I"⟩, 10), (⟨"LightFlow", "walk", "(I)V"⟩, 10), (⟨"LightFlowModel", "bad", "(I)Z"⟩, 6), (⟨"LightFlowModel", "badBox", "(II)Z"⟩, 6), (⟨"LightFlowModel", "inBox", "(III)Z"⟩, 6), (⟨"LightFlowModel", "shine", "()V"⟩, 6), (⟨"LightFlowModel", "sees", "(I)Z"⟩, 6), (⟨"LightFlowModel", "flow", "()Z"⟩, 6), (⟨"LightFlowModel", "beside", "(II)I"⟩, 6)]
theorem lw_r1 : ∀ q ∈ lw_privs_1, lw_okq q := List.forall_mem_cons.mpr ⟨lw_p0, List.forall_mem_cons.mpr ⟨lw_p1, List.forall_mem_cons.mpr ⟨lw_p2, List.forall_mem_cons.mpr ⟨lw_p3, List.forall_mem_cons.mpr ⟨lw_p4, List.forall_mem_cons.mpr ⟨lw_p5, List.forall_mem_cons.mpr ⟨lw_p6, List.forall_mem_cons.mpr ⟨lw_p7, List.forall_mem_cons.mpr ⟨lw_p8, List.forall_mem_cons.mpr ⟨lw_p9, List.forall_mem_cons.mpr ⟨lw_p10, List.forall_mem_cons.mpr ⟨lw_p11, List.forall_mem_cons.mpr ⟨lw_p12, List.forall_mem_cons.mpr ⟨lw_p13, List.forall_mem_cons.mpr ⟨lw_p14, List.forall_mem_cons.mpr ⟨lw_p15, fun _ h => absurd h List.not_mem_nil⟩⟩⟩⟩⟩⟩⟩⟩⟩⟩⟩⟩⟩⟩⟩⟩
theorem lw_p16 : lw_okq (⟨"LightFlowModel", "light", "(I)I"⟩, 6) := ⟨⟨by decide +kernel, by decide +kernel⟩, lw_t1 (List.mem_of_getElem? (i := 156) rfl), lw_t2 (List.mem_of_getElem? (i := 1) rfl), lw_t2 (List.mem_of_getElem? (i := 2) rfl)⟩
theorem lw_p17 : lw_okq (⟨"LightFlowModel", "level", "()Z"⟩, 6) := ⟨⟨by decide +kernel, by decide +kernel⟩, lw_t1 (List.mem_of_getElem? (i := 156) rfl), lw_t2 (List.mem_of_getElem? (i := 33) rfl), lw_t2 (List.mem_of_getElem? (i := 34) rfl)⟩
def lw_privs_2 : List (MethodName × Nat) := [(⟨"LightFlowModel", "light", "(I)I"⟩, 6), (⟨"LightFlowModel", "level", "()Z"⟩, 6)]
theorem lw_r2 : ∀ q ∈ lw_privs_2, lw_okq q := List.forall_mem_cons.mpr ⟨lw_p16, List.forall_mem_cons.mpr ⟨lw_p17, fun _ h => absurd h List.not_mem_nil⟩⟩
def lw_privs : List (MethodName × Nat) := lw_privs_1 ++ (lw_privs_2)
def lw_tbl : List Cond := k2_sels lw_privs ++ tables_1
theorem lw_privs_ok : ∀ q ∈ lw_privs, lw_okq q := by
  show ∀ q ∈ lw_privs_1 ++ (lw_privs_2), lw_okq q
  exact List.forall_mem_append.mpr ⟨lw_r1, lw_r2⟩
-- ===== ONE list of words for every method: the tables' words that hold all through a run =====
def lw_all : List Cond := lw_tbl.filter goodWord
/-- a word of the tables by its place: claim/WORDS.tsv -/
theorem lw_w {w : Cond} (i : Nat) (h : lw_tbl[i]? = some w) (g : goodWord w = true) : w ∈ lw_all := List.mem_filter.mpr ⟨List.mem_of_getElem? h, g⟩
theorem lw_all_tbl {w : Cond} (h : w ∈ lw_all) : w ∈ lw_tbl := (List.mem_filter.mp h).1
theorem lw_self : GoodIn lw_all lw_all := fun w h => ⟨h, good_of_word (List.mem_filter.mp h).2⟩
/-- a class's field words, by their places -/
theorem lw_in (ws : List Cond) (ps : List Nat) (hp : ws = ps.filterMap (fun i => lw_tbl[i]?)) (hg : ws.all goodWord = true) : ∀ w ∈ ws, w ∈ lw_all := by
  intro w h
  have h1 := List.all_eq_true.mp hg w h
  rw [hp] at h
  obtain ⟨i, -, hi⟩ := List.mem_filterMap.mp h
  exact lw_w i hi h1
/-- the words of a contract for the method y with code b, L locals, answer r -/
abbrev ws_ (y : MethodName) (b : ByteArray) (L : Nat) (r : Option FieldType) : List Cond := Cond.code y b L r :: lw_all
theorem lw_meth {y : MethodName} {b : ByteArray} {L : Nat} {r : Option FieldType} (h : Cond.code y b L r ∈ lw_all) : GoodIn lw_all (ws_ y b L r) := by
  intro w hw
  rcases List.mem_cons.mp hw with e | e
  · rw [e]
    exact lw_self _ h
  · exact lw_self _ e
theorem lw_app {a c : List Cond} (ha : ∀ w ∈ a, w ∈ lw_all) (hc : GoodIn lw_all c) : GoodIn lw_all (a ++ c) := by
  intro w hw
  rcases List.mem_append.mp hw with e | e
  · exact lw_self w (ha w e)
  · exact hc w e
/-- what a call through an object asks: cwV n hts (lw_V ..) -/
theorem lw_V {own : String} {idx : Nat} {C : String} {y : MethodName} {b : ByteArray} {L : Nat} {r : Option FieldType} (h1 : Cond.methodLink own idx y ∈ lw_all) (h2 : Cond.instanceMethod y ∈ lw_all) (h3 : Cond.selects C y y ∈ lw_all) (h4 : Cond.initialized C ∈ lw_all) (h5 : Cond.code y b L r ∈ lw_all) : GoodIn lw_all (wsV own idx C y (ws_ y b L r)) := by
  refine lw_app ?_ (lw_meth h5)
  intro w hw
  simp only [List.mem_cons, List.not_mem_nil, or_false] at hw
  rcases hw with e | e | e | e
  · rw [e]; exact h1
  · rw [e]; exact h2
  · rw [e]; exact h3
  · rw [e]; exact h4
/-- what a static call asks: va_cwS n hts (lw_S ..) -/
theorem lw_S {own : String} {idx : Nat} {y : MethodName} {b : ByteArray} {L : Nat} {r : Option FieldType} (h1 : Cond.methodLink own idx y ∈ lw_all) (h2 : Cond.static y ∈ lw_all) (h3 : Cond.initialized y.cls ∈ lw_all) (h4 : Cond.code y b L r ∈ lw_all) : GoodIn lw_all (va_wsS own idx y (ws_ y b L r)) := by
  refine lw_app ?_ (lw_meth h4)
  intro w hw
  simp only [List.mem_cons, List.not_mem_nil, or_false] at hw
  rcases hw with e | e | e
  · rw [e]; exact h1
  · rw [e]; exact h2
  · rw [e]; exact h3
/-- the words of a contract for a method WITH HANDLERS (hh: its table) -/
abbrev wsW_ (y : MethodName) (b : ByteArray) (L : Nat) (r : Option FieldType) (hh : List (Nat × Nat × Nat × Nat)) : List Cond := Cond.codeWith y b L r hh :: lw_all
theorem lw_methW {y : MethodName} {b : ByteArray} {L : Nat} {r : Option FieldType} {hh : List (Nat × Nat × Nat × Nat)} (h : Cond.codeWith y b L r hh ∈ lw_all) : GoodIn lw_all (wsW_ y b L r hh) := by
  intro w hw
  rcases List.mem_cons.mp hw with e | e
  · rw [e]
    exact lw_self _ h
  · exact lw_self _ e
/-- any list of words by their places (lw_in), good -/
theorem lw_good {ws : List Cond} (h : ∀ w ∈ ws, w ∈ lw_all) : GoodIn lw_all ws := fun w hw => lw_self w (h w hw)
/-- what a call of a method with handlers asks: vx_cwVW n hts (lw_VW ..), vx_cwSW n hts (lw_SW ..) -/
theorem lw_VW {own : String} {idx : Nat} {C : String} {y : MethodName} {b : ByteArray} {L : Nat} {r : Option FieldType} {hh : List (Nat × Nat × Nat × Nat)} (h1 : Cond.methodLink own idx y ∈ lw_all) (h2 : Cond.instanceMethod y ∈ lw_all) (h3 : Cond.selects C y y ∈ lw_all) (h4 : Cond.initialized C ∈ lw_all) (h5 : Cond.codeWith y b L r hh ∈ lw_all) : GoodIn lw_all (wsV own idx C y (wsW_ y b L r hh)) := by
  refine lw_app ?_ (lw_methW h5)
  intro w hw
  simp only [List.mem_cons, List.not_mem_nil, or_false] at hw
  rcases hw with e | e | e | e
  · rw [e]; exact h1
  · rw [e]; exact h2
  · rw [e]; exact h3
  · rw [e]; exact h4
theorem lw_SW {own : String} {idx : Nat} {y : MethodName} {b : ByteArray} {L : Nat} {r : Option FieldType} {hh : List (Nat × Nat × Nat × Nat)} (h1 : Cond.methodLink own idx y ∈ lw_all) (h2 : Cond.static y ∈ lw_all) (h3 : Cond.initialized y.cls ∈ lw_all) (h4 : Cond.codeWith y b L r hh ∈ lw_all) : GoodIn lw_all (va_wsS own idx y (wsW_ y b L r hh)) := by
  refine lw_app ?_ (lw_methW h4)
  intro w hw
  simp only [List.mem_cons, List.not_mem_nil, or_false] at hw
  rcases hw with e | e | e
  · rw [e]; exact h1
  · rw [e]; exact h2
  · rw [e]; exact h3
/-- a word by its place in its run of the tables -/
theorem lw_at {r : List Cond} (hr : ∀ w ∈ r, w ∈ lw_tbl) {w : Cond} (i : Nat) (h : r[i]? = some w) : w ∈ lw_tbl := hr w (List.mem_of_getElem? h)
theorem lw_g {w : Cond} (h : w ∈ lw_tbl) (g : goodWord w = true) : w ∈ lw_all := List.mem_filter.mpr ⟨h, g⟩
theorem lw_ms : ∀ w ∈ k2_sels lw_privs, w ∈ lw_tbl := fun w h => show w ∈ k2_sels lw_privs ++ tables_1 from List.mem_append_left _ h
theorem lw_m1 : ∀ w ∈ tables_1_1, w ∈ lw_tbl := fun w h => show w ∈ k2_sels lw_privs ++ tables_1 from List.mem_append_right (k2_sels lw_privs) (show w ∈ tables_1 from List.mem_append_left _ h)
theorem lw_m2 : ∀ w ∈ tables_1_2, w ∈ lw_tbl := fun w h => show w ∈ k2_sels lw_privs ++ tables_1 from List.mem_append_right (k2_sels lw_privs) (show w ∈ tables_1 from List.mem_append_right _ h)
theorem qs0 : (Cond.selects "LightFlow" ⟨"LightFlow", "change", "(IZ)V"⟩ ⟨"LightFlow", "change", "(IZ)V"⟩) ∈ lw_all := lw_g (lw_at lw_ms 0 rfl) rfl
theorem qs1 : (Cond.selects "LightFlow" ⟨"LightFlow", "takeAway", "(I)V"⟩ ⟨"LightFlow", "takeAway", "(I)V"⟩) ∈ lw_all := lw_g (lw_at lw_ms 1 rfl) rfl
theorem qs2 : (Cond.selects "LightFlow" ⟨"LightFlow", "drop", "(I)V"⟩ ⟨"LightFlow", "drop", "(I)V"⟩) ∈ lw_all := lw_g (lw_at lw_ms 2 rfl) rfl
theorem qs3 : (Cond.selects "LightFlow" ⟨"LightFlow", "flow", "()V"⟩ ⟨"LightFlow", "flow", "()V"⟩) ∈ lw_all := lw_g (lw_at lw_ms 3 rfl) rfl
theorem qs4 : (Cond.selects "LightFlow" ⟨"LightFlow", "source", "(I)I"⟩ ⟨"LightFlow", "source", "(I)I"⟩) ∈ lw_all := lw_g (lw_at lw_ms 4 rfl) rfl
theorem qs5 : (Cond.selects "LightFlow" ⟨"LightFlow", "pass", "(II)V"⟩ ⟨"LightFlow", "pass", "(II)V"⟩) ∈ lw_all := lw_g (lw_at lw_ms 5 rfl) rfl
theorem qs6 : (Cond.selects "LightFlow" ⟨"LightFlow", "setLamp", "(II)V"⟩ ⟨"LightFlow", "setLamp", "(II)V"⟩) ∈ lw_all := lw_g (lw_at lw_ms 6 rfl) rfl
theorem qs7 : (Cond.selects "LightFlow" ⟨"LightFlow", "light", "(I)I"⟩ ⟨"LightFlow", "light", "(I)I"⟩) ∈ lw_all := lw_g (lw_at lw_ms 7 rfl) rfl
theorem qs8 : (Cond.selects "LightFlow" ⟨"LightFlow", "walk", "(I)V"⟩ ⟨"LightFlow", "walk", "(I)V"⟩) ∈ lw_all := lw_g (lw_at lw_ms 8 rfl) rfl
theorem qs9 : (Cond.selects "LightFlowModel" ⟨"LightFlowModel", "bad", "(I)Z"⟩ ⟨"LightFlowModel", "bad", "(I)Z"⟩) ∈ lw_all := lw_g (lw_at lw_ms 9 rfl) rfl
theorem qs10 : (Cond.selects "LightFlowModel" ⟨"LightFlowModel", "badBox", "(II)Z"⟩ ⟨"LightFlowModel", "badBox", "(II)Z"⟩) ∈ lw_all := lw_g (lw_at lw_ms 10 rfl) rfl
theorem qs11 : (Cond.selects "LightFlowModel" ⟨"LightFlowModel", "inBox", "(III)Z"⟩ ⟨"LightFlowModel", "inBox", "(III)Z"⟩) ∈ lw_all := lw_g (lw_at lw_ms 11 rfl) rfl
theorem qs12 : (Cond.selects "LightFlowModel" ⟨"LightFlowModel", "shine", "()V"⟩ ⟨"LightFlowModel", "shine", "()V"⟩) ∈ lw_all := lw_g (lw_at lw_ms 12 rfl) rfl
theorem qs13 : (Cond.selects "LightFlowModel" ⟨"LightFlowModel", "sees", "(I)Z"⟩ ⟨"LightFlowModel", "sees", "(I)Z"⟩) ∈ lw_all := lw_g (lw_at lw_ms 13 rfl) rfl
theorem qs14 : (Cond.selects "LightFlowModel" ⟨"LightFlowModel", "flow", "()Z"⟩ ⟨"LightFlowModel", "flow", "()Z"⟩) ∈ lw_all := lw_g (lw_at lw_ms 14 rfl) rfl
theorem qs15 : (Cond.selects "LightFlowModel" ⟨"LightFlowModel", "beside", "(II)I"⟩ ⟨"LightFlowModel", "beside", "(II)I"⟩) ∈ lw_all := lw_g (lw_at lw_ms 15 rfl) rfl
theorem qs16 : (Cond.selects "LightFlowModel" ⟨"LightFlowModel", "light", "(I)I"⟩ ⟨"LightFlowModel", "light", "(I)I"⟩) ∈ lw_all := lw_g (lw_at lw_ms 16 rfl) rfl
theorem qs17 : (Cond.selects "LightFlowModel" ⟨"LightFlowModel", "level", "()Z"⟩ ⟨"LightFlowModel", "level", "()Z"⟩) ∈ lw_all := lw_g (lw_at lw_ms 17 rfl) rfl
end
section
set_option maxRecDepth 100000
/-! java/lang/Object -/
def RJ0 : String := "java/lang/Object"
abbrev cJ0_init : ByteArray := object_method_1_code
def yJ0_init : MethodName := ⟨RJ0, "<init>", "()V"⟩
theorem dJ0_init_0 : decode cJ0_init 0 = .ok (.return_, 1) := by decide +kernel
theorem q27 : (Jvm.Cond.instanceMethod ({ cls := "java/lang/Object", name := "<init>", desc := "()V" } : Jvm.MethodName)) ∈ lw_all := lw_g (lw_at lw_m1 9 rfl) rfl
theorem q28 : (Jvm.Cond.code ({ cls := "java/lang/Object", name := "<init>", desc := "()V" } : Jvm.MethodName) object_method_1_code (1 : Nat) (Option.none : Option Jvm.ClassFile.FieldType)) ∈ lw_all := lw_g (lw_at lw_m1 10 rfl) rfl

theorem q60 : (Jvm.Cond.arrayClass Jvm.ClassFile.FieldType.boolean) ∈ lw_all := lw_g (lw_at lw_m1 42 rfl) rfl
theorem q61 : (Jvm.Cond.arrayClass Jvm.ClassFile.FieldType.int) ∈ lw_all := lw_g (lw_at lw_m1 43 rfl) rfl

/-! LightFlow -/
def RX0 : String := "LightFlow"
def TX0 : u_T := fun k => match k with
  | 0 => ("LightFlow", "solids", "[Z", true)
  | 1 => ("LightFlow", "lamps", "[I", true)
  | 2 => ("LightFlow", "sees", "[Z", true)
  | 3 => ("LightFlow", "levels", "[I", true)
  | 4 => ("LightFlow", "rims", "[Z", true)
  | 5 => ("LightFlow", "stack", "[I", true)
  | 6 => ("LightFlow", "lost", "[I", true)
  | 7 => ("LightFlow", "kept", "[I", true)
  | 8 => ("LightFlow", "seen", "[Z", true)
  | _ => ("LightFlow", "waiting", "I", false)
def tyX0 : Nat → FieldType := fun k => match k with
  | 0 => .array .boolean
  | 1 => .array .int
  | 2 => .array .boolean
  | 3 => .array .int
  | 4 => .array .boolean
  | 5 => .array .int
  | 6 => .array .int
  | 7 => .array .int
  | 8 => .array .boolean
  | _ => .int
abbrev wsX00 : List Cond := u_ws RX0 TX0 10
theorem nmX0 : ∀ a, a < 10 → ∀ b, b < 10 → a ≠ b → (TX0 a).2.1 ≠ (TX0 b).2.1 := by decide +kernel
theorem tyX0_ok : ∀ k, k < 10 → parseFieldDescriptor (TX0 k).2.2.1 = some (tyX0 k) := by decide +kernel
abbrev cX0_init : ByteArray := prog_1_method_1_code
def yX0_init : MethodName := ⟨RX0, "<init>", "()V"⟩
theorem dX0_init_0 : decode cX0_init 0 = .ok (.aload_n 0, 1) := by decide +kernel
theorem dX0_init_1 : decode cX0_init 1 = .ok (.invokespecial 1, 3) := by decide +kernel
theorem dX0_init_4 : decode cX0_init 4 = .ok (.aload_n 0, 1) := by decide +kernel
theorem dX0_init_5 : decode cX0_init 5 = .ok (.sipush 216, 3) := by decide +kernel
theorem dX0_init_8 : decode cX0_init 8 = .ok (.newarray .boolean, 2) := by decide +kernel
theorem dX0_init_10 : decode cX0_init 10 = .ok (.putfield 7, 3) := by decide +kernel
theorem dX0_init_13 : decode cX0_init 13 = .ok (.aload_n 0, 1) := by decide +kernel
theorem dX0_init_14 : decode cX0_init 14 = .ok (.sipush 216, 3) := by decide +kernel
theorem dX0_init_17 : decode cX0_init 17 = .ok (.newarray .int, 2) := by decide +kernel
theorem dX0_init_19 : decode cX0_init 19 = .ok (.putfield 13, 3) := by decide +kernel
theorem dX0_init_22 : decode cX0_init 22 = .ok (.aload_n 0, 1) := by decide +kernel
theorem dX0_init_23 : decode cX0_init 23 = .ok (.sipush 216, 3) := by decide +kernel
theorem dX0_init_26 : decode cX0_init 26 = .ok (.newarray .boolean, 2) := by decide +kernel
theorem dX0_init_28 : decode cX0_init 28 = .ok (.putfield 17, 3) := by decide +kernel
theorem dX0_init_31 : decode cX0_init 31 = .ok (.aload_n 0, 1) := by decide +kernel
theorem dX0_init_32 : decode cX0_init 32 = .ok (.sipush 432, 3) := by decide +kernel
theorem dX0_init_35 : decode cX0_init 35 = .ok (.newarray .int, 2) := by decide +kernel
theorem dX0_init_37 : decode cX0_init 37 = .ok (.putfield 20, 3) := by decide +kernel
theorem dX0_init_40 : decode cX0_init 40 = .ok (.aload_n 0, 1) := by decide +kernel
theorem dX0_init_41 : decode cX0_init 41 = .ok (.sipush 432, 3) := by decide +kernel
theorem dX0_init_44 : decode cX0_init 44 = .ok (.newarray .boolean, 2) := by decide +kernel
theorem dX0_init_46 : decode cX0_init 46 = .ok (.putfield 23, 3) := by decide +kernel
theorem dX0_init_49 : decode cX0_init 49 = .ok (.aload_n 0, 1) := by decide +kernel
theorem dX0_init_50 : decode cX0_init 50 = .ok (.sipush 432, 3) := by decide +kernel
theorem dX0_init_53 : decode cX0_init 53 = .ok (.newarray .int, 2) := by decide +kernel
theorem dX0_init_55 : decode cX0_init 55 = .ok (.putfield 26, 3) := by decide +kernel
theorem dX0_init_58 : decode cX0_init 58 = .ok (.aload_n 0, 1) := by decide +kernel
theorem dX0_init_59 : decode cX0_init 59 = .ok (.sipush 432, 3) := by decide +kernel
theorem dX0_init_62 : decode cX0_init 62 = .ok (.newarray .int, 2) := by decide +kernel
theorem dX0_init_64 : decode cX0_init 64 = .ok (.putfield 29, 3) := by decide +kernel
theorem dX0_init_67 : decode cX0_init 67 = .ok (.aload_n 0, 1) := by decide +kernel
theorem dX0_init_68 : decode cX0_init 68 = .ok (.sipush 216, 3) := by decide +kernel
theorem dX0_init_71 : decode cX0_init 71 = .ok (.newarray .int, 2) := by decide +kernel
theorem dX0_init_73 : decode cX0_init 73 = .ok (.putfield 32, 3) := by decide +kernel
theorem dX0_init_76 : decode cX0_init 76 = .ok (.aload_n 0, 1) := by decide +kernel
theorem dX0_init_77 : decode cX0_init 77 = .ok (.sipush 216, 3) := by decide +kernel
theorem dX0_init_80 : decode cX0_init 80 = .ok (.newarray .boolean, 2) := by decide +kernel
theorem dX0_init_82 : decode cX0_init 82 = .ok (.putfield 35, 3) := by decide +kernel
theorem dX0_init_85 : decode cX0_init 85 = .ok (.iconst 0, 1) := by decide +kernel
theorem dX0_init_86 : decode cX0_init 86 = .ok (.istore_n 1, 1) := by decide +kernel
theorem dX0_init_87 : decode cX0_init 87 = .ok (.iload_n 1, 1) := by decide +kernel
theorem dX0_init_88 : decode cX0_init 88 = .ok (.sipush 216, 3) := by decide +kernel
theorem dX0_init_91 : decode cX0_init 91 = .ok (.if_icmp .ge 28, 3) := by decide +kernel
theorem dX0_init_94 : decode cX0_init 94 = .ok (.aload_n 0, 1) := by decide +kernel
theorem dX0_init_95 : decode cX0_init 95 = .ok (.getfield 17, 3) := by decide +kernel
theorem dX0_init_98 : decode cX0_init 98 = .ok (.iload_n 1, 1) := by decide +kernel
theorem dX0_init_99 : decode cX0_init 99 = .ok (.iconst 1, 1) := by decide +kernel
theorem dX0_init_100 : decode cX0_init 100 = .ok (.bastore, 1) := by decide +kernel
theorem dX0_init_101 : decode cX0_init 101 = .ok (.aload_n 0, 1) := by decide +kernel
theorem dX0_init_102 : decode cX0_init 102 = .ok (.getfield 20, 3) := by decide +kernel
theorem dX0_init_105 : decode cX0_init 105 = .ok (.sipush 216, 3) := by decide +kernel
theorem dX0_init_108 : decode cX0_init 108 = .ok (.iload_n 1, 1) := by decide +kernel
theorem dX0_init_109 : decode cX0_init 109 = .ok (.iadd, 1) := by decide +kernel
theorem dX0_init_110 : decode cX0_init 110 = .ok (.bipush 8, 2) := by decide +kernel
theorem dX0_init_112 : decode cX0_init 112 = .ok (.iastore, 1) := by decide +kernel
theorem dX0_init_113 : decode cX0_init 113 = .ok (.iinc 1 1, 3) := by decide +kernel
theorem dX0_init_116 : decode cX0_init 116 = .ok (.goto (-29), 3) := by decide +kernel
theorem dX0_init_119 : decode cX0_init 119 = .ok (.return_, 1) := by decide +kernel
abbrev cX0_solid : ByteArray := prog_1_method_2_code
def yX0_solid : MethodName := ⟨RX0, "solid", "(II)I"⟩
theorem dX0_solid_0 : decode cX0_solid 0 = .ok (.iload_n 1, 1) := by decide +kernel
theorem dX0_solid_1 : decode cX0_solid 1 = .ok (.invokestatic 38, 3) := by decide +kernel
theorem dX0_solid_4 : decode cX0_solid 4 = .ok (.ifCond .ne 5, 3) := by decide +kernel
theorem dX0_solid_7 : decode cX0_solid 7 = .ok (.iconst (-1), 1) := by decide +kernel
theorem dX0_solid_8 : decode cX0_solid 8 = .ok (.ireturn, 1) := by decide +kernel
theorem dX0_solid_9 : decode cX0_solid 9 = .ok (.aload_n 0, 1) := by decide +kernel
theorem dX0_solid_10 : decode cX0_solid 10 = .ok (.getfield 7, 3) := by decide +kernel
theorem dX0_solid_13 : decode cX0_solid 13 = .ok (.iload_n 1, 1) := by decide +kernel
theorem dX0_solid_14 : decode cX0_solid 14 = .ok (.baload, 1) := by decide +kernel
theorem dX0_solid_15 : decode cX0_solid 15 = .ok (.ifCond .eq 7, 3) := by decide +kernel
theorem dX0_solid_18 : decode cX0_solid 18 = .ok (.iconst 1, 1) := by decide +kernel
theorem dX0_solid_19 : decode cX0_solid 19 = .ok (.goto 4, 3) := by decide +kernel
theorem dX0_solid_22 : decode cX0_solid 22 = .ok (.iconst 0, 1) := by decide +kernel
theorem dX0_solid_23 : decode cX0_solid 23 = .ok (.istore_n 3, 1) := by decide +kernel
theorem dX0_solid_24 : decode cX0_solid 24 = .ok (.aload_n 0, 1) := by decide +kernel
theorem dX0_solid_25 : decode cX0_solid 25 = .ok (.iload_n 1, 1) := by decide +kernel
theorem dX0_solid_26 : decode cX0_solid 26 = .ok (.iload_n 2, 1) := by decide +kernel
theorem dX0_solid_27 : decode cX0_solid 27 = .ok (.ifCond .eq 7, 3) := by decide +kernel
theorem dX0_solid_30 : decode cX0_solid 30 = .ok (.iconst 1, 1) := by decide +kernel
theorem dX0_solid_31 : decode cX0_solid 31 = .ok (.goto 4, 3) := by decide +kernel
theorem dX0_solid_34 : decode cX0_solid 34 = .ok (.iconst 0, 1) := by decide +kernel
theorem dX0_solid_35 : decode cX0_solid 35 = .ok (.invokevirtual 42, 3) := by decide +kernel
theorem dX0_solid_38 : decode cX0_solid 38 = .ok (.iload_n 3, 1) := by decide +kernel
theorem dX0_solid_39 : decode cX0_solid 39 = .ok (.ireturn, 1) := by decide +kernel
abbrev cX0_isCell : ByteArray := prog_1_method_17_code
def yX0_isCell : MethodName := ⟨RX0, "isCell", "(I)Z"⟩
theorem dX0_isCell_0 : decode cX0_isCell 0 = .ok (.iload_n 0, 1) := by decide +kernel
theorem dX0_isCell_1 : decode cX0_isCell 1 = .ok (.ifCond .lt 14, 3) := by decide +kernel
theorem dX0_isCell_4 : decode cX0_isCell 4 = .ok (.iload_n 0, 1) := by decide +kernel
theorem dX0_isCell_5 : decode cX0_isCell 5 = .ok (.sipush 216, 3) := by decide +kernel
theorem dX0_isCell_8 : decode cX0_isCell 8 = .ok (.if_icmp .ge 7, 3) := by decide +kernel
theorem dX0_isCell_11 : decode cX0_isCell 11 = .ok (.iconst 1, 1) := by decide +kernel
theorem dX0_isCell_12 : decode cX0_isCell 12 = .ok (.goto 4, 3) := by decide +kernel
theorem dX0_isCell_15 : decode cX0_isCell 15 = .ok (.iconst 0, 1) := by decide +kernel
theorem dX0_isCell_16 : decode cX0_isCell 16 = .ok (.ireturn, 1) := by decide +kernel
abbrev cX0_change : ByteArray := prog_1_method_25_code
def yX0_change : MethodName := ⟨RX0, "change", "(IZ)V"⟩
theorem dX0_change_0 : decode cX0_change 0 = .ok (.aload_n 0, 1) := by decide +kernel
theorem dX0_change_1 : decode cX0_change 1 = .ok (.getfield 7, 3) := by decide +kernel
theorem dX0_change_4 : decode cX0_change 4 = .ok (.iload_n 1, 1) := by decide +kernel
theorem dX0_change_5 : decode cX0_change 5 = .ok (.baload, 1) := by decide +kernel
theorem dX0_change_6 : decode cX0_change 6 = .ok (.iload_n 2, 1) := by decide +kernel
theorem dX0_change_7 : decode cX0_change 7 = .ok (.if_icmp .ne 4, 3) := by decide +kernel
theorem dX0_change_10 : decode cX0_change 10 = .ok (.return_, 1) := by decide +kernel
theorem dX0_change_11 : decode cX0_change 11 = .ok (.aload_n 0, 1) := by decide +kernel
theorem dX0_change_12 : decode cX0_change 12 = .ok (.iload_n 1, 1) := by decide +kernel
theorem dX0_change_13 : decode cX0_change 13 = .ok (.invokevirtual 73, 3) := by decide +kernel
theorem dX0_change_16 : decode cX0_change 16 = .ok (.aload_n 0, 1) := by decide +kernel
theorem dX0_change_17 : decode cX0_change 17 = .ok (.sipush 216, 3) := by decide +kernel
theorem dX0_change_20 : decode cX0_change 20 = .ok (.iload_n 1, 1) := by decide +kernel
theorem dX0_change_21 : decode cX0_change 21 = .ok (.iadd, 1) := by decide +kernel
theorem dX0_change_22 : decode cX0_change 22 = .ok (.invokevirtual 73, 3) := by decide +kernel
theorem dX0_change_25 : decode cX0_change 25 = .ok (.iload_n 1, 1) := by decide +kernel
theorem dX0_change_26 : decode cX0_change 26 = .ok (.istore_n 3, 1) := by decide +kernel
theorem dX0_change_27 : decode cX0_change 27 = .ok (.iload_n 3, 1) := by decide +kernel
theorem dX0_change_28 : decode cX0_change 28 = .ok (.ifCond .lt 27, 3) := by decide +kernel
theorem dX0_change_31 : decode cX0_change 31 = .ok (.aload_n 0, 1) := by decide +kernel
theorem dX0_change_32 : decode cX0_change 32 = .ok (.getfield 17, 3) := by decide +kernel
theorem dX0_change_35 : decode cX0_change 35 = .ok (.iload_n 3, 1) := by decide +kernel
theorem dX0_change_36 : decode cX0_change 36 = .ok (.baload, 1) := by decide +kernel
theorem dX0_change_37 : decode cX0_change 37 = .ok (.ifCond .eq 12, 3) := by decide +kernel
theorem dX0_change_40 : decode cX0_change 40 = .ok (.aload_n 0, 1) := by decide +kernel
theorem dX0_change_41 : decode cX0_change 41 = .ok (.sipush 216, 3) := by decide +kernel
theorem dX0_change_44 : decode cX0_change 44 = .ok (.iload_n 3, 1) := by decide +kernel
theorem dX0_change_45 : decode cX0_change 45 = .ok (.iadd, 1) := by decide +kernel
theorem dX0_change_46 : decode cX0_change 46 = .ok (.invokevirtual 73, 3) := by decide +kernel
theorem dX0_change_49 : decode cX0_change 49 = .ok (.iinc 3 (-36), 3) := by decide +kernel
theorem dX0_change_52 : decode cX0_change 52 = .ok (.goto (-25), 3) := by decide +kernel
theorem dX0_change_55 : decode cX0_change 55 = .ok (.aload_n 0, 1) := by decide +kernel
theorem dX0_change_56 : decode cX0_change 56 = .ok (.getfield 7, 3) := by decide +kernel
theorem dX0_change_59 : decode cX0_change 59 = .ok (.iload_n 1, 1) := by decide +kernel
theorem dX0_change_60 : decode cX0_change 60 = .ok (.iload_n 2, 1) := by decide +kernel
theorem dX0_change_61 : decode cX0_change 61 = .ok (.bastore, 1) := by decide +kernel
theorem dX0_change_62 : decode cX0_change 62 = .ok (.iload_n 1, 1) := by decide +kernel
theorem dX0_change_63 : decode cX0_change 63 = .ok (.bipush 36, 2) := by decide +kernel
theorem dX0_change_65 : decode cX0_change 65 = .ok (.iadd, 1) := by decide +kernel
theorem dX0_change_66 : decode cX0_change 66 = .ok (.sipush 216, 3) := by decide +kernel
theorem dX0_change_69 : decode cX0_change 69 = .ok (.if_icmp .ge 15, 3) := by decide +kernel
theorem dX0_change_72 : decode cX0_change 72 = .ok (.aload_n 0, 1) := by decide +kernel
theorem dX0_change_73 : decode cX0_change 73 = .ok (.getfield 17, 3) := by decide +kernel
theorem dX0_change_76 : decode cX0_change 76 = .ok (.iload_n 1, 1) := by decide +kernel
theorem dX0_change_77 : decode cX0_change 77 = .ok (.bipush 36, 2) := by decide +kernel
theorem dX0_change_79 : decode cX0_change 79 = .ok (.iadd, 1) := by decide +kernel
theorem dX0_change_80 : decode cX0_change 80 = .ok (.baload, 1) := by decide +kernel
theorem dX0_change_81 : decode cX0_change 81 = .ok (.ifCond .eq 7, 3) := by decide +kernel
theorem dX0_change_84 : decode cX0_change 84 = .ok (.iconst 1, 1) := by decide +kernel
theorem dX0_change_85 : decode cX0_change 85 = .ok (.goto 4, 3) := by decide +kernel
theorem dX0_change_88 : decode cX0_change 88 = .ok (.iconst 0, 1) := by decide +kernel
theorem dX0_change_89 : decode cX0_change 89 = .ok (.istore_n 3, 1) := by decide +kernel
theorem dX0_change_90 : decode cX0_change 90 = .ok (.iload_n 1, 1) := by decide +kernel
theorem dX0_change_91 : decode cX0_change 91 = .ok (.istore 4, 2) := by decide +kernel
theorem dX0_change_93 : decode cX0_change 93 = .ok (.iload 4, 2) := by decide +kernel
theorem dX0_change_95 : decode cX0_change 95 = .ok (.ifCond .lt 49, 3) := by decide +kernel
theorem dX0_change_98 : decode cX0_change 98 = .ok (.iload_n 3, 1) := by decide +kernel
theorem dX0_change_99 : decode cX0_change 99 = .ok (.ifCond .eq 17, 3) := by decide +kernel
theorem dX0_change_102 : decode cX0_change 102 = .ok (.aload_n 0, 1) := by decide +kernel
theorem dX0_change_103 : decode cX0_change 103 = .ok (.getfield 7, 3) := by decide +kernel
theorem dX0_change_106 : decode cX0_change 106 = .ok (.iload 4, 2) := by decide +kernel
theorem dX0_change_108 : decode cX0_change 108 = .ok (.baload, 1) := by decide +kernel
theorem dX0_change_109 : decode cX0_change 109 = .ok (.ifCond .ne 7, 3) := by decide +kernel
theorem dX0_change_112 : decode cX0_change 112 = .ok (.iconst 1, 1) := by decide +kernel
theorem dX0_change_113 : decode cX0_change 113 = .ok (.goto 4, 3) := by decide +kernel
theorem dX0_change_116 : decode cX0_change 116 = .ok (.iconst 0, 1) := by decide +kernel
theorem dX0_change_117 : decode cX0_change 117 = .ok (.istore_n 3, 1) := by decide +kernel
theorem dX0_change_118 : decode cX0_change 118 = .ok (.aload_n 0, 1) := by decide +kernel
theorem dX0_change_119 : decode cX0_change 119 = .ok (.getfield 17, 3) := by decide +kernel
theorem dX0_change_122 : decode cX0_change 122 = .ok (.iload 4, 2) := by decide +kernel
theorem dX0_change_124 : decode cX0_change 124 = .ok (.iload_n 3, 1) := by decide +kernel
theorem dX0_change_125 : decode cX0_change 125 = .ok (.bastore, 1) := by decide +kernel
theorem dX0_change_126 : decode cX0_change 126 = .ok (.aload_n 0, 1) := by decide +kernel
theorem dX0_change_127 : decode cX0_change 127 = .ok (.getfield 23, 3) := by decide +kernel
theorem dX0_change_130 : decode cX0_change 130 = .ok (.sipush 216, 3) := by decide +kernel
theorem dX0_change_133 : decode cX0_change 133 = .ok (.iload 4, 2) := by decide +kernel
theorem dX0_change_135 : decode cX0_change 135 = .ok (.iadd, 1) := by decide +kernel
theorem dX0_change_136 : decode cX0_change 136 = .ok (.iconst 1, 1) := by decide +kernel
theorem dX0_change_137 : decode cX0_change 137 = .ok (.bastore, 1) := by decide +kernel
theorem dX0_change_138 : decode cX0_change 138 = .ok (.iinc 4 (-36), 3) := by decide +kernel
theorem dX0_change_141 : decode cX0_change 141 = .ok (.goto (-48), 3) := by decide +kernel
theorem dX0_change_144 : decode cX0_change 144 = .ok (.aload_n 0, 1) := by decide +kernel
theorem dX0_change_145 : decode cX0_change 145 = .ok (.getfield 23, 3) := by decide +kernel
theorem dX0_change_148 : decode cX0_change 148 = .ok (.iload_n 1, 1) := by decide +kernel
theorem dX0_change_149 : decode cX0_change 149 = .ok (.iconst 1, 1) := by decide +kernel
theorem dX0_change_150 : decode cX0_change 150 = .ok (.bastore, 1) := by decide +kernel
theorem dX0_change_151 : decode cX0_change 151 = .ok (.iconst 0, 1) := by decide +kernel
theorem dX0_change_152 : decode cX0_change 152 = .ok (.istore 4, 2) := by decide +kernel
theorem dX0_change_154 : decode cX0_change 154 = .ok (.iload 4, 2) := by decide +kernel
theorem dX0_change_156 : decode cX0_change 156 = .ok (.bipush 6, 2) := by decide +kernel
theorem dX0_change_158 : decode cX0_change 158 = .ok (.if_icmp .ge 43, 3) := by decide +kernel
theorem dX0_change_161 : decode cX0_change 161 = .ok (.iload_n 1, 1) := by decide +kernel
theorem dX0_change_162 : decode cX0_change 162 = .ok (.iload 4, 2) := by decide +kernel
theorem dX0_change_164 : decode cX0_change 164 = .ok (.invokestatic 65, 3) := by decide +kernel
theorem dX0_change_167 : decode cX0_change 167 = .ok (.istore 5, 2) := by decide +kernel
theorem dX0_change_169 : decode cX0_change 169 = .ok (.iload 5, 2) := by decide +kernel
theorem dX0_change_171 : decode cX0_change 171 = .ok (.iconst (-1), 1) := by decide +kernel
theorem dX0_change_172 : decode cX0_change 172 = .ok (.if_icmp .eq 23, 3) := by decide +kernel
theorem dX0_change_175 : decode cX0_change 175 = .ok (.aload_n 0, 1) := by decide +kernel
theorem dX0_change_176 : decode cX0_change 176 = .ok (.getfield 23, 3) := by decide +kernel
theorem dX0_change_179 : decode cX0_change 179 = .ok (.iload 5, 2) := by decide +kernel
theorem dX0_change_181 : decode cX0_change 181 = .ok (.iconst 1, 1) := by decide +kernel
theorem dX0_change_182 : decode cX0_change 182 = .ok (.bastore, 1) := by decide +kernel
theorem dX0_change_183 : decode cX0_change 183 = .ok (.aload_n 0, 1) := by decide +kernel
theorem dX0_change_184 : decode cX0_change 184 = .ok (.getfield 23, 3) := by decide +kernel
theorem dX0_change_187 : decode cX0_change 187 = .ok (.sipush 216, 3) := by decide +kernel
theorem dX0_change_190 : decode cX0_change 190 = .ok (.iload 5, 2) := by decide +kernel
theorem dX0_change_192 : decode cX0_change 192 = .ok (.iadd, 1) := by decide +kernel
theorem dX0_change_193 : decode cX0_change 193 = .ok (.iconst 1, 1) := by decide +kernel
theorem dX0_change_194 : decode cX0_change 194 = .ok (.bastore, 1) := by decide +kernel
theorem dX0_change_195 : decode cX0_change 195 = .ok (.iinc 4 1, 3) := by decide +kernel
theorem dX0_change_198 : decode cX0_change 198 = .ok (.goto (-44), 3) := by decide +kernel
theorem dX0_change_201 : decode cX0_change 201 = .ok (.aload_n 0, 1) := by decide +kernel
theorem dX0_change_202 : decode cX0_change 202 = .ok (.invokevirtual 76, 3) := by decide +kernel
theorem dX0_change_205 : decode cX0_change 205 = .ok (.return_, 1) := by decide +kernel
abbrev cX0_takeAway : ByteArray := prog_1_method_26_code
def yX0_takeAway : MethodName := ⟨RX0, "takeAway", "(I)V"⟩
theorem dX0_takeAway_0 : decode cX0_takeAway 0 = .ok (.aload_n 0, 1) := by decide +kernel
theorem dX0_takeAway_1 : decode cX0_takeAway 1 = .ok (.getfield 20, 3) := by decide +kernel
theorem dX0_takeAway_4 : decode cX0_takeAway 4 = .ok (.iload_n 1, 1) := by decide +kernel
theorem dX0_takeAway_5 : decode cX0_takeAway 5 = .ok (.iaload, 1) := by decide +kernel
theorem dX0_takeAway_6 : decode cX0_takeAway 6 = .ok (.ifCond .ne 4, 3) := by decide +kernel
theorem dX0_takeAway_9 : decode cX0_takeAway 9 = .ok (.return_, 1) := by decide +kernel
theorem dX0_takeAway_10 : decode cX0_takeAway 10 = .ok (.aload_n 0, 1) := by decide +kernel
theorem dX0_takeAway_11 : decode cX0_takeAway 11 = .ok (.iconst 0, 1) := by decide +kernel
theorem dX0_takeAway_12 : decode cX0_takeAway 12 = .ok (.putfield 79, 3) := by decide +kernel
theorem dX0_takeAway_15 : decode cX0_takeAway 15 = .ok (.aload_n 0, 1) := by decide +kernel
theorem dX0_takeAway_16 : decode cX0_takeAway 16 = .ok (.iload_n 1, 1) := by decide +kernel
theorem dX0_takeAway_17 : decode cX0_takeAway 17 = .ok (.invokevirtual 83, 3) := by decide +kernel
theorem dX0_takeAway_20 : decode cX0_takeAway 20 = .ok (.iconst 0, 1) := by decide +kernel
theorem dX0_takeAway_21 : decode cX0_takeAway 21 = .ok (.istore_n 2, 1) := by decide +kernel
theorem dX0_takeAway_22 : decode cX0_takeAway 22 = .ok (.iload_n 2, 1) := by decide +kernel
theorem dX0_takeAway_23 : decode cX0_takeAway 23 = .ok (.sipush 432, 3) := by decide +kernel
theorem dX0_takeAway_26 : decode cX0_takeAway 26 = .ok (.if_icmp .ge 147, 3) := by decide +kernel
theorem dX0_takeAway_29 : decode cX0_takeAway 29 = .ok (.aload_n 0, 1) := by decide +kernel
theorem dX0_takeAway_30 : decode cX0_takeAway 30 = .ok (.getfield 79, 3) := by decide +kernel
theorem dX0_takeAway_33 : decode cX0_takeAway 33 = .ok (.ifCond .le 140, 3) := by decide +kernel
theorem dX0_takeAway_36 : decode cX0_takeAway 36 = .ok (.aload_n 0, 1) := by decide +kernel
theorem dX0_takeAway_37 : decode cX0_takeAway 37 = .ok (.dup, 1) := by decide +kernel
theorem dX0_takeAway_38 : decode cX0_takeAway 38 = .ok (.getfield 79, 3) := by decide +kernel
theorem dX0_takeAway_41 : decode cX0_takeAway 41 = .ok (.iconst 1, 1) := by decide +kernel
theorem dX0_takeAway_42 : decode cX0_takeAway 42 = .ok (.isub, 1) := by decide +kernel
theorem dX0_takeAway_43 : decode cX0_takeAway 43 = .ok (.putfield 79, 3) := by decide +kernel
theorem dX0_takeAway_46 : decode cX0_takeAway 46 = .ok (.aload_n 0, 1) := by decide +kernel
theorem dX0_takeAway_47 : decode cX0_takeAway 47 = .ok (.getfield 26, 3) := by decide +kernel
theorem dX0_takeAway_50 : decode cX0_takeAway 50 = .ok (.aload_n 0, 1) := by decide +kernel
theorem dX0_takeAway_51 : decode cX0_takeAway 51 = .ok (.getfield 79, 3) := by decide +kernel
theorem dX0_takeAway_54 : decode cX0_takeAway 54 = .ok (.iaload, 1) := by decide +kernel
theorem dX0_takeAway_55 : decode cX0_takeAway 55 = .ok (.istore_n 3, 1) := by decide +kernel
theorem dX0_takeAway_56 : decode cX0_takeAway 56 = .ok (.aload_n 0, 1) := by decide +kernel
theorem dX0_takeAway_57 : decode cX0_takeAway 57 = .ok (.getfield 29, 3) := by decide +kernel
theorem dX0_takeAway_60 : decode cX0_takeAway 60 = .ok (.aload_n 0, 1) := by decide +kernel
theorem dX0_takeAway_61 : decode cX0_takeAway 61 = .ok (.getfield 79, 3) := by decide +kernel
theorem dX0_takeAway_64 : decode cX0_takeAway 64 = .ok (.iaload, 1) := by decide +kernel
theorem dX0_takeAway_65 : decode cX0_takeAway 65 = .ok (.istore 4, 2) := by decide +kernel
theorem dX0_takeAway_67 : decode cX0_takeAway 67 = .ok (.iload_n 3, 1) := by decide +kernel
theorem dX0_takeAway_68 : decode cX0_takeAway 68 = .ok (.sipush 216, 3) := by decide +kernel
theorem dX0_takeAway_71 : decode cX0_takeAway 71 = .ok (.if_icmp .ge 7, 3) := by decide +kernel
theorem dX0_takeAway_74 : decode cX0_takeAway 74 = .ok (.iconst 0, 1) := by decide +kernel
theorem dX0_takeAway_75 : decode cX0_takeAway 75 = .ok (.goto 6, 3) := by decide +kernel
theorem dX0_takeAway_78 : decode cX0_takeAway 78 = .ok (.sipush 216, 3) := by decide +kernel
theorem dX0_takeAway_81 : decode cX0_takeAway 81 = .ok (.istore 5, 2) := by decide +kernel
theorem dX0_takeAway_83 : decode cX0_takeAway 83 = .ok (.iconst 0, 1) := by decide +kernel
theorem dX0_takeAway_84 : decode cX0_takeAway 84 = .ok (.istore 6, 2) := by decide +kernel
theorem dX0_takeAway_86 : decode cX0_takeAway 86 = .ok (.iload 6, 2) := by decide +kernel
theorem dX0_takeAway_88 : decode cX0_takeAway 88 = .ok (.bipush 6, 2) := by decide +kernel
theorem dX0_takeAway_90 : decode cX0_takeAway 90 = .ok (.if_icmp .ge 77, 3) := by decide +kernel
theorem dX0_takeAway_93 : decode cX0_takeAway 93 = .ok (.iload_n 3, 1) := by decide +kernel
theorem dX0_takeAway_94 : decode cX0_takeAway 94 = .ok (.iload 5, 2) := by decide +kernel
theorem dX0_takeAway_96 : decode cX0_takeAway 96 = .ok (.isub, 1) := by decide +kernel
theorem dX0_takeAway_97 : decode cX0_takeAway 97 = .ok (.iload 6, 2) := by decide +kernel
theorem dX0_takeAway_99 : decode cX0_takeAway 99 = .ok (.invokestatic 65, 3) := by decide +kernel
theorem dX0_takeAway_102 : decode cX0_takeAway 102 = .ok (.istore 7, 2) := by decide +kernel
theorem dX0_takeAway_104 : decode cX0_takeAway 104 = .ok (.iload 7, 2) := by decide +kernel
theorem dX0_takeAway_106 : decode cX0_takeAway 106 = .ok (.iconst (-1), 1) := by decide +kernel
theorem dX0_takeAway_107 : decode cX0_takeAway 107 = .ok (.if_icmp .eq 54, 3) := by decide +kernel
theorem dX0_takeAway_110 : decode cX0_takeAway 110 = .ok (.aload_n 0, 1) := by decide +kernel
theorem dX0_takeAway_111 : decode cX0_takeAway 111 = .ok (.getfield 20, 3) := by decide +kernel
theorem dX0_takeAway_114 : decode cX0_takeAway 114 = .ok (.iload 5, 2) := by decide +kernel
theorem dX0_takeAway_116 : decode cX0_takeAway 116 = .ok (.iload 7, 2) := by decide +kernel
theorem dX0_takeAway_118 : decode cX0_takeAway 118 = .ok (.iadd, 1) := by decide +kernel
theorem dX0_takeAway_119 : decode cX0_takeAway 119 = .ok (.iaload, 1) := by decide +kernel
theorem dX0_takeAway_120 : decode cX0_takeAway 120 = .ok (.ifCond .le 41, 3) := by decide +kernel
theorem dX0_takeAway_123 : decode cX0_takeAway 123 = .ok (.aload_n 0, 1) := by decide +kernel
theorem dX0_takeAway_124 : decode cX0_takeAway 124 = .ok (.getfield 20, 3) := by decide +kernel
theorem dX0_takeAway_127 : decode cX0_takeAway 127 = .ok (.iload 5, 2) := by decide +kernel
theorem dX0_takeAway_129 : decode cX0_takeAway 129 = .ok (.iload 7, 2) := by decide +kernel
theorem dX0_takeAway_131 : decode cX0_takeAway 131 = .ok (.iadd, 1) := by decide +kernel
theorem dX0_takeAway_132 : decode cX0_takeAway 132 = .ok (.iaload, 1) := by decide +kernel
theorem dX0_takeAway_133 : decode cX0_takeAway 133 = .ok (.iload 4, 2) := by decide +kernel
theorem dX0_takeAway_135 : decode cX0_takeAway 135 = .ok (.if_icmp .ge 15, 3) := by decide +kernel
theorem dX0_takeAway_138 : decode cX0_takeAway 138 = .ok (.aload_n 0, 1) := by decide +kernel
theorem dX0_takeAway_139 : decode cX0_takeAway 139 = .ok (.iload 5, 2) := by decide +kernel
theorem dX0_takeAway_141 : decode cX0_takeAway 141 = .ok (.iload 7, 2) := by decide +kernel
theorem dX0_takeAway_143 : decode cX0_takeAway 143 = .ok (.iadd, 1) := by decide +kernel
theorem dX0_takeAway_144 : decode cX0_takeAway 144 = .ok (.invokevirtual 83, 3) := by decide +kernel
theorem dX0_takeAway_147 : decode cX0_takeAway 147 = .ok (.goto 14, 3) := by decide +kernel
theorem dX0_takeAway_150 : decode cX0_takeAway 150 = .ok (.aload_n 0, 1) := by decide +kernel
theorem dX0_takeAway_151 : decode cX0_takeAway 151 = .ok (.getfield 23, 3) := by decide +kernel
theorem dX0_takeAway_154 : decode cX0_takeAway 154 = .ok (.iload 5, 2) := by decide +kernel
theorem dX0_takeAway_156 : decode cX0_takeAway 156 = .ok (.iload 7, 2) := by decide +kernel
theorem dX0_takeAway_158 : decode cX0_takeAway 158 = .ok (.iadd, 1) := by decide +kernel
theorem dX0_takeAway_159 : decode cX0_takeAway 159 = .ok (.iconst 1, 1) := by decide +kernel
theorem dX0_takeAway_160 : decode cX0_takeAway 160 = .ok (.bastore, 1) := by decide +kernel
theorem dX0_takeAway_161 : decode cX0_takeAway 161 = .ok (.iinc 6 1, 3) := by decide +kernel
theorem dX0_takeAway_164 : decode cX0_takeAway 164 = .ok (.goto (-78), 3) := by decide +kernel
theorem dX0_takeAway_167 : decode cX0_takeAway 167 = .ok (.iinc 2 1, 3) := by decide +kernel
theorem dX0_takeAway_170 : decode cX0_takeAway 170 = .ok (.goto (-148), 3) := by decide +kernel
theorem dX0_takeAway_173 : decode cX0_takeAway 173 = .ok (.return_, 1) := by decide +kernel
abbrev cX0_drop : ByteArray := prog_1_method_27_code
def yX0_drop : MethodName := ⟨RX0, "drop", "(I)V"⟩
theorem dX0_drop_0 : decode cX0_drop 0 = .ok (.aload_n 0, 1) := by decide +kernel
theorem dX0_drop_1 : decode cX0_drop 1 = .ok (.getfield 26, 3) := by decide +kernel
theorem dX0_drop_4 : decode cX0_drop 4 = .ok (.aload_n 0, 1) := by decide +kernel
theorem dX0_drop_5 : decode cX0_drop 5 = .ok (.getfield 79, 3) := by decide +kernel
theorem dX0_drop_8 : decode cX0_drop 8 = .ok (.iload_n 1, 1) := by decide +kernel
theorem dX0_drop_9 : decode cX0_drop 9 = .ok (.iastore, 1) := by decide +kernel
theorem dX0_drop_10 : decode cX0_drop 10 = .ok (.aload_n 0, 1) := by decide +kernel
theorem dX0_drop_11 : decode cX0_drop 11 = .ok (.getfield 29, 3) := by decide +kernel
theorem dX0_drop_14 : decode cX0_drop 14 = .ok (.aload_n 0, 1) := by decide +kernel
theorem dX0_drop_15 : decode cX0_drop 15 = .ok (.getfield 79, 3) := by decide +kernel
theorem dX0_drop_18 : decode cX0_drop 18 = .ok (.aload_n 0, 1) := by decide +kernel
theorem dX0_drop_19 : decode cX0_drop 19 = .ok (.getfield 20, 3) := by decide +kernel
theorem dX0_drop_22 : decode cX0_drop 22 = .ok (.iload_n 1, 1) := by decide +kernel
theorem dX0_drop_23 : decode cX0_drop 23 = .ok (.iaload, 1) := by decide +kernel
theorem dX0_drop_24 : decode cX0_drop 24 = .ok (.iastore, 1) := by decide +kernel
theorem dX0_drop_25 : decode cX0_drop 25 = .ok (.aload_n 0, 1) := by decide +kernel
theorem dX0_drop_26 : decode cX0_drop 26 = .ok (.dup, 1) := by decide +kernel
theorem dX0_drop_27 : decode cX0_drop 27 = .ok (.getfield 79, 3) := by decide +kernel
theorem dX0_drop_30 : decode cX0_drop 30 = .ok (.iconst 1, 1) := by decide +kernel
theorem dX0_drop_31 : decode cX0_drop 31 = .ok (.iadd, 1) := by decide +kernel
theorem dX0_drop_32 : decode cX0_drop 32 = .ok (.putfield 79, 3) := by decide +kernel
theorem dX0_drop_35 : decode cX0_drop 35 = .ok (.aload_n 0, 1) := by decide +kernel
theorem dX0_drop_36 : decode cX0_drop 36 = .ok (.getfield 20, 3) := by decide +kernel
theorem dX0_drop_39 : decode cX0_drop 39 = .ok (.iload_n 1, 1) := by decide +kernel
theorem dX0_drop_40 : decode cX0_drop 40 = .ok (.iconst 0, 1) := by decide +kernel
theorem dX0_drop_41 : decode cX0_drop 41 = .ok (.iastore, 1) := by decide +kernel
theorem dX0_drop_42 : decode cX0_drop 42 = .ok (.aload_n 0, 1) := by decide +kernel
theorem dX0_drop_43 : decode cX0_drop 43 = .ok (.getfield 23, 3) := by decide +kernel
theorem dX0_drop_46 : decode cX0_drop 46 = .ok (.iload_n 1, 1) := by decide +kernel
theorem dX0_drop_47 : decode cX0_drop 47 = .ok (.iconst 1, 1) := by decide +kernel
theorem dX0_drop_48 : decode cX0_drop 48 = .ok (.bastore, 1) := by decide +kernel
theorem dX0_drop_49 : decode cX0_drop 49 = .ok (.return_, 1) := by decide +kernel
abbrev cX0_neighbour : ByteArray := prog_1_method_21_code
def yX0_neighbour : MethodName := ⟨RX0, "neighbour", "(II)I"⟩
theorem dX0_neighbour_0 : decode cX0_neighbour 0 = .ok (.iload_n 1, 1) := by decide +kernel
theorem dX0_neighbour_1 : decode cX0_neighbour 1 = .ok (.iconst 2, 1) := by decide +kernel
theorem dX0_neighbour_2 : decode cX0_neighbour 2 = .ok (.if_icmp .ge 7, 3) := by decide +kernel
theorem dX0_neighbour_5 : decode cX0_neighbour 5 = .ok (.iconst 1, 1) := by decide +kernel
theorem dX0_neighbour_6 : decode cX0_neighbour 6 = .ok (.goto 5, 3) := by decide +kernel
theorem dX0_neighbour_9 : decode cX0_neighbour 9 = .ok (.bipush 6, 2) := by decide +kernel
theorem dX0_neighbour_11 : decode cX0_neighbour 11 = .ok (.istore_n 2, 1) := by decide +kernel
theorem dX0_neighbour_12 : decode cX0_neighbour 12 = .ok (.iload_n 1, 1) := by decide +kernel
theorem dX0_neighbour_13 : decode cX0_neighbour 13 = .ok (.iconst 3, 1) := by decide +kernel
theorem dX0_neighbour_14 : decode cX0_neighbour 14 = .ok (.if_icmp .le 8, 3) := by decide +kernel
theorem dX0_neighbour_17 : decode cX0_neighbour 17 = .ok (.bipush 36, 2) := by decide +kernel
theorem dX0_neighbour_19 : decode cX0_neighbour 19 = .ok (.goto 4, 3) := by decide +kernel
theorem dX0_neighbour_22 : decode cX0_neighbour 22 = .ok (.iload_n 2, 1) := by decide +kernel
theorem dX0_neighbour_23 : decode cX0_neighbour 23 = .ok (.istore_n 2, 1) := by decide +kernel
theorem dX0_neighbour_24 : decode cX0_neighbour 24 = .ok (.iload_n 0, 1) := by decide +kernel
theorem dX0_neighbour_25 : decode cX0_neighbour 25 = .ok (.iload_n 2, 1) := by decide +kernel
theorem dX0_neighbour_26 : decode cX0_neighbour 26 = .ok (.idiv, 1) := by decide +kernel
theorem dX0_neighbour_27 : decode cX0_neighbour 27 = .ok (.bipush 6, 2) := by decide +kernel
theorem dX0_neighbour_29 : decode cX0_neighbour 29 = .ok (.irem, 1) := by decide +kernel
theorem dX0_neighbour_30 : decode cX0_neighbour 30 = .ok (.istore_n 3, 1) := by decide +kernel
theorem dX0_neighbour_31 : decode cX0_neighbour 31 = .ok (.iload_n 1, 1) := by decide +kernel
theorem dX0_neighbour_32 : decode cX0_neighbour 32 = .ok (.iconst 1, 1) := by decide +kernel
theorem dX0_neighbour_33 : decode cX0_neighbour 33 = .ok (.iand, 1) := by decide +kernel
theorem dX0_neighbour_34 : decode cX0_neighbour 34 = .ok (.ifCond .ne 15, 3) := by decide +kernel
theorem dX0_neighbour_37 : decode cX0_neighbour 37 = .ok (.iload_n 3, 1) := by decide +kernel
theorem dX0_neighbour_38 : decode cX0_neighbour 38 = .ok (.ifCond .le 9, 3) := by decide +kernel
theorem dX0_neighbour_41 : decode cX0_neighbour 41 = .ok (.iload_n 0, 1) := by decide +kernel
theorem dX0_neighbour_42 : decode cX0_neighbour 42 = .ok (.iload_n 2, 1) := by decide +kernel
theorem dX0_neighbour_43 : decode cX0_neighbour 43 = .ok (.isub, 1) := by decide +kernel
theorem dX0_neighbour_44 : decode cX0_neighbour 44 = .ok (.goto 4, 3) := by decide +kernel
theorem dX0_neighbour_47 : decode cX0_neighbour 47 = .ok (.iconst (-1), 1) := by decide +kernel
theorem dX0_neighbour_48 : decode cX0_neighbour 48 = .ok (.ireturn, 1) := by decide +kernel
theorem dX0_neighbour_49 : decode cX0_neighbour 49 = .ok (.iload_n 3, 1) := by decide +kernel
theorem dX0_neighbour_50 : decode cX0_neighbour 50 = .ok (.iconst 5, 1) := by decide +kernel
theorem dX0_neighbour_51 : decode cX0_neighbour 51 = .ok (.if_icmp .ge 9, 3) := by decide +kernel
theorem dX0_neighbour_54 : decode cX0_neighbour 54 = .ok (.iload_n 0, 1) := by decide +kernel
theorem dX0_neighbour_55 : decode cX0_neighbour 55 = .ok (.iload_n 2, 1) := by decide +kernel
theorem dX0_neighbour_56 : decode cX0_neighbour 56 = .ok (.iadd, 1) := by decide +kernel
theorem dX0_neighbour_57 : decode cX0_neighbour 57 = .ok (.goto 4, 3) := by decide +kernel
theorem dX0_neighbour_60 : decode cX0_neighbour 60 = .ok (.iconst (-1), 1) := by decide +kernel
theorem dX0_neighbour_61 : decode cX0_neighbour 61 = .ok (.ireturn, 1) := by decide +kernel
abbrev cX0_flow : ByteArray := prog_1_method_28_code
def yX0_flow : MethodName := ⟨RX0, "flow", "()V"⟩
theorem dX0_flow_0 : decode cX0_flow 0 = .ok (.iconst 0, 1) := by decide +kernel
theorem dX0_flow_1 : decode cX0_flow 1 = .ok (.istore_n 1, 1) := by decide +kernel
theorem dX0_flow_2 : decode cX0_flow 2 = .ok (.iload_n 1, 1) := by decide +kernel
theorem dX0_flow_3 : decode cX0_flow 3 = .ok (.sipush 432, 3) := by decide +kernel
theorem dX0_flow_6 : decode cX0_flow 6 = .ok (.if_icmp .ge 50, 3) := by decide +kernel
theorem dX0_flow_9 : decode cX0_flow 9 = .ok (.aload_n 0, 1) := by decide +kernel
theorem dX0_flow_10 : decode cX0_flow 10 = .ok (.getfield 23, 3) := by decide +kernel
theorem dX0_flow_13 : decode cX0_flow 13 = .ok (.iload_n 1, 1) := by decide +kernel
theorem dX0_flow_14 : decode cX0_flow 14 = .ok (.baload, 1) := by decide +kernel
theorem dX0_flow_15 : decode cX0_flow 15 = .ok (.ifCond .eq 35, 3) := by decide +kernel
theorem dX0_flow_18 : decode cX0_flow 18 = .ok (.aload_n 0, 1) := by decide +kernel
theorem dX0_flow_19 : decode cX0_flow 19 = .ok (.iload_n 1, 1) := by decide +kernel
theorem dX0_flow_20 : decode cX0_flow 20 = .ok (.invokevirtual 86, 3) := by decide +kernel
theorem dX0_flow_23 : decode cX0_flow 23 = .ok (.istore_n 2, 1) := by decide +kernel
theorem dX0_flow_24 : decode cX0_flow 24 = .ok (.aload_n 0, 1) := by decide +kernel
theorem dX0_flow_25 : decode cX0_flow 25 = .ok (.getfield 20, 3) := by decide +kernel
theorem dX0_flow_28 : decode cX0_flow 28 = .ok (.iload_n 1, 1) := by decide +kernel
theorem dX0_flow_29 : decode cX0_flow 29 = .ok (.iload_n 2, 1) := by decide +kernel
theorem dX0_flow_30 : decode cX0_flow 30 = .ok (.aload_n 0, 1) := by decide +kernel
theorem dX0_flow_31 : decode cX0_flow 31 = .ok (.getfield 20, 3) := by decide +kernel
theorem dX0_flow_34 : decode cX0_flow 34 = .ok (.iload_n 1, 1) := by decide +kernel
theorem dX0_flow_35 : decode cX0_flow 35 = .ok (.iaload, 1) := by decide +kernel
theorem dX0_flow_36 : decode cX0_flow 36 = .ok (.if_icmp .le 7, 3) := by decide +kernel
theorem dX0_flow_39 : decode cX0_flow 39 = .ok (.iload_n 2, 1) := by decide +kernel
theorem dX0_flow_40 : decode cX0_flow 40 = .ok (.goto 9, 3) := by decide +kernel
theorem dX0_flow_43 : decode cX0_flow 43 = .ok (.aload_n 0, 1) := by decide +kernel
theorem dX0_flow_44 : decode cX0_flow 44 = .ok (.getfield 20, 3) := by decide +kernel
theorem dX0_flow_47 : decode cX0_flow 47 = .ok (.iload_n 1, 1) := by decide +kernel
theorem dX0_flow_48 : decode cX0_flow 48 = .ok (.iaload, 1) := by decide +kernel
theorem dX0_flow_49 : decode cX0_flow 49 = .ok (.iastore, 1) := by decide +kernel
theorem dX0_flow_50 : decode cX0_flow 50 = .ok (.iinc 1 1, 3) := by decide +kernel
theorem dX0_flow_53 : decode cX0_flow 53 = .ok (.goto (-51), 3) := by decide +kernel
theorem dX0_flow_56 : decode cX0_flow 56 = .ok (.bipush 12, 2) := by decide +kernel
theorem dX0_flow_58 : decode cX0_flow 58 = .ok (.istore_n 1, 1) := by decide +kernel
theorem dX0_flow_59 : decode cX0_flow 59 = .ok (.iload_n 1, 1) := by decide +kernel
theorem dX0_flow_60 : decode cX0_flow 60 = .ok (.ifCond .le 56, 3) := by decide +kernel
theorem dX0_flow_63 : decode cX0_flow 63 = .ok (.iconst 0, 1) := by decide +kernel
theorem dX0_flow_64 : decode cX0_flow 64 = .ok (.istore_n 2, 1) := by decide +kernel
theorem dX0_flow_65 : decode cX0_flow 65 = .ok (.iload_n 2, 1) := by decide +kernel
theorem dX0_flow_66 : decode cX0_flow 66 = .ok (.sipush 432, 3) := by decide +kernel
theorem dX0_flow_69 : decode cX0_flow 69 = .ok (.if_icmp .ge 41, 3) := by decide +kernel
theorem dX0_flow_72 : decode cX0_flow 72 = .ok (.aload_n 0, 1) := by decide +kernel
theorem dX0_flow_73 : decode cX0_flow 73 = .ok (.getfield 23, 3) := by decide +kernel
theorem dX0_flow_76 : decode cX0_flow 76 = .ok (.iload_n 2, 1) := by decide +kernel
theorem dX0_flow_77 : decode cX0_flow 77 = .ok (.baload, 1) := by decide +kernel
theorem dX0_flow_78 : decode cX0_flow 78 = .ok (.ifCond .eq 26, 3) := by decide +kernel
theorem dX0_flow_81 : decode cX0_flow 81 = .ok (.aload_n 0, 1) := by decide +kernel
theorem dX0_flow_82 : decode cX0_flow 82 = .ok (.getfield 20, 3) := by decide +kernel
theorem dX0_flow_85 : decode cX0_flow 85 = .ok (.iload_n 2, 1) := by decide +kernel
theorem dX0_flow_86 : decode cX0_flow 86 = .ok (.iaload, 1) := by decide +kernel
theorem dX0_flow_87 : decode cX0_flow 87 = .ok (.iload_n 1, 1) := by decide +kernel
theorem dX0_flow_88 : decode cX0_flow 88 = .ok (.if_icmp .ne 16, 3) := by decide +kernel
theorem dX0_flow_91 : decode cX0_flow 91 = .ok (.aload_n 0, 1) := by decide +kernel
theorem dX0_flow_92 : decode cX0_flow 92 = .ok (.getfield 23, 3) := by decide +kernel
theorem dX0_flow_95 : decode cX0_flow 95 = .ok (.iload_n 2, 1) := by decide +kernel
theorem dX0_flow_96 : decode cX0_flow 96 = .ok (.iconst 0, 1) := by decide +kernel
theorem dX0_flow_97 : decode cX0_flow 97 = .ok (.bastore, 1) := by decide +kernel
theorem dX0_flow_98 : decode cX0_flow 98 = .ok (.aload_n 0, 1) := by decide +kernel
theorem dX0_flow_99 : decode cX0_flow 99 = .ok (.iload_n 2, 1) := by decide +kernel
theorem dX0_flow_100 : decode cX0_flow 100 = .ok (.iload_n 1, 1) := by decide +kernel
theorem dX0_flow_101 : decode cX0_flow 101 = .ok (.invokevirtual 89, 3) := by decide +kernel
theorem dX0_flow_104 : decode cX0_flow 104 = .ok (.iinc 2 1, 3) := by decide +kernel
theorem dX0_flow_107 : decode cX0_flow 107 = .ok (.goto (-42), 3) := by decide +kernel
theorem dX0_flow_110 : decode cX0_flow 110 = .ok (.iinc 1 (-1), 3) := by decide +kernel
theorem dX0_flow_113 : decode cX0_flow 113 = .ok (.goto (-54), 3) := by decide +kernel
theorem dX0_flow_116 : decode cX0_flow 116 = .ok (.iconst 0, 1) := by decide +kernel
theorem dX0_flow_117 : decode cX0_flow 117 = .ok (.istore_n 1, 1) := by decide +kernel
theorem dX0_flow_118 : decode cX0_flow 118 = .ok (.iload_n 1, 1) := by decide +kernel
theorem dX0_flow_119 : decode cX0_flow 119 = .ok (.sipush 432, 3) := by decide +kernel
theorem dX0_flow_122 : decode cX0_flow 122 = .ok (.if_icmp .ge 16, 3) := by decide +kernel
theorem dX0_flow_125 : decode cX0_flow 125 = .ok (.aload_n 0, 1) := by decide +kernel
theorem dX0_flow_126 : decode cX0_flow 126 = .ok (.getfield 23, 3) := by decide +kernel
theorem dX0_flow_129 : decode cX0_flow 129 = .ok (.iload_n 1, 1) := by decide +kernel
theorem dX0_flow_130 : decode cX0_flow 130 = .ok (.iconst 0, 1) := by decide +kernel
theorem dX0_flow_131 : decode cX0_flow 131 = .ok (.bastore, 1) := by decide +kernel
theorem dX0_flow_132 : decode cX0_flow 132 = .ok (.iinc 1 1, 3) := by decide +kernel
theorem dX0_flow_135 : decode cX0_flow 135 = .ok (.goto (-17), 3) := by decide +kernel
theorem dX0_flow_138 : decode cX0_flow 138 = .ok (.return_, 1) := by decide +kernel
end
section
set_option maxRecDepth 100000
abbrev cX0_source : ByteArray := prog_1_method_23_code
def yX0_source : MethodName := ⟨RX0, "source", "(I)I"⟩
theorem dX0_source_0 : decode cX0_source 0 = .ok (.iload_n 1, 1) := by decide +kernel
theorem dX0_source_1 : decode cX0_source 1 = .ok (.sipush 216, 3) := by decide +kernel
theorem dX0_source_4 : decode cX0_source 4 = .ok (.if_icmp .ge 10, 3) := by decide +kernel
theorem dX0_source_7 : decode cX0_source 7 = .ok (.aload_n 0, 1) := by decide +kernel
theorem dX0_source_8 : decode cX0_source 8 = .ok (.getfield 13, 3) := by decide +kernel
theorem dX0_source_11 : decode cX0_source 11 = .ok (.iload_n 1, 1) := by decide +kernel
theorem dX0_source_12 : decode cX0_source 12 = .ok (.iaload, 1) := by decide +kernel
theorem dX0_source_13 : decode cX0_source 13 = .ok (.ireturn, 1) := by decide +kernel
theorem dX0_source_14 : decode cX0_source 14 = .ok (.aload_n 0, 1) := by decide +kernel
theorem dX0_source_15 : decode cX0_source 15 = .ok (.getfield 17, 3) := by decide +kernel
theorem dX0_source_18 : decode cX0_source 18 = .ok (.iload_n 1, 1) := by decide +kernel
theorem dX0_source_19 : decode cX0_source 19 = .ok (.sipush 216, 3) := by decide +kernel
theorem dX0_source_22 : decode cX0_source 22 = .ok (.isub, 1) := by decide +kernel
theorem dX0_source_23 : decode cX0_source 23 = .ok (.baload, 1) := by decide +kernel
theorem dX0_source_24 : decode cX0_source 24 = .ok (.ifCond .eq 8, 3) := by decide +kernel
theorem dX0_source_27 : decode cX0_source 27 = .ok (.bipush 8, 2) := by decide +kernel
theorem dX0_source_29 : decode cX0_source 29 = .ok (.goto 4, 3) := by decide +kernel
theorem dX0_source_32 : decode cX0_source 32 = .ok (.iconst 0, 1) := by decide +kernel
theorem dX0_source_33 : decode cX0_source 33 = .ok (.ireturn, 1) := by decide +kernel
abbrev cX0_pass : ByteArray := prog_1_method_29_code
def yX0_pass : MethodName := ⟨RX0, "pass", "(II)V"⟩
theorem dX0_pass_0 : decode cX0_pass 0 = .ok (.iload_n 1, 1) := by decide +kernel
theorem dX0_pass_1 : decode cX0_pass 1 = .ok (.sipush 216, 3) := by decide +kernel
theorem dX0_pass_4 : decode cX0_pass 4 = .ok (.if_icmp .ge 7, 3) := by decide +kernel
theorem dX0_pass_7 : decode cX0_pass 7 = .ok (.iconst 0, 1) := by decide +kernel
theorem dX0_pass_8 : decode cX0_pass 8 = .ok (.goto 6, 3) := by decide +kernel
theorem dX0_pass_11 : decode cX0_pass 11 = .ok (.sipush 216, 3) := by decide +kernel
theorem dX0_pass_14 : decode cX0_pass 14 = .ok (.istore_n 3, 1) := by decide +kernel
theorem dX0_pass_15 : decode cX0_pass 15 = .ok (.iconst 0, 1) := by decide +kernel
theorem dX0_pass_16 : decode cX0_pass 16 = .ok (.istore 4, 2) := by decide +kernel
theorem dX0_pass_18 : decode cX0_pass 18 = .ok (.iload 4, 2) := by decide +kernel
theorem dX0_pass_20 : decode cX0_pass 20 = .ok (.bipush 6, 2) := by decide +kernel
theorem dX0_pass_22 : decode cX0_pass 22 = .ok (.if_icmp .ge 72, 3) := by decide +kernel
theorem dX0_pass_25 : decode cX0_pass 25 = .ok (.iload_n 1, 1) := by decide +kernel
theorem dX0_pass_26 : decode cX0_pass 26 = .ok (.iload_n 3, 1) := by decide +kernel
theorem dX0_pass_27 : decode cX0_pass 27 = .ok (.isub, 1) := by decide +kernel
theorem dX0_pass_28 : decode cX0_pass 28 = .ok (.iload 4, 2) := by decide +kernel
theorem dX0_pass_30 : decode cX0_pass 30 = .ok (.invokestatic 65, 3) := by decide +kernel
theorem dX0_pass_33 : decode cX0_pass 33 = .ok (.istore 5, 2) := by decide +kernel
theorem dX0_pass_35 : decode cX0_pass 35 = .ok (.iload 5, 2) := by decide +kernel
theorem dX0_pass_37 : decode cX0_pass 37 = .ok (.iconst (-1), 1) := by decide +kernel
theorem dX0_pass_38 : decode cX0_pass 38 = .ok (.if_icmp .eq 50, 3) := by decide +kernel
theorem dX0_pass_41 : decode cX0_pass 41 = .ok (.aload_n 0, 1) := by decide +kernel
theorem dX0_pass_42 : decode cX0_pass 42 = .ok (.getfield 7, 3) := by decide +kernel
theorem dX0_pass_45 : decode cX0_pass 45 = .ok (.iload 5, 2) := by decide +kernel
theorem dX0_pass_47 : decode cX0_pass 47 = .ok (.baload, 1) := by decide +kernel
theorem dX0_pass_48 : decode cX0_pass 48 = .ok (.ifCond .ne 40, 3) := by decide +kernel
theorem dX0_pass_51 : decode cX0_pass 51 = .ok (.aload_n 0, 1) := by decide +kernel
theorem dX0_pass_52 : decode cX0_pass 52 = .ok (.getfield 20, 3) := by decide +kernel
theorem dX0_pass_55 : decode cX0_pass 55 = .ok (.iload_n 3, 1) := by decide +kernel
theorem dX0_pass_56 : decode cX0_pass 56 = .ok (.iload 5, 2) := by decide +kernel
theorem dX0_pass_58 : decode cX0_pass 58 = .ok (.iadd, 1) := by decide +kernel
theorem dX0_pass_59 : decode cX0_pass 59 = .ok (.iaload, 1) := by decide +kernel
theorem dX0_pass_60 : decode cX0_pass 60 = .ok (.iload_n 2, 1) := by decide +kernel
theorem dX0_pass_61 : decode cX0_pass 61 = .ok (.iconst 1, 1) := by decide +kernel
theorem dX0_pass_62 : decode cX0_pass 62 = .ok (.isub, 1) := by decide +kernel
theorem dX0_pass_63 : decode cX0_pass 63 = .ok (.if_icmp .ge 25, 3) := by decide +kernel
theorem dX0_pass_66 : decode cX0_pass 66 = .ok (.aload_n 0, 1) := by decide +kernel
theorem dX0_pass_67 : decode cX0_pass 67 = .ok (.getfield 20, 3) := by decide +kernel
theorem dX0_pass_70 : decode cX0_pass 70 = .ok (.iload_n 3, 1) := by decide +kernel
theorem dX0_pass_71 : decode cX0_pass 71 = .ok (.iload 5, 2) := by decide +kernel
theorem dX0_pass_73 : decode cX0_pass 73 = .ok (.iadd, 1) := by decide +kernel
theorem dX0_pass_74 : decode cX0_pass 74 = .ok (.iload_n 2, 1) := by decide +kernel
theorem dX0_pass_75 : decode cX0_pass 75 = .ok (.iconst 1, 1) := by decide +kernel
theorem dX0_pass_76 : decode cX0_pass 76 = .ok (.isub, 1) := by decide +kernel
theorem dX0_pass_77 : decode cX0_pass 77 = .ok (.iastore, 1) := by decide +kernel
theorem dX0_pass_78 : decode cX0_pass 78 = .ok (.aload_n 0, 1) := by decide +kernel
theorem dX0_pass_79 : decode cX0_pass 79 = .ok (.getfield 23, 3) := by decide +kernel
theorem dX0_pass_82 : decode cX0_pass 82 = .ok (.iload_n 3, 1) := by decide +kernel
theorem dX0_pass_83 : decode cX0_pass 83 = .ok (.iload 5, 2) := by decide +kernel
theorem dX0_pass_85 : decode cX0_pass 85 = .ok (.iadd, 1) := by decide +kernel
theorem dX0_pass_86 : decode cX0_pass 86 = .ok (.iconst 1, 1) := by decide +kernel
theorem dX0_pass_87 : decode cX0_pass 87 = .ok (.bastore, 1) := by decide +kernel
theorem dX0_pass_88 : decode cX0_pass 88 = .ok (.iinc 4 1, 3) := by decide +kernel
theorem dX0_pass_91 : decode cX0_pass 91 = .ok (.goto (-73), 3) := by decide +kernel
theorem dX0_pass_94 : decode cX0_pass 94 = .ok (.return_, 1) := by decide +kernel
abbrev cX0_fill : ByteArray := prog_1_method_3_code
def yX0_fill : MethodName := ⟨RX0, "fill", "(III)I"⟩
theorem dX0_fill_0 : decode cX0_fill 0 = .ok (.iload_n 1, 1) := by decide +kernel
theorem dX0_fill_1 : decode cX0_fill 1 = .ok (.iload_n 2, 1) := by decide +kernel
theorem dX0_fill_2 : decode cX0_fill 2 = .ok (.invokestatic 46, 3) := by decide +kernel
theorem dX0_fill_5 : decode cX0_fill 5 = .ok (.ifCond .ne 5, 3) := by decide +kernel
theorem dX0_fill_8 : decode cX0_fill 8 = .ok (.iconst (-1), 1) := by decide +kernel
theorem dX0_fill_9 : decode cX0_fill 9 = .ok (.ireturn, 1) := by decide +kernel
theorem dX0_fill_10 : decode cX0_fill 10 = .ok (.iconst 0, 1) := by decide +kernel
theorem dX0_fill_11 : decode cX0_fill 11 = .ok (.istore 4, 2) := by decide +kernel
theorem dX0_fill_13 : decode cX0_fill 13 = .ok (.iconst 0, 1) := by decide +kernel
theorem dX0_fill_14 : decode cX0_fill 14 = .ok (.istore 5, 2) := by decide +kernel
theorem dX0_fill_16 : decode cX0_fill 16 = .ok (.iload 5, 2) := by decide +kernel
theorem dX0_fill_18 : decode cX0_fill 18 = .ok (.sipush 216, 3) := by decide +kernel
theorem dX0_fill_21 : decode cX0_fill 21 = .ok (.if_icmp .ge 56, 3) := by decide +kernel
theorem dX0_fill_24 : decode cX0_fill 24 = .ok (.iload 5, 2) := by decide +kernel
theorem dX0_fill_26 : decode cX0_fill 26 = .ok (.iload_n 1, 1) := by decide +kernel
theorem dX0_fill_27 : decode cX0_fill 27 = .ok (.iload_n 2, 1) := by decide +kernel
theorem dX0_fill_28 : decode cX0_fill 28 = .ok (.invokestatic 50, 3) := by decide +kernel
theorem dX0_fill_31 : decode cX0_fill 31 = .ok (.ifCond .eq 40, 3) := by decide +kernel
theorem dX0_fill_34 : decode cX0_fill 34 = .ok (.aload_n 0, 1) := by decide +kernel
theorem dX0_fill_35 : decode cX0_fill 35 = .ok (.getfield 7, 3) := by decide +kernel
theorem dX0_fill_38 : decode cX0_fill 38 = .ok (.iload 5, 2) := by decide +kernel
theorem dX0_fill_40 : decode cX0_fill 40 = .ok (.baload, 1) := by decide +kernel
theorem dX0_fill_41 : decode cX0_fill 41 = .ok (.iload_n 3, 1) := by decide +kernel
theorem dX0_fill_42 : decode cX0_fill 42 = .ok (.ifCond .eq 7, 3) := by decide +kernel
theorem dX0_fill_45 : decode cX0_fill 45 = .ok (.iconst 1, 1) := by decide +kernel
theorem dX0_fill_46 : decode cX0_fill 46 = .ok (.goto 4, 3) := by decide +kernel
theorem dX0_fill_49 : decode cX0_fill 49 = .ok (.iconst 0, 1) := by decide +kernel
theorem dX0_fill_50 : decode cX0_fill 50 = .ok (.if_icmp .eq 21, 3) := by decide +kernel
theorem dX0_fill_53 : decode cX0_fill 53 = .ok (.aload_n 0, 1) := by decide +kernel
theorem dX0_fill_54 : decode cX0_fill 54 = .ok (.iload 5, 2) := by decide +kernel
theorem dX0_fill_56 : decode cX0_fill 56 = .ok (.iload_n 3, 1) := by decide +kernel
theorem dX0_fill_57 : decode cX0_fill 57 = .ok (.ifCond .eq 7, 3) := by decide +kernel
theorem dX0_fill_60 : decode cX0_fill 60 = .ok (.iconst 1, 1) := by decide +kernel
theorem dX0_fill_61 : decode cX0_fill 61 = .ok (.goto 4, 3) := by decide +kernel
theorem dX0_fill_64 : decode cX0_fill 64 = .ok (.iconst 0, 1) := by decide +kernel
theorem dX0_fill_65 : decode cX0_fill 65 = .ok (.invokevirtual 42, 3) := by decide +kernel
theorem dX0_fill_68 : decode cX0_fill 68 = .ok (.iinc 4 1, 3) := by decide +kernel
theorem dX0_fill_71 : decode cX0_fill 71 = .ok (.iinc 5 1, 3) := by decide +kernel
theorem dX0_fill_74 : decode cX0_fill 74 = .ok (.goto (-58), 3) := by decide +kernel
theorem dX0_fill_77 : decode cX0_fill 77 = .ok (.iload 4, 2) := by decide +kernel
theorem dX0_fill_79 : decode cX0_fill 79 = .ok (.ireturn, 1) := by decide +kernel
abbrev cX0_isBox : ByteArray := prog_1_method_18_code
def yX0_isBox : MethodName := ⟨RX0, "isBox", "(II)Z"⟩
theorem dX0_isBox_0 : decode cX0_isBox 0 = .ok (.iload_n 0, 1) := by decide +kernel
theorem dX0_isBox_1 : decode cX0_isBox 1 = .ok (.invokestatic 38, 3) := by decide +kernel
theorem dX0_isBox_4 : decode cX0_isBox 4 = .ok (.ifCond .eq 10, 3) := by decide +kernel
theorem dX0_isBox_7 : decode cX0_isBox 7 = .ok (.iload_n 1, 1) := by decide +kernel
theorem dX0_isBox_8 : decode cX0_isBox 8 = .ok (.invokestatic 38, 3) := by decide +kernel
theorem dX0_isBox_11 : decode cX0_isBox 11 = .ok (.ifCond .ne 5, 3) := by decide +kernel
theorem dX0_isBox_14 : decode cX0_isBox 14 = .ok (.iconst 0, 1) := by decide +kernel
theorem dX0_isBox_15 : decode cX0_isBox 15 = .ok (.ireturn, 1) := by decide +kernel
theorem dX0_isBox_16 : decode cX0_isBox 16 = .ok (.iload_n 0, 1) := by decide +kernel
theorem dX0_isBox_17 : decode cX0_isBox 17 = .ok (.bipush 6, 2) := by decide +kernel
theorem dX0_isBox_19 : decode cX0_isBox 19 = .ok (.irem, 1) := by decide +kernel
theorem dX0_isBox_20 : decode cX0_isBox 20 = .ok (.iload_n 1, 1) := by decide +kernel
theorem dX0_isBox_21 : decode cX0_isBox 21 = .ok (.bipush 6, 2) := by decide +kernel
theorem dX0_isBox_23 : decode cX0_isBox 23 = .ok (.irem, 1) := by decide +kernel
theorem dX0_isBox_24 : decode cX0_isBox 24 = .ok (.if_icmp .gt 35, 3) := by decide +kernel
theorem dX0_isBox_27 : decode cX0_isBox 27 = .ok (.iload_n 0, 1) := by decide +kernel
theorem dX0_isBox_28 : decode cX0_isBox 28 = .ok (.bipush 6, 2) := by decide +kernel
theorem dX0_isBox_30 : decode cX0_isBox 30 = .ok (.idiv, 1) := by decide +kernel
theorem dX0_isBox_31 : decode cX0_isBox 31 = .ok (.bipush 6, 2) := by decide +kernel
theorem dX0_isBox_33 : decode cX0_isBox 33 = .ok (.irem, 1) := by decide +kernel
theorem dX0_isBox_34 : decode cX0_isBox 34 = .ok (.iload_n 1, 1) := by decide +kernel
theorem dX0_isBox_35 : decode cX0_isBox 35 = .ok (.bipush 6, 2) := by decide +kernel
theorem dX0_isBox_37 : decode cX0_isBox 37 = .ok (.idiv, 1) := by decide +kernel
theorem dX0_isBox_38 : decode cX0_isBox 38 = .ok (.bipush 6, 2) := by decide +kernel
theorem dX0_isBox_40 : decode cX0_isBox 40 = .ok (.irem, 1) := by decide +kernel
theorem dX0_isBox_41 : decode cX0_isBox 41 = .ok (.if_icmp .gt 18, 3) := by decide +kernel
theorem dX0_isBox_44 : decode cX0_isBox 44 = .ok (.iload_n 0, 1) := by decide +kernel
theorem dX0_isBox_45 : decode cX0_isBox 45 = .ok (.bipush 36, 2) := by decide +kernel
theorem dX0_isBox_47 : decode cX0_isBox 47 = .ok (.idiv, 1) := by decide +kernel
theorem dX0_isBox_48 : decode cX0_isBox 48 = .ok (.iload_n 1, 1) := by decide +kernel
theorem dX0_isBox_49 : decode cX0_isBox 49 = .ok (.bipush 36, 2) := by decide +kernel
theorem dX0_isBox_51 : decode cX0_isBox 51 = .ok (.idiv, 1) := by decide +kernel
theorem dX0_isBox_52 : decode cX0_isBox 52 = .ok (.if_icmp .gt 7, 3) := by decide +kernel
theorem dX0_isBox_55 : decode cX0_isBox 55 = .ok (.iconst 1, 1) := by decide +kernel
theorem dX0_isBox_56 : decode cX0_isBox 56 = .ok (.goto 4, 3) := by decide +kernel
theorem dX0_isBox_59 : decode cX0_isBox 59 = .ok (.iconst 0, 1) := by decide +kernel
theorem dX0_isBox_60 : decode cX0_isBox 60 = .ok (.ireturn, 1) := by decide +kernel
abbrev cX0_inBox : ByteArray := prog_1_method_19_code
def yX0_inBox : MethodName := ⟨RX0, "inBox", "(III)Z"⟩
theorem dX0_inBox_0 : decode cX0_inBox 0 = .ok (.iload_n 0, 1) := by decide +kernel
theorem dX0_inBox_1 : decode cX0_inBox 1 = .ok (.bipush 6, 2) := by decide +kernel
theorem dX0_inBox_3 : decode cX0_inBox 3 = .ok (.irem, 1) := by decide +kernel
theorem dX0_inBox_4 : decode cX0_inBox 4 = .ok (.iload_n 1, 1) := by decide +kernel
theorem dX0_inBox_5 : decode cX0_inBox 5 = .ok (.bipush 6, 2) := by decide +kernel
theorem dX0_inBox_7 : decode cX0_inBox 7 = .ok (.irem, 1) := by decide +kernel
theorem dX0_inBox_8 : decode cX0_inBox 8 = .ok (.if_icmp .lt 18, 3) := by decide +kernel
theorem dX0_inBox_11 : decode cX0_inBox 11 = .ok (.iload_n 0, 1) := by decide +kernel
theorem dX0_inBox_12 : decode cX0_inBox 12 = .ok (.bipush 6, 2) := by decide +kernel
theorem dX0_inBox_14 : decode cX0_inBox 14 = .ok (.irem, 1) := by decide +kernel
theorem dX0_inBox_15 : decode cX0_inBox 15 = .ok (.iload_n 2, 1) := by decide +kernel
theorem dX0_inBox_16 : decode cX0_inBox 16 = .ok (.bipush 6, 2) := by decide +kernel
theorem dX0_inBox_18 : decode cX0_inBox 18 = .ok (.irem, 1) := by decide +kernel
theorem dX0_inBox_19 : decode cX0_inBox 19 = .ok (.if_icmp .gt 7, 3) := by decide +kernel
theorem dX0_inBox_22 : decode cX0_inBox 22 = .ok (.iconst 1, 1) := by decide +kernel
theorem dX0_inBox_23 : decode cX0_inBox 23 = .ok (.goto 4, 3) := by decide +kernel
theorem dX0_inBox_26 : decode cX0_inBox 26 = .ok (.iconst 0, 1) := by decide +kernel
theorem dX0_inBox_27 : decode cX0_inBox 27 = .ok (.istore_n 3, 1) := by decide +kernel
theorem dX0_inBox_28 : decode cX0_inBox 28 = .ok (.iload_n 0, 1) := by decide +kernel
theorem dX0_inBox_29 : decode cX0_inBox 29 = .ok (.bipush 6, 2) := by decide +kernel
theorem dX0_inBox_31 : decode cX0_inBox 31 = .ok (.idiv, 1) := by decide +kernel
theorem dX0_inBox_32 : decode cX0_inBox 32 = .ok (.bipush 6, 2) := by decide +kernel
theorem dX0_inBox_34 : decode cX0_inBox 34 = .ok (.irem, 1) := by decide +kernel
theorem dX0_inBox_35 : decode cX0_inBox 35 = .ok (.iload_n 1, 1) := by decide +kernel
theorem dX0_inBox_36 : decode cX0_inBox 36 = .ok (.bipush 6, 2) := by decide +kernel
theorem dX0_inBox_38 : decode cX0_inBox 38 = .ok (.idiv, 1) := by decide +kernel
theorem dX0_inBox_39 : decode cX0_inBox 39 = .ok (.bipush 6, 2) := by decide +kernel
theorem dX0_inBox_41 : decode cX0_inBox 41 = .ok (.irem, 1) := by decide +kernel
theorem dX0_inBox_42 : decode cX0_inBox 42 = .ok (.if_icmp .lt 24, 3) := by decide +kernel
theorem dX0_inBox_45 : decode cX0_inBox 45 = .ok (.iload_n 0, 1) := by decide +kernel
theorem dX0_inBox_46 : decode cX0_inBox 46 = .ok (.bipush 6, 2) := by decide +kernel
theorem dX0_inBox_48 : decode cX0_inBox 48 = .ok (.idiv, 1) := by decide +kernel
theorem dX0_inBox_49 : decode cX0_inBox 49 = .ok (.bipush 6, 2) := by decide +kernel
theorem dX0_inBox_51 : decode cX0_inBox 51 = .ok (.irem, 1) := by decide +kernel
theorem dX0_inBox_52 : decode cX0_inBox 52 = .ok (.iload_n 2, 1) := by decide +kernel
theorem dX0_inBox_53 : decode cX0_inBox 53 = .ok (.bipush 6, 2) := by decide +kernel
theorem dX0_inBox_55 : decode cX0_inBox 55 = .ok (.idiv, 1) := by decide +kernel
theorem dX0_inBox_56 : decode cX0_inBox 56 = .ok (.bipush 6, 2) := by decide +kernel
theorem dX0_inBox_58 : decode cX0_inBox 58 = .ok (.irem, 1) := by decide +kernel
theorem dX0_inBox_59 : decode cX0_inBox 59 = .ok (.if_icmp .gt 7, 3) := by decide +kernel
theorem dX0_inBox_62 : decode cX0_inBox 62 = .ok (.iconst 1, 1) := by decide +kernel
theorem dX0_inBox_63 : decode cX0_inBox 63 = .ok (.goto 4, 3) := by decide +kernel
theorem dX0_inBox_66 : decode cX0_inBox 66 = .ok (.iconst 0, 1) := by decide +kernel
theorem dX0_inBox_67 : decode cX0_inBox 67 = .ok (.istore 4, 2) := by decide +kernel
theorem dX0_inBox_69 : decode cX0_inBox 69 = .ok (.iload_n 3, 1) := by decide +kernel
theorem dX0_inBox_70 : decode cX0_inBox 70 = .ok (.ifCond .eq 34, 3) := by decide +kernel
theorem dX0_inBox_73 : decode cX0_inBox 73 = .ok (.iload 4, 2) := by decide +kernel
theorem dX0_inBox_75 : decode cX0_inBox 75 = .ok (.ifCond .eq 29, 3) := by decide +kernel
theorem dX0_inBox_78 : decode cX0_inBox 78 = .ok (.iload_n 0, 1) := by decide +kernel
theorem dX0_inBox_79 : decode cX0_inBox 79 = .ok (.bipush 36, 2) := by decide +kernel
theorem dX0_inBox_81 : decode cX0_inBox 81 = .ok (.idiv, 1) := by decide +kernel
theorem dX0_inBox_82 : decode cX0_inBox 82 = .ok (.iload_n 1, 1) := by decide +kernel
theorem dX0_inBox_83 : decode cX0_inBox 83 = .ok (.bipush 36, 2) := by decide +kernel
theorem dX0_inBox_85 : decode cX0_inBox 85 = .ok (.idiv, 1) := by decide +kernel
theorem dX0_inBox_86 : decode cX0_inBox 86 = .ok (.if_icmp .lt 18, 3) := by decide +kernel
theorem dX0_inBox_89 : decode cX0_inBox 89 = .ok (.iload_n 0, 1) := by decide +kernel
theorem dX0_inBox_90 : decode cX0_inBox 90 = .ok (.bipush 36, 2) := by decide +kernel
theorem dX0_inBox_92 : decode cX0_inBox 92 = .ok (.idiv, 1) := by decide +kernel
theorem dX0_inBox_93 : decode cX0_inBox 93 = .ok (.iload_n 2, 1) := by decide +kernel
theorem dX0_inBox_94 : decode cX0_inBox 94 = .ok (.bipush 36, 2) := by decide +kernel
theorem dX0_inBox_96 : decode cX0_inBox 96 = .ok (.idiv, 1) := by decide +kernel
theorem dX0_inBox_97 : decode cX0_inBox 97 = .ok (.if_icmp .gt 7, 3) := by decide +kernel
theorem dX0_inBox_100 : decode cX0_inBox 100 = .ok (.iconst 1, 1) := by decide +kernel
theorem dX0_inBox_101 : decode cX0_inBox 101 = .ok (.goto 4, 3) := by decide +kernel
theorem dX0_inBox_104 : decode cX0_inBox 104 = .ok (.iconst 0, 1) := by decide +kernel
theorem dX0_inBox_105 : decode cX0_inBox 105 = .ok (.ireturn, 1) := by decide +kernel
abbrev cX0_shell : ByteArray := prog_1_method_4_code
def yX0_shell : MethodName := ⟨RX0, "shell", "(II)I"⟩
theorem dX0_shell_0 : decode cX0_shell 0 = .ok (.iload_n 1, 1) := by decide +kernel
theorem dX0_shell_1 : decode cX0_shell 1 = .ok (.iload_n 2, 1) := by decide +kernel
theorem dX0_shell_2 : decode cX0_shell 2 = .ok (.invokestatic 46, 3) := by decide +kernel
theorem dX0_shell_5 : decode cX0_shell 5 = .ok (.ifCond .ne 5, 3) := by decide +kernel
theorem dX0_shell_8 : decode cX0_shell 8 = .ok (.iconst (-1), 1) := by decide +kernel
theorem dX0_shell_9 : decode cX0_shell 9 = .ok (.ireturn, 1) := by decide +kernel
theorem dX0_shell_10 : decode cX0_shell 10 = .ok (.iconst 0, 1) := by decide +kernel
theorem dX0_shell_11 : decode cX0_shell 11 = .ok (.istore_n 3, 1) := by decide +kernel
theorem dX0_shell_12 : decode cX0_shell 12 = .ok (.iconst 0, 1) := by decide +kernel
theorem dX0_shell_13 : decode cX0_shell 13 = .ok (.istore 4, 2) := by decide +kernel
theorem dX0_shell_15 : decode cX0_shell 15 = .ok (.iload 4, 2) := by decide +kernel
theorem dX0_shell_17 : decode cX0_shell 17 = .ok (.sipush 216, 3) := by decide +kernel
theorem dX0_shell_20 : decode cX0_shell 20 = .ok (.if_icmp .ge 49, 3) := by decide +kernel
theorem dX0_shell_23 : decode cX0_shell 23 = .ok (.iload 4, 2) := by decide +kernel
theorem dX0_shell_25 : decode cX0_shell 25 = .ok (.iload_n 1, 1) := by decide +kernel
theorem dX0_shell_26 : decode cX0_shell 26 = .ok (.iload_n 2, 1) := by decide +kernel
theorem dX0_shell_27 : decode cX0_shell 27 = .ok (.invokestatic 50, 3) := by decide +kernel
theorem dX0_shell_30 : decode cX0_shell 30 = .ok (.ifCond .eq 33, 3) := by decide +kernel
theorem dX0_shell_33 : decode cX0_shell 33 = .ok (.iload 4, 2) := by decide +kernel
theorem dX0_shell_35 : decode cX0_shell 35 = .ok (.iload_n 1, 1) := by decide +kernel
theorem dX0_shell_36 : decode cX0_shell 36 = .ok (.iload_n 2, 1) := by decide +kernel
theorem dX0_shell_37 : decode cX0_shell 37 = .ok (.invokestatic 54, 3) := by decide +kernel
theorem dX0_shell_40 : decode cX0_shell 40 = .ok (.ifCond .eq 23, 3) := by decide +kernel
theorem dX0_shell_43 : decode cX0_shell 43 = .ok (.aload_n 0, 1) := by decide +kernel
theorem dX0_shell_44 : decode cX0_shell 44 = .ok (.getfield 7, 3) := by decide +kernel
theorem dX0_shell_47 : decode cX0_shell 47 = .ok (.iload 4, 2) := by decide +kernel
theorem dX0_shell_49 : decode cX0_shell 49 = .ok (.baload, 1) := by decide +kernel
theorem dX0_shell_50 : decode cX0_shell 50 = .ok (.ifCond .ne 13, 3) := by decide +kernel
theorem dX0_shell_53 : decode cX0_shell 53 = .ok (.aload_n 0, 1) := by decide +kernel
theorem dX0_shell_54 : decode cX0_shell 54 = .ok (.iload 4, 2) := by decide +kernel
theorem dX0_shell_56 : decode cX0_shell 56 = .ok (.iconst 1, 1) := by decide +kernel
theorem dX0_shell_57 : decode cX0_shell 57 = .ok (.invokevirtual 42, 3) := by decide +kernel
theorem dX0_shell_60 : decode cX0_shell 60 = .ok (.iinc 3 1, 3) := by decide +kernel
theorem dX0_shell_63 : decode cX0_shell 63 = .ok (.iinc 4 1, 3) := by decide +kernel
theorem dX0_shell_66 : decode cX0_shell 66 = .ok (.goto (-51), 3) := by decide +kernel
theorem dX0_shell_69 : decode cX0_shell 69 = .ok (.iload_n 3, 1) := by decide +kernel
theorem dX0_shell_70 : decode cX0_shell 70 = .ok (.ireturn, 1) := by decide +kernel
abbrev cX0_onWall : ByteArray := prog_1_method_20_code
def yX0_onWall : MethodName := ⟨RX0, "onWall", "(III)Z"⟩
theorem dX0_onWall_0 : decode cX0_onWall 0 = .ok (.iload_n 0, 1) := by decide +kernel
theorem dX0_onWall_1 : decode cX0_onWall 1 = .ok (.bipush 6, 2) := by decide +kernel
theorem dX0_onWall_3 : decode cX0_onWall 3 = .ok (.irem, 1) := by decide +kernel
theorem dX0_onWall_4 : decode cX0_onWall 4 = .ok (.iload_n 1, 1) := by decide +kernel
theorem dX0_onWall_5 : decode cX0_onWall 5 = .ok (.bipush 6, 2) := by decide +kernel
theorem dX0_onWall_7 : decode cX0_onWall 7 = .ok (.irem, 1) := by decide +kernel
theorem dX0_onWall_8 : decode cX0_onWall 8 = .ok (.if_icmp .eq 14, 3) := by decide +kernel
theorem dX0_onWall_11 : decode cX0_onWall 11 = .ok (.iload_n 0, 1) := by decide +kernel
theorem dX0_onWall_12 : decode cX0_onWall 12 = .ok (.bipush 6, 2) := by decide +kernel
theorem dX0_onWall_14 : decode cX0_onWall 14 = .ok (.irem, 1) := by decide +kernel
theorem dX0_onWall_15 : decode cX0_onWall 15 = .ok (.iload_n 2, 1) := by decide +kernel
theorem dX0_onWall_16 : decode cX0_onWall 16 = .ok (.bipush 6, 2) := by decide +kernel
theorem dX0_onWall_18 : decode cX0_onWall 18 = .ok (.irem, 1) := by decide +kernel
theorem dX0_onWall_19 : decode cX0_onWall 19 = .ok (.if_icmp .ne 7, 3) := by decide +kernel
theorem dX0_onWall_22 : decode cX0_onWall 22 = .ok (.iconst 1, 1) := by decide +kernel
theorem dX0_onWall_23 : decode cX0_onWall 23 = .ok (.goto 4, 3) := by decide +kernel
theorem dX0_onWall_26 : decode cX0_onWall 26 = .ok (.iconst 0, 1) := by decide +kernel
theorem dX0_onWall_27 : decode cX0_onWall 27 = .ok (.istore_n 3, 1) := by decide +kernel
theorem dX0_onWall_28 : decode cX0_onWall 28 = .ok (.iload_n 0, 1) := by decide +kernel
theorem dX0_onWall_29 : decode cX0_onWall 29 = .ok (.bipush 6, 2) := by decide +kernel
theorem dX0_onWall_31 : decode cX0_onWall 31 = .ok (.idiv, 1) := by decide +kernel
theorem dX0_onWall_32 : decode cX0_onWall 32 = .ok (.bipush 6, 2) := by decide +kernel
theorem dX0_onWall_34 : decode cX0_onWall 34 = .ok (.irem, 1) := by decide +kernel
theorem dX0_onWall_35 : decode cX0_onWall 35 = .ok (.iload_n 1, 1) := by decide +kernel
theorem dX0_onWall_36 : decode cX0_onWall 36 = .ok (.bipush 6, 2) := by decide +kernel
theorem dX0_onWall_38 : decode cX0_onWall 38 = .ok (.idiv, 1) := by decide +kernel
theorem dX0_onWall_39 : decode cX0_onWall 39 = .ok (.bipush 6, 2) := by decide +kernel
theorem dX0_onWall_41 : decode cX0_onWall 41 = .ok (.irem, 1) := by decide +kernel
theorem dX0_onWall_42 : decode cX0_onWall 42 = .ok (.if_icmp .eq 20, 3) := by decide +kernel
theorem dX0_onWall_45 : decode cX0_onWall 45 = .ok (.iload_n 0, 1) := by decide +kernel
theorem dX0_onWall_46 : decode cX0_onWall 46 = .ok (.bipush 6, 2) := by decide +kernel
theorem dX0_onWall_48 : decode cX0_onWall 48 = .ok (.idiv, 1) := by decide +kernel
theorem dX0_onWall_49 : decode cX0_onWall 49 = .ok (.bipush 6, 2) := by decide +kernel
theorem dX0_onWall_51 : decode cX0_onWall 51 = .ok (.irem, 1) := by decide +kernel
theorem dX0_onWall_52 : decode cX0_onWall 52 = .ok (.iload_n 2, 1) := by decide +kernel
theorem dX0_onWall_53 : decode cX0_onWall 53 = .ok (.bipush 6, 2) := by decide +kernel
theorem dX0_onWall_55 : decode cX0_onWall 55 = .ok (.idiv, 1) := by decide +kernel
theorem dX0_onWall_56 : decode cX0_onWall 56 = .ok (.bipush 6, 2) := by decide +kernel
theorem dX0_onWall_58 : decode cX0_onWall 58 = .ok (.irem, 1) := by decide +kernel
theorem dX0_onWall_59 : decode cX0_onWall 59 = .ok (.if_icmp .ne 7, 3) := by decide +kernel
theorem dX0_onWall_62 : decode cX0_onWall 62 = .ok (.iconst 1, 1) := by decide +kernel
theorem dX0_onWall_63 : decode cX0_onWall 63 = .ok (.goto 4, 3) := by decide +kernel
theorem dX0_onWall_66 : decode cX0_onWall 66 = .ok (.iconst 0, 1) := by decide +kernel
theorem dX0_onWall_67 : decode cX0_onWall 67 = .ok (.istore 4, 2) := by decide +kernel
theorem dX0_onWall_69 : decode cX0_onWall 69 = .ok (.iload_n 3, 1) := by decide +kernel
theorem dX0_onWall_70 : decode cX0_onWall 70 = .ok (.ifCond .ne 30, 3) := by decide +kernel
theorem dX0_onWall_73 : decode cX0_onWall 73 = .ok (.iload 4, 2) := by decide +kernel
theorem dX0_onWall_75 : decode cX0_onWall 75 = .ok (.ifCond .ne 25, 3) := by decide +kernel
theorem dX0_onWall_78 : decode cX0_onWall 78 = .ok (.iload_n 0, 1) := by decide +kernel
theorem dX0_onWall_79 : decode cX0_onWall 79 = .ok (.bipush 36, 2) := by decide +kernel
theorem dX0_onWall_81 : decode cX0_onWall 81 = .ok (.idiv, 1) := by decide +kernel
theorem dX0_onWall_82 : decode cX0_onWall 82 = .ok (.iload_n 1, 1) := by decide +kernel
theorem dX0_onWall_83 : decode cX0_onWall 83 = .ok (.bipush 36, 2) := by decide +kernel
theorem dX0_onWall_85 : decode cX0_onWall 85 = .ok (.idiv, 1) := by decide +kernel
theorem dX0_onWall_86 : decode cX0_onWall 86 = .ok (.if_icmp .eq 14, 3) := by decide +kernel
theorem dX0_onWall_89 : decode cX0_onWall 89 = .ok (.iload_n 0, 1) := by decide +kernel
theorem dX0_onWall_90 : decode cX0_onWall 90 = .ok (.bipush 36, 2) := by decide +kernel
theorem dX0_onWall_92 : decode cX0_onWall 92 = .ok (.idiv, 1) := by decide +kernel
theorem dX0_onWall_93 : decode cX0_onWall 93 = .ok (.iload_n 2, 1) := by decide +kernel
theorem dX0_onWall_94 : decode cX0_onWall 94 = .ok (.bipush 36, 2) := by decide +kernel
theorem dX0_onWall_96 : decode cX0_onWall 96 = .ok (.idiv, 1) := by decide +kernel
theorem dX0_onWall_97 : decode cX0_onWall 97 = .ok (.if_icmp .ne 7, 3) := by decide +kernel
theorem dX0_onWall_100 : decode cX0_onWall 100 = .ok (.iconst 1, 1) := by decide +kernel
theorem dX0_onWall_101 : decode cX0_onWall 101 = .ok (.goto 4, 3) := by decide +kernel
theorem dX0_onWall_104 : decode cX0_onWall 104 = .ok (.iconst 0, 1) := by decide +kernel
theorem dX0_onWall_105 : decode cX0_onWall 105 = .ok (.ireturn, 1) := by decide +kernel
abbrev cX0_lamp : ByteArray := prog_1_method_5_code
def yX0_lamp : MethodName := ⟨RX0, "lamp", "(II)I"⟩
theorem dX0_lamp_0 : decode cX0_lamp 0 = .ok (.iload_n 1, 1) := by decide +kernel
theorem dX0_lamp_1 : decode cX0_lamp 1 = .ok (.invokestatic 38, 3) := by decide +kernel
theorem dX0_lamp_4 : decode cX0_lamp 4 = .ok (.ifCond .ne 5, 3) := by decide +kernel
theorem dX0_lamp_7 : decode cX0_lamp 7 = .ok (.iconst (-1), 1) := by decide +kernel
theorem dX0_lamp_8 : decode cX0_lamp 8 = .ok (.ireturn, 1) := by decide +kernel
theorem dX0_lamp_9 : decode cX0_lamp 9 = .ok (.iload_n 2, 1) := by decide +kernel
theorem dX0_lamp_10 : decode cX0_lamp 10 = .ok (.ifCond .lt 9, 3) := by decide +kernel
theorem dX0_lamp_13 : decode cX0_lamp 13 = .ok (.iload_n 2, 1) := by decide +kernel
theorem dX0_lamp_14 : decode cX0_lamp 14 = .ok (.bipush 12, 2) := by decide +kernel
theorem dX0_lamp_16 : decode cX0_lamp 16 = .ok (.if_icmp .le 6, 3) := by decide +kernel
theorem dX0_lamp_19 : decode cX0_lamp 19 = .ok (.bipush (-2), 2) := by decide +kernel
theorem dX0_lamp_21 : decode cX0_lamp 21 = .ok (.ireturn, 1) := by decide +kernel
theorem dX0_lamp_22 : decode cX0_lamp 22 = .ok (.aload_n 0, 1) := by decide +kernel
theorem dX0_lamp_23 : decode cX0_lamp 23 = .ok (.getfield 13, 3) := by decide +kernel
theorem dX0_lamp_26 : decode cX0_lamp 26 = .ok (.iload_n 1, 1) := by decide +kernel
theorem dX0_lamp_27 : decode cX0_lamp 27 = .ok (.iaload, 1) := by decide +kernel
theorem dX0_lamp_28 : decode cX0_lamp 28 = .ok (.istore_n 3, 1) := by decide +kernel
theorem dX0_lamp_29 : decode cX0_lamp 29 = .ok (.aload_n 0, 1) := by decide +kernel
theorem dX0_lamp_30 : decode cX0_lamp 30 = .ok (.iload_n 1, 1) := by decide +kernel
theorem dX0_lamp_31 : decode cX0_lamp 31 = .ok (.iload_n 2, 1) := by decide +kernel
theorem dX0_lamp_32 : decode cX0_lamp 32 = .ok (.invokevirtual 57, 3) := by decide +kernel
theorem dX0_lamp_35 : decode cX0_lamp 35 = .ok (.iload_n 3, 1) := by decide +kernel
theorem dX0_lamp_36 : decode cX0_lamp 36 = .ok (.ireturn, 1) := by decide +kernel
abbrev cX0_setLamp : ByteArray := prog_1_method_24_code
def yX0_setLamp : MethodName := ⟨RX0, "setLamp", "(II)V"⟩
theorem dX0_setLamp_0 : decode cX0_setLamp 0 = .ok (.aload_n 0, 1) := by decide +kernel
theorem dX0_setLamp_1 : decode cX0_setLamp 1 = .ok (.iload_n 1, 1) := by decide +kernel
theorem dX0_setLamp_2 : decode cX0_setLamp 2 = .ok (.invokevirtual 73, 3) := by decide +kernel
theorem dX0_setLamp_5 : decode cX0_setLamp 5 = .ok (.aload_n 0, 1) := by decide +kernel
theorem dX0_setLamp_6 : decode cX0_setLamp 6 = .ok (.getfield 13, 3) := by decide +kernel
theorem dX0_setLamp_9 : decode cX0_setLamp 9 = .ok (.iload_n 1, 1) := by decide +kernel
theorem dX0_setLamp_10 : decode cX0_setLamp 10 = .ok (.iload_n 2, 1) := by decide +kernel
theorem dX0_setLamp_11 : decode cX0_setLamp 11 = .ok (.iastore, 1) := by decide +kernel
theorem dX0_setLamp_12 : decode cX0_setLamp 12 = .ok (.aload_n 0, 1) := by decide +kernel
theorem dX0_setLamp_13 : decode cX0_setLamp 13 = .ok (.getfield 23, 3) := by decide +kernel
theorem dX0_setLamp_16 : decode cX0_setLamp 16 = .ok (.iload_n 1, 1) := by decide +kernel
theorem dX0_setLamp_17 : decode cX0_setLamp 17 = .ok (.iconst 1, 1) := by decide +kernel
theorem dX0_setLamp_18 : decode cX0_setLamp 18 = .ok (.bastore, 1) := by decide +kernel
theorem dX0_setLamp_19 : decode cX0_setLamp 19 = .ok (.aload_n 0, 1) := by decide +kernel
theorem dX0_setLamp_20 : decode cX0_setLamp 20 = .ok (.invokevirtual 76, 3) := by decide +kernel
theorem dX0_setLamp_23 : decode cX0_setLamp 23 = .ok (.return_, 1) := by decide +kernel
abbrev cX0_isSolid : ByteArray := prog_1_method_6_code
def yX0_isSolid : MethodName := ⟨RX0, "isSolid", "(I)I"⟩
theorem dX0_isSolid_0 : decode cX0_isSolid 0 = .ok (.iload_n 1, 1) := by decide +kernel
theorem dX0_isSolid_1 : decode cX0_isSolid 1 = .ok (.invokestatic 38, 3) := by decide +kernel
theorem dX0_isSolid_4 : decode cX0_isSolid 4 = .ok (.ifCond .ne 5, 3) := by decide +kernel
theorem dX0_isSolid_7 : decode cX0_isSolid 7 = .ok (.iconst (-1), 1) := by decide +kernel
theorem dX0_isSolid_8 : decode cX0_isSolid 8 = .ok (.ireturn, 1) := by decide +kernel
theorem dX0_isSolid_9 : decode cX0_isSolid 9 = .ok (.aload_n 0, 1) := by decide +kernel
theorem dX0_isSolid_10 : decode cX0_isSolid 10 = .ok (.getfield 7, 3) := by decide +kernel
theorem dX0_isSolid_13 : decode cX0_isSolid 13 = .ok (.iload_n 1, 1) := by decide +kernel
theorem dX0_isSolid_14 : decode cX0_isSolid 14 = .ok (.baload, 1) := by decide +kernel
theorem dX0_isSolid_15 : decode cX0_isSolid 15 = .ok (.ifCond .eq 7, 3) := by decide +kernel
theorem dX0_isSolid_18 : decode cX0_isSolid 18 = .ok (.iconst 1, 1) := by decide +kernel
theorem dX0_isSolid_19 : decode cX0_isSolid 19 = .ok (.goto 4, 3) := by decide +kernel
theorem dX0_isSolid_22 : decode cX0_isSolid 22 = .ok (.iconst 0, 1) := by decide +kernel
theorem dX0_isSolid_23 : decode cX0_isSolid 23 = .ok (.ireturn, 1) := by decide +kernel
abbrev cX0_lamplight : ByteArray := prog_1_method_7_code
def yX0_lamplight : MethodName := ⟨RX0, "lamplight", "(I)I"⟩
theorem dX0_lamplight_0 : decode cX0_lamplight 0 = .ok (.iload_n 1, 1) := by decide +kernel
theorem dX0_lamplight_1 : decode cX0_lamplight 1 = .ok (.invokestatic 38, 3) := by decide +kernel
theorem dX0_lamplight_4 : decode cX0_lamplight 4 = .ok (.ifCond .eq 12, 3) := by decide +kernel
theorem dX0_lamplight_7 : decode cX0_lamplight 7 = .ok (.aload_n 0, 1) := by decide +kernel
theorem dX0_lamplight_8 : decode cX0_lamplight 8 = .ok (.getfield 20, 3) := by decide +kernel
theorem dX0_lamplight_11 : decode cX0_lamplight 11 = .ok (.iload_n 1, 1) := by decide +kernel
theorem dX0_lamplight_12 : decode cX0_lamplight 12 = .ok (.iaload, 1) := by decide +kernel
theorem dX0_lamplight_13 : decode cX0_lamplight 13 = .ok (.goto 4, 3) := by decide +kernel
theorem dX0_lamplight_16 : decode cX0_lamplight 16 = .ok (.iconst (-1), 1) := by decide +kernel
theorem dX0_lamplight_17 : decode cX0_lamplight 17 = .ok (.ireturn, 1) := by decide +kernel
abbrev cX0_skylight : ByteArray := prog_1_method_8_code
def yX0_skylight : MethodName := ⟨RX0, "skylight", "(I)I"⟩
theorem dX0_skylight_0 : decode cX0_skylight 0 = .ok (.iload_n 1, 1) := by decide +kernel
theorem dX0_skylight_1 : decode cX0_skylight 1 = .ok (.invokestatic 38, 3) := by decide +kernel
theorem dX0_skylight_4 : decode cX0_skylight 4 = .ok (.ifCond .eq 16, 3) := by decide +kernel
theorem dX0_skylight_7 : decode cX0_skylight 7 = .ok (.aload_n 0, 1) := by decide +kernel
theorem dX0_skylight_8 : decode cX0_skylight 8 = .ok (.getfield 20, 3) := by decide +kernel
theorem dX0_skylight_11 : decode cX0_skylight 11 = .ok (.sipush 216, 3) := by decide +kernel
theorem dX0_skylight_14 : decode cX0_skylight 14 = .ok (.iload_n 1, 1) := by decide +kernel
theorem dX0_skylight_15 : decode cX0_skylight 15 = .ok (.iadd, 1) := by decide +kernel
theorem dX0_skylight_16 : decode cX0_skylight 16 = .ok (.iaload, 1) := by decide +kernel
theorem dX0_skylight_17 : decode cX0_skylight 17 = .ok (.goto 4, 3) := by decide +kernel
theorem dX0_skylight_20 : decode cX0_skylight 20 = .ok (.iconst (-1), 1) := by decide +kernel
theorem dX0_skylight_21 : decode cX0_skylight 21 = .ok (.ireturn, 1) := by decide +kernel
end
section
set_option maxRecDepth 100000
abbrev cX0_lit : ByteArray := prog_1_method_9_code
def yX0_lit : MethodName := ⟨RX0, "lit", "(III)I"⟩
theorem dX0_lit_0 : decode cX0_lit 0 = .ok (.iload_n 1, 1) := by decide +kernel
theorem dX0_lit_1 : decode cX0_lit 1 = .ok (.iload_n 2, 1) := by decide +kernel
theorem dX0_lit_2 : decode cX0_lit 2 = .ok (.invokestatic 46, 3) := by decide +kernel
theorem dX0_lit_5 : decode cX0_lit 5 = .ok (.ifCond .ne 5, 3) := by decide +kernel
theorem dX0_lit_8 : decode cX0_lit 8 = .ok (.iconst (-1), 1) := by decide +kernel
theorem dX0_lit_9 : decode cX0_lit 9 = .ok (.ireturn, 1) := by decide +kernel
theorem dX0_lit_10 : decode cX0_lit 10 = .ok (.iconst 0, 1) := by decide +kernel
theorem dX0_lit_11 : decode cX0_lit 11 = .ok (.istore 4, 2) := by decide +kernel
theorem dX0_lit_13 : decode cX0_lit 13 = .ok (.iconst 0, 1) := by decide +kernel
theorem dX0_lit_14 : decode cX0_lit 14 = .ok (.istore 5, 2) := by decide +kernel
theorem dX0_lit_16 : decode cX0_lit 16 = .ok (.iload 5, 2) := by decide +kernel
theorem dX0_lit_18 : decode cX0_lit 18 = .ok (.sipush 216, 3) := by decide +kernel
theorem dX0_lit_21 : decode cX0_lit 21 = .ok (.if_icmp .ge 39, 3) := by decide +kernel
theorem dX0_lit_24 : decode cX0_lit 24 = .ok (.iload 4, 2) := by decide +kernel
theorem dX0_lit_26 : decode cX0_lit 26 = .ok (.iload 5, 2) := by decide +kernel
theorem dX0_lit_28 : decode cX0_lit 28 = .ok (.iload_n 1, 1) := by decide +kernel
theorem dX0_lit_29 : decode cX0_lit 29 = .ok (.iload_n 2, 1) := by decide +kernel
theorem dX0_lit_30 : decode cX0_lit 30 = .ok (.invokestatic 50, 3) := by decide +kernel
theorem dX0_lit_33 : decode cX0_lit 33 = .ok (.ifCond .eq 17, 3) := by decide +kernel
theorem dX0_lit_36 : decode cX0_lit 36 = .ok (.aload_n 0, 1) := by decide +kernel
theorem dX0_lit_37 : decode cX0_lit 37 = .ok (.iload 5, 2) := by decide +kernel
theorem dX0_lit_39 : decode cX0_lit 39 = .ok (.invokevirtual 61, 3) := by decide +kernel
theorem dX0_lit_42 : decode cX0_lit 42 = .ok (.iload_n 3, 1) := by decide +kernel
theorem dX0_lit_43 : decode cX0_lit 43 = .ok (.if_icmp .lt 7, 3) := by decide +kernel
theorem dX0_lit_46 : decode cX0_lit 46 = .ok (.iconst 1, 1) := by decide +kernel
theorem dX0_lit_47 : decode cX0_lit 47 = .ok (.goto 4, 3) := by decide +kernel
theorem dX0_lit_50 : decode cX0_lit 50 = .ok (.iconst 0, 1) := by decide +kernel
theorem dX0_lit_51 : decode cX0_lit 51 = .ok (.iadd, 1) := by decide +kernel
theorem dX0_lit_52 : decode cX0_lit 52 = .ok (.istore 4, 2) := by decide +kernel
theorem dX0_lit_54 : decode cX0_lit 54 = .ok (.iinc 5 1, 3) := by decide +kernel
theorem dX0_lit_57 : decode cX0_lit 57 = .ok (.goto (-41), 3) := by decide +kernel
theorem dX0_lit_60 : decode cX0_lit 60 = .ok (.iload 4, 2) := by decide +kernel
theorem dX0_lit_62 : decode cX0_lit 62 = .ok (.ireturn, 1) := by decide +kernel
abbrev cX0_light : ByteArray := prog_1_method_22_code
def yX0_light : MethodName := ⟨RX0, "light", "(I)I"⟩
theorem dX0_light_0 : decode cX0_light 0 = .ok (.aload_n 0, 1) := by decide +kernel
theorem dX0_light_1 : decode cX0_light 1 = .ok (.getfield 20, 3) := by decide +kernel
theorem dX0_light_4 : decode cX0_light 4 = .ok (.sipush 216, 3) := by decide +kernel
theorem dX0_light_7 : decode cX0_light 7 = .ok (.iload_n 1, 1) := by decide +kernel
theorem dX0_light_8 : decode cX0_light 8 = .ok (.iadd, 1) := by decide +kernel
theorem dX0_light_9 : decode cX0_light 9 = .ok (.iaload, 1) := by decide +kernel
theorem dX0_light_10 : decode cX0_light 10 = .ok (.istore_n 2, 1) := by decide +kernel
theorem dX0_light_11 : decode cX0_light 11 = .ok (.aload_n 0, 1) := by decide +kernel
theorem dX0_light_12 : decode cX0_light 12 = .ok (.getfield 20, 3) := by decide +kernel
theorem dX0_light_15 : decode cX0_light 15 = .ok (.iload_n 1, 1) := by decide +kernel
theorem dX0_light_16 : decode cX0_light 16 = .ok (.iaload, 1) := by decide +kernel
theorem dX0_light_17 : decode cX0_light 17 = .ok (.iload_n 2, 1) := by decide +kernel
theorem dX0_light_18 : decode cX0_light 18 = .ok (.if_icmp .le 12, 3) := by decide +kernel
theorem dX0_light_21 : decode cX0_light 21 = .ok (.aload_n 0, 1) := by decide +kernel
theorem dX0_light_22 : decode cX0_light 22 = .ok (.getfield 20, 3) := by decide +kernel
theorem dX0_light_25 : decode cX0_light 25 = .ok (.iload_n 1, 1) := by decide +kernel
theorem dX0_light_26 : decode cX0_light 26 = .ok (.iaload, 1) := by decide +kernel
theorem dX0_light_27 : decode cX0_light 27 = .ok (.goto 4, 3) := by decide +kernel
theorem dX0_light_30 : decode cX0_light 30 = .ok (.iload_n 2, 1) := by decide +kernel
theorem dX0_light_31 : decode cX0_light 31 = .ok (.ireturn, 1) := by decide +kernel
abbrev cX0_dim : ByteArray := prog_1_method_10_code
def yX0_dim : MethodName := ⟨RX0, "dim", "(I)I"⟩
theorem dX0_dim_0 : decode cX0_dim 0 = .ok (.iload_n 1, 1) := by decide +kernel
theorem dX0_dim_1 : decode cX0_dim 1 = .ok (.ifCond .lt 9, 3) := by decide +kernel
theorem dX0_dim_4 : decode cX0_dim 4 = .ok (.iload_n 1, 1) := by decide +kernel
theorem dX0_dim_5 : decode cX0_dim 5 = .ok (.bipush 12, 2) := by decide +kernel
theorem dX0_dim_7 : decode cX0_dim 7 = .ok (.if_icmp .le 5, 3) := by decide +kernel
theorem dX0_dim_10 : decode cX0_dim 10 = .ok (.iconst (-1), 1) := by decide +kernel
theorem dX0_dim_11 : decode cX0_dim 11 = .ok (.ireturn, 1) := by decide +kernel
theorem dX0_dim_12 : decode cX0_dim 12 = .ok (.iconst 0, 1) := by decide +kernel
theorem dX0_dim_13 : decode cX0_dim 13 = .ok (.istore_n 2, 1) := by decide +kernel
theorem dX0_dim_14 : decode cX0_dim 14 = .ok (.iconst 0, 1) := by decide +kernel
theorem dX0_dim_15 : decode cX0_dim 15 = .ok (.istore_n 3, 1) := by decide +kernel
theorem dX0_dim_16 : decode cX0_dim 16 = .ok (.iload_n 3, 1) := by decide +kernel
theorem dX0_dim_17 : decode cX0_dim 17 = .ok (.sipush 216, 3) := by decide +kernel
theorem dX0_dim_20 : decode cX0_dim 20 = .ok (.if_icmp .ge 35, 3) := by decide +kernel
theorem dX0_dim_23 : decode cX0_dim 23 = .ok (.iload_n 2, 1) := by decide +kernel
theorem dX0_dim_24 : decode cX0_dim 24 = .ok (.aload_n 0, 1) := by decide +kernel
theorem dX0_dim_25 : decode cX0_dim 25 = .ok (.getfield 7, 3) := by decide +kernel
theorem dX0_dim_28 : decode cX0_dim 28 = .ok (.iload_n 3, 1) := by decide +kernel
theorem dX0_dim_29 : decode cX0_dim 29 = .ok (.baload, 1) := by decide +kernel
theorem dX0_dim_30 : decode cX0_dim 30 = .ok (.ifCond .ne 16, 3) := by decide +kernel
theorem dX0_dim_33 : decode cX0_dim 33 = .ok (.aload_n 0, 1) := by decide +kernel
theorem dX0_dim_34 : decode cX0_dim 34 = .ok (.iload_n 3, 1) := by decide +kernel
theorem dX0_dim_35 : decode cX0_dim 35 = .ok (.invokevirtual 61, 3) := by decide +kernel
theorem dX0_dim_38 : decode cX0_dim 38 = .ok (.iload_n 1, 1) := by decide +kernel
theorem dX0_dim_39 : decode cX0_dim 39 = .ok (.if_icmp .ne 7, 3) := by decide +kernel
theorem dX0_dim_42 : decode cX0_dim 42 = .ok (.iconst 1, 1) := by decide +kernel
theorem dX0_dim_43 : decode cX0_dim 43 = .ok (.goto 4, 3) := by decide +kernel
theorem dX0_dim_46 : decode cX0_dim 46 = .ok (.iconst 0, 1) := by decide +kernel
theorem dX0_dim_47 : decode cX0_dim 47 = .ok (.iadd, 1) := by decide +kernel
theorem dX0_dim_48 : decode cX0_dim 48 = .ok (.istore_n 2, 1) := by decide +kernel
theorem dX0_dim_49 : decode cX0_dim 49 = .ok (.iinc 3 1, 3) := by decide +kernel
theorem dX0_dim_52 : decode cX0_dim 52 = .ok (.goto (-36), 3) := by decide +kernel
theorem dX0_dim_55 : decode cX0_dim 55 = .ok (.iload_n 2, 1) := by decide +kernel
theorem dX0_dim_56 : decode cX0_dim 56 = .ok (.ireturn, 1) := by decide +kernel
abbrev cX0_darkest : ByteArray := prog_1_method_11_code
def yX0_darkest : MethodName := ⟨RX0, "darkest", "()I"⟩
theorem dX0_darkest_0 : decode cX0_darkest 0 = .ok (.iconst (-1), 1) := by decide +kernel
theorem dX0_darkest_1 : decode cX0_darkest 1 = .ok (.istore_n 1, 1) := by decide +kernel
theorem dX0_darkest_2 : decode cX0_darkest 2 = .ok (.iconst 0, 1) := by decide +kernel
theorem dX0_darkest_3 : decode cX0_darkest 3 = .ok (.istore_n 2, 1) := by decide +kernel
theorem dX0_darkest_4 : decode cX0_darkest 4 = .ok (.iload_n 2, 1) := by decide +kernel
theorem dX0_darkest_5 : decode cX0_darkest 5 = .ok (.sipush 216, 3) := by decide +kernel
theorem dX0_darkest_8 : decode cX0_darkest 8 = .ok (.if_icmp .ge 38, 3) := by decide +kernel
theorem dX0_darkest_11 : decode cX0_darkest 11 = .ok (.aload_n 0, 1) := by decide +kernel
theorem dX0_darkest_12 : decode cX0_darkest 12 = .ok (.getfield 7, 3) := by decide +kernel
theorem dX0_darkest_15 : decode cX0_darkest 15 = .ok (.iload_n 2, 1) := by decide +kernel
theorem dX0_darkest_16 : decode cX0_darkest 16 = .ok (.baload, 1) := by decide +kernel
theorem dX0_darkest_17 : decode cX0_darkest 17 = .ok (.ifCond .ne 23, 3) := by decide +kernel
theorem dX0_darkest_20 : decode cX0_darkest 20 = .ok (.iload_n 1, 1) := by decide +kernel
theorem dX0_darkest_21 : decode cX0_darkest 21 = .ok (.iconst (-1), 1) := by decide +kernel
theorem dX0_darkest_22 : decode cX0_darkest 22 = .ok (.if_icmp .eq 16, 3) := by decide +kernel
theorem dX0_darkest_25 : decode cX0_darkest 25 = .ok (.aload_n 0, 1) := by decide +kernel
theorem dX0_darkest_26 : decode cX0_darkest 26 = .ok (.iload_n 2, 1) := by decide +kernel
theorem dX0_darkest_27 : decode cX0_darkest 27 = .ok (.invokevirtual 61, 3) := by decide +kernel
theorem dX0_darkest_30 : decode cX0_darkest 30 = .ok (.aload_n 0, 1) := by decide +kernel
theorem dX0_darkest_31 : decode cX0_darkest 31 = .ok (.iload_n 1, 1) := by decide +kernel
theorem dX0_darkest_32 : decode cX0_darkest 32 = .ok (.invokevirtual 61, 3) := by decide +kernel
theorem dX0_darkest_35 : decode cX0_darkest 35 = .ok (.if_icmp .ge 5, 3) := by decide +kernel
theorem dX0_darkest_38 : decode cX0_darkest 38 = .ok (.iload_n 2, 1) := by decide +kernel
theorem dX0_darkest_39 : decode cX0_darkest 39 = .ok (.istore_n 1, 1) := by decide +kernel
theorem dX0_darkest_40 : decode cX0_darkest 40 = .ok (.iinc 2 1, 3) := by decide +kernel
theorem dX0_darkest_43 : decode cX0_darkest 43 = .ok (.goto (-39), 3) := by decide +kernel
theorem dX0_darkest_46 : decode cX0_darkest 46 = .ok (.iload_n 1, 1) := by decide +kernel
theorem dX0_darkest_47 : decode cX0_darkest 47 = .ok (.ireturn, 1) := by decide +kernel
abbrev cX0_faces : ByteArray := prog_1_method_12_code
def yX0_faces : MethodName := ⟨RX0, "faces", "()I"⟩
theorem dX0_faces_0 : decode cX0_faces 0 = .ok (.iconst 0, 1) := by decide +kernel
theorem dX0_faces_1 : decode cX0_faces 1 = .ok (.istore_n 1, 1) := by decide +kernel
theorem dX0_faces_2 : decode cX0_faces 2 = .ok (.iconst 0, 1) := by decide +kernel
theorem dX0_faces_3 : decode cX0_faces 3 = .ok (.istore_n 2, 1) := by decide +kernel
theorem dX0_faces_4 : decode cX0_faces 4 = .ok (.iload_n 2, 1) := by decide +kernel
theorem dX0_faces_5 : decode cX0_faces 5 = .ok (.sipush 216, 3) := by decide +kernel
theorem dX0_faces_8 : decode cX0_faces 8 = .ok (.if_icmp .ge 63, 3) := by decide +kernel
theorem dX0_faces_11 : decode cX0_faces 11 = .ok (.iconst 0, 1) := by decide +kernel
theorem dX0_faces_12 : decode cX0_faces 12 = .ok (.istore_n 3, 1) := by decide +kernel
theorem dX0_faces_13 : decode cX0_faces 13 = .ok (.iload_n 3, 1) := by decide +kernel
theorem dX0_faces_14 : decode cX0_faces 14 = .ok (.bipush 6, 2) := by decide +kernel
theorem dX0_faces_16 : decode cX0_faces 16 = .ok (.if_icmp .ge 49, 3) := by decide +kernel
theorem dX0_faces_19 : decode cX0_faces 19 = .ok (.aload_n 0, 1) := by decide +kernel
theorem dX0_faces_20 : decode cX0_faces 20 = .ok (.getfield 7, 3) := by decide +kernel
theorem dX0_faces_23 : decode cX0_faces 23 = .ok (.iload_n 2, 1) := by decide +kernel
theorem dX0_faces_24 : decode cX0_faces 24 = .ok (.baload, 1) := by decide +kernel
theorem dX0_faces_25 : decode cX0_faces 25 = .ok (.ifCond .eq 40, 3) := by decide +kernel
theorem dX0_faces_28 : decode cX0_faces 28 = .ok (.iload_n 2, 1) := by decide +kernel
theorem dX0_faces_29 : decode cX0_faces 29 = .ok (.iload_n 3, 1) := by decide +kernel
theorem dX0_faces_30 : decode cX0_faces 30 = .ok (.invokestatic 65, 3) := by decide +kernel
theorem dX0_faces_33 : decode cX0_faces 33 = .ok (.istore 4, 2) := by decide +kernel
theorem dX0_faces_35 : decode cX0_faces 35 = .ok (.iload_n 1, 1) := by decide +kernel
theorem dX0_faces_36 : decode cX0_faces 36 = .ok (.iload 4, 2) := by decide +kernel
theorem dX0_faces_38 : decode cX0_faces 38 = .ok (.iconst (-1), 1) := by decide +kernel
theorem dX0_faces_39 : decode cX0_faces 39 = .ok (.if_icmp .eq 13, 3) := by decide +kernel
theorem dX0_faces_42 : decode cX0_faces 42 = .ok (.aload_n 0, 1) := by decide +kernel
theorem dX0_faces_43 : decode cX0_faces 43 = .ok (.getfield 7, 3) := by decide +kernel
theorem dX0_faces_46 : decode cX0_faces 46 = .ok (.iload 4, 2) := by decide +kernel
theorem dX0_faces_48 : decode cX0_faces 48 = .ok (.baload, 1) := by decide +kernel
theorem dX0_faces_49 : decode cX0_faces 49 = .ok (.ifCond .ne 7, 3) := by decide +kernel
theorem dX0_faces_52 : decode cX0_faces 52 = .ok (.iconst 1, 1) := by decide +kernel
theorem dX0_faces_53 : decode cX0_faces 53 = .ok (.goto 4, 3) := by decide +kernel
theorem dX0_faces_56 : decode cX0_faces 56 = .ok (.iconst 0, 1) := by decide +kernel
theorem dX0_faces_57 : decode cX0_faces 57 = .ok (.iadd, 1) := by decide +kernel
theorem dX0_faces_58 : decode cX0_faces 58 = .ok (.istore_n 1, 1) := by decide +kernel
theorem dX0_faces_59 : decode cX0_faces 59 = .ok (.iinc 3 1, 3) := by decide +kernel
theorem dX0_faces_62 : decode cX0_faces 62 = .ok (.goto (-49), 3) := by decide +kernel
theorem dX0_faces_65 : decode cX0_faces 65 = .ok (.iinc 2 1, 3) := by decide +kernel
theorem dX0_faces_68 : decode cX0_faces 68 = .ok (.goto (-64), 3) := by decide +kernel
theorem dX0_faces_71 : decode cX0_faces 71 = .ok (.iload_n 1, 1) := by decide +kernel
theorem dX0_faces_72 : decode cX0_faces 72 = .ok (.ireturn, 1) := by decide +kernel
abbrev cX0_shady : ByteArray := prog_1_method_13_code
def yX0_shady : MethodName := ⟨RX0, "shady", "(I)I"⟩
theorem dX0_shady_0 : decode cX0_shady 0 = .ok (.iconst 0, 1) := by decide +kernel
theorem dX0_shady_1 : decode cX0_shady 1 = .ok (.istore_n 2, 1) := by decide +kernel
theorem dX0_shady_2 : decode cX0_shady 2 = .ok (.bipush 36, 2) := by decide +kernel
theorem dX0_shady_4 : decode cX0_shady 4 = .ok (.istore_n 3, 1) := by decide +kernel
theorem dX0_shady_5 : decode cX0_shady 5 = .ok (.iload_n 3, 1) := by decide +kernel
theorem dX0_shady_6 : decode cX0_shady 6 = .ok (.sipush 216, 3) := by decide +kernel
theorem dX0_shady_9 : decode cX0_shady 9 = .ok (.if_icmp .ge 47, 3) := by decide +kernel
theorem dX0_shady_12 : decode cX0_shady 12 = .ok (.iload_n 2, 1) := by decide +kernel
theorem dX0_shady_13 : decode cX0_shady 13 = .ok (.aload_n 0, 1) := by decide +kernel
theorem dX0_shady_14 : decode cX0_shady 14 = .ok (.getfield 7, 3) := by decide +kernel
theorem dX0_shady_17 : decode cX0_shady 17 = .ok (.iload_n 3, 1) := by decide +kernel
theorem dX0_shady_18 : decode cX0_shady 18 = .ok (.baload, 1) := by decide +kernel
theorem dX0_shady_19 : decode cX0_shady 19 = .ok (.ifCond .ne 28, 3) := by decide +kernel
theorem dX0_shady_22 : decode cX0_shady 22 = .ok (.aload_n 0, 1) := by decide +kernel
theorem dX0_shady_23 : decode cX0_shady 23 = .ok (.getfield 7, 3) := by decide +kernel
theorem dX0_shady_26 : decode cX0_shady 26 = .ok (.iload_n 3, 1) := by decide +kernel
theorem dX0_shady_27 : decode cX0_shady 27 = .ok (.bipush 36, 2) := by decide +kernel
theorem dX0_shady_29 : decode cX0_shady 29 = .ok (.isub, 1) := by decide +kernel
theorem dX0_shady_30 : decode cX0_shady 30 = .ok (.baload, 1) := by decide +kernel
theorem dX0_shady_31 : decode cX0_shady 31 = .ok (.ifCond .eq 16, 3) := by decide +kernel
theorem dX0_shady_34 : decode cX0_shady 34 = .ok (.aload_n 0, 1) := by decide +kernel
theorem dX0_shady_35 : decode cX0_shady 35 = .ok (.iload_n 3, 1) := by decide +kernel
theorem dX0_shady_36 : decode cX0_shady 36 = .ok (.invokevirtual 61, 3) := by decide +kernel
theorem dX0_shady_39 : decode cX0_shady 39 = .ok (.iload_n 1, 1) := by decide +kernel
theorem dX0_shady_40 : decode cX0_shady 40 = .ok (.if_icmp .gt 7, 3) := by decide +kernel
theorem dX0_shady_43 : decode cX0_shady 43 = .ok (.iconst 1, 1) := by decide +kernel
theorem dX0_shady_44 : decode cX0_shady 44 = .ok (.goto 4, 3) := by decide +kernel
theorem dX0_shady_47 : decode cX0_shady 47 = .ok (.iconst 0, 1) := by decide +kernel
theorem dX0_shady_48 : decode cX0_shady 48 = .ok (.iadd, 1) := by decide +kernel
theorem dX0_shady_49 : decode cX0_shady 49 = .ok (.istore_n 2, 1) := by decide +kernel
theorem dX0_shady_50 : decode cX0_shady 50 = .ok (.iinc 3 1, 3) := by decide +kernel
theorem dX0_shady_53 : decode cX0_shady 53 = .ok (.goto (-48), 3) := by decide +kernel
theorem dX0_shady_56 : decode cX0_shady 56 = .ok (.iload_n 2, 1) := by decide +kernel
theorem dX0_shady_57 : decode cX0_shady 57 = .ok (.ireturn, 1) := by decide +kernel
abbrev cX0_open : ByteArray := prog_1_method_14_code
def yX0_open : MethodName := ⟨RX0, "open", "()I"⟩
theorem dX0_open_0 : decode cX0_open 0 = .ok (.iconst 0, 1) := by decide +kernel
theorem dX0_open_1 : decode cX0_open 1 = .ok (.istore_n 1, 1) := by decide +kernel
theorem dX0_open_2 : decode cX0_open 2 = .ok (.iconst 0, 1) := by decide +kernel
theorem dX0_open_3 : decode cX0_open 3 = .ok (.istore_n 2, 1) := by decide +kernel
theorem dX0_open_4 : decode cX0_open 4 = .ok (.iload_n 2, 1) := by decide +kernel
theorem dX0_open_5 : decode cX0_open 5 = .ok (.sipush 216, 3) := by decide +kernel
theorem dX0_open_8 : decode cX0_open 8 = .ok (.if_icmp .ge 26, 3) := by decide +kernel
theorem dX0_open_11 : decode cX0_open 11 = .ok (.iload_n 1, 1) := by decide +kernel
theorem dX0_open_12 : decode cX0_open 12 = .ok (.aload_n 0, 1) := by decide +kernel
theorem dX0_open_13 : decode cX0_open 13 = .ok (.getfield 17, 3) := by decide +kernel
theorem dX0_open_16 : decode cX0_open 16 = .ok (.iload_n 2, 1) := by decide +kernel
theorem dX0_open_17 : decode cX0_open 17 = .ok (.baload, 1) := by decide +kernel
theorem dX0_open_18 : decode cX0_open 18 = .ok (.ifCond .eq 7, 3) := by decide +kernel
theorem dX0_open_21 : decode cX0_open 21 = .ok (.iconst 1, 1) := by decide +kernel
theorem dX0_open_22 : decode cX0_open 22 = .ok (.goto 4, 3) := by decide +kernel
theorem dX0_open_25 : decode cX0_open 25 = .ok (.iconst 0, 1) := by decide +kernel
theorem dX0_open_26 : decode cX0_open 26 = .ok (.iadd, 1) := by decide +kernel
theorem dX0_open_27 : decode cX0_open 27 = .ok (.istore_n 1, 1) := by decide +kernel
theorem dX0_open_28 : decode cX0_open 28 = .ok (.iinc 2 1, 3) := by decide +kernel
theorem dX0_open_31 : decode cX0_open 31 = .ok (.goto (-27), 3) := by decide +kernel
theorem dX0_open_34 : decode cX0_open 34 = .ok (.iload_n 1, 1) := by decide +kernel
theorem dX0_open_35 : decode cX0_open 35 = .ok (.ireturn, 1) := by decide +kernel
abbrev cX0_serves : ByteArray := prog_1_method_15_code
def yX0_serves : MethodName := ⟨RX0, "serves", "(I)I"⟩
theorem dX0_serves_0 : decode cX0_serves 0 = .ok (.iload_n 1, 1) := by decide +kernel
theorem dX0_serves_1 : decode cX0_serves 1 = .ok (.invokestatic 38, 3) := by decide +kernel
theorem dX0_serves_4 : decode cX0_serves 4 = .ok (.ifCond .ne 5, 3) := by decide +kernel
theorem dX0_serves_7 : decode cX0_serves 7 = .ok (.iconst (-1), 1) := by decide +kernel
theorem dX0_serves_8 : decode cX0_serves 8 = .ok (.ireturn, 1) := by decide +kernel
theorem dX0_serves_9 : decode cX0_serves 9 = .ok (.iconst 0, 1) := by decide +kernel
theorem dX0_serves_10 : decode cX0_serves 10 = .ok (.istore_n 2, 1) := by decide +kernel
theorem dX0_serves_11 : decode cX0_serves 11 = .ok (.iload_n 2, 1) := by decide +kernel
theorem dX0_serves_12 : decode cX0_serves 12 = .ok (.sipush 216, 3) := by decide +kernel
theorem dX0_serves_15 : decode cX0_serves 15 = .ok (.if_icmp .ge 20, 3) := by decide +kernel
theorem dX0_serves_18 : decode cX0_serves 18 = .ok (.aload_n 0, 1) := by decide +kernel
theorem dX0_serves_19 : decode cX0_serves 19 = .ok (.getfield 32, 3) := by decide +kernel
theorem dX0_serves_22 : decode cX0_serves 22 = .ok (.iload_n 2, 1) := by decide +kernel
theorem dX0_serves_23 : decode cX0_serves 23 = .ok (.aload_n 0, 1) := by decide +kernel
theorem dX0_serves_24 : decode cX0_serves 24 = .ok (.iload_n 2, 1) := by decide +kernel
theorem dX0_serves_25 : decode cX0_serves 25 = .ok (.invokevirtual 61, 3) := by decide +kernel
theorem dX0_serves_28 : decode cX0_serves 28 = .ok (.iastore, 1) := by decide +kernel
theorem dX0_serves_29 : decode cX0_serves 29 = .ok (.iinc 2 1, 3) := by decide +kernel
theorem dX0_serves_32 : decode cX0_serves 32 = .ok (.goto (-21), 3) := by decide +kernel
theorem dX0_serves_35 : decode cX0_serves 35 = .ok (.aload_n 0, 1) := by decide +kernel
theorem dX0_serves_36 : decode cX0_serves 36 = .ok (.getfield 13, 3) := by decide +kernel
theorem dX0_serves_39 : decode cX0_serves 39 = .ok (.iload_n 1, 1) := by decide +kernel
theorem dX0_serves_40 : decode cX0_serves 40 = .ok (.iaload, 1) := by decide +kernel
theorem dX0_serves_41 : decode cX0_serves 41 = .ok (.istore_n 2, 1) := by decide +kernel
theorem dX0_serves_42 : decode cX0_serves 42 = .ok (.aload_n 0, 1) := by decide +kernel
theorem dX0_serves_43 : decode cX0_serves 43 = .ok (.iload_n 1, 1) := by decide +kernel
theorem dX0_serves_44 : decode cX0_serves 44 = .ok (.iconst 0, 1) := by decide +kernel
theorem dX0_serves_45 : decode cX0_serves 45 = .ok (.invokevirtual 57, 3) := by decide +kernel
theorem dX0_serves_48 : decode cX0_serves 48 = .ok (.iconst 0, 1) := by decide +kernel
theorem dX0_serves_49 : decode cX0_serves 49 = .ok (.istore_n 3, 1) := by decide +kernel
theorem dX0_serves_50 : decode cX0_serves 50 = .ok (.iconst 0, 1) := by decide +kernel
theorem dX0_serves_51 : decode cX0_serves 51 = .ok (.istore 4, 2) := by decide +kernel
theorem dX0_serves_53 : decode cX0_serves 53 = .ok (.iload 4, 2) := by decide +kernel
theorem dX0_serves_55 : decode cX0_serves 55 = .ok (.sipush 216, 3) := by decide +kernel
theorem dX0_serves_58 : decode cX0_serves 58 = .ok (.if_icmp .ge 33, 3) := by decide +kernel
theorem dX0_serves_61 : decode cX0_serves 61 = .ok (.iload_n 3, 1) := by decide +kernel
theorem dX0_serves_62 : decode cX0_serves 62 = .ok (.aload_n 0, 1) := by decide +kernel
theorem dX0_serves_63 : decode cX0_serves 63 = .ok (.iload 4, 2) := by decide +kernel
theorem dX0_serves_65 : decode cX0_serves 65 = .ok (.invokevirtual 61, 3) := by decide +kernel
theorem dX0_serves_68 : decode cX0_serves 68 = .ok (.aload_n 0, 1) := by decide +kernel
theorem dX0_serves_69 : decode cX0_serves 69 = .ok (.getfield 32, 3) := by decide +kernel
theorem dX0_serves_72 : decode cX0_serves 72 = .ok (.iload 4, 2) := by decide +kernel
theorem dX0_serves_74 : decode cX0_serves 74 = .ok (.iaload, 1) := by decide +kernel
theorem dX0_serves_75 : decode cX0_serves 75 = .ok (.if_icmp .ge 7, 3) := by decide +kernel
theorem dX0_serves_78 : decode cX0_serves 78 = .ok (.iconst 1, 1) := by decide +kernel
theorem dX0_serves_79 : decode cX0_serves 79 = .ok (.goto 4, 3) := by decide +kernel
theorem dX0_serves_82 : decode cX0_serves 82 = .ok (.iconst 0, 1) := by decide +kernel
theorem dX0_serves_83 : decode cX0_serves 83 = .ok (.iadd, 1) := by decide +kernel
theorem dX0_serves_84 : decode cX0_serves 84 = .ok (.istore_n 3, 1) := by decide +kernel
theorem dX0_serves_85 : decode cX0_serves 85 = .ok (.iinc 4 1, 3) := by decide +kernel
theorem dX0_serves_88 : decode cX0_serves 88 = .ok (.goto (-35), 3) := by decide +kernel
theorem dX0_serves_91 : decode cX0_serves 91 = .ok (.aload_n 0, 1) := by decide +kernel
theorem dX0_serves_92 : decode cX0_serves 92 = .ok (.iload_n 1, 1) := by decide +kernel
theorem dX0_serves_93 : decode cX0_serves 93 = .ok (.iload_n 2, 1) := by decide +kernel
theorem dX0_serves_94 : decode cX0_serves 94 = .ok (.invokevirtual 57, 3) := by decide +kernel
theorem dX0_serves_97 : decode cX0_serves 97 = .ok (.iload_n 3, 1) := by decide +kernel
theorem dX0_serves_98 : decode cX0_serves 98 = .ok (.ireturn, 1) := by decide +kernel
abbrev cX0_rooms : ByteArray := prog_1_method_16_code
def yX0_rooms : MethodName := ⟨RX0, "rooms", "()I"⟩
theorem dX0_rooms_0 : decode cX0_rooms 0 = .ok (.iconst 0, 1) := by decide +kernel
theorem dX0_rooms_1 : decode cX0_rooms 1 = .ok (.istore_n 1, 1) := by decide +kernel
theorem dX0_rooms_2 : decode cX0_rooms 2 = .ok (.iload_n 1, 1) := by decide +kernel
theorem dX0_rooms_3 : decode cX0_rooms 3 = .ok (.sipush 216, 3) := by decide +kernel
theorem dX0_rooms_6 : decode cX0_rooms 6 = .ok (.if_icmp .ge 21, 3) := by decide +kernel
theorem dX0_rooms_9 : decode cX0_rooms 9 = .ok (.aload_n 0, 1) := by decide +kernel
theorem dX0_rooms_10 : decode cX0_rooms 10 = .ok (.getfield 35, 3) := by decide +kernel
theorem dX0_rooms_13 : decode cX0_rooms 13 = .ok (.iload_n 1, 1) := by decide +kernel
theorem dX0_rooms_14 : decode cX0_rooms 14 = .ok (.aload_n 0, 1) := by decide +kernel
theorem dX0_rooms_15 : decode cX0_rooms 15 = .ok (.getfield 7, 3) := by decide +kernel
theorem dX0_rooms_18 : decode cX0_rooms 18 = .ok (.iload_n 1, 1) := by decide +kernel
theorem dX0_rooms_19 : decode cX0_rooms 19 = .ok (.baload, 1) := by decide +kernel
theorem dX0_rooms_20 : decode cX0_rooms 20 = .ok (.bastore, 1) := by decide +kernel
theorem dX0_rooms_21 : decode cX0_rooms 21 = .ok (.iinc 1 1, 3) := by decide +kernel
theorem dX0_rooms_24 : decode cX0_rooms 24 = .ok (.goto (-22), 3) := by decide +kernel
theorem dX0_rooms_27 : decode cX0_rooms 27 = .ok (.iconst 0, 1) := by decide +kernel
theorem dX0_rooms_28 : decode cX0_rooms 28 = .ok (.istore_n 1, 1) := by decide +kernel
theorem dX0_rooms_29 : decode cX0_rooms 29 = .ok (.iconst 0, 1) := by decide +kernel
theorem dX0_rooms_30 : decode cX0_rooms 30 = .ok (.istore_n 2, 1) := by decide +kernel
theorem dX0_rooms_31 : decode cX0_rooms 31 = .ok (.iload_n 2, 1) := by decide +kernel
theorem dX0_rooms_32 : decode cX0_rooms 32 = .ok (.sipush 216, 3) := by decide +kernel
theorem dX0_rooms_35 : decode cX0_rooms 35 = .ok (.if_icmp .ge 26, 3) := by decide +kernel
theorem dX0_rooms_38 : decode cX0_rooms 38 = .ok (.aload_n 0, 1) := by decide +kernel
theorem dX0_rooms_39 : decode cX0_rooms 39 = .ok (.getfield 35, 3) := by decide +kernel
theorem dX0_rooms_42 : decode cX0_rooms 42 = .ok (.iload_n 2, 1) := by decide +kernel
theorem dX0_rooms_43 : decode cX0_rooms 43 = .ok (.baload, 1) := by decide +kernel
theorem dX0_rooms_44 : decode cX0_rooms 44 = .ok (.ifCond .ne 11, 3) := by decide +kernel
theorem dX0_rooms_47 : decode cX0_rooms 47 = .ok (.iinc 1 1, 3) := by decide +kernel
theorem dX0_rooms_50 : decode cX0_rooms 50 = .ok (.aload_n 0, 1) := by decide +kernel
theorem dX0_rooms_51 : decode cX0_rooms 51 = .ok (.iload_n 2, 1) := by decide +kernel
theorem dX0_rooms_52 : decode cX0_rooms 52 = .ok (.invokevirtual 69, 3) := by decide +kernel
theorem dX0_rooms_55 : decode cX0_rooms 55 = .ok (.iinc 2 1, 3) := by decide +kernel
theorem dX0_rooms_58 : decode cX0_rooms 58 = .ok (.goto (-27), 3) := by decide +kernel
theorem dX0_rooms_61 : decode cX0_rooms 61 = .ok (.iload_n 1, 1) := by decide +kernel
theorem dX0_rooms_62 : decode cX0_rooms 62 = .ok (.ireturn, 1) := by decide +kernel
abbrev cX0_walk : ByteArray := prog_1_method_30_code
def yX0_walk : MethodName := ⟨RX0, "walk", "(I)V"⟩
theorem dX0_walk_0 : decode cX0_walk 0 = .ok (.aload_n 0, 1) := by decide +kernel
theorem dX0_walk_1 : decode cX0_walk 1 = .ok (.iconst 1, 1) := by decide +kernel
theorem dX0_walk_2 : decode cX0_walk 2 = .ok (.putfield 79, 3) := by decide +kernel
theorem dX0_walk_5 : decode cX0_walk 5 = .ok (.aload_n 0, 1) := by decide +kernel
theorem dX0_walk_6 : decode cX0_walk 6 = .ok (.getfield 26, 3) := by decide +kernel
theorem dX0_walk_9 : decode cX0_walk 9 = .ok (.iconst 0, 1) := by decide +kernel
theorem dX0_walk_10 : decode cX0_walk 10 = .ok (.iload_n 1, 1) := by decide +kernel
theorem dX0_walk_11 : decode cX0_walk 11 = .ok (.iastore, 1) := by decide +kernel
theorem dX0_walk_12 : decode cX0_walk 12 = .ok (.aload_n 0, 1) := by decide +kernel
theorem dX0_walk_13 : decode cX0_walk 13 = .ok (.getfield 35, 3) := by decide +kernel
theorem dX0_walk_16 : decode cX0_walk 16 = .ok (.iload_n 1, 1) := by decide +kernel
theorem dX0_walk_17 : decode cX0_walk 17 = .ok (.iconst 1, 1) := by decide +kernel
theorem dX0_walk_18 : decode cX0_walk 18 = .ok (.bastore, 1) := by decide +kernel
theorem dX0_walk_19 : decode cX0_walk 19 = .ok (.iconst 0, 1) := by decide +kernel
theorem dX0_walk_20 : decode cX0_walk 20 = .ok (.istore_n 2, 1) := by decide +kernel
theorem dX0_walk_21 : decode cX0_walk 21 = .ok (.iload_n 2, 1) := by decide +kernel
theorem dX0_walk_22 : decode cX0_walk 22 = .ok (.sipush 216, 3) := by decide +kernel
theorem dX0_walk_25 : decode cX0_walk 25 = .ok (.if_icmp .ge 105, 3) := by decide +kernel
theorem dX0_walk_28 : decode cX0_walk 28 = .ok (.aload_n 0, 1) := by decide +kernel
theorem dX0_walk_29 : decode cX0_walk 29 = .ok (.getfield 79, 3) := by decide +kernel
theorem dX0_walk_32 : decode cX0_walk 32 = .ok (.ifCond .le 98, 3) := by decide +kernel
theorem dX0_walk_35 : decode cX0_walk 35 = .ok (.aload_n 0, 1) := by decide +kernel
theorem dX0_walk_36 : decode cX0_walk 36 = .ok (.dup, 1) := by decide +kernel
theorem dX0_walk_37 : decode cX0_walk 37 = .ok (.getfield 79, 3) := by decide +kernel
theorem dX0_walk_40 : decode cX0_walk 40 = .ok (.iconst 1, 1) := by decide +kernel
theorem dX0_walk_41 : decode cX0_walk 41 = .ok (.isub, 1) := by decide +kernel
theorem dX0_walk_42 : decode cX0_walk 42 = .ok (.putfield 79, 3) := by decide +kernel
theorem dX0_walk_45 : decode cX0_walk 45 = .ok (.aload_n 0, 1) := by decide +kernel
theorem dX0_walk_46 : decode cX0_walk 46 = .ok (.getfield 26, 3) := by decide +kernel
theorem dX0_walk_49 : decode cX0_walk 49 = .ok (.aload_n 0, 1) := by decide +kernel
theorem dX0_walk_50 : decode cX0_walk 50 = .ok (.getfield 79, 3) := by decide +kernel
theorem dX0_walk_53 : decode cX0_walk 53 = .ok (.iaload, 1) := by decide +kernel
theorem dX0_walk_54 : decode cX0_walk 54 = .ok (.istore_n 3, 1) := by decide +kernel
theorem dX0_walk_55 : decode cX0_walk 55 = .ok (.iconst 0, 1) := by decide +kernel
theorem dX0_walk_56 : decode cX0_walk 56 = .ok (.istore 4, 2) := by decide +kernel
theorem dX0_walk_58 : decode cX0_walk 58 = .ok (.iload 4, 2) := by decide +kernel
theorem dX0_walk_60 : decode cX0_walk 60 = .ok (.bipush 6, 2) := by decide +kernel
theorem dX0_walk_62 : decode cX0_walk 62 = .ok (.if_icmp .ge 62, 3) := by decide +kernel
theorem dX0_walk_65 : decode cX0_walk 65 = .ok (.iload_n 3, 1) := by decide +kernel
theorem dX0_walk_66 : decode cX0_walk 66 = .ok (.iload 4, 2) := by decide +kernel
theorem dX0_walk_68 : decode cX0_walk 68 = .ok (.invokestatic 65, 3) := by decide +kernel
theorem dX0_walk_71 : decode cX0_walk 71 = .ok (.istore 5, 2) := by decide +kernel
theorem dX0_walk_73 : decode cX0_walk 73 = .ok (.iload 5, 2) := by decide +kernel
theorem dX0_walk_75 : decode cX0_walk 75 = .ok (.iconst (-1), 1) := by decide +kernel
theorem dX0_walk_76 : decode cX0_walk 76 = .ok (.if_icmp .eq 42, 3) := by decide +kernel
theorem dX0_walk_79 : decode cX0_walk 79 = .ok (.aload_n 0, 1) := by decide +kernel
theorem dX0_walk_80 : decode cX0_walk 80 = .ok (.getfield 35, 3) := by decide +kernel
theorem dX0_walk_83 : decode cX0_walk 83 = .ok (.iload 5, 2) := by decide +kernel
theorem dX0_walk_85 : decode cX0_walk 85 = .ok (.baload, 1) := by decide +kernel
theorem dX0_walk_86 : decode cX0_walk 86 = .ok (.ifCond .ne 32, 3) := by decide +kernel
theorem dX0_walk_89 : decode cX0_walk 89 = .ok (.aload_n 0, 1) := by decide +kernel
theorem dX0_walk_90 : decode cX0_walk 90 = .ok (.getfield 35, 3) := by decide +kernel
theorem dX0_walk_93 : decode cX0_walk 93 = .ok (.iload 5, 2) := by decide +kernel
theorem dX0_walk_95 : decode cX0_walk 95 = .ok (.iconst 1, 1) := by decide +kernel
theorem dX0_walk_96 : decode cX0_walk 96 = .ok (.bastore, 1) := by decide +kernel
theorem dX0_walk_97 : decode cX0_walk 97 = .ok (.aload_n 0, 1) := by decide +kernel
theorem dX0_walk_98 : decode cX0_walk 98 = .ok (.getfield 26, 3) := by decide +kernel
theorem dX0_walk_101 : decode cX0_walk 101 = .ok (.aload_n 0, 1) := by decide +kernel
theorem dX0_walk_102 : decode cX0_walk 102 = .ok (.getfield 79, 3) := by decide +kernel
theorem dX0_walk_105 : decode cX0_walk 105 = .ok (.iload 5, 2) := by decide +kernel
theorem dX0_walk_107 : decode cX0_walk 107 = .ok (.iastore, 1) := by decide +kernel
theorem dX0_walk_108 : decode cX0_walk 108 = .ok (.aload_n 0, 1) := by decide +kernel
theorem dX0_walk_109 : decode cX0_walk 109 = .ok (.dup, 1) := by decide +kernel
theorem dX0_walk_110 : decode cX0_walk 110 = .ok (.getfield 79, 3) := by decide +kernel
theorem dX0_walk_113 : decode cX0_walk 113 = .ok (.iconst 1, 1) := by decide +kernel
theorem dX0_walk_114 : decode cX0_walk 114 = .ok (.iadd, 1) := by decide +kernel
theorem dX0_walk_115 : decode cX0_walk 115 = .ok (.putfield 79, 3) := by decide +kernel
theorem dX0_walk_118 : decode cX0_walk 118 = .ok (.iinc 4 1, 3) := by decide +kernel
theorem dX0_walk_121 : decode cX0_walk 121 = .ok (.goto (-63), 3) := by decide +kernel
theorem dX0_walk_124 : decode cX0_walk 124 = .ok (.iinc 2 1, 3) := by decide +kernel
theorem dX0_walk_127 : decode cX0_walk 127 = .ok (.goto (-106), 3) := by decide +kernel
theorem dX0_walk_130 : decode cX0_walk 130 = .ok (.return_, 1) := by decide +kernel
theorem q19 : (Jvm.Cond.initialized "LightFlow") ∈ lw_all := lw_g (lw_at lw_m1 1 rfl) rfl
theorem q22 : (Jvm.Cond.instantiable "LightFlow" (10 : Nat)) ∈ lw_all := lw_g (lw_at lw_m1 4 rfl) rfl
theorem q24 : (Jvm.Cond.instanceMethod ({ cls := "LightFlow", name := "<init>", desc := "()V" } : Jvm.MethodName)) ∈ lw_all := lw_g (lw_at lw_m1 6 rfl) rfl
theorem q25 : (Jvm.Cond.code ({ cls := "LightFlow", name := "<init>", desc := "()V" } : Jvm.MethodName) prog_1_method_1_code (2 : Nat) (Option.none : Option Jvm.ClassFile.FieldType)) ∈ lw_all := lw_g (lw_at lw_m1 7 rfl) rfl
theorem q26 : (Jvm.Cond.methodLink "LightFlow" (1 : Nat) ({ cls := "java/lang/Object", name := "<init>", desc := "()V" } : Jvm.MethodName)) ∈ lw_all := lw_g (lw_at lw_m1 8 rfl) rfl
theorem q29 : (Jvm.Cond.fieldLink "LightFlow" (7 : Nat) "LightFlow" "solids" "[Z") ∈ lw_all := lw_g (lw_at lw_m1 11 rfl) rfl
theorem q30 : (Jvm.Cond.fieldLink "LightFlow" (13 : Nat) "LightFlow" "lamps" "[I") ∈ lw_all := lw_g (lw_at lw_m1 12 rfl) rfl
theorem q31 : (Jvm.Cond.fieldLink "LightFlow" (17 : Nat) "LightFlow" "sees" "[Z") ∈ lw_all := lw_g (lw_at lw_m1 13 rfl) rfl
theorem q32 : (Jvm.Cond.fieldLink "LightFlow" (20 : Nat) "LightFlow" "levels" "[I") ∈ lw_all := lw_g (lw_at lw_m1 14 rfl) rfl
theorem q33 : (Jvm.Cond.fieldLink "LightFlow" (23 : Nat) "LightFlow" "rims" "[Z") ∈ lw_all := lw_g (lw_at lw_m1 15 rfl) rfl
theorem q34 : (Jvm.Cond.fieldLink "LightFlow" (26 : Nat) "LightFlow" "stack" "[I") ∈ lw_all := lw_g (lw_at lw_m1 16 rfl) rfl
theorem q35 : (Jvm.Cond.fieldLink "LightFlow" (29 : Nat) "LightFlow" "lost" "[I") ∈ lw_all := lw_g (lw_at lw_m1 17 rfl) rfl
theorem q36 : (Jvm.Cond.fieldLink "LightFlow" (32 : Nat) "LightFlow" "kept" "[I") ∈ lw_all := lw_g (lw_at lw_m1 18 rfl) rfl
theorem q37 : (Jvm.Cond.fieldLink "LightFlow" (35 : Nat) "LightFlow" "seen" "[Z") ∈ lw_all := lw_g (lw_at lw_m1 19 rfl) rfl
theorem q38 : (Jvm.Cond.fieldLink "LightFlow" (79 : Nat) "LightFlow" "waiting" "I") ∈ lw_all := lw_g (lw_at lw_m1 20 rfl) rfl
theorem q39 : (Jvm.Cond.laysFinal "LightFlow" "LightFlow" "solids" "[Z") ∈ lw_all := lw_g (lw_at lw_m1 21 rfl) rfl
theorem q40 : (Jvm.Cond.soleField "LightFlow" "solids") ∈ lw_all := lw_g (lw_at lw_m1 22 rfl) rfl
theorem q41 : (Jvm.Cond.laysFinal "LightFlow" "LightFlow" "lamps" "[I") ∈ lw_all := lw_g (lw_at lw_m1 23 rfl) rfl
theorem q42 : (Jvm.Cond.soleField "LightFlow" "lamps") ∈ lw_all := lw_g (lw_at lw_m1 24 rfl) rfl
theorem q43 : (Jvm.Cond.laysFinal "LightFlow" "LightFlow" "sees" "[Z") ∈ lw_all := lw_g (lw_at lw_m1 25 rfl) rfl
theorem q44 : (Jvm.Cond.soleField "LightFlow" "sees") ∈ lw_all := lw_g (lw_at lw_m1 26 rfl) rfl
theorem q45 : (Jvm.Cond.laysFinal "LightFlow" "LightFlow" "levels" "[I") ∈ lw_all := lw_g (lw_at lw_m1 27 rfl) rfl
theorem q46 : (Jvm.Cond.soleField "LightFlow" "levels") ∈ lw_all := lw_g (lw_at lw_m1 28 rfl) rfl
theorem q47 : (Jvm.Cond.laysFinal "LightFlow" "LightFlow" "rims" "[Z") ∈ lw_all := lw_g (lw_at lw_m1 29 rfl) rfl
end
section
set_option maxRecDepth 100000
theorem q48 : (Jvm.Cond.soleField "LightFlow" "rims") ∈ lw_all := lw_g (lw_at lw_m1 30 rfl) rfl
theorem q49 : (Jvm.Cond.laysFinal "LightFlow" "LightFlow" "stack" "[I") ∈ lw_all := lw_g (lw_at lw_m1 31 rfl) rfl
theorem q50 : (Jvm.Cond.soleField "LightFlow" "stack") ∈ lw_all := lw_g (lw_at lw_m1 32 rfl) rfl
theorem q51 : (Jvm.Cond.laysFinal "LightFlow" "LightFlow" "lost" "[I") ∈ lw_all := lw_g (lw_at lw_m1 33 rfl) rfl
theorem q52 : (Jvm.Cond.soleField "LightFlow" "lost") ∈ lw_all := lw_g (lw_at lw_m1 34 rfl) rfl
theorem q53 : (Jvm.Cond.laysFinal "LightFlow" "LightFlow" "kept" "[I") ∈ lw_all := lw_g (lw_at lw_m1 35 rfl) rfl
theorem q54 : (Jvm.Cond.soleField "LightFlow" "kept") ∈ lw_all := lw_g (lw_at lw_m1 36 rfl) rfl
theorem q55 : (Jvm.Cond.laysFinal "LightFlow" "LightFlow" "seen" "[Z") ∈ lw_all := lw_g (lw_at lw_m1 37 rfl) rfl
theorem q56 : (Jvm.Cond.soleField "LightFlow" "seen") ∈ lw_all := lw_g (lw_at lw_m1 38 rfl) rfl
theorem q57 : (Jvm.Cond.lays "LightFlow" "LightFlow" "waiting" "I") ∈ lw_all := lw_g (lw_at lw_m1 39 rfl) rfl
theorem q58 : (Jvm.Cond.soleField "LightFlow" "waiting") ∈ lw_all := lw_g (lw_at lw_m1 40 rfl) rfl
theorem q59 : (Jvm.Cond.superclass "LightFlow" "java/lang/Object") ∈ lw_all := lw_g (lw_at lw_m1 41 rfl) rfl
theorem q63 : (Jvm.Cond.instanceMethod ({ cls := "LightFlow", name := "solid", desc := "(II)I" } : Jvm.MethodName)) ∈ lw_all := lw_g (lw_at lw_m1 45 rfl) rfl
theorem q64 : (Jvm.Cond.selects "LightFlow" ({ cls := "LightFlow", name := "solid", desc := "(II)I" } : Jvm.MethodName) ({ cls := "LightFlow", name := "solid", desc := "(II)I" } : Jvm.MethodName)) ∈ lw_all := lw_g (lw_at lw_m1 46 rfl) rfl
theorem q65 : (Jvm.Cond.code ({ cls := "LightFlow", name := "solid", desc := "(II)I" } : Jvm.MethodName) prog_1_method_2_code (4 : Nat) (Option.some Jvm.ClassFile.FieldType.int)) ∈ lw_all := lw_g (lw_at lw_m1 47 rfl) rfl
theorem q66 : (Jvm.Cond.methodLink "LightFlow" (38 : Nat) ({ cls := "LightFlow", name := "isCell", desc := "(I)Z" } : Jvm.MethodName)) ∈ lw_all := lw_g (lw_at lw_m1 48 rfl) rfl
theorem q67 : (Jvm.Cond.static ({ cls := "LightFlow", name := "isCell", desc := "(I)Z" } : Jvm.MethodName)) ∈ lw_all := lw_g (lw_at lw_m1 49 rfl) rfl
theorem q68 : (Jvm.Cond.code ({ cls := "LightFlow", name := "isCell", desc := "(I)Z" } : Jvm.MethodName) prog_1_method_17_code (1 : Nat) (Option.some Jvm.ClassFile.FieldType.boolean)) ∈ lw_all := lw_g (lw_at lw_m1 50 rfl) rfl
theorem q69 : (Jvm.Cond.methodLink "LightFlow" (42 : Nat) ({ cls := "LightFlow", name := "change", desc := "(IZ)V" } : Jvm.MethodName)) ∈ lw_all := lw_g (lw_at lw_m1 51 rfl) rfl
theorem q70 : (Jvm.Cond.privateMethod ({ cls := "LightFlow", name := "change", desc := "(IZ)V" } : Jvm.MethodName)) ∈ lw_tbl := lw_at lw_m1 52 rfl
theorem q71 : (Jvm.Cond.instanceMethod ({ cls := "LightFlow", name := "change", desc := "(IZ)V" } : Jvm.MethodName)) ∈ lw_all := lw_g (lw_at lw_m1 53 rfl) rfl
theorem q72 : (Jvm.Cond.code ({ cls := "LightFlow", name := "change", desc := "(IZ)V" } : Jvm.MethodName) prog_1_method_25_code (6 : Nat) (Option.none : Option Jvm.ClassFile.FieldType)) ∈ lw_all := lw_g (lw_at lw_m1 54 rfl) rfl
theorem q73 : (Jvm.Cond.methodLink "LightFlow" (73 : Nat) ({ cls := "LightFlow", name := "takeAway", desc := "(I)V" } : Jvm.MethodName)) ∈ lw_all := lw_g (lw_at lw_m1 55 rfl) rfl
theorem q74 : (Jvm.Cond.privateMethod ({ cls := "LightFlow", name := "takeAway", desc := "(I)V" } : Jvm.MethodName)) ∈ lw_tbl := lw_at lw_m1 56 rfl
theorem q75 : (Jvm.Cond.instanceMethod ({ cls := "LightFlow", name := "takeAway", desc := "(I)V" } : Jvm.MethodName)) ∈ lw_all := lw_g (lw_at lw_m1 57 rfl) rfl
theorem q76 : (Jvm.Cond.code ({ cls := "LightFlow", name := "takeAway", desc := "(I)V" } : Jvm.MethodName) prog_1_method_26_code (8 : Nat) (Option.none : Option Jvm.ClassFile.FieldType)) ∈ lw_all := lw_g (lw_at lw_m1 58 rfl) rfl
theorem q77 : (Jvm.Cond.methodLink "LightFlow" (83 : Nat) ({ cls := "LightFlow", name := "drop", desc := "(I)V" } : Jvm.MethodName)) ∈ lw_all := lw_g (lw_at lw_m1 59 rfl) rfl
theorem q78 : (Jvm.Cond.privateMethod ({ cls := "LightFlow", name := "drop", desc := "(I)V" } : Jvm.MethodName)) ∈ lw_tbl := lw_at lw_m1 60 rfl
theorem q79 : (Jvm.Cond.instanceMethod ({ cls := "LightFlow", name := "drop", desc := "(I)V" } : Jvm.MethodName)) ∈ lw_all := lw_g (lw_at lw_m1 61 rfl) rfl
theorem q80 : (Jvm.Cond.code ({ cls := "LightFlow", name := "drop", desc := "(I)V" } : Jvm.MethodName) prog_1_method_27_code (2 : Nat) (Option.none : Option Jvm.ClassFile.FieldType)) ∈ lw_all := lw_g (lw_at lw_m1 62 rfl) rfl
theorem q81 : (Jvm.Cond.methodLink "LightFlow" (65 : Nat) ({ cls := "LightFlow", name := "neighbour", desc := "(II)I" } : Jvm.MethodName)) ∈ lw_all := lw_g (lw_at lw_m1 63 rfl) rfl
theorem q82 : (Jvm.Cond.static ({ cls := "LightFlow", name := "neighbour", desc := "(II)I" } : Jvm.MethodName)) ∈ lw_all := lw_g (lw_at lw_m1 64 rfl) rfl
theorem q83 : (Jvm.Cond.code ({ cls := "LightFlow", name := "neighbour", desc := "(II)I" } : Jvm.MethodName) prog_1_method_21_code (4 : Nat) (Option.some Jvm.ClassFile.FieldType.int)) ∈ lw_all := lw_g (lw_at lw_m1 65 rfl) rfl
theorem q84 : (Jvm.Cond.methodLink "LightFlow" (76 : Nat) ({ cls := "LightFlow", name := "flow", desc := "()V" } : Jvm.MethodName)) ∈ lw_all := lw_g (lw_at lw_m1 66 rfl) rfl
theorem q85 : (Jvm.Cond.privateMethod ({ cls := "LightFlow", name := "flow", desc := "()V" } : Jvm.MethodName)) ∈ lw_tbl := lw_at lw_m1 67 rfl
theorem q86 : (Jvm.Cond.instanceMethod ({ cls := "LightFlow", name := "flow", desc := "()V" } : Jvm.MethodName)) ∈ lw_all := lw_g (lw_at lw_m1 68 rfl) rfl
theorem q87 : (Jvm.Cond.code ({ cls := "LightFlow", name := "flow", desc := "()V" } : Jvm.MethodName) prog_1_method_28_code (3 : Nat) (Option.none : Option Jvm.ClassFile.FieldType)) ∈ lw_all := lw_g (lw_at lw_m1 69 rfl) rfl
theorem q88 : (Jvm.Cond.methodLink "LightFlow" (86 : Nat) ({ cls := "LightFlow", name := "source", desc := "(I)I" } : Jvm.MethodName)) ∈ lw_all := lw_g (lw_at lw_m1 70 rfl) rfl
theorem q89 : (Jvm.Cond.privateMethod ({ cls := "LightFlow", name := "source", desc := "(I)I" } : Jvm.MethodName)) ∈ lw_tbl := lw_at lw_m1 71 rfl
theorem q90 : (Jvm.Cond.instanceMethod ({ cls := "LightFlow", name := "source", desc := "(I)I" } : Jvm.MethodName)) ∈ lw_all := lw_g (lw_at lw_m1 72 rfl) rfl
theorem q91 : (Jvm.Cond.code ({ cls := "LightFlow", name := "source", desc := "(I)I" } : Jvm.MethodName) prog_1_method_23_code (2 : Nat) (Option.some Jvm.ClassFile.FieldType.int)) ∈ lw_all := lw_g (lw_at lw_m1 73 rfl) rfl
theorem q92 : (Jvm.Cond.methodLink "LightFlow" (89 : Nat) ({ cls := "LightFlow", name := "pass", desc := "(II)V" } : Jvm.MethodName)) ∈ lw_all := lw_g (lw_at lw_m1 74 rfl) rfl
theorem q93 : (Jvm.Cond.privateMethod ({ cls := "LightFlow", name := "pass", desc := "(II)V" } : Jvm.MethodName)) ∈ lw_tbl := lw_at lw_m1 75 rfl
theorem q94 : (Jvm.Cond.instanceMethod ({ cls := "LightFlow", name := "pass", desc := "(II)V" } : Jvm.MethodName)) ∈ lw_all := lw_g (lw_at lw_m1 76 rfl) rfl
theorem q95 : (Jvm.Cond.code ({ cls := "LightFlow", name := "pass", desc := "(II)V" } : Jvm.MethodName) prog_1_method_29_code (6 : Nat) (Option.none : Option Jvm.ClassFile.FieldType)) ∈ lw_all := lw_g (lw_at lw_m1 77 rfl) rfl
theorem q97 : (Jvm.Cond.instanceMethod ({ cls := "LightFlow", name := "fill", desc := "(III)I" } : Jvm.MethodName)) ∈ lw_all := lw_g (lw_at lw_m1 79 rfl) rfl
theorem q98 : (Jvm.Cond.selects "LightFlow" ({ cls := "LightFlow", name := "fill", desc := "(III)I" } : Jvm.MethodName) ({ cls := "LightFlow", name := "fill", desc := "(III)I" } : Jvm.MethodName)) ∈ lw_all := lw_g (lw_at lw_m1 80 rfl) rfl
theorem q99 : (Jvm.Cond.code ({ cls := "LightFlow", name := "fill", desc := "(III)I" } : Jvm.MethodName) prog_1_method_3_code (6 : Nat) (Option.some Jvm.ClassFile.FieldType.int)) ∈ lw_all := lw_g (lw_at lw_m1 81 rfl) rfl
theorem q100 : (Jvm.Cond.methodLink "LightFlow" (46 : Nat) ({ cls := "LightFlow", name := "isBox", desc := "(II)Z" } : Jvm.MethodName)) ∈ lw_all := lw_g (lw_at lw_m1 82 rfl) rfl
theorem q101 : (Jvm.Cond.static ({ cls := "LightFlow", name := "isBox", desc := "(II)Z" } : Jvm.MethodName)) ∈ lw_all := lw_g (lw_at lw_m1 83 rfl) rfl
theorem q102 : (Jvm.Cond.code ({ cls := "LightFlow", name := "isBox", desc := "(II)Z" } : Jvm.MethodName) prog_1_method_18_code (2 : Nat) (Option.some Jvm.ClassFile.FieldType.boolean)) ∈ lw_all := lw_g (lw_at lw_m1 84 rfl) rfl
theorem q103 : (Jvm.Cond.methodLink "LightFlow" (50 : Nat) ({ cls := "LightFlow", name := "inBox", desc := "(III)Z" } : Jvm.MethodName)) ∈ lw_all := lw_g (lw_at lw_m1 85 rfl) rfl
theorem q104 : (Jvm.Cond.static ({ cls := "LightFlow", name := "inBox", desc := "(III)Z" } : Jvm.MethodName)) ∈ lw_all := lw_g (lw_at lw_m1 86 rfl) rfl
theorem q105 : (Jvm.Cond.code ({ cls := "LightFlow", name := "inBox", desc := "(III)Z" } : Jvm.MethodName) prog_1_method_19_code (5 : Nat) (Option.some Jvm.ClassFile.FieldType.boolean)) ∈ lw_all := lw_g (lw_at lw_m1 87 rfl) rfl
theorem q107 : (Jvm.Cond.instanceMethod ({ cls := "LightFlow", name := "shell", desc := "(II)I" } : Jvm.MethodName)) ∈ lw_all := lw_g (lw_at lw_m1 89 rfl) rfl
theorem q108 : (Jvm.Cond.selects "LightFlow" ({ cls := "LightFlow", name := "shell", desc := "(II)I" } : Jvm.MethodName) ({ cls := "LightFlow", name := "shell", desc := "(II)I" } : Jvm.MethodName)) ∈ lw_all := lw_g (lw_at lw_m1 90 rfl) rfl
theorem q109 : (Jvm.Cond.code ({ cls := "LightFlow", name := "shell", desc := "(II)I" } : Jvm.MethodName) prog_1_method_4_code (5 : Nat) (Option.some Jvm.ClassFile.FieldType.int)) ∈ lw_all := lw_g (lw_at lw_m1 91 rfl) rfl
theorem q110 : (Jvm.Cond.methodLink "LightFlow" (54 : Nat) ({ cls := "LightFlow", name := "onWall", desc := "(III)Z" } : Jvm.MethodName)) ∈ lw_all := lw_g (lw_at lw_m1 92 rfl) rfl
theorem q111 : (Jvm.Cond.static ({ cls := "LightFlow", name := "onWall", desc := "(III)Z" } : Jvm.MethodName)) ∈ lw_all := lw_g (lw_at lw_m1 93 rfl) rfl
theorem q112 : (Jvm.Cond.code ({ cls := "LightFlow", name := "onWall", desc := "(III)Z" } : Jvm.MethodName) prog_1_method_20_code (5 : Nat) (Option.some Jvm.ClassFile.FieldType.boolean)) ∈ lw_all := lw_g (lw_at lw_m1 94 rfl) rfl
theorem q114 : (Jvm.Cond.instanceMethod ({ cls := "LightFlow", name := "lamp", desc := "(II)I" } : Jvm.MethodName)) ∈ lw_all := lw_g (lw_at lw_m1 96 rfl) rfl
theorem q115 : (Jvm.Cond.selects "LightFlow" ({ cls := "LightFlow", name := "lamp", desc := "(II)I" } : Jvm.MethodName) ({ cls := "LightFlow", name := "lamp", desc := "(II)I" } : Jvm.MethodName)) ∈ lw_all := lw_g (lw_at lw_m1 97 rfl) rfl
theorem q116 : (Jvm.Cond.code ({ cls := "LightFlow", name := "lamp", desc := "(II)I" } : Jvm.MethodName) prog_1_method_5_code (4 : Nat) (Option.some Jvm.ClassFile.FieldType.int)) ∈ lw_all := lw_g (lw_at lw_m1 98 rfl) rfl
theorem q117 : (Jvm.Cond.methodLink "LightFlow" (57 : Nat) ({ cls := "LightFlow", name := "setLamp", desc := "(II)V" } : Jvm.MethodName)) ∈ lw_all := lw_g (lw_at lw_m1 99 rfl) rfl
theorem q118 : (Jvm.Cond.privateMethod ({ cls := "LightFlow", name := "setLamp", desc := "(II)V" } : Jvm.MethodName)) ∈ lw_tbl := lw_at lw_m1 100 rfl
theorem q119 : (Jvm.Cond.instanceMethod ({ cls := "LightFlow", name := "setLamp", desc := "(II)V" } : Jvm.MethodName)) ∈ lw_all := lw_g (lw_at lw_m1 101 rfl) rfl
theorem q120 : (Jvm.Cond.code ({ cls := "LightFlow", name := "setLamp", desc := "(II)V" } : Jvm.MethodName) prog_1_method_24_code (3 : Nat) (Option.none : Option Jvm.ClassFile.FieldType)) ∈ lw_all := lw_g (lw_at lw_m1 102 rfl) rfl
theorem q122 : (Jvm.Cond.instanceMethod ({ cls := "LightFlow", name := "isSolid", desc := "(I)I" } : Jvm.MethodName)) ∈ lw_all := lw_g (lw_at lw_m1 104 rfl) rfl
theorem q123 : (Jvm.Cond.selects "LightFlow" ({ cls := "LightFlow", name := "isSolid", desc := "(I)I" } : Jvm.MethodName) ({ cls := "LightFlow", name := "isSolid", desc := "(I)I" } : Jvm.MethodName)) ∈ lw_all := lw_g (lw_at lw_m1 105 rfl) rfl
theorem q124 : (Jvm.Cond.code ({ cls := "LightFlow", name := "isSolid", desc := "(I)I" } : Jvm.MethodName) prog_1_method_6_code (2 : Nat) (Option.some Jvm.ClassFile.FieldType.int)) ∈ lw_all := lw_g (lw_at lw_m1 106 rfl) rfl
theorem q126 : (Jvm.Cond.instanceMethod ({ cls := "LightFlow", name := "lamplight", desc := "(I)I" } : Jvm.MethodName)) ∈ lw_all := lw_g (lw_at lw_m1 108 rfl) rfl
theorem q127 : (Jvm.Cond.selects "LightFlow" ({ cls := "LightFlow", name := "lamplight", desc := "(I)I" } : Jvm.MethodName) ({ cls := "LightFlow", name := "lamplight", desc := "(I)I" } : Jvm.MethodName)) ∈ lw_all := lw_g (lw_at lw_m1 109 rfl) rfl
theorem q128 : (Jvm.Cond.code ({ cls := "LightFlow", name := "lamplight", desc := "(I)I" } : Jvm.MethodName) prog_1_method_7_code (2 : Nat) (Option.some Jvm.ClassFile.FieldType.int)) ∈ lw_all := lw_g (lw_at lw_m1 110 rfl) rfl
theorem q130 : (Jvm.Cond.instanceMethod ({ cls := "LightFlow", name := "skylight", desc := "(I)I" } : Jvm.MethodName)) ∈ lw_all := lw_g (lw_at lw_m1 112 rfl) rfl
theorem q131 : (Jvm.Cond.selects "LightFlow" ({ cls := "LightFlow", name := "skylight", desc := "(I)I" } : Jvm.MethodName) ({ cls := "LightFlow", name := "skylight", desc := "(I)I" } : Jvm.MethodName)) ∈ lw_all := lw_g (lw_at lw_m1 113 rfl) rfl
theorem q132 : (Jvm.Cond.code ({ cls := "LightFlow", name := "skylight", desc := "(I)I" } : Jvm.MethodName) prog_1_method_8_code (2 : Nat) (Option.some Jvm.ClassFile.FieldType.int)) ∈ lw_all := lw_g (lw_at lw_m1 114 rfl) rfl
theorem q134 : (Jvm.Cond.instanceMethod ({ cls := "LightFlow", name := "lit", desc := "(III)I" } : Jvm.MethodName)) ∈ lw_all := lw_g (lw_at lw_m1 116 rfl) rfl
theorem q135 : (Jvm.Cond.selects "LightFlow" ({ cls := "LightFlow", name := "lit", desc := "(III)I" } : Jvm.MethodName) ({ cls := "LightFlow", name := "lit", desc := "(III)I" } : Jvm.MethodName)) ∈ lw_all := lw_g (lw_at lw_m1 117 rfl) rfl
theorem q136 : (Jvm.Cond.code ({ cls := "LightFlow", name := "lit", desc := "(III)I" } : Jvm.MethodName) prog_1_method_9_code (6 : Nat) (Option.some Jvm.ClassFile.FieldType.int)) ∈ lw_all := lw_g (lw_at lw_m1 118 rfl) rfl
theorem q137 : (Jvm.Cond.methodLink "LightFlow" (61 : Nat) ({ cls := "LightFlow", name := "light", desc := "(I)I" } : Jvm.MethodName)) ∈ lw_all := lw_g (lw_at lw_m1 119 rfl) rfl
theorem q138 : (Jvm.Cond.privateMethod ({ cls := "LightFlow", name := "light", desc := "(I)I" } : Jvm.MethodName)) ∈ lw_tbl := lw_at lw_m1 120 rfl
theorem q139 : (Jvm.Cond.instanceMethod ({ cls := "LightFlow", name := "light", desc := "(I)I" } : Jvm.MethodName)) ∈ lw_all := lw_g (lw_at lw_m1 121 rfl) rfl
theorem q140 : (Jvm.Cond.code ({ cls := "LightFlow", name := "light", desc := "(I)I" } : Jvm.MethodName) prog_1_method_22_code (3 : Nat) (Option.some Jvm.ClassFile.FieldType.int)) ∈ lw_all := lw_g (lw_at lw_m1 122 rfl) rfl
theorem q142 : (Jvm.Cond.instanceMethod ({ cls := "LightFlow", name := "dim", desc := "(I)I" } : Jvm.MethodName)) ∈ lw_all := lw_g (lw_at lw_m1 124 rfl) rfl
theorem q143 : (Jvm.Cond.selects "LightFlow" ({ cls := "LightFlow", name := "dim", desc := "(I)I" } : Jvm.MethodName) ({ cls := "LightFlow", name := "dim", desc := "(I)I" } : Jvm.MethodName)) ∈ lw_all := lw_g (lw_at lw_m1 125 rfl) rfl
theorem q144 : (Jvm.Cond.code ({ cls := "LightFlow", name := "dim", desc := "(I)I" } : Jvm.MethodName) prog_1_method_10_code (4 : Nat) (Option.some Jvm.ClassFile.FieldType.int)) ∈ lw_all := lw_g (lw_at lw_m1 126 rfl) rfl
theorem q146 : (Jvm.Cond.instanceMethod ({ cls := "LightFlow", name := "darkest", desc := "()I" } : Jvm.MethodName)) ∈ lw_all := lw_g (lw_at lw_m1 128 rfl) rfl
theorem q147 : (Jvm.Cond.selects "LightFlow" ({ cls := "LightFlow", name := "darkest", desc := "()I" } : Jvm.MethodName) ({ cls := "LightFlow", name := "darkest", desc := "()I" } : Jvm.MethodName)) ∈ lw_all := lw_g (lw_at lw_m1 129 rfl) rfl
theorem q148 : (Jvm.Cond.code ({ cls := "LightFlow", name := "darkest", desc := "()I" } : Jvm.MethodName) prog_1_method_11_code (3 : Nat) (Option.some Jvm.ClassFile.FieldType.int)) ∈ lw_all := lw_g (lw_at lw_m1 130 rfl) rfl
theorem q150 : (Jvm.Cond.instanceMethod ({ cls := "LightFlow", name := "faces", desc := "()I" } : Jvm.MethodName)) ∈ lw_all := lw_g (lw_at lw_m1 132 rfl) rfl
theorem q151 : (Jvm.Cond.selects "LightFlow" ({ cls := "LightFlow", name := "faces", desc := "()I" } : Jvm.MethodName) ({ cls := "LightFlow", name := "faces", desc := "()I" } : Jvm.MethodName)) ∈ lw_all := lw_g (lw_at lw_m1 133 rfl) rfl
theorem q152 : (Jvm.Cond.code ({ cls := "LightFlow", name := "faces", desc := "()I" } : Jvm.MethodName) prog_1_method_12_code (5 : Nat) (Option.some Jvm.ClassFile.FieldType.int)) ∈ lw_all := lw_g (lw_at lw_m1 134 rfl) rfl
theorem q154 : (Jvm.Cond.instanceMethod ({ cls := "LightFlow", name := "shady", desc := "(I)I" } : Jvm.MethodName)) ∈ lw_all := lw_g (lw_at lw_m1 136 rfl) rfl
theorem q155 : (Jvm.Cond.selects "LightFlow" ({ cls := "LightFlow", name := "shady", desc := "(I)I" } : Jvm.MethodName) ({ cls := "LightFlow", name := "shady", desc := "(I)I" } : Jvm.MethodName)) ∈ lw_all := lw_g (lw_at lw_m1 137 rfl) rfl
theorem q156 : (Jvm.Cond.code ({ cls := "LightFlow", name := "shady", desc := "(I)I" } : Jvm.MethodName) prog_1_method_13_code (4 : Nat) (Option.some Jvm.ClassFile.FieldType.int)) ∈ lw_all := lw_g (lw_at lw_m1 138 rfl) rfl
theorem q158 : (Jvm.Cond.instanceMethod ({ cls := "LightFlow", name := "open", desc := "()I" } : Jvm.MethodName)) ∈ lw_all := lw_g (lw_at lw_m1 140 rfl) rfl
theorem q159 : (Jvm.Cond.selects "LightFlow" ({ cls := "LightFlow", name := "open", desc := "()I" } : Jvm.MethodName) ({ cls := "LightFlow", name := "open", desc := "()I" } : Jvm.MethodName)) ∈ lw_all := lw_g (lw_at lw_m1 141 rfl) rfl
theorem q160 : (Jvm.Cond.code ({ cls := "LightFlow", name := "open", desc := "()I" } : Jvm.MethodName) prog_1_method_14_code (3 : Nat) (Option.some Jvm.ClassFile.FieldType.int)) ∈ lw_all := lw_g (lw_at lw_m1 142 rfl) rfl
theorem q162 : (Jvm.Cond.instanceMethod ({ cls := "LightFlow", name := "serves", desc := "(I)I" } : Jvm.MethodName)) ∈ lw_all := lw_g (lw_at lw_m1 144 rfl) rfl
theorem q163 : (Jvm.Cond.selects "LightFlow" ({ cls := "LightFlow", name := "serves", desc := "(I)I" } : Jvm.MethodName) ({ cls := "LightFlow", name := "serves", desc := "(I)I" } : Jvm.MethodName)) ∈ lw_all := lw_g (lw_at lw_m1 145 rfl) rfl
theorem q164 : (Jvm.Cond.code ({ cls := "LightFlow", name := "serves", desc := "(I)I" } : Jvm.MethodName) prog_1_method_15_code (5 : Nat) (Option.some Jvm.ClassFile.FieldType.int)) ∈ lw_all := lw_g (lw_at lw_m1 146 rfl) rfl
theorem q166 : (Jvm.Cond.instanceMethod ({ cls := "LightFlow", name := "rooms", desc := "()I" } : Jvm.MethodName)) ∈ lw_all := lw_g (lw_at lw_m1 148 rfl) rfl
theorem q167 : (Jvm.Cond.selects "LightFlow" ({ cls := "LightFlow", name := "rooms", desc := "()I" } : Jvm.MethodName) ({ cls := "LightFlow", name := "rooms", desc := "()I" } : Jvm.MethodName)) ∈ lw_all := lw_g (lw_at lw_m1 149 rfl) rfl
theorem q168 : (Jvm.Cond.code ({ cls := "LightFlow", name := "rooms", desc := "()I" } : Jvm.MethodName) prog_1_method_16_code (3 : Nat) (Option.some Jvm.ClassFile.FieldType.int)) ∈ lw_all := lw_g (lw_at lw_m1 150 rfl) rfl
theorem q169 : (Jvm.Cond.methodLink "LightFlow" (69 : Nat) ({ cls := "LightFlow", name := "walk", desc := "(I)V" } : Jvm.MethodName)) ∈ lw_all := lw_g (lw_at lw_m1 151 rfl) rfl
theorem q170 : (Jvm.Cond.privateMethod ({ cls := "LightFlow", name := "walk", desc := "(I)V" } : Jvm.MethodName)) ∈ lw_tbl := lw_at lw_m1 152 rfl
theorem q171 : (Jvm.Cond.instanceMethod ({ cls := "LightFlow", name := "walk", desc := "(I)V" } : Jvm.MethodName)) ∈ lw_all := lw_g (lw_at lw_m1 153 rfl) rfl
theorem q172 : (Jvm.Cond.code ({ cls := "LightFlow", name := "walk", desc := "(I)V" } : Jvm.MethodName) prog_1_method_30_code (6 : Nat) (Option.none : Option Jvm.ClassFile.FieldType)) ∈ lw_all := lw_g (lw_at lw_m1 154 rfl) rfl
theorem in_X0 : ∀ w ∈ wsX00, w ∈ lw_all := lw_in wsX00 [39, 41, 43, 45, 47, 49, 51, 53, 55, 57] (by decide +kernel) (by decide +kernel)
end
section
set_option maxRecDepth 100000
/-! LightFlowModel -/
def RX1 : String := "LightFlowModel"
def TX1 : u_T := fun k => match k with
  | 0 => ("LightFlowModel", "wall", "[Z", true)
  | 1 => ("LightFlowModel", "lamps", "[I", true)
  | 2 => ("LightFlowModel", "lampGlow", "[I", true)
  | 3 => ("LightFlowModel", "skyGlow", "[I", true)
  | 4 => ("LightFlowModel", "label", "[I", true)
  | _ => ("LightFlowModel", "kept", "[I", true)
def tyX1 : Nat → FieldType := fun k => match k with
  | 0 => .array .boolean
  | 1 => .array .int
  | 2 => .array .int
  | 3 => .array .int
  | 4 => .array .int
  | _ => .array .int
abbrev wsX10 : List Cond := u_ws RX1 TX1 6
theorem nmX1 : ∀ a, a < 6 → ∀ b, b < 6 → a ≠ b → (TX1 a).2.1 ≠ (TX1 b).2.1 := by decide +kernel
theorem tyX1_ok : ∀ k, k < 6 → parseFieldDescriptor (TX1 k).2.2.1 = some (tyX1 k) := by decide +kernel
abbrev cX1_init : ByteArray := prog_3_method_1_code
def yX1_init : MethodName := ⟨RX1, "<init>", "()V"⟩
theorem dX1_init_0 : decode cX1_init 0 = .ok (.aload_n 0, 1) := by decide +kernel
theorem dX1_init_1 : decode cX1_init 1 = .ok (.invokespecial 1, 3) := by decide +kernel
theorem dX1_init_4 : decode cX1_init 4 = .ok (.aload_n 0, 1) := by decide +kernel
theorem dX1_init_5 : decode cX1_init 5 = .ok (.sipush 216, 3) := by decide +kernel
theorem dX1_init_8 : decode cX1_init 8 = .ok (.newarray .boolean, 2) := by decide +kernel
theorem dX1_init_10 : decode cX1_init 10 = .ok (.putfield 7, 3) := by decide +kernel
theorem dX1_init_13 : decode cX1_init 13 = .ok (.aload_n 0, 1) := by decide +kernel
theorem dX1_init_14 : decode cX1_init 14 = .ok (.sipush 216, 3) := by decide +kernel
theorem dX1_init_17 : decode cX1_init 17 = .ok (.newarray .int, 2) := by decide +kernel
theorem dX1_init_19 : decode cX1_init 19 = .ok (.putfield 13, 3) := by decide +kernel
theorem dX1_init_22 : decode cX1_init 22 = .ok (.aload_n 0, 1) := by decide +kernel
theorem dX1_init_23 : decode cX1_init 23 = .ok (.sipush 216, 3) := by decide +kernel
theorem dX1_init_26 : decode cX1_init 26 = .ok (.newarray .int, 2) := by decide +kernel
theorem dX1_init_28 : decode cX1_init 28 = .ok (.putfield 17, 3) := by decide +kernel
theorem dX1_init_31 : decode cX1_init 31 = .ok (.aload_n 0, 1) := by decide +kernel
theorem dX1_init_32 : decode cX1_init 32 = .ok (.sipush 216, 3) := by decide +kernel
theorem dX1_init_35 : decode cX1_init 35 = .ok (.newarray .int, 2) := by decide +kernel
theorem dX1_init_37 : decode cX1_init 37 = .ok (.putfield 20, 3) := by decide +kernel
theorem dX1_init_40 : decode cX1_init 40 = .ok (.aload_n 0, 1) := by decide +kernel
theorem dX1_init_41 : decode cX1_init 41 = .ok (.sipush 216, 3) := by decide +kernel
theorem dX1_init_44 : decode cX1_init 44 = .ok (.newarray .int, 2) := by decide +kernel
theorem dX1_init_46 : decode cX1_init 46 = .ok (.putfield 23, 3) := by decide +kernel
theorem dX1_init_49 : decode cX1_init 49 = .ok (.aload_n 0, 1) := by decide +kernel
theorem dX1_init_50 : decode cX1_init 50 = .ok (.sipush 216, 3) := by decide +kernel
theorem dX1_init_53 : decode cX1_init 53 = .ok (.newarray .int, 2) := by decide +kernel
theorem dX1_init_55 : decode cX1_init 55 = .ok (.putfield 26, 3) := by decide +kernel
theorem dX1_init_58 : decode cX1_init 58 = .ok (.return_, 1) := by decide +kernel
abbrev cX1_solid : ByteArray := prog_3_method_6_code
def yX1_solid : MethodName := ⟨RX1, "solid", "(II)I"⟩
theorem dX1_solid_0 : decode cX1_solid 0 = .ok (.aload_n 0, 1) := by decide +kernel
theorem dX1_solid_1 : decode cX1_solid 1 = .ok (.iload_n 1, 1) := by decide +kernel
theorem dX1_solid_2 : decode cX1_solid 2 = .ok (.invokevirtual 29, 3) := by decide +kernel
theorem dX1_solid_5 : decode cX1_solid 5 = .ok (.ifCond .eq 5, 3) := by decide +kernel
theorem dX1_solid_8 : decode cX1_solid 8 = .ok (.iconst (-1), 1) := by decide +kernel
theorem dX1_solid_9 : decode cX1_solid 9 = .ok (.ireturn, 1) := by decide +kernel
theorem dX1_solid_10 : decode cX1_solid 10 = .ok (.aload_n 0, 1) := by decide +kernel
theorem dX1_solid_11 : decode cX1_solid 11 = .ok (.getfield 7, 3) := by decide +kernel
theorem dX1_solid_14 : decode cX1_solid 14 = .ok (.iload_n 1, 1) := by decide +kernel
theorem dX1_solid_15 : decode cX1_solid 15 = .ok (.baload, 1) := by decide +kernel
theorem dX1_solid_16 : decode cX1_solid 16 = .ok (.ifCond .eq 7, 3) := by decide +kernel
theorem dX1_solid_19 : decode cX1_solid 19 = .ok (.iconst 1, 1) := by decide +kernel
theorem dX1_solid_20 : decode cX1_solid 20 = .ok (.goto 4, 3) := by decide +kernel
theorem dX1_solid_23 : decode cX1_solid 23 = .ok (.iconst 0, 1) := by decide +kernel
theorem dX1_solid_24 : decode cX1_solid 24 = .ok (.istore_n 3, 1) := by decide +kernel
theorem dX1_solid_25 : decode cX1_solid 25 = .ok (.aload_n 0, 1) := by decide +kernel
theorem dX1_solid_26 : decode cX1_solid 26 = .ok (.getfield 7, 3) := by decide +kernel
theorem dX1_solid_29 : decode cX1_solid 29 = .ok (.iload_n 1, 1) := by decide +kernel
theorem dX1_solid_30 : decode cX1_solid 30 = .ok (.iload_n 2, 1) := by decide +kernel
theorem dX1_solid_31 : decode cX1_solid 31 = .ok (.ifCond .eq 7, 3) := by decide +kernel
theorem dX1_solid_34 : decode cX1_solid 34 = .ok (.iconst 1, 1) := by decide +kernel
theorem dX1_solid_35 : decode cX1_solid 35 = .ok (.goto 4, 3) := by decide +kernel
theorem dX1_solid_38 : decode cX1_solid 38 = .ok (.iconst 0, 1) := by decide +kernel
theorem dX1_solid_39 : decode cX1_solid 39 = .ok (.bastore, 1) := by decide +kernel
theorem dX1_solid_40 : decode cX1_solid 40 = .ok (.iload_n 3, 1) := by decide +kernel
theorem dX1_solid_41 : decode cX1_solid 41 = .ok (.ireturn, 1) := by decide +kernel
abbrev cX1_bad : ByteArray := prog_3_method_2_code
def yX1_bad : MethodName := ⟨RX1, "bad", "(I)Z"⟩
theorem dX1_bad_0 : decode cX1_bad 0 = .ok (.iload_n 1, 1) := by decide +kernel
theorem dX1_bad_1 : decode cX1_bad 1 = .ok (.ifCond .lt 10, 3) := by decide +kernel
theorem dX1_bad_4 : decode cX1_bad 4 = .ok (.iload_n 1, 1) := by decide +kernel
theorem dX1_bad_5 : decode cX1_bad 5 = .ok (.sipush 215, 3) := by decide +kernel
theorem dX1_bad_8 : decode cX1_bad 8 = .ok (.if_icmp .le 7, 3) := by decide +kernel
theorem dX1_bad_11 : decode cX1_bad 11 = .ok (.iconst 1, 1) := by decide +kernel
theorem dX1_bad_12 : decode cX1_bad 12 = .ok (.goto 4, 3) := by decide +kernel
theorem dX1_bad_15 : decode cX1_bad 15 = .ok (.iconst 0, 1) := by decide +kernel
theorem dX1_bad_16 : decode cX1_bad 16 = .ok (.ireturn, 1) := by decide +kernel
abbrev cX1_fill : ByteArray := prog_3_method_7_code
def yX1_fill : MethodName := ⟨RX1, "fill", "(III)I"⟩
theorem dX1_fill_0 : decode cX1_fill 0 = .ok (.aload_n 0, 1) := by decide +kernel
theorem dX1_fill_1 : decode cX1_fill 1 = .ok (.iload_n 1, 1) := by decide +kernel
theorem dX1_fill_2 : decode cX1_fill 2 = .ok (.iload_n 2, 1) := by decide +kernel
theorem dX1_fill_3 : decode cX1_fill 3 = .ok (.invokevirtual 33, 3) := by decide +kernel
theorem dX1_fill_6 : decode cX1_fill 6 = .ok (.ifCond .eq 5, 3) := by decide +kernel
theorem dX1_fill_9 : decode cX1_fill 9 = .ok (.iconst (-1), 1) := by decide +kernel
theorem dX1_fill_10 : decode cX1_fill 10 = .ok (.ireturn, 1) := by decide +kernel
theorem dX1_fill_11 : decode cX1_fill 11 = .ok (.iconst 0, 1) := by decide +kernel
theorem dX1_fill_12 : decode cX1_fill 12 = .ok (.istore 4, 2) := by decide +kernel
theorem dX1_fill_14 : decode cX1_fill 14 = .ok (.iconst 0, 1) := by decide +kernel
theorem dX1_fill_15 : decode cX1_fill 15 = .ok (.istore 5, 2) := by decide +kernel
theorem dX1_fill_17 : decode cX1_fill 17 = .ok (.iload 5, 2) := by decide +kernel
theorem dX1_fill_19 : decode cX1_fill 19 = .ok (.sipush 216, 3) := by decide +kernel
theorem dX1_fill_22 : decode cX1_fill 22 = .ok (.if_icmp .ge 61, 3) := by decide +kernel
theorem dX1_fill_25 : decode cX1_fill 25 = .ok (.aload_n 0, 1) := by decide +kernel
theorem dX1_fill_26 : decode cX1_fill 26 = .ok (.iload 5, 2) := by decide +kernel
theorem dX1_fill_28 : decode cX1_fill 28 = .ok (.iload_n 1, 1) := by decide +kernel
theorem dX1_fill_29 : decode cX1_fill 29 = .ok (.iload_n 2, 1) := by decide +kernel
theorem dX1_fill_30 : decode cX1_fill 30 = .ok (.invokevirtual 37, 3) := by decide +kernel
theorem dX1_fill_33 : decode cX1_fill 33 = .ok (.ifCond .eq 44, 3) := by decide +kernel
theorem dX1_fill_36 : decode cX1_fill 36 = .ok (.aload_n 0, 1) := by decide +kernel
theorem dX1_fill_37 : decode cX1_fill 37 = .ok (.getfield 7, 3) := by decide +kernel
theorem dX1_fill_40 : decode cX1_fill 40 = .ok (.iload 5, 2) := by decide +kernel
theorem dX1_fill_42 : decode cX1_fill 42 = .ok (.baload, 1) := by decide +kernel
theorem dX1_fill_43 : decode cX1_fill 43 = .ok (.iload_n 3, 1) := by decide +kernel
theorem dX1_fill_44 : decode cX1_fill 44 = .ok (.ifCond .eq 7, 3) := by decide +kernel
theorem dX1_fill_47 : decode cX1_fill 47 = .ok (.iconst 1, 1) := by decide +kernel
theorem dX1_fill_48 : decode cX1_fill 48 = .ok (.goto 4, 3) := by decide +kernel
theorem dX1_fill_51 : decode cX1_fill 51 = .ok (.iconst 0, 1) := by decide +kernel
theorem dX1_fill_52 : decode cX1_fill 52 = .ok (.if_icmp .ne 6, 3) := by decide +kernel
theorem dX1_fill_55 : decode cX1_fill 55 = .ok (.goto 22, 3) := by decide +kernel
theorem dX1_fill_58 : decode cX1_fill 58 = .ok (.aload_n 0, 1) := by decide +kernel
theorem dX1_fill_59 : decode cX1_fill 59 = .ok (.getfield 7, 3) := by decide +kernel
theorem dX1_fill_62 : decode cX1_fill 62 = .ok (.iload 5, 2) := by decide +kernel
theorem dX1_fill_64 : decode cX1_fill 64 = .ok (.iload_n 3, 1) := by decide +kernel
theorem dX1_fill_65 : decode cX1_fill 65 = .ok (.ifCond .eq 7, 3) := by decide +kernel
theorem dX1_fill_68 : decode cX1_fill 68 = .ok (.iconst 1, 1) := by decide +kernel
theorem dX1_fill_69 : decode cX1_fill 69 = .ok (.goto 4, 3) := by decide +kernel
theorem dX1_fill_72 : decode cX1_fill 72 = .ok (.iconst 0, 1) := by decide +kernel
theorem dX1_fill_73 : decode cX1_fill 73 = .ok (.bastore, 1) := by decide +kernel
theorem dX1_fill_74 : decode cX1_fill 74 = .ok (.iinc 4 1, 3) := by decide +kernel
theorem dX1_fill_77 : decode cX1_fill 77 = .ok (.iinc 5 1, 3) := by decide +kernel
theorem dX1_fill_80 : decode cX1_fill 80 = .ok (.goto (-63), 3) := by decide +kernel
theorem dX1_fill_83 : decode cX1_fill 83 = .ok (.iload 4, 2) := by decide +kernel
theorem dX1_fill_85 : decode cX1_fill 85 = .ok (.ireturn, 1) := by decide +kernel
abbrev cX1_badBox : ByteArray := prog_3_method_3_code
def yX1_badBox : MethodName := ⟨RX1, "badBox", "(II)Z"⟩
theorem dX1_badBox_0 : decode cX1_badBox 0 = .ok (.aload_n 0, 1) := by decide +kernel
theorem dX1_badBox_1 : decode cX1_badBox 1 = .ok (.iload_n 1, 1) := by decide +kernel
theorem dX1_badBox_2 : decode cX1_badBox 2 = .ok (.invokevirtual 29, 3) := by decide +kernel
theorem dX1_badBox_5 : decode cX1_badBox 5 = .ok (.ifCond .ne 11, 3) := by decide +kernel
theorem dX1_badBox_8 : decode cX1_badBox 8 = .ok (.aload_n 0, 1) := by decide +kernel
theorem dX1_badBox_9 : decode cX1_badBox 9 = .ok (.iload_n 2, 1) := by decide +kernel
theorem dX1_badBox_10 : decode cX1_badBox 10 = .ok (.invokevirtual 29, 3) := by decide +kernel
theorem dX1_badBox_13 : decode cX1_badBox 13 = .ok (.ifCond .eq 5, 3) := by decide +kernel
theorem dX1_badBox_16 : decode cX1_badBox 16 = .ok (.iconst 1, 1) := by decide +kernel
theorem dX1_badBox_17 : decode cX1_badBox 17 = .ok (.ireturn, 1) := by decide +kernel
theorem dX1_badBox_18 : decode cX1_badBox 18 = .ok (.iload_n 1, 1) := by decide +kernel
theorem dX1_badBox_19 : decode cX1_badBox 19 = .ok (.bipush 6, 2) := by decide +kernel
theorem dX1_badBox_21 : decode cX1_badBox 21 = .ok (.irem, 1) := by decide +kernel
theorem dX1_badBox_22 : decode cX1_badBox 22 = .ok (.iload_n 2, 1) := by decide +kernel
theorem dX1_badBox_23 : decode cX1_badBox 23 = .ok (.bipush 6, 2) := by decide +kernel
theorem dX1_badBox_25 : decode cX1_badBox 25 = .ok (.irem, 1) := by decide +kernel
theorem dX1_badBox_26 : decode cX1_badBox 26 = .ok (.if_icmp .gt 31, 3) := by decide +kernel
theorem dX1_badBox_29 : decode cX1_badBox 29 = .ok (.iload_n 1, 1) := by decide +kernel
theorem dX1_badBox_30 : decode cX1_badBox 30 = .ok (.bipush 6, 2) := by decide +kernel
theorem dX1_badBox_32 : decode cX1_badBox 32 = .ok (.idiv, 1) := by decide +kernel
theorem dX1_badBox_33 : decode cX1_badBox 33 = .ok (.bipush 6, 2) := by decide +kernel
theorem dX1_badBox_35 : decode cX1_badBox 35 = .ok (.irem, 1) := by decide +kernel
theorem dX1_badBox_36 : decode cX1_badBox 36 = .ok (.iload_n 2, 1) := by decide +kernel
theorem dX1_badBox_37 : decode cX1_badBox 37 = .ok (.bipush 6, 2) := by decide +kernel
theorem dX1_badBox_39 : decode cX1_badBox 39 = .ok (.idiv, 1) := by decide +kernel
theorem dX1_badBox_40 : decode cX1_badBox 40 = .ok (.bipush 6, 2) := by decide +kernel
theorem dX1_badBox_42 : decode cX1_badBox 42 = .ok (.irem, 1) := by decide +kernel
theorem dX1_badBox_43 : decode cX1_badBox 43 = .ok (.if_icmp .gt 14, 3) := by decide +kernel
theorem dX1_badBox_46 : decode cX1_badBox 46 = .ok (.iload_n 1, 1) := by decide +kernel
theorem dX1_badBox_47 : decode cX1_badBox 47 = .ok (.bipush 36, 2) := by decide +kernel
theorem dX1_badBox_49 : decode cX1_badBox 49 = .ok (.idiv, 1) := by decide +kernel
theorem dX1_badBox_50 : decode cX1_badBox 50 = .ok (.iload_n 2, 1) := by decide +kernel
theorem dX1_badBox_51 : decode cX1_badBox 51 = .ok (.bipush 36, 2) := by decide +kernel
theorem dX1_badBox_53 : decode cX1_badBox 53 = .ok (.idiv, 1) := by decide +kernel
theorem dX1_badBox_54 : decode cX1_badBox 54 = .ok (.if_icmp .le 7, 3) := by decide +kernel
theorem dX1_badBox_57 : decode cX1_badBox 57 = .ok (.iconst 1, 1) := by decide +kernel
theorem dX1_badBox_58 : decode cX1_badBox 58 = .ok (.goto 4, 3) := by decide +kernel
theorem dX1_badBox_61 : decode cX1_badBox 61 = .ok (.iconst 0, 1) := by decide +kernel
theorem dX1_badBox_62 : decode cX1_badBox 62 = .ok (.ireturn, 1) := by decide +kernel
abbrev cX1_inBox : ByteArray := prog_3_method_4_code
def yX1_inBox : MethodName := ⟨RX1, "inBox", "(III)Z"⟩
theorem dX1_inBox_0 : decode cX1_inBox 0 = .ok (.iload_n 1, 1) := by decide +kernel
theorem dX1_inBox_1 : decode cX1_inBox 1 = .ok (.bipush 6, 2) := by decide +kernel
theorem dX1_inBox_3 : decode cX1_inBox 3 = .ok (.irem, 1) := by decide +kernel
theorem dX1_inBox_4 : decode cX1_inBox 4 = .ok (.iload_n 2, 1) := by decide +kernel
theorem dX1_inBox_5 : decode cX1_inBox 5 = .ok (.bipush 6, 2) := by decide +kernel
theorem dX1_inBox_7 : decode cX1_inBox 7 = .ok (.irem, 1) := by decide +kernel
theorem dX1_inBox_8 : decode cX1_inBox 8 = .ok (.if_icmp .lt 18, 3) := by decide +kernel
theorem dX1_inBox_11 : decode cX1_inBox 11 = .ok (.iload_n 1, 1) := by decide +kernel
theorem dX1_inBox_12 : decode cX1_inBox 12 = .ok (.bipush 6, 2) := by decide +kernel
theorem dX1_inBox_14 : decode cX1_inBox 14 = .ok (.irem, 1) := by decide +kernel
theorem dX1_inBox_15 : decode cX1_inBox 15 = .ok (.iload_n 3, 1) := by decide +kernel
theorem dX1_inBox_16 : decode cX1_inBox 16 = .ok (.bipush 6, 2) := by decide +kernel
theorem dX1_inBox_18 : decode cX1_inBox 18 = .ok (.irem, 1) := by decide +kernel
theorem dX1_inBox_19 : decode cX1_inBox 19 = .ok (.if_icmp .gt 7, 3) := by decide +kernel
theorem dX1_inBox_22 : decode cX1_inBox 22 = .ok (.iconst 1, 1) := by decide +kernel
theorem dX1_inBox_23 : decode cX1_inBox 23 = .ok (.goto 4, 3) := by decide +kernel
theorem dX1_inBox_26 : decode cX1_inBox 26 = .ok (.iconst 0, 1) := by decide +kernel
theorem dX1_inBox_27 : decode cX1_inBox 27 = .ok (.istore 4, 2) := by decide +kernel
theorem dX1_inBox_29 : decode cX1_inBox 29 = .ok (.iload_n 1, 1) := by decide +kernel
theorem dX1_inBox_30 : decode cX1_inBox 30 = .ok (.bipush 6, 2) := by decide +kernel
theorem dX1_inBox_32 : decode cX1_inBox 32 = .ok (.idiv, 1) := by decide +kernel
theorem dX1_inBox_33 : decode cX1_inBox 33 = .ok (.bipush 6, 2) := by decide +kernel
theorem dX1_inBox_35 : decode cX1_inBox 35 = .ok (.irem, 1) := by decide +kernel
theorem dX1_inBox_36 : decode cX1_inBox 36 = .ok (.iload_n 2, 1) := by decide +kernel
theorem dX1_inBox_37 : decode cX1_inBox 37 = .ok (.bipush 6, 2) := by decide +kernel
theorem dX1_inBox_39 : decode cX1_inBox 39 = .ok (.idiv, 1) := by decide +kernel
theorem dX1_inBox_40 : decode cX1_inBox 40 = .ok (.bipush 6, 2) := by decide +kernel
theorem dX1_inBox_42 : decode cX1_inBox 42 = .ok (.irem, 1) := by decide +kernel
theorem dX1_inBox_43 : decode cX1_inBox 43 = .ok (.if_icmp .lt 24, 3) := by decide +kernel
theorem dX1_inBox_46 : decode cX1_inBox 46 = .ok (.iload_n 1, 1) := by decide +kernel
theorem dX1_inBox_47 : decode cX1_inBox 47 = .ok (.bipush 6, 2) := by decide +kernel
theorem dX1_inBox_49 : decode cX1_inBox 49 = .ok (.idiv, 1) := by decide +kernel
theorem dX1_inBox_50 : decode cX1_inBox 50 = .ok (.bipush 6, 2) := by decide +kernel
theorem dX1_inBox_52 : decode cX1_inBox 52 = .ok (.irem, 1) := by decide +kernel
theorem dX1_inBox_53 : decode cX1_inBox 53 = .ok (.iload_n 3, 1) := by decide +kernel
theorem dX1_inBox_54 : decode cX1_inBox 54 = .ok (.bipush 6, 2) := by decide +kernel
theorem dX1_inBox_56 : decode cX1_inBox 56 = .ok (.idiv, 1) := by decide +kernel
theorem dX1_inBox_57 : decode cX1_inBox 57 = .ok (.bipush 6, 2) := by decide +kernel
theorem dX1_inBox_59 : decode cX1_inBox 59 = .ok (.irem, 1) := by decide +kernel
theorem dX1_inBox_60 : decode cX1_inBox 60 = .ok (.if_icmp .gt 7, 3) := by decide +kernel
theorem dX1_inBox_63 : decode cX1_inBox 63 = .ok (.iconst 1, 1) := by decide +kernel
theorem dX1_inBox_64 : decode cX1_inBox 64 = .ok (.goto 4, 3) := by decide +kernel
theorem dX1_inBox_67 : decode cX1_inBox 67 = .ok (.iconst 0, 1) := by decide +kernel
theorem dX1_inBox_68 : decode cX1_inBox 68 = .ok (.istore 5, 2) := by decide +kernel
theorem dX1_inBox_70 : decode cX1_inBox 70 = .ok (.iload 4, 2) := by decide +kernel
theorem dX1_inBox_72 : decode cX1_inBox 72 = .ok (.ifCond .eq 34, 3) := by decide +kernel
theorem dX1_inBox_75 : decode cX1_inBox 75 = .ok (.iload 5, 2) := by decide +kernel
theorem dX1_inBox_77 : decode cX1_inBox 77 = .ok (.ifCond .eq 29, 3) := by decide +kernel
theorem dX1_inBox_80 : decode cX1_inBox 80 = .ok (.iload_n 1, 1) := by decide +kernel
theorem dX1_inBox_81 : decode cX1_inBox 81 = .ok (.bipush 36, 2) := by decide +kernel
theorem dX1_inBox_83 : decode cX1_inBox 83 = .ok (.idiv, 1) := by decide +kernel
theorem dX1_inBox_84 : decode cX1_inBox 84 = .ok (.iload_n 2, 1) := by decide +kernel
theorem dX1_inBox_85 : decode cX1_inBox 85 = .ok (.bipush 36, 2) := by decide +kernel
theorem dX1_inBox_87 : decode cX1_inBox 87 = .ok (.idiv, 1) := by decide +kernel
theorem dX1_inBox_88 : decode cX1_inBox 88 = .ok (.if_icmp .lt 18, 3) := by decide +kernel
theorem dX1_inBox_91 : decode cX1_inBox 91 = .ok (.iload_n 1, 1) := by decide +kernel
theorem dX1_inBox_92 : decode cX1_inBox 92 = .ok (.bipush 36, 2) := by decide +kernel
theorem dX1_inBox_94 : decode cX1_inBox 94 = .ok (.idiv, 1) := by decide +kernel
theorem dX1_inBox_95 : decode cX1_inBox 95 = .ok (.iload_n 3, 1) := by decide +kernel
theorem dX1_inBox_96 : decode cX1_inBox 96 = .ok (.bipush 36, 2) := by decide +kernel
theorem dX1_inBox_98 : decode cX1_inBox 98 = .ok (.idiv, 1) := by decide +kernel
theorem dX1_inBox_99 : decode cX1_inBox 99 = .ok (.if_icmp .gt 7, 3) := by decide +kernel
theorem dX1_inBox_102 : decode cX1_inBox 102 = .ok (.iconst 1, 1) := by decide +kernel
theorem dX1_inBox_103 : decode cX1_inBox 103 = .ok (.goto 4, 3) := by decide +kernel
theorem dX1_inBox_106 : decode cX1_inBox 106 = .ok (.iconst 0, 1) := by decide +kernel
theorem dX1_inBox_107 : decode cX1_inBox 107 = .ok (.ireturn, 1) := by decide +kernel
abbrev cX1_shell : ByteArray := prog_3_method_8_code
def yX1_shell : MethodName := ⟨RX1, "shell", "(II)I"⟩
theorem dX1_shell_0 : decode cX1_shell 0 = .ok (.aload_n 0, 1) := by decide +kernel
theorem dX1_shell_1 : decode cX1_shell 1 = .ok (.iload_n 1, 1) := by decide +kernel
theorem dX1_shell_2 : decode cX1_shell 2 = .ok (.iload_n 2, 1) := by decide +kernel
theorem dX1_shell_3 : decode cX1_shell 3 = .ok (.invokevirtual 33, 3) := by decide +kernel
theorem dX1_shell_6 : decode cX1_shell 6 = .ok (.ifCond .eq 5, 3) := by decide +kernel
theorem dX1_shell_9 : decode cX1_shell 9 = .ok (.iconst (-1), 1) := by decide +kernel
theorem dX1_shell_10 : decode cX1_shell 10 = .ok (.ireturn, 1) := by decide +kernel
theorem dX1_shell_11 : decode cX1_shell 11 = .ok (.iconst 0, 1) := by decide +kernel
theorem dX1_shell_12 : decode cX1_shell 12 = .ok (.istore_n 3, 1) := by decide +kernel
theorem dX1_shell_13 : decode cX1_shell 13 = .ok (.iconst 0, 1) := by decide +kernel
theorem dX1_shell_14 : decode cX1_shell 14 = .ok (.istore 4, 2) := by decide +kernel
theorem dX1_shell_16 : decode cX1_shell 16 = .ok (.iload 4, 2) := by decide +kernel
theorem dX1_shell_18 : decode cX1_shell 18 = .ok (.sipush 216, 3) := by decide +kernel
theorem dX1_shell_21 : decode cX1_shell 21 = .ok (.if_icmp .ge 164, 3) := by decide +kernel
theorem dX1_shell_24 : decode cX1_shell 24 = .ok (.iload 4, 2) := by decide +kernel
theorem dX1_shell_26 : decode cX1_shell 26 = .ok (.bipush 6, 2) := by decide +kernel
theorem dX1_shell_28 : decode cX1_shell 28 = .ok (.irem, 1) := by decide +kernel
theorem dX1_shell_29 : decode cX1_shell 29 = .ok (.iload_n 1, 1) := by decide +kernel
theorem dX1_shell_30 : decode cX1_shell 30 = .ok (.bipush 6, 2) := by decide +kernel
theorem dX1_shell_32 : decode cX1_shell 32 = .ok (.irem, 1) := by decide +kernel
theorem dX1_shell_33 : decode cX1_shell 33 = .ok (.if_icmp .eq 15, 3) := by decide +kernel
theorem dX1_shell_36 : decode cX1_shell 36 = .ok (.iload 4, 2) := by decide +kernel
theorem dX1_shell_38 : decode cX1_shell 38 = .ok (.bipush 6, 2) := by decide +kernel
theorem dX1_shell_40 : decode cX1_shell 40 = .ok (.irem, 1) := by decide +kernel
theorem dX1_shell_41 : decode cX1_shell 41 = .ok (.iload_n 2, 1) := by decide +kernel
theorem dX1_shell_42 : decode cX1_shell 42 = .ok (.bipush 6, 2) := by decide +kernel
theorem dX1_shell_44 : decode cX1_shell 44 = .ok (.irem, 1) := by decide +kernel
theorem dX1_shell_45 : decode cX1_shell 45 = .ok (.if_icmp .ne 7, 3) := by decide +kernel
theorem dX1_shell_48 : decode cX1_shell 48 = .ok (.iconst 1, 1) := by decide +kernel
theorem dX1_shell_49 : decode cX1_shell 49 = .ok (.goto 4, 3) := by decide +kernel
theorem dX1_shell_52 : decode cX1_shell 52 = .ok (.iconst 0, 1) := by decide +kernel
theorem dX1_shell_53 : decode cX1_shell 53 = .ok (.istore 5, 2) := by decide +kernel
theorem dX1_shell_55 : decode cX1_shell 55 = .ok (.iload 4, 2) := by decide +kernel
theorem dX1_shell_57 : decode cX1_shell 57 = .ok (.bipush 6, 2) := by decide +kernel
theorem dX1_shell_59 : decode cX1_shell 59 = .ok (.idiv, 1) := by decide +kernel
theorem dX1_shell_60 : decode cX1_shell 60 = .ok (.bipush 6, 2) := by decide +kernel
theorem dX1_shell_62 : decode cX1_shell 62 = .ok (.irem, 1) := by decide +kernel
theorem dX1_shell_63 : decode cX1_shell 63 = .ok (.iload_n 1, 1) := by decide +kernel
theorem dX1_shell_64 : decode cX1_shell 64 = .ok (.bipush 6, 2) := by decide +kernel
theorem dX1_shell_66 : decode cX1_shell 66 = .ok (.idiv, 1) := by decide +kernel
theorem dX1_shell_67 : decode cX1_shell 67 = .ok (.bipush 6, 2) := by decide +kernel
theorem dX1_shell_69 : decode cX1_shell 69 = .ok (.irem, 1) := by decide +kernel
theorem dX1_shell_70 : decode cX1_shell 70 = .ok (.if_icmp .eq 21, 3) := by decide +kernel
theorem dX1_shell_73 : decode cX1_shell 73 = .ok (.iload 4, 2) := by decide +kernel
theorem dX1_shell_75 : decode cX1_shell 75 = .ok (.bipush 6, 2) := by decide +kernel
theorem dX1_shell_77 : decode cX1_shell 77 = .ok (.idiv, 1) := by decide +kernel
theorem dX1_shell_78 : decode cX1_shell 78 = .ok (.bipush 6, 2) := by decide +kernel
theorem dX1_shell_80 : decode cX1_shell 80 = .ok (.irem, 1) := by decide +kernel
theorem dX1_shell_81 : decode cX1_shell 81 = .ok (.iload_n 2, 1) := by decide +kernel
theorem dX1_shell_82 : decode cX1_shell 82 = .ok (.bipush 6, 2) := by decide +kernel
theorem dX1_shell_84 : decode cX1_shell 84 = .ok (.idiv, 1) := by decide +kernel
theorem dX1_shell_85 : decode cX1_shell 85 = .ok (.bipush 6, 2) := by decide +kernel
theorem dX1_shell_87 : decode cX1_shell 87 = .ok (.irem, 1) := by decide +kernel
theorem dX1_shell_88 : decode cX1_shell 88 = .ok (.if_icmp .ne 7, 3) := by decide +kernel
theorem dX1_shell_91 : decode cX1_shell 91 = .ok (.iconst 1, 1) := by decide +kernel
theorem dX1_shell_92 : decode cX1_shell 92 = .ok (.goto 4, 3) := by decide +kernel
theorem dX1_shell_95 : decode cX1_shell 95 = .ok (.iconst 0, 1) := by decide +kernel
theorem dX1_shell_96 : decode cX1_shell 96 = .ok (.istore 6, 2) := by decide +kernel
theorem dX1_shell_98 : decode cX1_shell 98 = .ok (.iload 4, 2) := by decide +kernel
theorem dX1_shell_100 : decode cX1_shell 100 = .ok (.bipush 36, 2) := by decide +kernel
theorem dX1_shell_102 : decode cX1_shell 102 = .ok (.idiv, 1) := by decide +kernel
theorem dX1_shell_103 : decode cX1_shell 103 = .ok (.iload_n 1, 1) := by decide +kernel
theorem dX1_shell_104 : decode cX1_shell 104 = .ok (.bipush 36, 2) := by decide +kernel
theorem dX1_shell_106 : decode cX1_shell 106 = .ok (.idiv, 1) := by decide +kernel
theorem dX1_shell_107 : decode cX1_shell 107 = .ok (.if_icmp .eq 15, 3) := by decide +kernel
theorem dX1_shell_110 : decode cX1_shell 110 = .ok (.iload 4, 2) := by decide +kernel
theorem dX1_shell_112 : decode cX1_shell 112 = .ok (.bipush 36, 2) := by decide +kernel
theorem dX1_shell_114 : decode cX1_shell 114 = .ok (.idiv, 1) := by decide +kernel
theorem dX1_shell_115 : decode cX1_shell 115 = .ok (.iload_n 2, 1) := by decide +kernel
theorem dX1_shell_116 : decode cX1_shell 116 = .ok (.bipush 36, 2) := by decide +kernel
theorem dX1_shell_118 : decode cX1_shell 118 = .ok (.idiv, 1) := by decide +kernel
theorem dX1_shell_119 : decode cX1_shell 119 = .ok (.if_icmp .ne 7, 3) := by decide +kernel
theorem dX1_shell_122 : decode cX1_shell 122 = .ok (.iconst 1, 1) := by decide +kernel
theorem dX1_shell_123 : decode cX1_shell 123 = .ok (.goto 4, 3) := by decide +kernel
theorem dX1_shell_126 : decode cX1_shell 126 = .ok (.iconst 0, 1) := by decide +kernel
theorem dX1_shell_127 : decode cX1_shell 127 = .ok (.istore 7, 2) := by decide +kernel
theorem dX1_shell_129 : decode cX1_shell 129 = .ok (.aload_n 0, 1) := by decide +kernel
theorem dX1_shell_130 : decode cX1_shell 130 = .ok (.iload 4, 2) := by decide +kernel
theorem dX1_shell_132 : decode cX1_shell 132 = .ok (.iload_n 1, 1) := by decide +kernel
theorem dX1_shell_133 : decode cX1_shell 133 = .ok (.iload_n 2, 1) := by decide +kernel
theorem dX1_shell_134 : decode cX1_shell 134 = .ok (.invokevirtual 37, 3) := by decide +kernel
theorem dX1_shell_137 : decode cX1_shell 137 = .ok (.ifCond .eq 42, 3) := by decide +kernel
theorem dX1_shell_140 : decode cX1_shell 140 = .ok (.aload_n 0, 1) := by decide +kernel
theorem dX1_shell_141 : decode cX1_shell 141 = .ok (.getfield 7, 3) := by decide +kernel
theorem dX1_shell_144 : decode cX1_shell 144 = .ok (.iload 4, 2) := by decide +kernel
theorem dX1_shell_146 : decode cX1_shell 146 = .ok (.baload, 1) := by decide +kernel
theorem dX1_shell_147 : decode cX1_shell 147 = .ok (.ifCond .ne 32, 3) := by decide +kernel
theorem dX1_shell_150 : decode cX1_shell 150 = .ok (.iload 5, 2) := by decide +kernel
theorem dX1_shell_152 : decode cX1_shell 152 = .ok (.ifCond .ne 16, 3) := by decide +kernel
theorem dX1_shell_155 : decode cX1_shell 155 = .ok (.iload 6, 2) := by decide +kernel
theorem dX1_shell_157 : decode cX1_shell 157 = .ok (.ifCond .ne 11, 3) := by decide +kernel
theorem dX1_shell_160 : decode cX1_shell 160 = .ok (.iload 7, 2) := by decide +kernel
theorem dX1_shell_162 : decode cX1_shell 162 = .ok (.ifCond .ne 6, 3) := by decide +kernel
theorem dX1_shell_165 : decode cX1_shell 165 = .ok (.goto 14, 3) := by decide +kernel
theorem dX1_shell_168 : decode cX1_shell 168 = .ok (.aload_n 0, 1) := by decide +kernel
theorem dX1_shell_169 : decode cX1_shell 169 = .ok (.getfield 7, 3) := by decide +kernel
theorem dX1_shell_172 : decode cX1_shell 172 = .ok (.iload 4, 2) := by decide +kernel
theorem dX1_shell_174 : decode cX1_shell 174 = .ok (.iconst 1, 1) := by decide +kernel
theorem dX1_shell_175 : decode cX1_shell 175 = .ok (.bastore, 1) := by decide +kernel
theorem dX1_shell_176 : decode cX1_shell 176 = .ok (.iinc 3 1, 3) := by decide +kernel
theorem dX1_shell_179 : decode cX1_shell 179 = .ok (.iinc 4 1, 3) := by decide +kernel
theorem dX1_shell_182 : decode cX1_shell 182 = .ok (.goto (-166), 3) := by decide +kernel
theorem dX1_shell_185 : decode cX1_shell 185 = .ok (.iload_n 3, 1) := by decide +kernel
theorem dX1_shell_186 : decode cX1_shell 186 = .ok (.ireturn, 1) := by decide +kernel
abbrev cX1_lamp : ByteArray := prog_3_method_9_code
def yX1_lamp : MethodName := ⟨RX1, "lamp", "(II)I"⟩
theorem dX1_lamp_0 : decode cX1_lamp 0 = .ok (.aload_n 0, 1) := by decide +kernel
theorem dX1_lamp_1 : decode cX1_lamp 1 = .ok (.iload_n 1, 1) := by decide +kernel
theorem dX1_lamp_2 : decode cX1_lamp 2 = .ok (.invokevirtual 29, 3) := by decide +kernel
theorem dX1_lamp_5 : decode cX1_lamp 5 = .ok (.ifCond .eq 5, 3) := by decide +kernel
theorem dX1_lamp_8 : decode cX1_lamp 8 = .ok (.iconst (-1), 1) := by decide +kernel
theorem dX1_lamp_9 : decode cX1_lamp 9 = .ok (.ireturn, 1) := by decide +kernel
theorem dX1_lamp_10 : decode cX1_lamp 10 = .ok (.iload_n 2, 1) := by decide +kernel
theorem dX1_lamp_11 : decode cX1_lamp 11 = .ok (.ifCond .lt 9, 3) := by decide +kernel
theorem dX1_lamp_14 : decode cX1_lamp 14 = .ok (.iload_n 2, 1) := by decide +kernel
theorem dX1_lamp_15 : decode cX1_lamp 15 = .ok (.bipush 12, 2) := by decide +kernel
theorem dX1_lamp_17 : decode cX1_lamp 17 = .ok (.if_icmp .le 6, 3) := by decide +kernel
theorem dX1_lamp_20 : decode cX1_lamp 20 = .ok (.bipush (-2), 2) := by decide +kernel
theorem dX1_lamp_22 : decode cX1_lamp 22 = .ok (.ireturn, 1) := by decide +kernel
theorem dX1_lamp_23 : decode cX1_lamp 23 = .ok (.aload_n 0, 1) := by decide +kernel
theorem dX1_lamp_24 : decode cX1_lamp 24 = .ok (.getfield 13, 3) := by decide +kernel
theorem dX1_lamp_27 : decode cX1_lamp 27 = .ok (.iload_n 1, 1) := by decide +kernel
theorem dX1_lamp_28 : decode cX1_lamp 28 = .ok (.iaload, 1) := by decide +kernel
theorem dX1_lamp_29 : decode cX1_lamp 29 = .ok (.istore_n 3, 1) := by decide +kernel
theorem dX1_lamp_30 : decode cX1_lamp 30 = .ok (.aload_n 0, 1) := by decide +kernel
theorem dX1_lamp_31 : decode cX1_lamp 31 = .ok (.getfield 13, 3) := by decide +kernel
theorem dX1_lamp_34 : decode cX1_lamp 34 = .ok (.iload_n 1, 1) := by decide +kernel
theorem dX1_lamp_35 : decode cX1_lamp 35 = .ok (.iload_n 2, 1) := by decide +kernel
theorem dX1_lamp_36 : decode cX1_lamp 36 = .ok (.iastore, 1) := by decide +kernel
theorem dX1_lamp_37 : decode cX1_lamp 37 = .ok (.iload_n 3, 1) := by decide +kernel
theorem dX1_lamp_38 : decode cX1_lamp 38 = .ok (.ireturn, 1) := by decide +kernel
abbrev cX1_isSolid : ByteArray := prog_3_method_10_code
def yX1_isSolid : MethodName := ⟨RX1, "isSolid", "(I)I"⟩
theorem dX1_isSolid_0 : decode cX1_isSolid 0 = .ok (.aload_n 0, 1) := by decide +kernel
theorem dX1_isSolid_1 : decode cX1_isSolid 1 = .ok (.iload_n 1, 1) := by decide +kernel
theorem dX1_isSolid_2 : decode cX1_isSolid 2 = .ok (.invokevirtual 29, 3) := by decide +kernel
theorem dX1_isSolid_5 : decode cX1_isSolid 5 = .ok (.ifCond .eq 5, 3) := by decide +kernel
theorem dX1_isSolid_8 : decode cX1_isSolid 8 = .ok (.iconst (-1), 1) := by decide +kernel
theorem dX1_isSolid_9 : decode cX1_isSolid 9 = .ok (.ireturn, 1) := by decide +kernel
theorem dX1_isSolid_10 : decode cX1_isSolid 10 = .ok (.aload_n 0, 1) := by decide +kernel
theorem dX1_isSolid_11 : decode cX1_isSolid 11 = .ok (.getfield 7, 3) := by decide +kernel
theorem dX1_isSolid_14 : decode cX1_isSolid 14 = .ok (.iload_n 1, 1) := by decide +kernel
theorem dX1_isSolid_15 : decode cX1_isSolid 15 = .ok (.baload, 1) := by decide +kernel
theorem dX1_isSolid_16 : decode cX1_isSolid 16 = .ok (.ifCond .eq 7, 3) := by decide +kernel
theorem dX1_isSolid_19 : decode cX1_isSolid 19 = .ok (.iconst 1, 1) := by decide +kernel
theorem dX1_isSolid_20 : decode cX1_isSolid 20 = .ok (.goto 4, 3) := by decide +kernel
theorem dX1_isSolid_23 : decode cX1_isSolid 23 = .ok (.iconst 0, 1) := by decide +kernel
theorem dX1_isSolid_24 : decode cX1_isSolid 24 = .ok (.ireturn, 1) := by decide +kernel
abbrev cX1_lamplight : ByteArray := prog_3_method_15_code
def yX1_lamplight : MethodName := ⟨RX1, "lamplight", "(I)I"⟩
theorem dX1_lamplight_0 : decode cX1_lamplight 0 = .ok (.aload_n 0, 1) := by decide +kernel
theorem dX1_lamplight_1 : decode cX1_lamplight 1 = .ok (.iload_n 1, 1) := by decide +kernel
theorem dX1_lamplight_2 : decode cX1_lamplight 2 = .ok (.invokevirtual 29, 3) := by decide +kernel
theorem dX1_lamplight_5 : decode cX1_lamplight 5 = .ok (.ifCond .eq 5, 3) := by decide +kernel
theorem dX1_lamplight_8 : decode cX1_lamplight 8 = .ok (.iconst (-1), 1) := by decide +kernel
theorem dX1_lamplight_9 : decode cX1_lamplight 9 = .ok (.ireturn, 1) := by decide +kernel
theorem dX1_lamplight_10 : decode cX1_lamplight 10 = .ok (.aload_n 0, 1) := by decide +kernel
theorem dX1_lamplight_11 : decode cX1_lamplight 11 = .ok (.invokevirtual 52, 3) := by decide +kernel
theorem dX1_lamplight_14 : decode cX1_lamplight 14 = .ok (.aload_n 0, 1) := by decide +kernel
theorem dX1_lamplight_15 : decode cX1_lamplight 15 = .ok (.getfield 17, 3) := by decide +kernel
theorem dX1_lamplight_18 : decode cX1_lamplight 18 = .ok (.iload_n 1, 1) := by decide +kernel
theorem dX1_lamplight_19 : decode cX1_lamplight 19 = .ok (.iaload, 1) := by decide +kernel
theorem dX1_lamplight_20 : decode cX1_lamplight 20 = .ok (.ireturn, 1) := by decide +kernel
abbrev cX1_shine : ByteArray := prog_3_method_13_code
def yX1_shine : MethodName := ⟨RX1, "shine", "()V"⟩
theorem dX1_shine_0 : decode cX1_shine 0 = .ok (.iconst 0, 1) := by decide +kernel
theorem dX1_shine_1 : decode cX1_shine 1 = .ok (.istore_n 1, 1) := by decide +kernel
theorem dX1_shine_2 : decode cX1_shine 2 = .ok (.iload_n 1, 1) := by decide +kernel
theorem dX1_shine_3 : decode cX1_shine 3 = .ok (.sipush 216, 3) := by decide +kernel
theorem dX1_shine_6 : decode cX1_shine 6 = .ok (.if_icmp .ge 41, 3) := by decide +kernel
theorem dX1_shine_9 : decode cX1_shine 9 = .ok (.aload_n 0, 1) := by decide +kernel
theorem dX1_shine_10 : decode cX1_shine 10 = .ok (.getfield 17, 3) := by decide +kernel
theorem dX1_shine_13 : decode cX1_shine 13 = .ok (.iload_n 1, 1) := by decide +kernel
theorem dX1_shine_14 : decode cX1_shine 14 = .ok (.aload_n 0, 1) := by decide +kernel
theorem dX1_shine_15 : decode cX1_shine 15 = .ok (.getfield 13, 3) := by decide +kernel
theorem dX1_shine_18 : decode cX1_shine 18 = .ok (.iload_n 1, 1) := by decide +kernel
theorem dX1_shine_19 : decode cX1_shine 19 = .ok (.iaload, 1) := by decide +kernel
theorem dX1_shine_20 : decode cX1_shine 20 = .ok (.iastore, 1) := by decide +kernel
theorem dX1_shine_21 : decode cX1_shine 21 = .ok (.aload_n 0, 1) := by decide +kernel
theorem dX1_shine_22 : decode cX1_shine 22 = .ok (.getfield 20, 3) := by decide +kernel
theorem dX1_shine_25 : decode cX1_shine 25 = .ok (.iload_n 1, 1) := by decide +kernel
theorem dX1_shine_26 : decode cX1_shine 26 = .ok (.aload_n 0, 1) := by decide +kernel
theorem dX1_shine_27 : decode cX1_shine 27 = .ok (.iload_n 1, 1) := by decide +kernel
theorem dX1_shine_28 : decode cX1_shine 28 = .ok (.invokevirtual 45, 3) := by decide +kernel
theorem dX1_shine_31 : decode cX1_shine 31 = .ok (.ifCond .eq 8, 3) := by decide +kernel
theorem dX1_shine_34 : decode cX1_shine 34 = .ok (.bipush 8, 2) := by decide +kernel
theorem dX1_shine_36 : decode cX1_shine 36 = .ok (.goto 4, 3) := by decide +kernel
theorem dX1_shine_39 : decode cX1_shine 39 = .ok (.iconst 0, 1) := by decide +kernel
theorem dX1_shine_40 : decode cX1_shine 40 = .ok (.iastore, 1) := by decide +kernel
theorem dX1_shine_41 : decode cX1_shine 41 = .ok (.iinc 1 1, 3) := by decide +kernel
theorem dX1_shine_44 : decode cX1_shine 44 = .ok (.goto (-42), 3) := by decide +kernel
theorem dX1_shine_47 : decode cX1_shine 47 = .ok (.iconst 1, 1) := by decide +kernel
theorem dX1_shine_48 : decode cX1_shine 48 = .ok (.istore_n 1, 1) := by decide +kernel
theorem dX1_shine_49 : decode cX1_shine 49 = .ok (.iconst 0, 1) := by decide +kernel
theorem dX1_shine_50 : decode cX1_shine 50 = .ok (.istore_n 2, 1) := by decide +kernel
theorem dX1_shine_51 : decode cX1_shine 51 = .ok (.iload_n 2, 1) := by decide +kernel
theorem dX1_shine_52 : decode cX1_shine 52 = .ok (.sipush 216, 3) := by decide +kernel
theorem dX1_shine_55 : decode cX1_shine 55 = .ok (.if_icmp .ge 18, 3) := by decide +kernel
theorem dX1_shine_58 : decode cX1_shine 58 = .ok (.iload_n 1, 1) := by decide +kernel
theorem dX1_shine_59 : decode cX1_shine 59 = .ok (.ifCond .eq 14, 3) := by decide +kernel
theorem dX1_shine_62 : decode cX1_shine 62 = .ok (.aload_n 0, 1) := by decide +kernel
theorem dX1_shine_63 : decode cX1_shine 63 = .ok (.invokevirtual 48, 3) := by decide +kernel
theorem dX1_shine_66 : decode cX1_shine 66 = .ok (.istore_n 1, 1) := by decide +kernel
theorem dX1_shine_67 : decode cX1_shine 67 = .ok (.iinc 2 1, 3) := by decide +kernel
theorem dX1_shine_70 : decode cX1_shine 70 = .ok (.goto (-19), 3) := by decide +kernel
theorem dX1_shine_73 : decode cX1_shine 73 = .ok (.return_, 1) := by decide +kernel
end
section
set_option maxRecDepth 100000
abbrev cX1_sees : ByteArray := prog_3_method_11_code
def yX1_sees : MethodName := ⟨RX1, "sees", "(I)Z"⟩
theorem dX1_sees_0 : decode cX1_sees 0 = .ok (.iload_n 1, 1) := by decide +kernel
theorem dX1_sees_1 : decode cX1_sees 1 = .ok (.istore_n 2, 1) := by decide +kernel
theorem dX1_sees_2 : decode cX1_sees 2 = .ok (.iload_n 2, 1) := by decide +kernel
theorem dX1_sees_3 : decode cX1_sees 3 = .ok (.sipush 216, 3) := by decide +kernel
theorem dX1_sees_6 : decode cX1_sees 6 = .ok (.if_icmp .ge 22, 3) := by decide +kernel
theorem dX1_sees_9 : decode cX1_sees 9 = .ok (.aload_n 0, 1) := by decide +kernel
theorem dX1_sees_10 : decode cX1_sees 10 = .ok (.getfield 7, 3) := by decide +kernel
theorem dX1_sees_13 : decode cX1_sees 13 = .ok (.iload_n 2, 1) := by decide +kernel
theorem dX1_sees_14 : decode cX1_sees 14 = .ok (.baload, 1) := by decide +kernel
theorem dX1_sees_15 : decode cX1_sees 15 = .ok (.ifCond .eq 5, 3) := by decide +kernel
theorem dX1_sees_18 : decode cX1_sees 18 = .ok (.iconst 0, 1) := by decide +kernel
theorem dX1_sees_19 : decode cX1_sees 19 = .ok (.ireturn, 1) := by decide +kernel
theorem dX1_sees_20 : decode cX1_sees 20 = .ok (.iload_n 2, 1) := by decide +kernel
theorem dX1_sees_21 : decode cX1_sees 21 = .ok (.bipush 36, 2) := by decide +kernel
theorem dX1_sees_23 : decode cX1_sees 23 = .ok (.iadd, 1) := by decide +kernel
theorem dX1_sees_24 : decode cX1_sees 24 = .ok (.istore_n 2, 1) := by decide +kernel
theorem dX1_sees_25 : decode cX1_sees 25 = .ok (.goto (-23), 3) := by decide +kernel
theorem dX1_sees_28 : decode cX1_sees 28 = .ok (.iconst 1, 1) := by decide +kernel
theorem dX1_sees_29 : decode cX1_sees 29 = .ok (.ireturn, 1) := by decide +kernel
abbrev cX1_flow : ByteArray := prog_3_method_12_code
def yX1_flow : MethodName := ⟨RX1, "flow", "()Z"⟩
theorem dX1_flow_0 : decode cX1_flow 0 = .ok (.iconst 0, 1) := by decide +kernel
theorem dX1_flow_1 : decode cX1_flow 1 = .ok (.istore_n 1, 1) := by decide +kernel
theorem dX1_flow_2 : decode cX1_flow 2 = .ok (.iconst 0, 1) := by decide +kernel
theorem dX1_flow_3 : decode cX1_flow 3 = .ok (.istore_n 2, 1) := by decide +kernel
theorem dX1_flow_4 : decode cX1_flow 4 = .ok (.iload_n 2, 1) := by decide +kernel
theorem dX1_flow_5 : decode cX1_flow 5 = .ok (.sipush 1296, 3) := by decide +kernel
theorem dX1_flow_8 : decode cX1_flow 8 = .ok (.if_icmp .ge 112, 3) := by decide +kernel
theorem dX1_flow_11 : decode cX1_flow 11 = .ok (.iload_n 2, 1) := by decide +kernel
theorem dX1_flow_12 : decode cX1_flow 12 = .ok (.bipush 6, 2) := by decide +kernel
theorem dX1_flow_14 : decode cX1_flow 14 = .ok (.idiv, 1) := by decide +kernel
theorem dX1_flow_15 : decode cX1_flow 15 = .ok (.istore_n 3, 1) := by decide +kernel
theorem dX1_flow_16 : decode cX1_flow 16 = .ok (.aload_n 0, 1) := by decide +kernel
theorem dX1_flow_17 : decode cX1_flow 17 = .ok (.iload_n 3, 1) := by decide +kernel
theorem dX1_flow_18 : decode cX1_flow 18 = .ok (.iload_n 2, 1) := by decide +kernel
theorem dX1_flow_19 : decode cX1_flow 19 = .ok (.bipush 6, 2) := by decide +kernel
theorem dX1_flow_21 : decode cX1_flow 21 = .ok (.irem, 1) := by decide +kernel
theorem dX1_flow_22 : decode cX1_flow 22 = .ok (.invokevirtual 41, 3) := by decide +kernel
theorem dX1_flow_25 : decode cX1_flow 25 = .ok (.istore 4, 2) := by decide +kernel
theorem dX1_flow_27 : decode cX1_flow 27 = .ok (.iload 4, 2) := by decide +kernel
theorem dX1_flow_29 : decode cX1_flow 29 = .ok (.ifCond .lt 85, 3) := by decide +kernel
theorem dX1_flow_32 : decode cX1_flow 32 = .ok (.aload_n 0, 1) := by decide +kernel
theorem dX1_flow_33 : decode cX1_flow 33 = .ok (.getfield 7, 3) := by decide +kernel
theorem dX1_flow_36 : decode cX1_flow 36 = .ok (.iload_n 3, 1) := by decide +kernel
theorem dX1_flow_37 : decode cX1_flow 37 = .ok (.baload, 1) := by decide +kernel
theorem dX1_flow_38 : decode cX1_flow 38 = .ok (.ifCond .eq 6, 3) := by decide +kernel
theorem dX1_flow_41 : decode cX1_flow 41 = .ok (.goto 73, 3) := by decide +kernel
theorem dX1_flow_44 : decode cX1_flow 44 = .ok (.aload_n 0, 1) := by decide +kernel
theorem dX1_flow_45 : decode cX1_flow 45 = .ok (.getfield 17, 3) := by decide +kernel
theorem dX1_flow_48 : decode cX1_flow 48 = .ok (.iload 4, 2) := by decide +kernel
theorem dX1_flow_50 : decode cX1_flow 50 = .ok (.iaload, 1) := by decide +kernel
theorem dX1_flow_51 : decode cX1_flow 51 = .ok (.iconst 1, 1) := by decide +kernel
theorem dX1_flow_52 : decode cX1_flow 52 = .ok (.isub, 1) := by decide +kernel
theorem dX1_flow_53 : decode cX1_flow 53 = .ok (.aload_n 0, 1) := by decide +kernel
theorem dX1_flow_54 : decode cX1_flow 54 = .ok (.getfield 17, 3) := by decide +kernel
theorem dX1_flow_57 : decode cX1_flow 57 = .ok (.iload_n 3, 1) := by decide +kernel
theorem dX1_flow_58 : decode cX1_flow 58 = .ok (.iaload, 1) := by decide +kernel
theorem dX1_flow_59 : decode cX1_flow 59 = .ok (.if_icmp .le 20, 3) := by decide +kernel
theorem dX1_flow_62 : decode cX1_flow 62 = .ok (.aload_n 0, 1) := by decide +kernel
theorem dX1_flow_63 : decode cX1_flow 63 = .ok (.getfield 17, 3) := by decide +kernel
theorem dX1_flow_66 : decode cX1_flow 66 = .ok (.iload_n 3, 1) := by decide +kernel
theorem dX1_flow_67 : decode cX1_flow 67 = .ok (.aload_n 0, 1) := by decide +kernel
theorem dX1_flow_68 : decode cX1_flow 68 = .ok (.getfield 17, 3) := by decide +kernel
theorem dX1_flow_71 : decode cX1_flow 71 = .ok (.iload 4, 2) := by decide +kernel
theorem dX1_flow_73 : decode cX1_flow 73 = .ok (.iaload, 1) := by decide +kernel
theorem dX1_flow_74 : decode cX1_flow 74 = .ok (.iconst 1, 1) := by decide +kernel
theorem dX1_flow_75 : decode cX1_flow 75 = .ok (.isub, 1) := by decide +kernel
theorem dX1_flow_76 : decode cX1_flow 76 = .ok (.iastore, 1) := by decide +kernel
theorem dX1_flow_77 : decode cX1_flow 77 = .ok (.iconst 1, 1) := by decide +kernel
theorem dX1_flow_78 : decode cX1_flow 78 = .ok (.istore_n 1, 1) := by decide +kernel
theorem dX1_flow_79 : decode cX1_flow 79 = .ok (.aload_n 0, 1) := by decide +kernel
theorem dX1_flow_80 : decode cX1_flow 80 = .ok (.getfield 20, 3) := by decide +kernel
theorem dX1_flow_83 : decode cX1_flow 83 = .ok (.iload 4, 2) := by decide +kernel
theorem dX1_flow_85 : decode cX1_flow 85 = .ok (.iaload, 1) := by decide +kernel
theorem dX1_flow_86 : decode cX1_flow 86 = .ok (.iconst 1, 1) := by decide +kernel
theorem dX1_flow_87 : decode cX1_flow 87 = .ok (.isub, 1) := by decide +kernel
theorem dX1_flow_88 : decode cX1_flow 88 = .ok (.aload_n 0, 1) := by decide +kernel
theorem dX1_flow_89 : decode cX1_flow 89 = .ok (.getfield 20, 3) := by decide +kernel
theorem dX1_flow_92 : decode cX1_flow 92 = .ok (.iload_n 3, 1) := by decide +kernel
theorem dX1_flow_93 : decode cX1_flow 93 = .ok (.iaload, 1) := by decide +kernel
theorem dX1_flow_94 : decode cX1_flow 94 = .ok (.if_icmp .le 20, 3) := by decide +kernel
theorem dX1_flow_97 : decode cX1_flow 97 = .ok (.aload_n 0, 1) := by decide +kernel
theorem dX1_flow_98 : decode cX1_flow 98 = .ok (.getfield 20, 3) := by decide +kernel
theorem dX1_flow_101 : decode cX1_flow 101 = .ok (.iload_n 3, 1) := by decide +kernel
theorem dX1_flow_102 : decode cX1_flow 102 = .ok (.aload_n 0, 1) := by decide +kernel
theorem dX1_flow_103 : decode cX1_flow 103 = .ok (.getfield 20, 3) := by decide +kernel
theorem dX1_flow_106 : decode cX1_flow 106 = .ok (.iload 4, 2) := by decide +kernel
theorem dX1_flow_108 : decode cX1_flow 108 = .ok (.iaload, 1) := by decide +kernel
theorem dX1_flow_109 : decode cX1_flow 109 = .ok (.iconst 1, 1) := by decide +kernel
theorem dX1_flow_110 : decode cX1_flow 110 = .ok (.isub, 1) := by decide +kernel
theorem dX1_flow_111 : decode cX1_flow 111 = .ok (.iastore, 1) := by decide +kernel
theorem dX1_flow_112 : decode cX1_flow 112 = .ok (.iconst 1, 1) := by decide +kernel
theorem dX1_flow_113 : decode cX1_flow 113 = .ok (.istore_n 1, 1) := by decide +kernel
theorem dX1_flow_114 : decode cX1_flow 114 = .ok (.iinc 2 1, 3) := by decide +kernel
theorem dX1_flow_117 : decode cX1_flow 117 = .ok (.goto (-113), 3) := by decide +kernel
theorem dX1_flow_120 : decode cX1_flow 120 = .ok (.iload_n 1, 1) := by decide +kernel
theorem dX1_flow_121 : decode cX1_flow 121 = .ok (.ireturn, 1) := by decide +kernel
abbrev cX1_beside : ByteArray := prog_3_method_5_code
def yX1_beside : MethodName := ⟨RX1, "beside", "(II)I"⟩
theorem dX1_beside_0 : decode cX1_beside 0 = .ok (.iload_n 2, 1) := by decide +kernel
theorem dX1_beside_1 : decode cX1_beside 1 = .ok (.ifCond .ne 19, 3) := by decide +kernel
theorem dX1_beside_4 : decode cX1_beside 4 = .ok (.iload_n 1, 1) := by decide +kernel
theorem dX1_beside_5 : decode cX1_beside 5 = .ok (.bipush 6, 2) := by decide +kernel
theorem dX1_beside_7 : decode cX1_beside 7 = .ok (.irem, 1) := by decide +kernel
theorem dX1_beside_8 : decode cX1_beside 8 = .ok (.iconst 5, 1) := by decide +kernel
theorem dX1_beside_9 : decode cX1_beside 9 = .ok (.if_icmp .ge 9, 3) := by decide +kernel
theorem dX1_beside_12 : decode cX1_beside 12 = .ok (.iload_n 1, 1) := by decide +kernel
theorem dX1_beside_13 : decode cX1_beside 13 = .ok (.iconst 1, 1) := by decide +kernel
theorem dX1_beside_14 : decode cX1_beside 14 = .ok (.iadd, 1) := by decide +kernel
theorem dX1_beside_15 : decode cX1_beside 15 = .ok (.goto 4, 3) := by decide +kernel
theorem dX1_beside_18 : decode cX1_beside 18 = .ok (.iconst (-1), 1) := by decide +kernel
theorem dX1_beside_19 : decode cX1_beside 19 = .ok (.ireturn, 1) := by decide +kernel
theorem dX1_beside_20 : decode cX1_beside 20 = .ok (.iload_n 2, 1) := by decide +kernel
theorem dX1_beside_21 : decode cX1_beside 21 = .ok (.iconst 1, 1) := by decide +kernel
theorem dX1_beside_22 : decode cX1_beside 22 = .ok (.if_icmp .ne 18, 3) := by decide +kernel
theorem dX1_beside_25 : decode cX1_beside 25 = .ok (.iload_n 1, 1) := by decide +kernel
theorem dX1_beside_26 : decode cX1_beside 26 = .ok (.bipush 6, 2) := by decide +kernel
theorem dX1_beside_28 : decode cX1_beside 28 = .ok (.irem, 1) := by decide +kernel
theorem dX1_beside_29 : decode cX1_beside 29 = .ok (.ifCond .le 9, 3) := by decide +kernel
theorem dX1_beside_32 : decode cX1_beside 32 = .ok (.iload_n 1, 1) := by decide +kernel
theorem dX1_beside_33 : decode cX1_beside 33 = .ok (.iconst 1, 1) := by decide +kernel
theorem dX1_beside_34 : decode cX1_beside 34 = .ok (.isub, 1) := by decide +kernel
theorem dX1_beside_35 : decode cX1_beside 35 = .ok (.goto 4, 3) := by decide +kernel
theorem dX1_beside_38 : decode cX1_beside 38 = .ok (.iconst (-1), 1) := by decide +kernel
theorem dX1_beside_39 : decode cX1_beside 39 = .ok (.ireturn, 1) := by decide +kernel
theorem dX1_beside_40 : decode cX1_beside 40 = .ok (.iload_n 2, 1) := by decide +kernel
theorem dX1_beside_41 : decode cX1_beside 41 = .ok (.iconst 2, 1) := by decide +kernel
theorem dX1_beside_42 : decode cX1_beside 42 = .ok (.if_icmp .ne 23, 3) := by decide +kernel
theorem dX1_beside_45 : decode cX1_beside 45 = .ok (.iload_n 1, 1) := by decide +kernel
theorem dX1_beside_46 : decode cX1_beside 46 = .ok (.bipush 6, 2) := by decide +kernel
theorem dX1_beside_48 : decode cX1_beside 48 = .ok (.idiv, 1) := by decide +kernel
theorem dX1_beside_49 : decode cX1_beside 49 = .ok (.bipush 6, 2) := by decide +kernel
theorem dX1_beside_51 : decode cX1_beside 51 = .ok (.irem, 1) := by decide +kernel
theorem dX1_beside_52 : decode cX1_beside 52 = .ok (.iconst 5, 1) := by decide +kernel
theorem dX1_beside_53 : decode cX1_beside 53 = .ok (.if_icmp .ge 10, 3) := by decide +kernel
theorem dX1_beside_56 : decode cX1_beside 56 = .ok (.iload_n 1, 1) := by decide +kernel
theorem dX1_beside_57 : decode cX1_beside 57 = .ok (.bipush 6, 2) := by decide +kernel
theorem dX1_beside_59 : decode cX1_beside 59 = .ok (.iadd, 1) := by decide +kernel
theorem dX1_beside_60 : decode cX1_beside 60 = .ok (.goto 4, 3) := by decide +kernel
theorem dX1_beside_63 : decode cX1_beside 63 = .ok (.iconst (-1), 1) := by decide +kernel
theorem dX1_beside_64 : decode cX1_beside 64 = .ok (.ireturn, 1) := by decide +kernel
theorem dX1_beside_65 : decode cX1_beside 65 = .ok (.iload_n 2, 1) := by decide +kernel
theorem dX1_beside_66 : decode cX1_beside 66 = .ok (.iconst 3, 1) := by decide +kernel
theorem dX1_beside_67 : decode cX1_beside 67 = .ok (.if_icmp .ne 22, 3) := by decide +kernel
theorem dX1_beside_70 : decode cX1_beside 70 = .ok (.iload_n 1, 1) := by decide +kernel
theorem dX1_beside_71 : decode cX1_beside 71 = .ok (.bipush 6, 2) := by decide +kernel
theorem dX1_beside_73 : decode cX1_beside 73 = .ok (.idiv, 1) := by decide +kernel
theorem dX1_beside_74 : decode cX1_beside 74 = .ok (.bipush 6, 2) := by decide +kernel
theorem dX1_beside_76 : decode cX1_beside 76 = .ok (.irem, 1) := by decide +kernel
theorem dX1_beside_77 : decode cX1_beside 77 = .ok (.ifCond .le 10, 3) := by decide +kernel
theorem dX1_beside_80 : decode cX1_beside 80 = .ok (.iload_n 1, 1) := by decide +kernel
theorem dX1_beside_81 : decode cX1_beside 81 = .ok (.bipush 6, 2) := by decide +kernel
theorem dX1_beside_83 : decode cX1_beside 83 = .ok (.isub, 1) := by decide +kernel
theorem dX1_beside_84 : decode cX1_beside 84 = .ok (.goto 4, 3) := by decide +kernel
theorem dX1_beside_87 : decode cX1_beside 87 = .ok (.iconst (-1), 1) := by decide +kernel
theorem dX1_beside_88 : decode cX1_beside 88 = .ok (.ireturn, 1) := by decide +kernel
theorem dX1_beside_89 : decode cX1_beside 89 = .ok (.iload_n 2, 1) := by decide +kernel
theorem dX1_beside_90 : decode cX1_beside 90 = .ok (.iconst 4, 1) := by decide +kernel
theorem dX1_beside_91 : decode cX1_beside 91 = .ok (.if_icmp .ne 20, 3) := by decide +kernel
theorem dX1_beside_94 : decode cX1_beside 94 = .ok (.iload_n 1, 1) := by decide +kernel
theorem dX1_beside_95 : decode cX1_beside 95 = .ok (.bipush 36, 2) := by decide +kernel
theorem dX1_beside_97 : decode cX1_beside 97 = .ok (.idiv, 1) := by decide +kernel
theorem dX1_beside_98 : decode cX1_beside 98 = .ok (.iconst 5, 1) := by decide +kernel
theorem dX1_beside_99 : decode cX1_beside 99 = .ok (.if_icmp .ge 10, 3) := by decide +kernel
theorem dX1_beside_102 : decode cX1_beside 102 = .ok (.iload_n 1, 1) := by decide +kernel
theorem dX1_beside_103 : decode cX1_beside 103 = .ok (.bipush 36, 2) := by decide +kernel
theorem dX1_beside_105 : decode cX1_beside 105 = .ok (.iadd, 1) := by decide +kernel
theorem dX1_beside_106 : decode cX1_beside 106 = .ok (.goto 4, 3) := by decide +kernel
theorem dX1_beside_109 : decode cX1_beside 109 = .ok (.iconst (-1), 1) := by decide +kernel
theorem dX1_beside_110 : decode cX1_beside 110 = .ok (.ireturn, 1) := by decide +kernel
theorem dX1_beside_111 : decode cX1_beside 111 = .ok (.iload_n 1, 1) := by decide +kernel
theorem dX1_beside_112 : decode cX1_beside 112 = .ok (.bipush 36, 2) := by decide +kernel
theorem dX1_beside_114 : decode cX1_beside 114 = .ok (.idiv, 1) := by decide +kernel
theorem dX1_beside_115 : decode cX1_beside 115 = .ok (.ifCond .le 10, 3) := by decide +kernel
theorem dX1_beside_118 : decode cX1_beside 118 = .ok (.iload_n 1, 1) := by decide +kernel
theorem dX1_beside_119 : decode cX1_beside 119 = .ok (.bipush 36, 2) := by decide +kernel
theorem dX1_beside_121 : decode cX1_beside 121 = .ok (.isub, 1) := by decide +kernel
theorem dX1_beside_122 : decode cX1_beside 122 = .ok (.goto 4, 3) := by decide +kernel
theorem dX1_beside_125 : decode cX1_beside 125 = .ok (.iconst (-1), 1) := by decide +kernel
theorem dX1_beside_126 : decode cX1_beside 126 = .ok (.ireturn, 1) := by decide +kernel
abbrev cX1_skylight : ByteArray := prog_3_method_16_code
def yX1_skylight : MethodName := ⟨RX1, "skylight", "(I)I"⟩
theorem dX1_skylight_0 : decode cX1_skylight 0 = .ok (.aload_n 0, 1) := by decide +kernel
theorem dX1_skylight_1 : decode cX1_skylight 1 = .ok (.iload_n 1, 1) := by decide +kernel
theorem dX1_skylight_2 : decode cX1_skylight 2 = .ok (.invokevirtual 29, 3) := by decide +kernel
theorem dX1_skylight_5 : decode cX1_skylight 5 = .ok (.ifCond .eq 5, 3) := by decide +kernel
theorem dX1_skylight_8 : decode cX1_skylight 8 = .ok (.iconst (-1), 1) := by decide +kernel
theorem dX1_skylight_9 : decode cX1_skylight 9 = .ok (.ireturn, 1) := by decide +kernel
theorem dX1_skylight_10 : decode cX1_skylight 10 = .ok (.aload_n 0, 1) := by decide +kernel
theorem dX1_skylight_11 : decode cX1_skylight 11 = .ok (.invokevirtual 52, 3) := by decide +kernel
theorem dX1_skylight_14 : decode cX1_skylight 14 = .ok (.aload_n 0, 1) := by decide +kernel
theorem dX1_skylight_15 : decode cX1_skylight 15 = .ok (.getfield 20, 3) := by decide +kernel
theorem dX1_skylight_18 : decode cX1_skylight 18 = .ok (.iload_n 1, 1) := by decide +kernel
theorem dX1_skylight_19 : decode cX1_skylight 19 = .ok (.iaload, 1) := by decide +kernel
theorem dX1_skylight_20 : decode cX1_skylight 20 = .ok (.ireturn, 1) := by decide +kernel
abbrev cX1_lit : ByteArray := prog_3_method_17_code
def yX1_lit : MethodName := ⟨RX1, "lit", "(III)I"⟩
theorem dX1_lit_0 : decode cX1_lit 0 = .ok (.aload_n 0, 1) := by decide +kernel
theorem dX1_lit_1 : decode cX1_lit 1 = .ok (.iload_n 1, 1) := by decide +kernel
theorem dX1_lit_2 : decode cX1_lit 2 = .ok (.iload_n 2, 1) := by decide +kernel
theorem dX1_lit_3 : decode cX1_lit 3 = .ok (.invokevirtual 33, 3) := by decide +kernel
theorem dX1_lit_6 : decode cX1_lit 6 = .ok (.ifCond .eq 5, 3) := by decide +kernel
theorem dX1_lit_9 : decode cX1_lit 9 = .ok (.iconst (-1), 1) := by decide +kernel
theorem dX1_lit_10 : decode cX1_lit 10 = .ok (.ireturn, 1) := by decide +kernel
theorem dX1_lit_11 : decode cX1_lit 11 = .ok (.aload_n 0, 1) := by decide +kernel
theorem dX1_lit_12 : decode cX1_lit 12 = .ok (.invokevirtual 52, 3) := by decide +kernel
theorem dX1_lit_15 : decode cX1_lit 15 = .ok (.iconst 0, 1) := by decide +kernel
theorem dX1_lit_16 : decode cX1_lit 16 = .ok (.istore 4, 2) := by decide +kernel
theorem dX1_lit_18 : decode cX1_lit 18 = .ok (.iconst 0, 1) := by decide +kernel
theorem dX1_lit_19 : decode cX1_lit 19 = .ok (.istore 5, 2) := by decide +kernel
theorem dX1_lit_21 : decode cX1_lit 21 = .ok (.iload 5, 2) := by decide +kernel
theorem dX1_lit_23 : decode cX1_lit 23 = .ok (.sipush 216, 3) := by decide +kernel
theorem dX1_lit_26 : decode cX1_lit 26 = .ok (.if_icmp .ge 33, 3) := by decide +kernel
theorem dX1_lit_29 : decode cX1_lit 29 = .ok (.aload_n 0, 1) := by decide +kernel
theorem dX1_lit_30 : decode cX1_lit 30 = .ok (.iload 5, 2) := by decide +kernel
theorem dX1_lit_32 : decode cX1_lit 32 = .ok (.iload_n 1, 1) := by decide +kernel
theorem dX1_lit_33 : decode cX1_lit 33 = .ok (.iload_n 2, 1) := by decide +kernel
theorem dX1_lit_34 : decode cX1_lit 34 = .ok (.invokevirtual 37, 3) := by decide +kernel
theorem dX1_lit_37 : decode cX1_lit 37 = .ok (.ifCond .eq 16, 3) := by decide +kernel
theorem dX1_lit_40 : decode cX1_lit 40 = .ok (.aload_n 0, 1) := by decide +kernel
theorem dX1_lit_41 : decode cX1_lit 41 = .ok (.iload 5, 2) := by decide +kernel
theorem dX1_lit_43 : decode cX1_lit 43 = .ok (.invokevirtual 55, 3) := by decide +kernel
theorem dX1_lit_46 : decode cX1_lit 46 = .ok (.iload_n 3, 1) := by decide +kernel
theorem dX1_lit_47 : decode cX1_lit 47 = .ok (.if_icmp .lt 6, 3) := by decide +kernel
theorem dX1_lit_50 : decode cX1_lit 50 = .ok (.iinc 4 1, 3) := by decide +kernel
theorem dX1_lit_53 : decode cX1_lit 53 = .ok (.iinc 5 1, 3) := by decide +kernel
theorem dX1_lit_56 : decode cX1_lit 56 = .ok (.goto (-35), 3) := by decide +kernel
theorem dX1_lit_59 : decode cX1_lit 59 = .ok (.iload 4, 2) := by decide +kernel
theorem dX1_lit_61 : decode cX1_lit 61 = .ok (.ireturn, 1) := by decide +kernel
abbrev cX1_light : ByteArray := prog_3_method_14_code
def yX1_light : MethodName := ⟨RX1, "light", "(I)I"⟩
theorem dX1_light_0 : decode cX1_light 0 = .ok (.aload_n 0, 1) := by decide +kernel
theorem dX1_light_1 : decode cX1_light 1 = .ok (.getfield 17, 3) := by decide +kernel
theorem dX1_light_4 : decode cX1_light 4 = .ok (.iload_n 1, 1) := by decide +kernel
theorem dX1_light_5 : decode cX1_light 5 = .ok (.iaload, 1) := by decide +kernel
theorem dX1_light_6 : decode cX1_light 6 = .ok (.aload_n 0, 1) := by decide +kernel
theorem dX1_light_7 : decode cX1_light 7 = .ok (.getfield 20, 3) := by decide +kernel
theorem dX1_light_10 : decode cX1_light 10 = .ok (.iload_n 1, 1) := by decide +kernel
theorem dX1_light_11 : decode cX1_light 11 = .ok (.iaload, 1) := by decide +kernel
theorem dX1_light_12 : decode cX1_light 12 = .ok (.if_icmp .le 12, 3) := by decide +kernel
theorem dX1_light_15 : decode cX1_light 15 = .ok (.aload_n 0, 1) := by decide +kernel
theorem dX1_light_16 : decode cX1_light 16 = .ok (.getfield 17, 3) := by decide +kernel
theorem dX1_light_19 : decode cX1_light 19 = .ok (.iload_n 1, 1) := by decide +kernel
theorem dX1_light_20 : decode cX1_light 20 = .ok (.iaload, 1) := by decide +kernel
theorem dX1_light_21 : decode cX1_light 21 = .ok (.goto 9, 3) := by decide +kernel
theorem dX1_light_24 : decode cX1_light 24 = .ok (.aload_n 0, 1) := by decide +kernel
theorem dX1_light_25 : decode cX1_light 25 = .ok (.getfield 20, 3) := by decide +kernel
theorem dX1_light_28 : decode cX1_light 28 = .ok (.iload_n 1, 1) := by decide +kernel
theorem dX1_light_29 : decode cX1_light 29 = .ok (.iaload, 1) := by decide +kernel
theorem dX1_light_30 : decode cX1_light 30 = .ok (.ireturn, 1) := by decide +kernel
abbrev cX1_dim : ByteArray := prog_3_method_18_code
def yX1_dim : MethodName := ⟨RX1, "dim", "(I)I"⟩
theorem dX1_dim_0 : decode cX1_dim 0 = .ok (.iload_n 1, 1) := by decide +kernel
theorem dX1_dim_1 : decode cX1_dim 1 = .ok (.ifCond .lt 9, 3) := by decide +kernel
theorem dX1_dim_4 : decode cX1_dim 4 = .ok (.iload_n 1, 1) := by decide +kernel
theorem dX1_dim_5 : decode cX1_dim 5 = .ok (.bipush 12, 2) := by decide +kernel
theorem dX1_dim_7 : decode cX1_dim 7 = .ok (.if_icmp .le 5, 3) := by decide +kernel
theorem dX1_dim_10 : decode cX1_dim 10 = .ok (.iconst (-1), 1) := by decide +kernel
theorem dX1_dim_11 : decode cX1_dim 11 = .ok (.ireturn, 1) := by decide +kernel
theorem dX1_dim_12 : decode cX1_dim 12 = .ok (.aload_n 0, 1) := by decide +kernel
theorem dX1_dim_13 : decode cX1_dim 13 = .ok (.invokevirtual 52, 3) := by decide +kernel
theorem dX1_dim_16 : decode cX1_dim 16 = .ok (.iconst 0, 1) := by decide +kernel
theorem dX1_dim_17 : decode cX1_dim 17 = .ok (.istore_n 2, 1) := by decide +kernel
theorem dX1_dim_18 : decode cX1_dim 18 = .ok (.iconst 0, 1) := by decide +kernel
theorem dX1_dim_19 : decode cX1_dim 19 = .ok (.istore_n 3, 1) := by decide +kernel
theorem dX1_dim_20 : decode cX1_dim 20 = .ok (.iload_n 3, 1) := by decide +kernel
theorem dX1_dim_21 : decode cX1_dim 21 = .ok (.sipush 216, 3) := by decide +kernel
theorem dX1_dim_24 : decode cX1_dim 24 = .ok (.if_icmp .ge 30, 3) := by decide +kernel
theorem dX1_dim_27 : decode cX1_dim 27 = .ok (.aload_n 0, 1) := by decide +kernel
theorem dX1_dim_28 : decode cX1_dim 28 = .ok (.getfield 7, 3) := by decide +kernel
theorem dX1_dim_31 : decode cX1_dim 31 = .ok (.iload_n 3, 1) := by decide +kernel
theorem dX1_dim_32 : decode cX1_dim 32 = .ok (.baload, 1) := by decide +kernel
theorem dX1_dim_33 : decode cX1_dim 33 = .ok (.ifCond .ne 15, 3) := by decide +kernel
theorem dX1_dim_36 : decode cX1_dim 36 = .ok (.aload_n 0, 1) := by decide +kernel
theorem dX1_dim_37 : decode cX1_dim 37 = .ok (.iload_n 3, 1) := by decide +kernel
theorem dX1_dim_38 : decode cX1_dim 38 = .ok (.invokevirtual 55, 3) := by decide +kernel
theorem dX1_dim_41 : decode cX1_dim 41 = .ok (.iload_n 1, 1) := by decide +kernel
theorem dX1_dim_42 : decode cX1_dim 42 = .ok (.if_icmp .ne 6, 3) := by decide +kernel
theorem dX1_dim_45 : decode cX1_dim 45 = .ok (.iinc 2 1, 3) := by decide +kernel
theorem dX1_dim_48 : decode cX1_dim 48 = .ok (.iinc 3 1, 3) := by decide +kernel
theorem dX1_dim_51 : decode cX1_dim 51 = .ok (.goto (-31), 3) := by decide +kernel
theorem dX1_dim_54 : decode cX1_dim 54 = .ok (.iload_n 2, 1) := by decide +kernel
theorem dX1_dim_55 : decode cX1_dim 55 = .ok (.ireturn, 1) := by decide +kernel
abbrev cX1_darkest : ByteArray := prog_3_method_19_code
def yX1_darkest : MethodName := ⟨RX1, "darkest", "()I"⟩
theorem dX1_darkest_0 : decode cX1_darkest 0 = .ok (.aload_n 0, 1) := by decide +kernel
theorem dX1_darkest_1 : decode cX1_darkest 1 = .ok (.invokevirtual 52, 3) := by decide +kernel
theorem dX1_darkest_4 : decode cX1_darkest 4 = .ok (.iconst (-1), 1) := by decide +kernel
theorem dX1_darkest_5 : decode cX1_darkest 5 = .ok (.istore_n 1, 1) := by decide +kernel
theorem dX1_darkest_6 : decode cX1_darkest 6 = .ok (.iconst 0, 1) := by decide +kernel
theorem dX1_darkest_7 : decode cX1_darkest 7 = .ok (.istore_n 2, 1) := by decide +kernel
theorem dX1_darkest_8 : decode cX1_darkest 8 = .ok (.iload_n 2, 1) := by decide +kernel
theorem dX1_darkest_9 : decode cX1_darkest 9 = .ok (.sipush 216, 3) := by decide +kernel
theorem dX1_darkest_12 : decode cX1_darkest 12 = .ok (.if_icmp .ge 37, 3) := by decide +kernel
theorem dX1_darkest_15 : decode cX1_darkest 15 = .ok (.aload_n 0, 1) := by decide +kernel
theorem dX1_darkest_16 : decode cX1_darkest 16 = .ok (.getfield 7, 3) := by decide +kernel
theorem dX1_darkest_19 : decode cX1_darkest 19 = .ok (.iload_n 2, 1) := by decide +kernel
theorem dX1_darkest_20 : decode cX1_darkest 20 = .ok (.baload, 1) := by decide +kernel
theorem dX1_darkest_21 : decode cX1_darkest 21 = .ok (.ifCond .ne 22, 3) := by decide +kernel
theorem dX1_darkest_24 : decode cX1_darkest 24 = .ok (.iload_n 1, 1) := by decide +kernel
theorem dX1_darkest_25 : decode cX1_darkest 25 = .ok (.ifCond .lt 16, 3) := by decide +kernel
theorem dX1_darkest_28 : decode cX1_darkest 28 = .ok (.aload_n 0, 1) := by decide +kernel
theorem dX1_darkest_29 : decode cX1_darkest 29 = .ok (.iload_n 2, 1) := by decide +kernel
theorem dX1_darkest_30 : decode cX1_darkest 30 = .ok (.invokevirtual 55, 3) := by decide +kernel
theorem dX1_darkest_33 : decode cX1_darkest 33 = .ok (.aload_n 0, 1) := by decide +kernel
theorem dX1_darkest_34 : decode cX1_darkest 34 = .ok (.iload_n 1, 1) := by decide +kernel
theorem dX1_darkest_35 : decode cX1_darkest 35 = .ok (.invokevirtual 55, 3) := by decide +kernel
theorem dX1_darkest_38 : decode cX1_darkest 38 = .ok (.if_icmp .ge 5, 3) := by decide +kernel
theorem dX1_darkest_41 : decode cX1_darkest 41 = .ok (.iload_n 2, 1) := by decide +kernel
theorem dX1_darkest_42 : decode cX1_darkest 42 = .ok (.istore_n 1, 1) := by decide +kernel
theorem dX1_darkest_43 : decode cX1_darkest 43 = .ok (.iinc 2 1, 3) := by decide +kernel
theorem dX1_darkest_46 : decode cX1_darkest 46 = .ok (.goto (-38), 3) := by decide +kernel
theorem dX1_darkest_49 : decode cX1_darkest 49 = .ok (.iload_n 1, 1) := by decide +kernel
theorem dX1_darkest_50 : decode cX1_darkest 50 = .ok (.ireturn, 1) := by decide +kernel
abbrev cX1_faces : ByteArray := prog_3_method_20_code
def yX1_faces : MethodName := ⟨RX1, "faces", "()I"⟩
theorem dX1_faces_0 : decode cX1_faces 0 = .ok (.iconst 0, 1) := by decide +kernel
theorem dX1_faces_1 : decode cX1_faces 1 = .ok (.istore_n 1, 1) := by decide +kernel
theorem dX1_faces_2 : decode cX1_faces 2 = .ok (.iconst 0, 1) := by decide +kernel
theorem dX1_faces_3 : decode cX1_faces 3 = .ok (.istore_n 2, 1) := by decide +kernel
theorem dX1_faces_4 : decode cX1_faces 4 = .ok (.iload_n 2, 1) := by decide +kernel
theorem dX1_faces_5 : decode cX1_faces 5 = .ok (.sipush 1296, 3) := by decide +kernel
theorem dX1_faces_8 : decode cX1_faces 8 = .ok (.if_icmp .ge 50, 3) := by decide +kernel
theorem dX1_faces_11 : decode cX1_faces 11 = .ok (.aload_n 0, 1) := by decide +kernel
theorem dX1_faces_12 : decode cX1_faces 12 = .ok (.iload_n 2, 1) := by decide +kernel
theorem dX1_faces_13 : decode cX1_faces 13 = .ok (.bipush 6, 2) := by decide +kernel
theorem dX1_faces_15 : decode cX1_faces 15 = .ok (.idiv, 1) := by decide +kernel
theorem dX1_faces_16 : decode cX1_faces 16 = .ok (.iload_n 2, 1) := by decide +kernel
theorem dX1_faces_17 : decode cX1_faces 17 = .ok (.bipush 6, 2) := by decide +kernel
theorem dX1_faces_19 : decode cX1_faces 19 = .ok (.irem, 1) := by decide +kernel
theorem dX1_faces_20 : decode cX1_faces 20 = .ok (.invokevirtual 41, 3) := by decide +kernel
theorem dX1_faces_23 : decode cX1_faces 23 = .ok (.istore_n 3, 1) := by decide +kernel
theorem dX1_faces_24 : decode cX1_faces 24 = .ok (.aload_n 0, 1) := by decide +kernel
theorem dX1_faces_25 : decode cX1_faces 25 = .ok (.getfield 7, 3) := by decide +kernel
theorem dX1_faces_28 : decode cX1_faces 28 = .ok (.iload_n 2, 1) := by decide +kernel
theorem dX1_faces_29 : decode cX1_faces 29 = .ok (.bipush 6, 2) := by decide +kernel
theorem dX1_faces_31 : decode cX1_faces 31 = .ok (.idiv, 1) := by decide +kernel
theorem dX1_faces_32 : decode cX1_faces 32 = .ok (.baload, 1) := by decide +kernel
theorem dX1_faces_33 : decode cX1_faces 33 = .ok (.ifCond .eq 19, 3) := by decide +kernel
theorem dX1_faces_36 : decode cX1_faces 36 = .ok (.iload_n 3, 1) := by decide +kernel
theorem dX1_faces_37 : decode cX1_faces 37 = .ok (.ifCond .lt 12, 3) := by decide +kernel
theorem dX1_faces_40 : decode cX1_faces 40 = .ok (.aload_n 0, 1) := by decide +kernel
theorem dX1_faces_41 : decode cX1_faces 41 = .ok (.getfield 7, 3) := by decide +kernel
theorem dX1_faces_44 : decode cX1_faces 44 = .ok (.iload_n 3, 1) := by decide +kernel
theorem dX1_faces_45 : decode cX1_faces 45 = .ok (.baload, 1) := by decide +kernel
theorem dX1_faces_46 : decode cX1_faces 46 = .ok (.ifCond .ne 6, 3) := by decide +kernel
theorem dX1_faces_49 : decode cX1_faces 49 = .ok (.iinc 1 1, 3) := by decide +kernel
theorem dX1_faces_52 : decode cX1_faces 52 = .ok (.iinc 2 1, 3) := by decide +kernel
theorem dX1_faces_55 : decode cX1_faces 55 = .ok (.goto (-51), 3) := by decide +kernel
theorem dX1_faces_58 : decode cX1_faces 58 = .ok (.iload_n 1, 1) := by decide +kernel
theorem dX1_faces_59 : decode cX1_faces 59 = .ok (.ireturn, 1) := by decide +kernel
abbrev cX1_shady : ByteArray := prog_3_method_21_code
def yX1_shady : MethodName := ⟨RX1, "shady", "(I)I"⟩
theorem dX1_shady_0 : decode cX1_shady 0 = .ok (.aload_n 0, 1) := by decide +kernel
theorem dX1_shady_1 : decode cX1_shady 1 = .ok (.invokevirtual 52, 3) := by decide +kernel
theorem dX1_shady_4 : decode cX1_shady 4 = .ok (.iconst 0, 1) := by decide +kernel
theorem dX1_shady_5 : decode cX1_shady 5 = .ok (.istore_n 2, 1) := by decide +kernel
theorem dX1_shady_6 : decode cX1_shady 6 = .ok (.bipush 36, 2) := by decide +kernel
theorem dX1_shady_8 : decode cX1_shady 8 = .ok (.istore_n 3, 1) := by decide +kernel
theorem dX1_shady_9 : decode cX1_shady 9 = .ok (.iload_n 3, 1) := by decide +kernel
theorem dX1_shady_10 : decode cX1_shady 10 = .ok (.sipush 216, 3) := by decide +kernel
theorem dX1_shady_13 : decode cX1_shady 13 = .ok (.if_icmp .ge 42, 3) := by decide +kernel
theorem dX1_shady_16 : decode cX1_shady 16 = .ok (.aload_n 0, 1) := by decide +kernel
theorem dX1_shady_17 : decode cX1_shady 17 = .ok (.getfield 7, 3) := by decide +kernel
theorem dX1_shady_20 : decode cX1_shady 20 = .ok (.iload_n 3, 1) := by decide +kernel
theorem dX1_shady_21 : decode cX1_shady 21 = .ok (.baload, 1) := by decide +kernel
theorem dX1_shady_22 : decode cX1_shady 22 = .ok (.ifCond .ne 27, 3) := by decide +kernel
theorem dX1_shady_25 : decode cX1_shady 25 = .ok (.aload_n 0, 1) := by decide +kernel
theorem dX1_shady_26 : decode cX1_shady 26 = .ok (.getfield 7, 3) := by decide +kernel
theorem dX1_shady_29 : decode cX1_shady 29 = .ok (.iload_n 3, 1) := by decide +kernel
theorem dX1_shady_30 : decode cX1_shady 30 = .ok (.bipush 36, 2) := by decide +kernel
theorem dX1_shady_32 : decode cX1_shady 32 = .ok (.isub, 1) := by decide +kernel
theorem dX1_shady_33 : decode cX1_shady 33 = .ok (.baload, 1) := by decide +kernel
theorem dX1_shady_34 : decode cX1_shady 34 = .ok (.ifCond .eq 15, 3) := by decide +kernel
theorem dX1_shady_37 : decode cX1_shady 37 = .ok (.aload_n 0, 1) := by decide +kernel
theorem dX1_shady_38 : decode cX1_shady 38 = .ok (.iload_n 3, 1) := by decide +kernel
theorem dX1_shady_39 : decode cX1_shady 39 = .ok (.invokevirtual 55, 3) := by decide +kernel
theorem dX1_shady_42 : decode cX1_shady 42 = .ok (.iload_n 1, 1) := by decide +kernel
theorem dX1_shady_43 : decode cX1_shady 43 = .ok (.if_icmp .gt 6, 3) := by decide +kernel
theorem dX1_shady_46 : decode cX1_shady 46 = .ok (.iinc 2 1, 3) := by decide +kernel
theorem dX1_shady_49 : decode cX1_shady 49 = .ok (.iinc 3 1, 3) := by decide +kernel
theorem dX1_shady_52 : decode cX1_shady 52 = .ok (.goto (-43), 3) := by decide +kernel
theorem dX1_shady_55 : decode cX1_shady 55 = .ok (.iload_n 2, 1) := by decide +kernel
theorem dX1_shady_56 : decode cX1_shady 56 = .ok (.ireturn, 1) := by decide +kernel
abbrev cX1_open : ByteArray := prog_3_method_22_code
def yX1_open : MethodName := ⟨RX1, "open", "()I"⟩
theorem dX1_open_0 : decode cX1_open 0 = .ok (.iconst 0, 1) := by decide +kernel
theorem dX1_open_1 : decode cX1_open 1 = .ok (.istore_n 1, 1) := by decide +kernel
theorem dX1_open_2 : decode cX1_open 2 = .ok (.iconst 0, 1) := by decide +kernel
theorem dX1_open_3 : decode cX1_open 3 = .ok (.istore_n 2, 1) := by decide +kernel
theorem dX1_open_4 : decode cX1_open 4 = .ok (.iload_n 2, 1) := by decide +kernel
theorem dX1_open_5 : decode cX1_open 5 = .ok (.sipush 216, 3) := by decide +kernel
theorem dX1_open_8 : decode cX1_open 8 = .ok (.if_icmp .ge 20, 3) := by decide +kernel
theorem dX1_open_11 : decode cX1_open 11 = .ok (.aload_n 0, 1) := by decide +kernel
theorem dX1_open_12 : decode cX1_open 12 = .ok (.iload_n 2, 1) := by decide +kernel
theorem dX1_open_13 : decode cX1_open 13 = .ok (.invokevirtual 45, 3) := by decide +kernel
theorem dX1_open_16 : decode cX1_open 16 = .ok (.ifCond .eq 6, 3) := by decide +kernel
theorem dX1_open_19 : decode cX1_open 19 = .ok (.iinc 1 1, 3) := by decide +kernel
theorem dX1_open_22 : decode cX1_open 22 = .ok (.iinc 2 1, 3) := by decide +kernel
theorem dX1_open_25 : decode cX1_open 25 = .ok (.goto (-21), 3) := by decide +kernel
theorem dX1_open_28 : decode cX1_open 28 = .ok (.iload_n 1, 1) := by decide +kernel
theorem dX1_open_29 : decode cX1_open 29 = .ok (.ireturn, 1) := by decide +kernel
abbrev cX1_serves : ByteArray := prog_3_method_23_code
def yX1_serves : MethodName := ⟨RX1, "serves", "(I)I"⟩
theorem dX1_serves_0 : decode cX1_serves 0 = .ok (.aload_n 0, 1) := by decide +kernel
theorem dX1_serves_1 : decode cX1_serves 1 = .ok (.iload_n 1, 1) := by decide +kernel
theorem dX1_serves_2 : decode cX1_serves 2 = .ok (.invokevirtual 29, 3) := by decide +kernel
theorem dX1_serves_5 : decode cX1_serves 5 = .ok (.ifCond .eq 5, 3) := by decide +kernel
theorem dX1_serves_8 : decode cX1_serves 8 = .ok (.iconst (-1), 1) := by decide +kernel
theorem dX1_serves_9 : decode cX1_serves 9 = .ok (.ireturn, 1) := by decide +kernel
theorem dX1_serves_10 : decode cX1_serves 10 = .ok (.aload_n 0, 1) := by decide +kernel
theorem dX1_serves_11 : decode cX1_serves 11 = .ok (.invokevirtual 52, 3) := by decide +kernel
theorem dX1_serves_14 : decode cX1_serves 14 = .ok (.iconst 0, 1) := by decide +kernel
theorem dX1_serves_15 : decode cX1_serves 15 = .ok (.istore_n 2, 1) := by decide +kernel
theorem dX1_serves_16 : decode cX1_serves 16 = .ok (.iload_n 2, 1) := by decide +kernel
theorem dX1_serves_17 : decode cX1_serves 17 = .ok (.sipush 216, 3) := by decide +kernel
theorem dX1_serves_20 : decode cX1_serves 20 = .ok (.if_icmp .ge 20, 3) := by decide +kernel
theorem dX1_serves_23 : decode cX1_serves 23 = .ok (.aload_n 0, 1) := by decide +kernel
theorem dX1_serves_24 : decode cX1_serves 24 = .ok (.getfield 26, 3) := by decide +kernel
theorem dX1_serves_27 : decode cX1_serves 27 = .ok (.iload_n 2, 1) := by decide +kernel
theorem dX1_serves_28 : decode cX1_serves 28 = .ok (.aload_n 0, 1) := by decide +kernel
theorem dX1_serves_29 : decode cX1_serves 29 = .ok (.iload_n 2, 1) := by decide +kernel
theorem dX1_serves_30 : decode cX1_serves 30 = .ok (.invokevirtual 55, 3) := by decide +kernel
theorem dX1_serves_33 : decode cX1_serves 33 = .ok (.iastore, 1) := by decide +kernel
theorem dX1_serves_34 : decode cX1_serves 34 = .ok (.iinc 2 1, 3) := by decide +kernel
theorem dX1_serves_37 : decode cX1_serves 37 = .ok (.goto (-21), 3) := by decide +kernel
theorem dX1_serves_40 : decode cX1_serves 40 = .ok (.aload_n 0, 1) := by decide +kernel
theorem dX1_serves_41 : decode cX1_serves 41 = .ok (.getfield 13, 3) := by decide +kernel
theorem dX1_serves_44 : decode cX1_serves 44 = .ok (.iload_n 1, 1) := by decide +kernel
theorem dX1_serves_45 : decode cX1_serves 45 = .ok (.iaload, 1) := by decide +kernel
theorem dX1_serves_46 : decode cX1_serves 46 = .ok (.istore_n 2, 1) := by decide +kernel
theorem dX1_serves_47 : decode cX1_serves 47 = .ok (.aload_n 0, 1) := by decide +kernel
theorem dX1_serves_48 : decode cX1_serves 48 = .ok (.getfield 13, 3) := by decide +kernel
theorem dX1_serves_51 : decode cX1_serves 51 = .ok (.iload_n 1, 1) := by decide +kernel
theorem dX1_serves_52 : decode cX1_serves 52 = .ok (.iconst 0, 1) := by decide +kernel
theorem dX1_serves_53 : decode cX1_serves 53 = .ok (.iastore, 1) := by decide +kernel
theorem dX1_serves_54 : decode cX1_serves 54 = .ok (.aload_n 0, 1) := by decide +kernel
theorem dX1_serves_55 : decode cX1_serves 55 = .ok (.invokevirtual 52, 3) := by decide +kernel
theorem dX1_serves_58 : decode cX1_serves 58 = .ok (.aload_n 0, 1) := by decide +kernel
theorem dX1_serves_59 : decode cX1_serves 59 = .ok (.getfield 13, 3) := by decide +kernel
theorem dX1_serves_62 : decode cX1_serves 62 = .ok (.iload_n 1, 1) := by decide +kernel
theorem dX1_serves_63 : decode cX1_serves 63 = .ok (.iload_n 2, 1) := by decide +kernel
theorem dX1_serves_64 : decode cX1_serves 64 = .ok (.iastore, 1) := by decide +kernel
theorem dX1_serves_65 : decode cX1_serves 65 = .ok (.iconst 0, 1) := by decide +kernel
theorem dX1_serves_66 : decode cX1_serves 66 = .ok (.istore_n 3, 1) := by decide +kernel
theorem dX1_serves_67 : decode cX1_serves 67 = .ok (.iconst 0, 1) := by decide +kernel
theorem dX1_serves_68 : decode cX1_serves 68 = .ok (.istore 4, 2) := by decide +kernel
theorem dX1_serves_70 : decode cX1_serves 70 = .ok (.iload 4, 2) := by decide +kernel
theorem dX1_serves_72 : decode cX1_serves 72 = .ok (.sipush 216, 3) := by decide +kernel
theorem dX1_serves_75 : decode cX1_serves 75 = .ok (.if_icmp .ge 28, 3) := by decide +kernel
theorem dX1_serves_78 : decode cX1_serves 78 = .ok (.aload_n 0, 1) := by decide +kernel
theorem dX1_serves_79 : decode cX1_serves 79 = .ok (.iload 4, 2) := by decide +kernel
theorem dX1_serves_81 : decode cX1_serves 81 = .ok (.invokevirtual 55, 3) := by decide +kernel
theorem dX1_serves_84 : decode cX1_serves 84 = .ok (.aload_n 0, 1) := by decide +kernel
theorem dX1_serves_85 : decode cX1_serves 85 = .ok (.getfield 26, 3) := by decide +kernel
theorem dX1_serves_88 : decode cX1_serves 88 = .ok (.iload 4, 2) := by decide +kernel
theorem dX1_serves_90 : decode cX1_serves 90 = .ok (.iaload, 1) := by decide +kernel
theorem dX1_serves_91 : decode cX1_serves 91 = .ok (.if_icmp .ge 6, 3) := by decide +kernel
theorem dX1_serves_94 : decode cX1_serves 94 = .ok (.iinc 3 1, 3) := by decide +kernel
theorem dX1_serves_97 : decode cX1_serves 97 = .ok (.iinc 4 1, 3) := by decide +kernel
theorem dX1_serves_100 : decode cX1_serves 100 = .ok (.goto (-30), 3) := by decide +kernel
theorem dX1_serves_103 : decode cX1_serves 103 = .ok (.iload_n 3, 1) := by decide +kernel
theorem dX1_serves_104 : decode cX1_serves 104 = .ok (.ireturn, 1) := by decide +kernel
end
section
set_option maxRecDepth 100000
abbrev cX1_rooms : ByteArray := prog_3_method_25_code
def yX1_rooms : MethodName := ⟨RX1, "rooms", "()I"⟩
theorem dX1_rooms_0 : decode cX1_rooms 0 = .ok (.iconst 0, 1) := by decide +kernel
theorem dX1_rooms_1 : decode cX1_rooms 1 = .ok (.istore_n 1, 1) := by decide +kernel
theorem dX1_rooms_2 : decode cX1_rooms 2 = .ok (.iload_n 1, 1) := by decide +kernel
theorem dX1_rooms_3 : decode cX1_rooms 3 = .ok (.sipush 216, 3) := by decide +kernel
theorem dX1_rooms_6 : decode cX1_rooms 6 = .ok (.if_icmp .ge 16, 3) := by decide +kernel
theorem dX1_rooms_9 : decode cX1_rooms 9 = .ok (.aload_n 0, 1) := by decide +kernel
theorem dX1_rooms_10 : decode cX1_rooms 10 = .ok (.getfield 23, 3) := by decide +kernel
theorem dX1_rooms_13 : decode cX1_rooms 13 = .ok (.iload_n 1, 1) := by decide +kernel
theorem dX1_rooms_14 : decode cX1_rooms 14 = .ok (.iload_n 1, 1) := by decide +kernel
theorem dX1_rooms_15 : decode cX1_rooms 15 = .ok (.iastore, 1) := by decide +kernel
theorem dX1_rooms_16 : decode cX1_rooms 16 = .ok (.iinc 1 1, 3) := by decide +kernel
theorem dX1_rooms_19 : decode cX1_rooms 19 = .ok (.goto (-17), 3) := by decide +kernel
theorem dX1_rooms_22 : decode cX1_rooms 22 = .ok (.iconst 1, 1) := by decide +kernel
theorem dX1_rooms_23 : decode cX1_rooms 23 = .ok (.istore_n 1, 1) := by decide +kernel
theorem dX1_rooms_24 : decode cX1_rooms 24 = .ok (.iconst 0, 1) := by decide +kernel
theorem dX1_rooms_25 : decode cX1_rooms 25 = .ok (.istore_n 2, 1) := by decide +kernel
theorem dX1_rooms_26 : decode cX1_rooms 26 = .ok (.iload_n 2, 1) := by decide +kernel
theorem dX1_rooms_27 : decode cX1_rooms 27 = .ok (.sipush 216, 3) := by decide +kernel
theorem dX1_rooms_30 : decode cX1_rooms 30 = .ok (.if_icmp .ge 18, 3) := by decide +kernel
theorem dX1_rooms_33 : decode cX1_rooms 33 = .ok (.iload_n 1, 1) := by decide +kernel
theorem dX1_rooms_34 : decode cX1_rooms 34 = .ok (.ifCond .eq 14, 3) := by decide +kernel
theorem dX1_rooms_37 : decode cX1_rooms 37 = .ok (.aload_n 0, 1) := by decide +kernel
theorem dX1_rooms_38 : decode cX1_rooms 38 = .ok (.invokevirtual 59, 3) := by decide +kernel
theorem dX1_rooms_41 : decode cX1_rooms 41 = .ok (.istore_n 1, 1) := by decide +kernel
theorem dX1_rooms_42 : decode cX1_rooms 42 = .ok (.iinc 2 1, 3) := by decide +kernel
theorem dX1_rooms_45 : decode cX1_rooms 45 = .ok (.goto (-19), 3) := by decide +kernel
theorem dX1_rooms_48 : decode cX1_rooms 48 = .ok (.iconst 0, 1) := by decide +kernel
theorem dX1_rooms_49 : decode cX1_rooms 49 = .ok (.istore_n 2, 1) := by decide +kernel
theorem dX1_rooms_50 : decode cX1_rooms 50 = .ok (.iconst 0, 1) := by decide +kernel
theorem dX1_rooms_51 : decode cX1_rooms 51 = .ok (.istore_n 3, 1) := by decide +kernel
theorem dX1_rooms_52 : decode cX1_rooms 52 = .ok (.iload_n 3, 1) := by decide +kernel
theorem dX1_rooms_53 : decode cX1_rooms 53 = .ok (.sipush 216, 3) := by decide +kernel
theorem dX1_rooms_56 : decode cX1_rooms 56 = .ok (.if_icmp .ge 31, 3) := by decide +kernel
theorem dX1_rooms_59 : decode cX1_rooms 59 = .ok (.aload_n 0, 1) := by decide +kernel
theorem dX1_rooms_60 : decode cX1_rooms 60 = .ok (.getfield 7, 3) := by decide +kernel
theorem dX1_rooms_63 : decode cX1_rooms 63 = .ok (.iload_n 3, 1) := by decide +kernel
theorem dX1_rooms_64 : decode cX1_rooms 64 = .ok (.baload, 1) := by decide +kernel
theorem dX1_rooms_65 : decode cX1_rooms 65 = .ok (.ifCond .ne 16, 3) := by decide +kernel
theorem dX1_rooms_68 : decode cX1_rooms 68 = .ok (.aload_n 0, 1) := by decide +kernel
theorem dX1_rooms_69 : decode cX1_rooms 69 = .ok (.getfield 23, 3) := by decide +kernel
theorem dX1_rooms_72 : decode cX1_rooms 72 = .ok (.iload_n 3, 1) := by decide +kernel
theorem dX1_rooms_73 : decode cX1_rooms 73 = .ok (.iaload, 1) := by decide +kernel
theorem dX1_rooms_74 : decode cX1_rooms 74 = .ok (.iload_n 3, 1) := by decide +kernel
theorem dX1_rooms_75 : decode cX1_rooms 75 = .ok (.if_icmp .ne 6, 3) := by decide +kernel
theorem dX1_rooms_78 : decode cX1_rooms 78 = .ok (.iinc 2 1, 3) := by decide +kernel
theorem dX1_rooms_81 : decode cX1_rooms 81 = .ok (.iinc 3 1, 3) := by decide +kernel
theorem dX1_rooms_84 : decode cX1_rooms 84 = .ok (.goto (-32), 3) := by decide +kernel
theorem dX1_rooms_87 : decode cX1_rooms 87 = .ok (.iload_n 2, 1) := by decide +kernel
theorem dX1_rooms_88 : decode cX1_rooms 88 = .ok (.ireturn, 1) := by decide +kernel
abbrev cX1_level : ByteArray := prog_3_method_24_code
def yX1_level : MethodName := ⟨RX1, "level", "()Z"⟩
theorem dX1_level_0 : decode cX1_level 0 = .ok (.iconst 0, 1) := by decide +kernel
theorem dX1_level_1 : decode cX1_level 1 = .ok (.istore_n 1, 1) := by decide +kernel
theorem dX1_level_2 : decode cX1_level 2 = .ok (.iconst 0, 1) := by decide +kernel
theorem dX1_level_3 : decode cX1_level 3 = .ok (.istore_n 2, 1) := by decide +kernel
theorem dX1_level_4 : decode cX1_level 4 = .ok (.iload_n 2, 1) := by decide +kernel
theorem dX1_level_5 : decode cX1_level 5 = .ok (.sipush 1296, 3) := by decide +kernel
theorem dX1_level_8 : decode cX1_level 8 = .ok (.if_icmp .ge 83, 3) := by decide +kernel
theorem dX1_level_11 : decode cX1_level 11 = .ok (.iload_n 2, 1) := by decide +kernel
theorem dX1_level_12 : decode cX1_level 12 = .ok (.bipush 6, 2) := by decide +kernel
theorem dX1_level_14 : decode cX1_level 14 = .ok (.idiv, 1) := by decide +kernel
theorem dX1_level_15 : decode cX1_level 15 = .ok (.istore_n 3, 1) := by decide +kernel
theorem dX1_level_16 : decode cX1_level 16 = .ok (.aload_n 0, 1) := by decide +kernel
theorem dX1_level_17 : decode cX1_level 17 = .ok (.iload_n 3, 1) := by decide +kernel
theorem dX1_level_18 : decode cX1_level 18 = .ok (.iload_n 2, 1) := by decide +kernel
theorem dX1_level_19 : decode cX1_level 19 = .ok (.bipush 6, 2) := by decide +kernel
theorem dX1_level_21 : decode cX1_level 21 = .ok (.irem, 1) := by decide +kernel
theorem dX1_level_22 : decode cX1_level 22 = .ok (.invokevirtual 41, 3) := by decide +kernel
theorem dX1_level_25 : decode cX1_level 25 = .ok (.istore 4, 2) := by decide +kernel
theorem dX1_level_27 : decode cX1_level 27 = .ok (.iload 4, 2) := by decide +kernel
theorem dX1_level_29 : decode cX1_level 29 = .ok (.ifCond .lt 56, 3) := by decide +kernel
theorem dX1_level_32 : decode cX1_level 32 = .ok (.aload_n 0, 1) := by decide +kernel
theorem dX1_level_33 : decode cX1_level 33 = .ok (.getfield 7, 3) := by decide +kernel
theorem dX1_level_36 : decode cX1_level 36 = .ok (.iload_n 3, 1) := by decide +kernel
theorem dX1_level_37 : decode cX1_level 37 = .ok (.baload, 1) := by decide +kernel
theorem dX1_level_38 : decode cX1_level 38 = .ok (.ifCond .ne 47, 3) := by decide +kernel
theorem dX1_level_41 : decode cX1_level 41 = .ok (.aload_n 0, 1) := by decide +kernel
theorem dX1_level_42 : decode cX1_level 42 = .ok (.getfield 7, 3) := by decide +kernel
theorem dX1_level_45 : decode cX1_level 45 = .ok (.iload 4, 2) := by decide +kernel
theorem dX1_level_47 : decode cX1_level 47 = .ok (.baload, 1) := by decide +kernel
theorem dX1_level_48 : decode cX1_level 48 = .ok (.ifCond .ne 37, 3) := by decide +kernel
theorem dX1_level_51 : decode cX1_level 51 = .ok (.aload_n 0, 1) := by decide +kernel
theorem dX1_level_52 : decode cX1_level 52 = .ok (.getfield 23, 3) := by decide +kernel
theorem dX1_level_55 : decode cX1_level 55 = .ok (.iload 4, 2) := by decide +kernel
theorem dX1_level_57 : decode cX1_level 57 = .ok (.iaload, 1) := by decide +kernel
theorem dX1_level_58 : decode cX1_level 58 = .ok (.aload_n 0, 1) := by decide +kernel
theorem dX1_level_59 : decode cX1_level 59 = .ok (.getfield 23, 3) := by decide +kernel
theorem dX1_level_62 : decode cX1_level 62 = .ok (.iload_n 3, 1) := by decide +kernel
theorem dX1_level_63 : decode cX1_level 63 = .ok (.iaload, 1) := by decide +kernel
theorem dX1_level_64 : decode cX1_level 64 = .ok (.if_icmp .lt 6, 3) := by decide +kernel
theorem dX1_level_67 : decode cX1_level 67 = .ok (.goto 18, 3) := by decide +kernel
theorem dX1_level_70 : decode cX1_level 70 = .ok (.aload_n 0, 1) := by decide +kernel
theorem dX1_level_71 : decode cX1_level 71 = .ok (.getfield 23, 3) := by decide +kernel
theorem dX1_level_74 : decode cX1_level 74 = .ok (.iload_n 3, 1) := by decide +kernel
theorem dX1_level_75 : decode cX1_level 75 = .ok (.aload_n 0, 1) := by decide +kernel
theorem dX1_level_76 : decode cX1_level 76 = .ok (.getfield 23, 3) := by decide +kernel
theorem dX1_level_79 : decode cX1_level 79 = .ok (.iload 4, 2) := by decide +kernel
theorem dX1_level_81 : decode cX1_level 81 = .ok (.iaload, 1) := by decide +kernel
theorem dX1_level_82 : decode cX1_level 82 = .ok (.iastore, 1) := by decide +kernel
theorem dX1_level_83 : decode cX1_level 83 = .ok (.iconst 1, 1) := by decide +kernel
theorem dX1_level_84 : decode cX1_level 84 = .ok (.istore_n 1, 1) := by decide +kernel
theorem dX1_level_85 : decode cX1_level 85 = .ok (.iinc 2 1, 3) := by decide +kernel
theorem dX1_level_88 : decode cX1_level 88 = .ok (.goto (-84), 3) := by decide +kernel
theorem dX1_level_91 : decode cX1_level 91 = .ok (.iload_n 1, 1) := by decide +kernel
theorem dX1_level_92 : decode cX1_level 92 = .ok (.ireturn, 1) := by decide +kernel
theorem q20 : (Jvm.Cond.initialized "LightFlowModel") ∈ lw_all := lw_g (lw_at lw_m1 2 rfl) rfl
theorem q174 : (Jvm.Cond.instantiable "LightFlowModel" (6 : Nat)) ∈ lw_all := lw_g (lw_at lw_m1 156 rfl) rfl
theorem q176 : (Jvm.Cond.instanceMethod ({ cls := "LightFlowModel", name := "<init>", desc := "()V" } : Jvm.MethodName)) ∈ lw_all := lw_g (lw_at lw_m1 158 rfl) rfl
theorem q177 : (Jvm.Cond.code ({ cls := "LightFlowModel", name := "<init>", desc := "()V" } : Jvm.MethodName) prog_3_method_1_code (1 : Nat) (Option.none : Option Jvm.ClassFile.FieldType)) ∈ lw_all := lw_g (lw_at lw_m1 159 rfl) rfl
theorem q178 : (Jvm.Cond.methodLink "LightFlowModel" (1 : Nat) ({ cls := "java/lang/Object", name := "<init>", desc := "()V" } : Jvm.MethodName)) ∈ lw_all := lw_g (lw_at lw_m1 160 rfl) rfl
theorem q179 : (Jvm.Cond.fieldLink "LightFlowModel" (7 : Nat) "LightFlowModel" "wall" "[Z") ∈ lw_all := lw_g (lw_at lw_m1 161 rfl) rfl
theorem q180 : (Jvm.Cond.fieldLink "LightFlowModel" (13 : Nat) "LightFlowModel" "lamps" "[I") ∈ lw_all := lw_g (lw_at lw_m1 162 rfl) rfl
theorem q181 : (Jvm.Cond.fieldLink "LightFlowModel" (17 : Nat) "LightFlowModel" "lampGlow" "[I") ∈ lw_all := lw_g (lw_at lw_m1 163 rfl) rfl
theorem q182 : (Jvm.Cond.fieldLink "LightFlowModel" (20 : Nat) "LightFlowModel" "skyGlow" "[I") ∈ lw_all := lw_g (lw_at lw_m1 164 rfl) rfl
theorem q183 : (Jvm.Cond.fieldLink "LightFlowModel" (23 : Nat) "LightFlowModel" "label" "[I") ∈ lw_all := lw_g (lw_at lw_m1 165 rfl) rfl
theorem q184 : (Jvm.Cond.fieldLink "LightFlowModel" (26 : Nat) "LightFlowModel" "kept" "[I") ∈ lw_all := lw_g (lw_at lw_m1 166 rfl) rfl
theorem q185 : (Jvm.Cond.laysFinal "LightFlowModel" "LightFlowModel" "wall" "[Z") ∈ lw_all := lw_g (lw_at lw_m1 167 rfl) rfl
theorem q186 : (Jvm.Cond.soleField "LightFlowModel" "wall") ∈ lw_all := lw_g (lw_at lw_m1 168 rfl) rfl
theorem q187 : (Jvm.Cond.laysFinal "LightFlowModel" "LightFlowModel" "lamps" "[I") ∈ lw_all := lw_g (lw_at lw_m1 169 rfl) rfl
theorem q188 : (Jvm.Cond.soleField "LightFlowModel" "lamps") ∈ lw_all := lw_g (lw_at lw_m1 170 rfl) rfl
theorem q189 : (Jvm.Cond.laysFinal "LightFlowModel" "LightFlowModel" "lampGlow" "[I") ∈ lw_all := lw_g (lw_at lw_m1 171 rfl) rfl
theorem q190 : (Jvm.Cond.soleField "LightFlowModel" "lampGlow") ∈ lw_all := lw_g (lw_at lw_m1 172 rfl) rfl
theorem q191 : (Jvm.Cond.laysFinal "LightFlowModel" "LightFlowModel" "skyGlow" "[I") ∈ lw_all := lw_g (lw_at lw_m1 173 rfl) rfl
theorem q192 : (Jvm.Cond.soleField "LightFlowModel" "skyGlow") ∈ lw_all := lw_g (lw_at lw_m1 174 rfl) rfl
theorem q193 : (Jvm.Cond.laysFinal "LightFlowModel" "LightFlowModel" "label" "[I") ∈ lw_all := lw_g (lw_at lw_m1 175 rfl) rfl
theorem q194 : (Jvm.Cond.soleField "LightFlowModel" "label") ∈ lw_all := lw_g (lw_at lw_m1 176 rfl) rfl
theorem q195 : (Jvm.Cond.laysFinal "LightFlowModel" "LightFlowModel" "kept" "[I") ∈ lw_all := lw_g (lw_at lw_m1 177 rfl) rfl
theorem q196 : (Jvm.Cond.soleField "LightFlowModel" "kept") ∈ lw_all := lw_g (lw_at lw_m1 178 rfl) rfl
theorem q197 : (Jvm.Cond.superclass "LightFlowModel" "java/lang/Object") ∈ lw_all := lw_g (lw_at lw_m1 179 rfl) rfl
theorem q199 : (Jvm.Cond.instanceMethod ({ cls := "LightFlowModel", name := "solid", desc := "(II)I" } : Jvm.MethodName)) ∈ lw_all := lw_g (lw_at lw_m1 181 rfl) rfl
theorem q200 : (Jvm.Cond.selects "LightFlowModel" ({ cls := "LightFlowModel", name := "solid", desc := "(II)I" } : Jvm.MethodName) ({ cls := "LightFlowModel", name := "solid", desc := "(II)I" } : Jvm.MethodName)) ∈ lw_all := lw_g (lw_at lw_m1 182 rfl) rfl
theorem q201 : (Jvm.Cond.code ({ cls := "LightFlowModel", name := "solid", desc := "(II)I" } : Jvm.MethodName) prog_3_method_6_code (4 : Nat) (Option.some Jvm.ClassFile.FieldType.int)) ∈ lw_all := lw_g (lw_at lw_m1 183 rfl) rfl
theorem q202 : (Jvm.Cond.methodLink "LightFlowModel" (29 : Nat) ({ cls := "LightFlowModel", name := "bad", desc := "(I)Z" } : Jvm.MethodName)) ∈ lw_all := lw_g (lw_at lw_m1 184 rfl) rfl
theorem q203 : (Jvm.Cond.privateMethod ({ cls := "LightFlowModel", name := "bad", desc := "(I)Z" } : Jvm.MethodName)) ∈ lw_tbl := lw_at lw_m1 185 rfl
theorem q204 : (Jvm.Cond.instanceMethod ({ cls := "LightFlowModel", name := "bad", desc := "(I)Z" } : Jvm.MethodName)) ∈ lw_all := lw_g (lw_at lw_m1 186 rfl) rfl
theorem q205 : (Jvm.Cond.code ({ cls := "LightFlowModel", name := "bad", desc := "(I)Z" } : Jvm.MethodName) prog_3_method_2_code (2 : Nat) (Option.some Jvm.ClassFile.FieldType.boolean)) ∈ lw_all := lw_g (lw_at lw_m1 187 rfl) rfl
theorem q207 : (Jvm.Cond.instanceMethod ({ cls := "LightFlowModel", name := "fill", desc := "(III)I" } : Jvm.MethodName)) ∈ lw_all := lw_g (lw_at lw_m1 189 rfl) rfl
theorem q208 : (Jvm.Cond.selects "LightFlowModel" ({ cls := "LightFlowModel", name := "fill", desc := "(III)I" } : Jvm.MethodName) ({ cls := "LightFlowModel", name := "fill", desc := "(III)I" } : Jvm.MethodName)) ∈ lw_all := lw_g (lw_at lw_m1 190 rfl) rfl
theorem q209 : (Jvm.Cond.code ({ cls := "LightFlowModel", name := "fill", desc := "(III)I" } : Jvm.MethodName) prog_3_method_7_code (6 : Nat) (Option.some Jvm.ClassFile.FieldType.int)) ∈ lw_all := lw_g (lw_at lw_m1 191 rfl) rfl
theorem q210 : (Jvm.Cond.methodLink "LightFlowModel" (33 : Nat) ({ cls := "LightFlowModel", name := "badBox", desc := "(II)Z" } : Jvm.MethodName)) ∈ lw_all := lw_g (lw_at lw_m1 192 rfl) rfl
theorem q211 : (Jvm.Cond.privateMethod ({ cls := "LightFlowModel", name := "badBox", desc := "(II)Z" } : Jvm.MethodName)) ∈ lw_tbl := lw_at lw_m1 193 rfl
theorem q212 : (Jvm.Cond.instanceMethod ({ cls := "LightFlowModel", name := "badBox", desc := "(II)Z" } : Jvm.MethodName)) ∈ lw_all := lw_g (lw_at lw_m1 194 rfl) rfl
theorem q213 : (Jvm.Cond.code ({ cls := "LightFlowModel", name := "badBox", desc := "(II)Z" } : Jvm.MethodName) prog_3_method_3_code (3 : Nat) (Option.some Jvm.ClassFile.FieldType.boolean)) ∈ lw_all := lw_g (lw_at lw_m1 195 rfl) rfl
theorem q214 : (Jvm.Cond.methodLink "LightFlowModel" (37 : Nat) ({ cls := "LightFlowModel", name := "inBox", desc := "(III)Z" } : Jvm.MethodName)) ∈ lw_all := lw_g (lw_at lw_m1 196 rfl) rfl
theorem q215 : (Jvm.Cond.privateMethod ({ cls := "LightFlowModel", name := "inBox", desc := "(III)Z" } : Jvm.MethodName)) ∈ lw_tbl := lw_at lw_m1 197 rfl
theorem q216 : (Jvm.Cond.instanceMethod ({ cls := "LightFlowModel", name := "inBox", desc := "(III)Z" } : Jvm.MethodName)) ∈ lw_all := lw_g (lw_at lw_m1 198 rfl) rfl
theorem q217 : (Jvm.Cond.code ({ cls := "LightFlowModel", name := "inBox", desc := "(III)Z" } : Jvm.MethodName) prog_3_method_4_code (6 : Nat) (Option.some Jvm.ClassFile.FieldType.boolean)) ∈ lw_all := lw_g (lw_at lw_m1 199 rfl) rfl
theorem q219 : (Jvm.Cond.instanceMethod ({ cls := "LightFlowModel", name := "shell", desc := "(II)I" } : Jvm.MethodName)) ∈ lw_all := lw_g (lw_at lw_m1 201 rfl) rfl
theorem q220 : (Jvm.Cond.selects "LightFlowModel" ({ cls := "LightFlowModel", name := "shell", desc := "(II)I" } : Jvm.MethodName) ({ cls := "LightFlowModel", name := "shell", desc := "(II)I" } : Jvm.MethodName)) ∈ lw_all := lw_g (lw_at lw_m1 202 rfl) rfl
theorem q221 : (Jvm.Cond.code ({ cls := "LightFlowModel", name := "shell", desc := "(II)I" } : Jvm.MethodName) prog_3_method_8_code (8 : Nat) (Option.some Jvm.ClassFile.FieldType.int)) ∈ lw_all := lw_g (lw_at lw_m1 203 rfl) rfl
theorem q223 : (Jvm.Cond.instanceMethod ({ cls := "LightFlowModel", name := "lamp", desc := "(II)I" } : Jvm.MethodName)) ∈ lw_all := lw_g (lw_at lw_m1 205 rfl) rfl
theorem q224 : (Jvm.Cond.selects "LightFlowModel" ({ cls := "LightFlowModel", name := "lamp", desc := "(II)I" } : Jvm.MethodName) ({ cls := "LightFlowModel", name := "lamp", desc := "(II)I" } : Jvm.MethodName)) ∈ lw_all := lw_g (lw_at lw_m1 206 rfl) rfl
theorem q225 : (Jvm.Cond.code ({ cls := "LightFlowModel", name := "lamp", desc := "(II)I" } : Jvm.MethodName) prog_3_method_9_code (4 : Nat) (Option.some Jvm.ClassFile.FieldType.int)) ∈ lw_all := lw_g (lw_at lw_m1 207 rfl) rfl
theorem q227 : (Jvm.Cond.instanceMethod ({ cls := "LightFlowModel", name := "isSolid", desc := "(I)I" } : Jvm.MethodName)) ∈ lw_all := lw_g (lw_at lw_m1 209 rfl) rfl
theorem q228 : (Jvm.Cond.selects "LightFlowModel" ({ cls := "LightFlowModel", name := "isSolid", desc := "(I)I" } : Jvm.MethodName) ({ cls := "LightFlowModel", name := "isSolid", desc := "(I)I" } : Jvm.MethodName)) ∈ lw_all := lw_g (lw_at lw_m1 210 rfl) rfl
theorem q229 : (Jvm.Cond.code ({ cls := "LightFlowModel", name := "isSolid", desc := "(I)I" } : Jvm.MethodName) prog_3_method_10_code (2 : Nat) (Option.some Jvm.ClassFile.FieldType.int)) ∈ lw_all := lw_g (lw_at lw_m1 211 rfl) rfl
theorem q231 : (Jvm.Cond.instanceMethod ({ cls := "LightFlowModel", name := "lamplight", desc := "(I)I" } : Jvm.MethodName)) ∈ lw_all := lw_g (lw_at lw_m1 213 rfl) rfl
theorem q232 : (Jvm.Cond.selects "LightFlowModel" ({ cls := "LightFlowModel", name := "lamplight", desc := "(I)I" } : Jvm.MethodName) ({ cls := "LightFlowModel", name := "lamplight", desc := "(I)I" } : Jvm.MethodName)) ∈ lw_all := lw_g (lw_at lw_m1 214 rfl) rfl
theorem q233 : (Jvm.Cond.code ({ cls := "LightFlowModel", name := "lamplight", desc := "(I)I" } : Jvm.MethodName) prog_3_method_15_code (2 : Nat) (Option.some Jvm.ClassFile.FieldType.int)) ∈ lw_all := lw_g (lw_at lw_m1 215 rfl) rfl
theorem q234 : (Jvm.Cond.methodLink "LightFlowModel" (52 : Nat) ({ cls := "LightFlowModel", name := "shine", desc := "()V" } : Jvm.MethodName)) ∈ lw_all := lw_g (lw_at lw_m1 216 rfl) rfl
theorem q235 : (Jvm.Cond.privateMethod ({ cls := "LightFlowModel", name := "shine", desc := "()V" } : Jvm.MethodName)) ∈ lw_tbl := lw_at lw_m1 217 rfl
theorem q236 : (Jvm.Cond.instanceMethod ({ cls := "LightFlowModel", name := "shine", desc := "()V" } : Jvm.MethodName)) ∈ lw_all := lw_g (lw_at lw_m1 218 rfl) rfl
theorem q237 : (Jvm.Cond.code ({ cls := "LightFlowModel", name := "shine", desc := "()V" } : Jvm.MethodName) prog_3_method_13_code (3 : Nat) (Option.none : Option Jvm.ClassFile.FieldType)) ∈ lw_all := lw_g (lw_at lw_m1 219 rfl) rfl
theorem q238 : (Jvm.Cond.methodLink "LightFlowModel" (45 : Nat) ({ cls := "LightFlowModel", name := "sees", desc := "(I)Z" } : Jvm.MethodName)) ∈ lw_all := lw_g (lw_at lw_m1 220 rfl) rfl
theorem q239 : (Jvm.Cond.privateMethod ({ cls := "LightFlowModel", name := "sees", desc := "(I)Z" } : Jvm.MethodName)) ∈ lw_tbl := lw_at lw_m1 221 rfl
theorem q240 : (Jvm.Cond.instanceMethod ({ cls := "LightFlowModel", name := "sees", desc := "(I)Z" } : Jvm.MethodName)) ∈ lw_all := lw_g (lw_at lw_m1 222 rfl) rfl
theorem q241 : (Jvm.Cond.code ({ cls := "LightFlowModel", name := "sees", desc := "(I)Z" } : Jvm.MethodName) prog_3_method_11_code (3 : Nat) (Option.some Jvm.ClassFile.FieldType.boolean)) ∈ lw_all := lw_g (lw_at lw_m1 223 rfl) rfl
theorem q242 : (Jvm.Cond.methodLink "LightFlowModel" (48 : Nat) ({ cls := "LightFlowModel", name := "flow", desc := "()Z" } : Jvm.MethodName)) ∈ lw_all := lw_g (lw_at lw_m1 224 rfl) rfl
theorem q243 : (Jvm.Cond.privateMethod ({ cls := "LightFlowModel", name := "flow", desc := "()Z" } : Jvm.MethodName)) ∈ lw_tbl := lw_at lw_m1 225 rfl
theorem q244 : (Jvm.Cond.instanceMethod ({ cls := "LightFlowModel", name := "flow", desc := "()Z" } : Jvm.MethodName)) ∈ lw_all := lw_g (lw_at lw_m1 226 rfl) rfl
theorem q245 : (Jvm.Cond.code ({ cls := "LightFlowModel", name := "flow", desc := "()Z" } : Jvm.MethodName) prog_3_method_12_code (5 : Nat) (Option.some Jvm.ClassFile.FieldType.boolean)) ∈ lw_all := lw_g (lw_at lw_m1 227 rfl) rfl
theorem q246 : (Jvm.Cond.methodLink "LightFlowModel" (41 : Nat) ({ cls := "LightFlowModel", name := "beside", desc := "(II)I" } : Jvm.MethodName)) ∈ lw_all := lw_g (lw_at lw_m1 228 rfl) rfl
theorem q247 : (Jvm.Cond.privateMethod ({ cls := "LightFlowModel", name := "beside", desc := "(II)I" } : Jvm.MethodName)) ∈ lw_tbl := lw_at lw_m1 229 rfl
theorem q248 : (Jvm.Cond.instanceMethod ({ cls := "LightFlowModel", name := "beside", desc := "(II)I" } : Jvm.MethodName)) ∈ lw_all := lw_g (lw_at lw_m1 230 rfl) rfl
theorem q249 : (Jvm.Cond.code ({ cls := "LightFlowModel", name := "beside", desc := "(II)I" } : Jvm.MethodName) prog_3_method_5_code (3 : Nat) (Option.some Jvm.ClassFile.FieldType.int)) ∈ lw_all := lw_g (lw_at lw_m1 231 rfl) rfl
theorem q251 : (Jvm.Cond.instanceMethod ({ cls := "LightFlowModel", name := "skylight", desc := "(I)I" } : Jvm.MethodName)) ∈ lw_all := lw_g (lw_at lw_m1 233 rfl) rfl
theorem q252 : (Jvm.Cond.selects "LightFlowModel" ({ cls := "LightFlowModel", name := "skylight", desc := "(I)I" } : Jvm.MethodName) ({ cls := "LightFlowModel", name := "skylight", desc := "(I)I" } : Jvm.MethodName)) ∈ lw_all := lw_g (lw_at lw_m1 234 rfl) rfl
theorem q253 : (Jvm.Cond.code ({ cls := "LightFlowModel", name := "skylight", desc := "(I)I" } : Jvm.MethodName) prog_3_method_16_code (2 : Nat) (Option.some Jvm.ClassFile.FieldType.int)) ∈ lw_all := lw_g (lw_at lw_m1 235 rfl) rfl
theorem q255 : (Jvm.Cond.instanceMethod ({ cls := "LightFlowModel", name := "lit", desc := "(III)I" } : Jvm.MethodName)) ∈ lw_all := lw_g (lw_at lw_m1 237 rfl) rfl
theorem q256 : (Jvm.Cond.selects "LightFlowModel" ({ cls := "LightFlowModel", name := "lit", desc := "(III)I" } : Jvm.MethodName) ({ cls := "LightFlowModel", name := "lit", desc := "(III)I" } : Jvm.MethodName)) ∈ lw_all := lw_g (lw_at lw_m1 238 rfl) rfl
theorem q257 : (Jvm.Cond.code ({ cls := "LightFlowModel", name := "lit", desc := "(III)I" } : Jvm.MethodName) prog_3_method_17_code (6 : Nat) (Option.some Jvm.ClassFile.FieldType.int)) ∈ lw_all := lw_g (lw_at lw_m1 239 rfl) rfl
theorem q258 : (Jvm.Cond.methodLink "LightFlowModel" (55 : Nat) ({ cls := "LightFlowModel", name := "light", desc := "(I)I" } : Jvm.MethodName)) ∈ lw_all := lw_g (lw_at lw_m2 0 rfl) rfl
theorem q259 : (Jvm.Cond.privateMethod ({ cls := "LightFlowModel", name := "light", desc := "(I)I" } : Jvm.MethodName)) ∈ lw_tbl := lw_at lw_m2 1 rfl
theorem q260 : (Jvm.Cond.instanceMethod ({ cls := "LightFlowModel", name := "light", desc := "(I)I" } : Jvm.MethodName)) ∈ lw_all := lw_g (lw_at lw_m2 2 rfl) rfl
theorem q261 : (Jvm.Cond.code ({ cls := "LightFlowModel", name := "light", desc := "(I)I" } : Jvm.MethodName) prog_3_method_14_code (2 : Nat) (Option.some Jvm.ClassFile.FieldType.int)) ∈ lw_all := lw_g (lw_at lw_m2 3 rfl) rfl
theorem q263 : (Jvm.Cond.instanceMethod ({ cls := "LightFlowModel", name := "dim", desc := "(I)I" } : Jvm.MethodName)) ∈ lw_all := lw_g (lw_at lw_m2 5 rfl) rfl
theorem q264 : (Jvm.Cond.selects "LightFlowModel" ({ cls := "LightFlowModel", name := "dim", desc := "(I)I" } : Jvm.MethodName) ({ cls := "LightFlowModel", name := "dim", desc := "(I)I" } : Jvm.MethodName)) ∈ lw_all := lw_g (lw_at lw_m2 6 rfl) rfl
theorem q265 : (Jvm.Cond.code ({ cls := "LightFlowModel", name := "dim", desc := "(I)I" } : Jvm.MethodName) prog_3_method_18_code (4 : Nat) (Option.some Jvm.ClassFile.FieldType.int)) ∈ lw_all := lw_g (lw_at lw_m2 7 rfl) rfl
theorem q267 : (Jvm.Cond.instanceMethod ({ cls := "LightFlowModel", name := "darkest", desc := "()I" } : Jvm.MethodName)) ∈ lw_all := lw_g (lw_at lw_m2 9 rfl) rfl
theorem q268 : (Jvm.Cond.selects "LightFlowModel" ({ cls := "LightFlowModel", name := "darkest", desc := "()I" } : Jvm.MethodName) ({ cls := "LightFlowModel", name := "darkest", desc := "()I" } : Jvm.MethodName)) ∈ lw_all := lw_g (lw_at lw_m2 10 rfl) rfl
theorem q269 : (Jvm.Cond.code ({ cls := "LightFlowModel", name := "darkest", desc := "()I" } : Jvm.MethodName) prog_3_method_19_code (3 : Nat) (Option.some Jvm.ClassFile.FieldType.int)) ∈ lw_all := lw_g (lw_at lw_m2 11 rfl) rfl
theorem q271 : (Jvm.Cond.instanceMethod ({ cls := "LightFlowModel", name := "faces", desc := "()I" } : Jvm.MethodName)) ∈ lw_all := lw_g (lw_at lw_m2 13 rfl) rfl
theorem q272 : (Jvm.Cond.selects "LightFlowModel" ({ cls := "LightFlowModel", name := "faces", desc := "()I" } : Jvm.MethodName) ({ cls := "LightFlowModel", name := "faces", desc := "()I" } : Jvm.MethodName)) ∈ lw_all := lw_g (lw_at lw_m2 14 rfl) rfl
theorem q273 : (Jvm.Cond.code ({ cls := "LightFlowModel", name := "faces", desc := "()I" } : Jvm.MethodName) prog_3_method_20_code (4 : Nat) (Option.some Jvm.ClassFile.FieldType.int)) ∈ lw_all := lw_g (lw_at lw_m2 15 rfl) rfl
theorem q275 : (Jvm.Cond.instanceMethod ({ cls := "LightFlowModel", name := "shady", desc := "(I)I" } : Jvm.MethodName)) ∈ lw_all := lw_g (lw_at lw_m2 17 rfl) rfl
theorem q276 : (Jvm.Cond.selects "LightFlowModel" ({ cls := "LightFlowModel", name := "shady", desc := "(I)I" } : Jvm.MethodName) ({ cls := "LightFlowModel", name := "shady", desc := "(I)I" } : Jvm.MethodName)) ∈ lw_all := lw_g (lw_at lw_m2 18 rfl) rfl
theorem q277 : (Jvm.Cond.code ({ cls := "LightFlowModel", name := "shady", desc := "(I)I" } : Jvm.MethodName) prog_3_method_21_code (4 : Nat) (Option.some Jvm.ClassFile.FieldType.int)) ∈ lw_all := lw_g (lw_at lw_m2 19 rfl) rfl
theorem q279 : (Jvm.Cond.instanceMethod ({ cls := "LightFlowModel", name := "open", desc := "()I" } : Jvm.MethodName)) ∈ lw_all := lw_g (lw_at lw_m2 21 rfl) rfl
theorem q280 : (Jvm.Cond.selects "LightFlowModel" ({ cls := "LightFlowModel", name := "open", desc := "()I" } : Jvm.MethodName) ({ cls := "LightFlowModel", name := "open", desc := "()I" } : Jvm.MethodName)) ∈ lw_all := lw_g (lw_at lw_m2 22 rfl) rfl
theorem q281 : (Jvm.Cond.code ({ cls := "LightFlowModel", name := "open", desc := "()I" } : Jvm.MethodName) prog_3_method_22_code (3 : Nat) (Option.some Jvm.ClassFile.FieldType.int)) ∈ lw_all := lw_g (lw_at lw_m2 23 rfl) rfl
theorem q283 : (Jvm.Cond.instanceMethod ({ cls := "LightFlowModel", name := "serves", desc := "(I)I" } : Jvm.MethodName)) ∈ lw_all := lw_g (lw_at lw_m2 25 rfl) rfl
theorem q284 : (Jvm.Cond.selects "LightFlowModel" ({ cls := "LightFlowModel", name := "serves", desc := "(I)I" } : Jvm.MethodName) ({ cls := "LightFlowModel", name := "serves", desc := "(I)I" } : Jvm.MethodName)) ∈ lw_all := lw_g (lw_at lw_m2 26 rfl) rfl
theorem q285 : (Jvm.Cond.code ({ cls := "LightFlowModel", name := "serves", desc := "(I)I" } : Jvm.MethodName) prog_3_method_23_code (5 : Nat) (Option.some Jvm.ClassFile.FieldType.int)) ∈ lw_all := lw_g (lw_at lw_m2 27 rfl) rfl
theorem q287 : (Jvm.Cond.instanceMethod ({ cls := "LightFlowModel", name := "rooms", desc := "()I" } : Jvm.MethodName)) ∈ lw_all := lw_g (lw_at lw_m2 29 rfl) rfl
theorem q288 : (Jvm.Cond.selects "LightFlowModel" ({ cls := "LightFlowModel", name := "rooms", desc := "()I" } : Jvm.MethodName) ({ cls := "LightFlowModel", name := "rooms", desc := "()I" } : Jvm.MethodName)) ∈ lw_all := lw_g (lw_at lw_m2 30 rfl) rfl
theorem q289 : (Jvm.Cond.code ({ cls := "LightFlowModel", name := "rooms", desc := "()I" } : Jvm.MethodName) prog_3_method_25_code (4 : Nat) (Option.some Jvm.ClassFile.FieldType.int)) ∈ lw_all := lw_g (lw_at lw_m2 31 rfl) rfl
theorem q290 : (Jvm.Cond.methodLink "LightFlowModel" (59 : Nat) ({ cls := "LightFlowModel", name := "level", desc := "()Z" } : Jvm.MethodName)) ∈ lw_all := lw_g (lw_at lw_m2 32 rfl) rfl
theorem q291 : (Jvm.Cond.privateMethod ({ cls := "LightFlowModel", name := "level", desc := "()Z" } : Jvm.MethodName)) ∈ lw_tbl := lw_at lw_m2 33 rfl
theorem q292 : (Jvm.Cond.instanceMethod ({ cls := "LightFlowModel", name := "level", desc := "()Z" } : Jvm.MethodName)) ∈ lw_all := lw_g (lw_at lw_m2 34 rfl) rfl
theorem q293 : (Jvm.Cond.code ({ cls := "LightFlowModel", name := "level", desc := "()Z" } : Jvm.MethodName) prog_3_method_24_code (5 : Nat) (Option.some Jvm.ClassFile.FieldType.boolean)) ∈ lw_all := lw_g (lw_at lw_m2 35 rfl) rfl
theorem in_X1 : ∀ w ∈ wsX10, w ∈ lw_all := lw_in wsX10 [185, 187, 189, 191, 193, 195] (by decide +kernel) (by decide +kernel)
end
section
set_option maxRecDepth 100000
theorem q18 : (Jvm.Cond.initialized "LightFlowLaw") ∈ lw_all := lw_g (lw_at lw_m1 0 rfl) rfl
theorem q21 : (Jvm.Cond.classLink "LightFlowLaw" (7 : Nat) "LightFlow") ∈ lw_all := lw_g (lw_at lw_m1 3 rfl) rfl
theorem q23 : (Jvm.Cond.methodLink "LightFlowLaw" (9 : Nat) ({ cls := "LightFlow", name := "<init>", desc := "()V" } : Jvm.MethodName)) ∈ lw_all := lw_g (lw_at lw_m1 5 rfl) rfl
theorem q62 : (Jvm.Cond.methodLink "LightFlowLaw" (13 : Nat) ({ cls := "LightFlow", name := "solid", desc := "(II)I" } : Jvm.MethodName)) ∈ lw_all := lw_g (lw_at lw_m1 44 rfl) rfl
theorem q96 : (Jvm.Cond.methodLink "LightFlowLaw" (18 : Nat) ({ cls := "LightFlow", name := "fill", desc := "(III)I" } : Jvm.MethodName)) ∈ lw_all := lw_g (lw_at lw_m1 78 rfl) rfl
theorem q106 : (Jvm.Cond.methodLink "LightFlowLaw" (23 : Nat) ({ cls := "LightFlow", name := "shell", desc := "(II)I" } : Jvm.MethodName)) ∈ lw_all := lw_g (lw_at lw_m1 88 rfl) rfl
theorem q113 : (Jvm.Cond.methodLink "LightFlowLaw" (27 : Nat) ({ cls := "LightFlow", name := "lamp", desc := "(II)I" } : Jvm.MethodName)) ∈ lw_all := lw_g (lw_at lw_m1 95 rfl) rfl
theorem q121 : (Jvm.Cond.methodLink "LightFlowLaw" (31 : Nat) ({ cls := "LightFlow", name := "isSolid", desc := "(I)I" } : Jvm.MethodName)) ∈ lw_all := lw_g (lw_at lw_m1 103 rfl) rfl
theorem q125 : (Jvm.Cond.methodLink "LightFlowLaw" (36 : Nat) ({ cls := "LightFlow", name := "lamplight", desc := "(I)I" } : Jvm.MethodName)) ∈ lw_all := lw_g (lw_at lw_m1 107 rfl) rfl
theorem q129 : (Jvm.Cond.methodLink "LightFlowLaw" (40 : Nat) ({ cls := "LightFlow", name := "skylight", desc := "(I)I" } : Jvm.MethodName)) ∈ lw_all := lw_g (lw_at lw_m1 111 rfl) rfl
theorem q133 : (Jvm.Cond.methodLink "LightFlowLaw" (44 : Nat) ({ cls := "LightFlow", name := "lit", desc := "(III)I" } : Jvm.MethodName)) ∈ lw_all := lw_g (lw_at lw_m1 115 rfl) rfl
theorem q141 : (Jvm.Cond.methodLink "LightFlowLaw" (48 : Nat) ({ cls := "LightFlow", name := "dim", desc := "(I)I" } : Jvm.MethodName)) ∈ lw_all := lw_g (lw_at lw_m1 123 rfl) rfl
theorem q145 : (Jvm.Cond.methodLink "LightFlowLaw" (52 : Nat) ({ cls := "LightFlow", name := "darkest", desc := "()I" } : Jvm.MethodName)) ∈ lw_all := lw_g (lw_at lw_m1 127 rfl) rfl
theorem q149 : (Jvm.Cond.methodLink "LightFlowLaw" (57 : Nat) ({ cls := "LightFlow", name := "faces", desc := "()I" } : Jvm.MethodName)) ∈ lw_all := lw_g (lw_at lw_m1 131 rfl) rfl
theorem q153 : (Jvm.Cond.methodLink "LightFlowLaw" (61 : Nat) ({ cls := "LightFlow", name := "shady", desc := "(I)I" } : Jvm.MethodName)) ∈ lw_all := lw_g (lw_at lw_m1 135 rfl) rfl
theorem q157 : (Jvm.Cond.methodLink "LightFlowLaw" (65 : Nat) ({ cls := "LightFlow", name := "open", desc := "()I" } : Jvm.MethodName)) ∈ lw_all := lw_g (lw_at lw_m1 139 rfl) rfl
theorem q161 : (Jvm.Cond.methodLink "LightFlowLaw" (69 : Nat) ({ cls := "LightFlow", name := "serves", desc := "(I)I" } : Jvm.MethodName)) ∈ lw_all := lw_g (lw_at lw_m1 143 rfl) rfl
theorem q165 : (Jvm.Cond.methodLink "LightFlowLaw" (73 : Nat) ({ cls := "LightFlow", name := "rooms", desc := "()I" } : Jvm.MethodName)) ∈ lw_all := lw_g (lw_at lw_m1 147 rfl) rfl
theorem q173 : (Jvm.Cond.classLink "LightFlowLaw" (10 : Nat) "LightFlowModel") ∈ lw_all := lw_g (lw_at lw_m1 155 rfl) rfl
theorem q175 : (Jvm.Cond.methodLink "LightFlowLaw" (12 : Nat) ({ cls := "LightFlowModel", name := "<init>", desc := "()V" } : Jvm.MethodName)) ∈ lw_all := lw_g (lw_at lw_m1 157 rfl) rfl
theorem q198 : (Jvm.Cond.methodLink "LightFlowLaw" (17 : Nat) ({ cls := "LightFlowModel", name := "solid", desc := "(II)I" } : Jvm.MethodName)) ∈ lw_all := lw_g (lw_at lw_m1 180 rfl) rfl
theorem q206 : (Jvm.Cond.methodLink "LightFlowLaw" (22 : Nat) ({ cls := "LightFlowModel", name := "fill", desc := "(III)I" } : Jvm.MethodName)) ∈ lw_all := lw_g (lw_at lw_m1 188 rfl) rfl
theorem q218 : (Jvm.Cond.methodLink "LightFlowLaw" (26 : Nat) ({ cls := "LightFlowModel", name := "shell", desc := "(II)I" } : Jvm.MethodName)) ∈ lw_all := lw_g (lw_at lw_m1 200 rfl) rfl
theorem q222 : (Jvm.Cond.methodLink "LightFlowLaw" (30 : Nat) ({ cls := "LightFlowModel", name := "lamp", desc := "(II)I" } : Jvm.MethodName)) ∈ lw_all := lw_g (lw_at lw_m1 204 rfl) rfl
theorem q226 : (Jvm.Cond.methodLink "LightFlowLaw" (35 : Nat) ({ cls := "LightFlowModel", name := "isSolid", desc := "(I)I" } : Jvm.MethodName)) ∈ lw_all := lw_g (lw_at lw_m1 208 rfl) rfl
theorem q230 : (Jvm.Cond.methodLink "LightFlowLaw" (39 : Nat) ({ cls := "LightFlowModel", name := "lamplight", desc := "(I)I" } : Jvm.MethodName)) ∈ lw_all := lw_g (lw_at lw_m1 212 rfl) rfl
theorem q250 : (Jvm.Cond.methodLink "LightFlowLaw" (43 : Nat) ({ cls := "LightFlowModel", name := "skylight", desc := "(I)I" } : Jvm.MethodName)) ∈ lw_all := lw_g (lw_at lw_m1 232 rfl) rfl
theorem q254 : (Jvm.Cond.methodLink "LightFlowLaw" (47 : Nat) ({ cls := "LightFlowModel", name := "lit", desc := "(III)I" } : Jvm.MethodName)) ∈ lw_all := lw_g (lw_at lw_m1 236 rfl) rfl
theorem q262 : (Jvm.Cond.methodLink "LightFlowLaw" (51 : Nat) ({ cls := "LightFlowModel", name := "dim", desc := "(I)I" } : Jvm.MethodName)) ∈ lw_all := lw_g (lw_at lw_m2 4 rfl) rfl
theorem q266 : (Jvm.Cond.methodLink "LightFlowLaw" (56 : Nat) ({ cls := "LightFlowModel", name := "darkest", desc := "()I" } : Jvm.MethodName)) ∈ lw_all := lw_g (lw_at lw_m2 8 rfl) rfl
theorem q270 : (Jvm.Cond.methodLink "LightFlowLaw" (60 : Nat) ({ cls := "LightFlowModel", name := "faces", desc := "()I" } : Jvm.MethodName)) ∈ lw_all := lw_g (lw_at lw_m2 12 rfl) rfl
theorem q274 : (Jvm.Cond.methodLink "LightFlowLaw" (64 : Nat) ({ cls := "LightFlowModel", name := "shady", desc := "(I)I" } : Jvm.MethodName)) ∈ lw_all := lw_g (lw_at lw_m2 16 rfl) rfl
theorem q278 : (Jvm.Cond.methodLink "LightFlowLaw" (68 : Nat) ({ cls := "LightFlowModel", name := "open", desc := "()I" } : Jvm.MethodName)) ∈ lw_all := lw_g (lw_at lw_m2 20 rfl) rfl
theorem q282 : (Jvm.Cond.methodLink "LightFlowLaw" (72 : Nat) ({ cls := "LightFlowModel", name := "serves", desc := "(I)I" } : Jvm.MethodName)) ∈ lw_all := lw_g (lw_at lw_m2 24 rfl) rfl
theorem q286 : (Jvm.Cond.methodLink "LightFlowLaw" (76 : Nat) ({ cls := "LightFlowModel", name := "rooms", desc := "()I" } : Jvm.MethodName)) ∈ lw_all := lw_g (lw_at lw_m2 28 rfl) rfl

/-! the law's own entry -/
abbrev cL_law : ByteArray := code
theorem dL_law_0 : decode cL_law 0 = .ok (.new 7, 3) := by decide +kernel
theorem dL_law_3 : decode cL_law 3 = .ok (.dup, 1) := by decide +kernel
theorem dL_law_4 : decode cL_law 4 = .ok (.invokespecial 9, 3) := by decide +kernel
theorem dL_law_7 : decode cL_law 7 = .ok (.astore_n 1, 1) := by decide +kernel
theorem dL_law_8 : decode cL_law 8 = .ok (.new 10, 3) := by decide +kernel
theorem dL_law_11 : decode cL_law 11 = .ok (.dup, 1) := by decide +kernel
theorem dL_law_12 : decode cL_law 12 = .ok (.invokespecial 12, 3) := by decide +kernel
theorem dL_law_15 : decode cL_law 15 = .ok (.astore_n 2, 1) := by decide +kernel
theorem dL_law_16 : decode cL_law 16 = .ok (.iconst 0, 1) := by decide +kernel
theorem dL_law_17 : decode cL_law 17 = .ok (.istore_n 3, 1) := by decide +kernel
theorem dL_law_18 : decode cL_law 18 = .ok (.iload_n 3, 1) := by decide +kernel
theorem dL_law_19 : decode cL_law 19 = .ok (.aload_n 0, 1) := by decide +kernel
theorem dL_law_20 : decode cL_law 20 = .ok (.arraylength, 1) := by decide +kernel
theorem dL_law_21 : decode cL_law 21 = .ok (.iconst 4, 1) := by decide +kernel
theorem dL_law_22 : decode cL_law 22 = .ok (.isub, 1) := by decide +kernel
theorem dL_law_23 : decode cL_law 23 = .ok (.if_icmp .gt 466, 3) := by decide +kernel
theorem dL_law_26 : decode cL_law 26 = .ok (.aload_n 0, 1) := by decide +kernel
theorem dL_law_27 : decode cL_law 27 = .ok (.iload_n 3, 1) := by decide +kernel
theorem dL_law_28 : decode cL_law 28 = .ok (.iaload, 1) := by decide +kernel
theorem dL_law_29 : decode cL_law 29 = .ok (.bipush 15, 2) := by decide +kernel
theorem dL_law_31 : decode cL_law 31 = .ok (.iand, 1) := by decide +kernel
theorem dL_law_32 : decode cL_law 32 = .ok (.tableswitch 451 0 14 #[76, 109, 152, 185, 218, 241, 264, 287, 330, 353, 366, 379, 402, 415, 438], 76) := by decide +kernel
theorem dL_law_108 : decode cL_law 108 = .ok (.aload_n 1, 1) := by decide +kernel
theorem dL_law_109 : decode cL_law 109 = .ok (.aload_n 0, 1) := by decide +kernel
theorem dL_law_110 : decode cL_law 110 = .ok (.iload_n 3, 1) := by decide +kernel
theorem dL_law_111 : decode cL_law 111 = .ok (.iconst 1, 1) := by decide +kernel
theorem dL_law_112 : decode cL_law 112 = .ok (.iadd, 1) := by decide +kernel
theorem dL_law_113 : decode cL_law 113 = .ok (.iaload, 1) := by decide +kernel
theorem dL_law_114 : decode cL_law 114 = .ok (.aload_n 0, 1) := by decide +kernel
theorem dL_law_115 : decode cL_law 115 = .ok (.iload_n 3, 1) := by decide +kernel
theorem dL_law_116 : decode cL_law 116 = .ok (.iconst 2, 1) := by decide +kernel
theorem dL_law_117 : decode cL_law 117 = .ok (.iadd, 1) := by decide +kernel
theorem dL_law_118 : decode cL_law 118 = .ok (.iaload, 1) := by decide +kernel
theorem dL_law_119 : decode cL_law 119 = .ok (.invokevirtual 13, 3) := by decide +kernel
theorem dL_law_122 : decode cL_law 122 = .ok (.aload_n 2, 1) := by decide +kernel
theorem dL_law_123 : decode cL_law 123 = .ok (.aload_n 0, 1) := by decide +kernel
theorem dL_law_124 : decode cL_law 124 = .ok (.iload_n 3, 1) := by decide +kernel
theorem dL_law_125 : decode cL_law 125 = .ok (.iconst 1, 1) := by decide +kernel
theorem dL_law_126 : decode cL_law 126 = .ok (.iadd, 1) := by decide +kernel
theorem dL_law_127 : decode cL_law 127 = .ok (.iaload, 1) := by decide +kernel
theorem dL_law_128 : decode cL_law 128 = .ok (.aload_n 0, 1) := by decide +kernel
theorem dL_law_129 : decode cL_law 129 = .ok (.iload_n 3, 1) := by decide +kernel
theorem dL_law_130 : decode cL_law 130 = .ok (.iconst 2, 1) := by decide +kernel
theorem dL_law_131 : decode cL_law 131 = .ok (.iadd, 1) := by decide +kernel
theorem dL_law_132 : decode cL_law 132 = .ok (.iaload, 1) := by decide +kernel
theorem dL_law_133 : decode cL_law 133 = .ok (.invokevirtual 17, 3) := by decide +kernel
theorem dL_law_136 : decode cL_law 136 = .ok (.if_icmp .eq 347, 3) := by decide +kernel
theorem dL_law_139 : decode cL_law 139 = .ok (.iconst 0, 1) := by decide +kernel
theorem dL_law_140 : decode cL_law 140 = .ok (.ireturn, 1) := by decide +kernel
theorem dL_law_141 : decode cL_law 141 = .ok (.aload_n 1, 1) := by decide +kernel
theorem dL_law_142 : decode cL_law 142 = .ok (.aload_n 0, 1) := by decide +kernel
theorem dL_law_143 : decode cL_law 143 = .ok (.iload_n 3, 1) := by decide +kernel
theorem dL_law_144 : decode cL_law 144 = .ok (.iconst 1, 1) := by decide +kernel
theorem dL_law_145 : decode cL_law 145 = .ok (.iadd, 1) := by decide +kernel
theorem dL_law_146 : decode cL_law 146 = .ok (.iaload, 1) := by decide +kernel
theorem dL_law_147 : decode cL_law 147 = .ok (.aload_n 0, 1) := by decide +kernel
theorem dL_law_148 : decode cL_law 148 = .ok (.iload_n 3, 1) := by decide +kernel
theorem dL_law_149 : decode cL_law 149 = .ok (.iconst 2, 1) := by decide +kernel
theorem dL_law_150 : decode cL_law 150 = .ok (.iadd, 1) := by decide +kernel
theorem dL_law_151 : decode cL_law 151 = .ok (.iaload, 1) := by decide +kernel
theorem dL_law_152 : decode cL_law 152 = .ok (.aload_n 0, 1) := by decide +kernel
theorem dL_law_153 : decode cL_law 153 = .ok (.iload_n 3, 1) := by decide +kernel
theorem dL_law_154 : decode cL_law 154 = .ok (.iconst 3, 1) := by decide +kernel
theorem dL_law_155 : decode cL_law 155 = .ok (.iadd, 1) := by decide +kernel
theorem dL_law_156 : decode cL_law 156 = .ok (.iaload, 1) := by decide +kernel
theorem dL_law_157 : decode cL_law 157 = .ok (.invokevirtual 18, 3) := by decide +kernel
theorem dL_law_160 : decode cL_law 160 = .ok (.aload_n 2, 1) := by decide +kernel
theorem dL_law_161 : decode cL_law 161 = .ok (.aload_n 0, 1) := by decide +kernel
theorem dL_law_162 : decode cL_law 162 = .ok (.iload_n 3, 1) := by decide +kernel
theorem dL_law_163 : decode cL_law 163 = .ok (.iconst 1, 1) := by decide +kernel
theorem dL_law_164 : decode cL_law 164 = .ok (.iadd, 1) := by decide +kernel
theorem dL_law_165 : decode cL_law 165 = .ok (.iaload, 1) := by decide +kernel
theorem dL_law_166 : decode cL_law 166 = .ok (.aload_n 0, 1) := by decide +kernel
theorem dL_law_167 : decode cL_law 167 = .ok (.iload_n 3, 1) := by decide +kernel
theorem dL_law_168 : decode cL_law 168 = .ok (.iconst 2, 1) := by decide +kernel
theorem dL_law_169 : decode cL_law 169 = .ok (.iadd, 1) := by decide +kernel
theorem dL_law_170 : decode cL_law 170 = .ok (.iaload, 1) := by decide +kernel
theorem dL_law_171 : decode cL_law 171 = .ok (.aload_n 0, 1) := by decide +kernel
theorem dL_law_172 : decode cL_law 172 = .ok (.iload_n 3, 1) := by decide +kernel
theorem dL_law_173 : decode cL_law 173 = .ok (.iconst 3, 1) := by decide +kernel
theorem dL_law_174 : decode cL_law 174 = .ok (.iadd, 1) := by decide +kernel
theorem dL_law_175 : decode cL_law 175 = .ok (.iaload, 1) := by decide +kernel
theorem dL_law_176 : decode cL_law 176 = .ok (.invokevirtual 22, 3) := by decide +kernel
theorem dL_law_179 : decode cL_law 179 = .ok (.if_icmp .eq 304, 3) := by decide +kernel
theorem dL_law_182 : decode cL_law 182 = .ok (.iconst 0, 1) := by decide +kernel
theorem dL_law_183 : decode cL_law 183 = .ok (.ireturn, 1) := by decide +kernel
theorem dL_law_184 : decode cL_law 184 = .ok (.aload_n 1, 1) := by decide +kernel
theorem dL_law_185 : decode cL_law 185 = .ok (.aload_n 0, 1) := by decide +kernel
theorem dL_law_186 : decode cL_law 186 = .ok (.iload_n 3, 1) := by decide +kernel
theorem dL_law_187 : decode cL_law 187 = .ok (.iconst 1, 1) := by decide +kernel
theorem dL_law_188 : decode cL_law 188 = .ok (.iadd, 1) := by decide +kernel
theorem dL_law_189 : decode cL_law 189 = .ok (.iaload, 1) := by decide +kernel
theorem dL_law_190 : decode cL_law 190 = .ok (.aload_n 0, 1) := by decide +kernel
theorem dL_law_191 : decode cL_law 191 = .ok (.iload_n 3, 1) := by decide +kernel
theorem dL_law_192 : decode cL_law 192 = .ok (.iconst 2, 1) := by decide +kernel
theorem dL_law_193 : decode cL_law 193 = .ok (.iadd, 1) := by decide +kernel
theorem dL_law_194 : decode cL_law 194 = .ok (.iaload, 1) := by decide +kernel
theorem dL_law_195 : decode cL_law 195 = .ok (.invokevirtual 23, 3) := by decide +kernel
theorem dL_law_198 : decode cL_law 198 = .ok (.aload_n 2, 1) := by decide +kernel
theorem dL_law_199 : decode cL_law 199 = .ok (.aload_n 0, 1) := by decide +kernel
theorem dL_law_200 : decode cL_law 200 = .ok (.iload_n 3, 1) := by decide +kernel
theorem dL_law_201 : decode cL_law 201 = .ok (.iconst 1, 1) := by decide +kernel
theorem dL_law_202 : decode cL_law 202 = .ok (.iadd, 1) := by decide +kernel
theorem dL_law_203 : decode cL_law 203 = .ok (.iaload, 1) := by decide +kernel
theorem dL_law_204 : decode cL_law 204 = .ok (.aload_n 0, 1) := by decide +kernel
theorem dL_law_205 : decode cL_law 205 = .ok (.iload_n 3, 1) := by decide +kernel
theorem dL_law_206 : decode cL_law 206 = .ok (.iconst 2, 1) := by decide +kernel
theorem dL_law_207 : decode cL_law 207 = .ok (.iadd, 1) := by decide +kernel
theorem dL_law_208 : decode cL_law 208 = .ok (.iaload, 1) := by decide +kernel
theorem dL_law_209 : decode cL_law 209 = .ok (.invokevirtual 26, 3) := by decide +kernel
theorem dL_law_212 : decode cL_law 212 = .ok (.if_icmp .eq 271, 3) := by decide +kernel
theorem dL_law_215 : decode cL_law 215 = .ok (.iconst 0, 1) := by decide +kernel
theorem dL_law_216 : decode cL_law 216 = .ok (.ireturn, 1) := by decide +kernel
theorem dL_law_217 : decode cL_law 217 = .ok (.aload_n 1, 1) := by decide +kernel
theorem dL_law_218 : decode cL_law 218 = .ok (.aload_n 0, 1) := by decide +kernel
theorem dL_law_219 : decode cL_law 219 = .ok (.iload_n 3, 1) := by decide +kernel
theorem dL_law_220 : decode cL_law 220 = .ok (.iconst 1, 1) := by decide +kernel
theorem dL_law_221 : decode cL_law 221 = .ok (.iadd, 1) := by decide +kernel
theorem dL_law_222 : decode cL_law 222 = .ok (.iaload, 1) := by decide +kernel
theorem dL_law_223 : decode cL_law 223 = .ok (.aload_n 0, 1) := by decide +kernel
theorem dL_law_224 : decode cL_law 224 = .ok (.iload_n 3, 1) := by decide +kernel
theorem dL_law_225 : decode cL_law 225 = .ok (.iconst 2, 1) := by decide +kernel
theorem dL_law_226 : decode cL_law 226 = .ok (.iadd, 1) := by decide +kernel
theorem dL_law_227 : decode cL_law 227 = .ok (.iaload, 1) := by decide +kernel
theorem dL_law_228 : decode cL_law 228 = .ok (.invokevirtual 27, 3) := by decide +kernel
theorem dL_law_231 : decode cL_law 231 = .ok (.aload_n 2, 1) := by decide +kernel
theorem dL_law_232 : decode cL_law 232 = .ok (.aload_n 0, 1) := by decide +kernel
theorem dL_law_233 : decode cL_law 233 = .ok (.iload_n 3, 1) := by decide +kernel
theorem dL_law_234 : decode cL_law 234 = .ok (.iconst 1, 1) := by decide +kernel
theorem dL_law_235 : decode cL_law 235 = .ok (.iadd, 1) := by decide +kernel
theorem dL_law_236 : decode cL_law 236 = .ok (.iaload, 1) := by decide +kernel
theorem dL_law_237 : decode cL_law 237 = .ok (.aload_n 0, 1) := by decide +kernel
theorem dL_law_238 : decode cL_law 238 = .ok (.iload_n 3, 1) := by decide +kernel
theorem dL_law_239 : decode cL_law 239 = .ok (.iconst 2, 1) := by decide +kernel
theorem dL_law_240 : decode cL_law 240 = .ok (.iadd, 1) := by decide +kernel
theorem dL_law_241 : decode cL_law 241 = .ok (.iaload, 1) := by decide +kernel
theorem dL_law_242 : decode cL_law 242 = .ok (.invokevirtual 30, 3) := by decide +kernel
theorem dL_law_245 : decode cL_law 245 = .ok (.if_icmp .eq 238, 3) := by decide +kernel
theorem dL_law_248 : decode cL_law 248 = .ok (.iconst 0, 1) := by decide +kernel
theorem dL_law_249 : decode cL_law 249 = .ok (.ireturn, 1) := by decide +kernel
theorem dL_law_250 : decode cL_law 250 = .ok (.aload_n 1, 1) := by decide +kernel
theorem dL_law_251 : decode cL_law 251 = .ok (.aload_n 0, 1) := by decide +kernel
theorem dL_law_252 : decode cL_law 252 = .ok (.iload_n 3, 1) := by decide +kernel
theorem dL_law_253 : decode cL_law 253 = .ok (.iconst 1, 1) := by decide +kernel
theorem dL_law_254 : decode cL_law 254 = .ok (.iadd, 1) := by decide +kernel
theorem dL_law_255 : decode cL_law 255 = .ok (.iaload, 1) := by decide +kernel
theorem dL_law_256 : decode cL_law 256 = .ok (.invokevirtual 31, 3) := by decide +kernel
theorem dL_law_259 : decode cL_law 259 = .ok (.aload_n 2, 1) := by decide +kernel
theorem dL_law_260 : decode cL_law 260 = .ok (.aload_n 0, 1) := by decide +kernel
theorem dL_law_261 : decode cL_law 261 = .ok (.iload_n 3, 1) := by decide +kernel
theorem dL_law_262 : decode cL_law 262 = .ok (.iconst 1, 1) := by decide +kernel
theorem dL_law_263 : decode cL_law 263 = .ok (.iadd, 1) := by decide +kernel
theorem dL_law_264 : decode cL_law 264 = .ok (.iaload, 1) := by decide +kernel
theorem dL_law_265 : decode cL_law 265 = .ok (.invokevirtual 35, 3) := by decide +kernel
theorem dL_law_268 : decode cL_law 268 = .ok (.if_icmp .eq 215, 3) := by decide +kernel
theorem dL_law_271 : decode cL_law 271 = .ok (.iconst 0, 1) := by decide +kernel
theorem dL_law_272 : decode cL_law 272 = .ok (.ireturn, 1) := by decide +kernel
theorem dL_law_273 : decode cL_law 273 = .ok (.aload_n 1, 1) := by decide +kernel
theorem dL_law_274 : decode cL_law 274 = .ok (.aload_n 0, 1) := by decide +kernel
theorem dL_law_275 : decode cL_law 275 = .ok (.iload_n 3, 1) := by decide +kernel
theorem dL_law_276 : decode cL_law 276 = .ok (.iconst 1, 1) := by decide +kernel
theorem dL_law_277 : decode cL_law 277 = .ok (.iadd, 1) := by decide +kernel
theorem dL_law_278 : decode cL_law 278 = .ok (.iaload, 1) := by decide +kernel
theorem dL_law_279 : decode cL_law 279 = .ok (.invokevirtual 36, 3) := by decide +kernel
theorem dL_law_282 : decode cL_law 282 = .ok (.aload_n 2, 1) := by decide +kernel
theorem dL_law_283 : decode cL_law 283 = .ok (.aload_n 0, 1) := by decide +kernel
theorem dL_law_284 : decode cL_law 284 = .ok (.iload_n 3, 1) := by decide +kernel
theorem dL_law_285 : decode cL_law 285 = .ok (.iconst 1, 1) := by decide +kernel
theorem dL_law_286 : decode cL_law 286 = .ok (.iadd, 1) := by decide +kernel
theorem dL_law_287 : decode cL_law 287 = .ok (.iaload, 1) := by decide +kernel
theorem dL_law_288 : decode cL_law 288 = .ok (.invokevirtual 39, 3) := by decide +kernel
theorem dL_law_291 : decode cL_law 291 = .ok (.if_icmp .eq 192, 3) := by decide +kernel
theorem dL_law_294 : decode cL_law 294 = .ok (.iconst 0, 1) := by decide +kernel
theorem dL_law_295 : decode cL_law 295 = .ok (.ireturn, 1) := by decide +kernel
theorem dL_law_296 : decode cL_law 296 = .ok (.aload_n 1, 1) := by decide +kernel
theorem dL_law_297 : decode cL_law 297 = .ok (.aload_n 0, 1) := by decide +kernel
theorem dL_law_298 : decode cL_law 298 = .ok (.iload_n 3, 1) := by decide +kernel
theorem dL_law_299 : decode cL_law 299 = .ok (.iconst 1, 1) := by decide +kernel
theorem dL_law_300 : decode cL_law 300 = .ok (.iadd, 1) := by decide +kernel
theorem dL_law_301 : decode cL_law 301 = .ok (.iaload, 1) := by decide +kernel
theorem dL_law_302 : decode cL_law 302 = .ok (.invokevirtual 40, 3) := by decide +kernel
theorem dL_law_305 : decode cL_law 305 = .ok (.aload_n 2, 1) := by decide +kernel
theorem dL_law_306 : decode cL_law 306 = .ok (.aload_n 0, 1) := by decide +kernel
theorem dL_law_307 : decode cL_law 307 = .ok (.iload_n 3, 1) := by decide +kernel
theorem dL_law_308 : decode cL_law 308 = .ok (.iconst 1, 1) := by decide +kernel
theorem dL_law_309 : decode cL_law 309 = .ok (.iadd, 1) := by decide +kernel
theorem dL_law_310 : decode cL_law 310 = .ok (.iaload, 1) := by decide +kernel
theorem dL_law_311 : decode cL_law 311 = .ok (.invokevirtual 43, 3) := by decide +kernel
theorem dL_law_314 : decode cL_law 314 = .ok (.if_icmp .eq 169, 3) := by decide +kernel
theorem dL_law_317 : decode cL_law 317 = .ok (.iconst 0, 1) := by decide +kernel
theorem dL_law_318 : decode cL_law 318 = .ok (.ireturn, 1) := by decide +kernel
theorem dL_law_319 : decode cL_law 319 = .ok (.aload_n 1, 1) := by decide +kernel
theorem dL_law_320 : decode cL_law 320 = .ok (.aload_n 0, 1) := by decide +kernel
theorem dL_law_321 : decode cL_law 321 = .ok (.iload_n 3, 1) := by decide +kernel
theorem dL_law_322 : decode cL_law 322 = .ok (.iconst 1, 1) := by decide +kernel
theorem dL_law_323 : decode cL_law 323 = .ok (.iadd, 1) := by decide +kernel
theorem dL_law_324 : decode cL_law 324 = .ok (.iaload, 1) := by decide +kernel
theorem dL_law_325 : decode cL_law 325 = .ok (.aload_n 0, 1) := by decide +kernel
theorem dL_law_326 : decode cL_law 326 = .ok (.iload_n 3, 1) := by decide +kernel
theorem dL_law_327 : decode cL_law 327 = .ok (.iconst 2, 1) := by decide +kernel
theorem dL_law_328 : decode cL_law 328 = .ok (.iadd, 1) := by decide +kernel
theorem dL_law_329 : decode cL_law 329 = .ok (.iaload, 1) := by decide +kernel
theorem dL_law_330 : decode cL_law 330 = .ok (.aload_n 0, 1) := by decide +kernel
theorem dL_law_331 : decode cL_law 331 = .ok (.iload_n 3, 1) := by decide +kernel
theorem dL_law_332 : decode cL_law 332 = .ok (.iconst 3, 1) := by decide +kernel
theorem dL_law_333 : decode cL_law 333 = .ok (.iadd, 1) := by decide +kernel
theorem dL_law_334 : decode cL_law 334 = .ok (.iaload, 1) := by decide +kernel
theorem dL_law_335 : decode cL_law 335 = .ok (.invokevirtual 44, 3) := by decide +kernel
theorem dL_law_338 : decode cL_law 338 = .ok (.aload_n 2, 1) := by decide +kernel
theorem dL_law_339 : decode cL_law 339 = .ok (.aload_n 0, 1) := by decide +kernel
theorem dL_law_340 : decode cL_law 340 = .ok (.iload_n 3, 1) := by decide +kernel
theorem dL_law_341 : decode cL_law 341 = .ok (.iconst 1, 1) := by decide +kernel
theorem dL_law_342 : decode cL_law 342 = .ok (.iadd, 1) := by decide +kernel
theorem dL_law_343 : decode cL_law 343 = .ok (.iaload, 1) := by decide +kernel
theorem dL_law_344 : decode cL_law 344 = .ok (.aload_n 0, 1) := by decide +kernel
theorem dL_law_345 : decode cL_law 345 = .ok (.iload_n 3, 1) := by decide +kernel
theorem dL_law_346 : decode cL_law 346 = .ok (.iconst 2, 1) := by decide +kernel
theorem dL_law_347 : decode cL_law 347 = .ok (.iadd, 1) := by decide +kernel
theorem dL_law_348 : decode cL_law 348 = .ok (.iaload, 1) := by decide +kernel
theorem dL_law_349 : decode cL_law 349 = .ok (.aload_n 0, 1) := by decide +kernel
theorem dL_law_350 : decode cL_law 350 = .ok (.iload_n 3, 1) := by decide +kernel
theorem dL_law_351 : decode cL_law 351 = .ok (.iconst 3, 1) := by decide +kernel
theorem dL_law_352 : decode cL_law 352 = .ok (.iadd, 1) := by decide +kernel
theorem dL_law_353 : decode cL_law 353 = .ok (.iaload, 1) := by decide +kernel
theorem dL_law_354 : decode cL_law 354 = .ok (.invokevirtual 47, 3) := by decide +kernel
theorem dL_law_357 : decode cL_law 357 = .ok (.if_icmp .eq 126, 3) := by decide +kernel
theorem dL_law_360 : decode cL_law 360 = .ok (.iconst 0, 1) := by decide +kernel
theorem dL_law_361 : decode cL_law 361 = .ok (.ireturn, 1) := by decide +kernel
theorem dL_law_362 : decode cL_law 362 = .ok (.aload_n 1, 1) := by decide +kernel
theorem dL_law_363 : decode cL_law 363 = .ok (.aload_n 0, 1) := by decide +kernel
theorem dL_law_364 : decode cL_law 364 = .ok (.iload_n 3, 1) := by decide +kernel
theorem dL_law_365 : decode cL_law 365 = .ok (.iconst 1, 1) := by decide +kernel
theorem dL_law_366 : decode cL_law 366 = .ok (.iadd, 1) := by decide +kernel
theorem dL_law_367 : decode cL_law 367 = .ok (.iaload, 1) := by decide +kernel
theorem dL_law_368 : decode cL_law 368 = .ok (.invokevirtual 48, 3) := by decide +kernel
theorem dL_law_371 : decode cL_law 371 = .ok (.aload_n 2, 1) := by decide +kernel
theorem dL_law_372 : decode cL_law 372 = .ok (.aload_n 0, 1) := by decide +kernel
theorem dL_law_373 : decode cL_law 373 = .ok (.iload_n 3, 1) := by decide +kernel
theorem dL_law_374 : decode cL_law 374 = .ok (.iconst 1, 1) := by decide +kernel
theorem dL_law_375 : decode cL_law 375 = .ok (.iadd, 1) := by decide +kernel
theorem dL_law_376 : decode cL_law 376 = .ok (.iaload, 1) := by decide +kernel
theorem dL_law_377 : decode cL_law 377 = .ok (.invokevirtual 51, 3) := by decide +kernel
theorem dL_law_380 : decode cL_law 380 = .ok (.if_icmp .eq 103, 3) := by decide +kernel
theorem dL_law_383 : decode cL_law 383 = .ok (.iconst 0, 1) := by decide +kernel
theorem dL_law_384 : decode cL_law 384 = .ok (.ireturn, 1) := by decide +kernel
theorem dL_law_385 : decode cL_law 385 = .ok (.aload_n 1, 1) := by decide +kernel
theorem dL_law_386 : decode cL_law 386 = .ok (.invokevirtual 52, 3) := by decide +kernel
theorem dL_law_389 : decode cL_law 389 = .ok (.aload_n 2, 1) := by decide +kernel
theorem dL_law_390 : decode cL_law 390 = .ok (.invokevirtual 56, 3) := by decide +kernel
theorem dL_law_393 : decode cL_law 393 = .ok (.if_icmp .eq 90, 3) := by decide +kernel
theorem dL_law_396 : decode cL_law 396 = .ok (.iconst 0, 1) := by decide +kernel
theorem dL_law_397 : decode cL_law 397 = .ok (.ireturn, 1) := by decide +kernel
theorem dL_law_398 : decode cL_law 398 = .ok (.aload_n 1, 1) := by decide +kernel
theorem dL_law_399 : decode cL_law 399 = .ok (.invokevirtual 57, 3) := by decide +kernel
theorem dL_law_402 : decode cL_law 402 = .ok (.aload_n 2, 1) := by decide +kernel
theorem dL_law_403 : decode cL_law 403 = .ok (.invokevirtual 60, 3) := by decide +kernel
theorem dL_law_406 : decode cL_law 406 = .ok (.if_icmp .eq 77, 3) := by decide +kernel
theorem dL_law_409 : decode cL_law 409 = .ok (.iconst 0, 1) := by decide +kernel
theorem dL_law_410 : decode cL_law 410 = .ok (.ireturn, 1) := by decide +kernel
theorem dL_law_411 : decode cL_law 411 = .ok (.aload_n 1, 1) := by decide +kernel
theorem dL_law_412 : decode cL_law 412 = .ok (.aload_n 0, 1) := by decide +kernel
theorem dL_law_413 : decode cL_law 413 = .ok (.iload_n 3, 1) := by decide +kernel
theorem dL_law_414 : decode cL_law 414 = .ok (.iconst 1, 1) := by decide +kernel
theorem dL_law_415 : decode cL_law 415 = .ok (.iadd, 1) := by decide +kernel
theorem dL_law_416 : decode cL_law 416 = .ok (.iaload, 1) := by decide +kernel
theorem dL_law_417 : decode cL_law 417 = .ok (.invokevirtual 61, 3) := by decide +kernel
theorem dL_law_420 : decode cL_law 420 = .ok (.aload_n 2, 1) := by decide +kernel
theorem dL_law_421 : decode cL_law 421 = .ok (.aload_n 0, 1) := by decide +kernel
theorem dL_law_422 : decode cL_law 422 = .ok (.iload_n 3, 1) := by decide +kernel
theorem dL_law_423 : decode cL_law 423 = .ok (.iconst 1, 1) := by decide +kernel
theorem dL_law_424 : decode cL_law 424 = .ok (.iadd, 1) := by decide +kernel
theorem dL_law_425 : decode cL_law 425 = .ok (.iaload, 1) := by decide +kernel
theorem dL_law_426 : decode cL_law 426 = .ok (.invokevirtual 64, 3) := by decide +kernel
theorem dL_law_429 : decode cL_law 429 = .ok (.if_icmp .eq 54, 3) := by decide +kernel
theorem dL_law_432 : decode cL_law 432 = .ok (.iconst 0, 1) := by decide +kernel
theorem dL_law_433 : decode cL_law 433 = .ok (.ireturn, 1) := by decide +kernel
theorem dL_law_434 : decode cL_law 434 = .ok (.aload_n 1, 1) := by decide +kernel
theorem dL_law_435 : decode cL_law 435 = .ok (.invokevirtual 65, 3) := by decide +kernel
theorem dL_law_438 : decode cL_law 438 = .ok (.aload_n 2, 1) := by decide +kernel
theorem dL_law_439 : decode cL_law 439 = .ok (.invokevirtual 68, 3) := by decide +kernel
theorem dL_law_442 : decode cL_law 442 = .ok (.if_icmp .eq 41, 3) := by decide +kernel
theorem dL_law_445 : decode cL_law 445 = .ok (.iconst 0, 1) := by decide +kernel
theorem dL_law_446 : decode cL_law 446 = .ok (.ireturn, 1) := by decide +kernel
theorem dL_law_447 : decode cL_law 447 = .ok (.aload_n 1, 1) := by decide +kernel
theorem dL_law_448 : decode cL_law 448 = .ok (.aload_n 0, 1) := by decide +kernel
theorem dL_law_449 : decode cL_law 449 = .ok (.iload_n 3, 1) := by decide +kernel
theorem dL_law_450 : decode cL_law 450 = .ok (.iconst 1, 1) := by decide +kernel
theorem dL_law_451 : decode cL_law 451 = .ok (.iadd, 1) := by decide +kernel
theorem dL_law_452 : decode cL_law 452 = .ok (.iaload, 1) := by decide +kernel
theorem dL_law_453 : decode cL_law 453 = .ok (.invokevirtual 69, 3) := by decide +kernel
theorem dL_law_456 : decode cL_law 456 = .ok (.aload_n 2, 1) := by decide +kernel
theorem dL_law_457 : decode cL_law 457 = .ok (.aload_n 0, 1) := by decide +kernel
theorem dL_law_458 : decode cL_law 458 = .ok (.iload_n 3, 1) := by decide +kernel
theorem dL_law_459 : decode cL_law 459 = .ok (.iconst 1, 1) := by decide +kernel
theorem dL_law_460 : decode cL_law 460 = .ok (.iadd, 1) := by decide +kernel
theorem dL_law_461 : decode cL_law 461 = .ok (.iaload, 1) := by decide +kernel
theorem dL_law_462 : decode cL_law 462 = .ok (.invokevirtual 72, 3) := by decide +kernel
theorem dL_law_465 : decode cL_law 465 = .ok (.if_icmp .eq 18, 3) := by decide +kernel
theorem dL_law_468 : decode cL_law 468 = .ok (.iconst 0, 1) := by decide +kernel
theorem dL_law_469 : decode cL_law 469 = .ok (.ireturn, 1) := by decide +kernel
theorem dL_law_470 : decode cL_law 470 = .ok (.aload_n 1, 1) := by decide +kernel
theorem dL_law_471 : decode cL_law 471 = .ok (.invokevirtual 73, 3) := by decide +kernel
theorem dL_law_474 : decode cL_law 474 = .ok (.aload_n 2, 1) := by decide +kernel
theorem dL_law_475 : decode cL_law 475 = .ok (.invokevirtual 76, 3) := by decide +kernel
theorem dL_law_478 : decode cL_law 478 = .ok (.if_icmp .eq 5, 3) := by decide +kernel
theorem dL_law_481 : decode cL_law 481 = .ok (.iconst 0, 1) := by decide +kernel
theorem dL_law_482 : decode cL_law 482 = .ok (.ireturn, 1) := by decide +kernel
theorem dL_law_483 : decode cL_law 483 = .ok (.iinc 3 4, 3) := by decide +kernel
theorem dL_law_486 : decode cL_law 486 = .ok (.goto (-468), 3) := by decide +kernel
theorem dL_law_489 : decode cL_law 489 = .ok (.iconst 1, 1) := by decide +kernel
theorem dL_law_490 : decode cL_law 490 = .ok (.ireturn, 1) := by decide +kernel
end
section
/-! an int by its number -/
def iI (z : Int) : Int32 := Int32.ofInt z
theorem iI_add (a b : Int) : iI a + iI b = iI (a + b) := (Int32.ofInt_add a b).symm
theorem iI_sub (a b : Int) : iI a - iI b = iI (a - b) := (Int32.ofInt_sub a b).symm
theorem iI_mul (a b : Int) : iI a * iI b = iI (a * b) := (Int32.ofInt_mul a b).symm
theorem iI_toInt {z : Int} (h : -2147483648 ≤ z ∧ z < 2147483648) : (iI z).toInt = z := Int32.toInt_ofInt_of_le (by omega) (by omega)
theorem iI_lt {a b : Int} (ha : -2147483648 ≤ a ∧ a < 2147483648) (hb : -2147483648 ≤ b ∧ b < 2147483648) : iI a < iI b ↔ a < b := by
  rw [Int32.lt_iff_toInt_lt, iI_toInt ha, iI_toInt hb]
theorem iI_le {a b : Int} (ha : -2147483648 ≤ a ∧ a < 2147483648) (hb : -2147483648 ≤ b ∧ b < 2147483648) : iI a ≤ iI b ↔ a ≤ b := by
  rw [Int32.le_iff_toInt_le, iI_toInt ha, iI_toInt hb]
theorem iI_eq {a b : Int} (ha : -2147483648 ≤ a ∧ a < 2147483648) (hb : -2147483648 ≤ b ∧ b < 2147483648) : iI a = iI b ↔ a = b := by
  refine ⟨fun h => ?_, fun h => by rw [h]⟩
  have h2 := congrArg Int32.toInt h
  rwa [iI_toInt ha, iI_toInt hb] at h2
theorem iI_of (x : Int32) : x = iI x.toInt := (Int32.ofInt_toInt x).symm
theorem iI_rg (x : Int32) : -2147483648 ≤ x.toInt ∧ x.toInt < 2147483648 := by
  have h1 := Int32.le_toInt x
  have h2 := Int32.toInt_lt x
  omega
theorem iI_nat (n : Nat) : iI (n : Int) = nI n := Int32.ofInt_eq_ofNat
theorem iI_0 : iI 0 = 0 := rfl
theorem iI_div {a b : Int} (h0 : 0 ≤ a) (h1 : a < 2147483648) (hb : 0 < b) (hb2 : b < 2147483648) : iI a / iI b = iI (a / b) := by
  obtain ⟨n, rfl⟩ := Int.eq_ofNat_of_zero_le h0
  obtain ⟨d, rfl⟩ := Int.eq_ofNat_of_zero_le (Int.le_of_lt hb)
  rw [iI_nat, iI_nat, pk_div (by omega) (by omega) (by omega), ← iI_nat, Int.natCast_ediv]
theorem iI_rem {a b : Int} (h0 : 0 ≤ a) (h1 : a < 2147483648) (hb : 0 < b) (hb2 : b < 2147483648) : iI a - iI a / iI b * iI b = iI (a % b) := by
  obtain ⟨n, rfl⟩ := Int.eq_ofNat_of_zero_le h0
  obtain ⟨d, rfl⟩ := Int.eq_ofNat_of_zero_le (Int.le_of_lt hb)
  rw [iI_nat, iI_nat, pk_rem (by omega) (by omega) (by omega), ← iI_nat, Int.natCast_emod]
theorem iI_and1 {a : Int} (h0 : 0 ≤ a) (h1 : a < 2147483648) : iI a &&& iI 1 = iI (a % 2) := by
  obtain ⟨n, rfl⟩ := Int.eq_ofNat_of_zero_le h0
  have h := pk_andN (n := n) (by omega) (m := iI 1) 1 (by decide)
  rw [iI_nat, h, ← iI_nat]
  rfl
theorem iI_in {n : Nat} {j : Nat} (h : j < n) (hn : n < 2147483648) : vp_in (iI (j : Int)) n := by
  rw [iI_nat]
  exact vp_in_nI h (by omega)
theorem iI_cl {j : Nat} (h : j < 2147483648) : (iI (j : Int)).toNatClampNeg = j := by
  rw [iI_nat]
  exact nI_clamp (by omega)
/-! the judgement: from any heap of the world Wd and any locals that hold L, the machine at pc with stack st comes to Q -/
abbrev Kx : Type := Program × Launch × Env × Room × State × MethodId × Array Value × List Frame × Method × Code × (State → Prop) × Nat × Nat
abbrev kp (κ : Kx) : Program := κ.1
abbrev kl (κ : Kx) : Launch := κ.2.1
abbrev ke (κ : Kx) : Env := κ.2.2.1
abbrev kR (κ : Kx) : Room := κ.2.2.2.1
abbrev ks (κ : Kx) : State := κ.2.2.2.2.1
abbrev km (κ : Kx) : MethodId := κ.2.2.2.2.2.1
abbrev ka (κ : Kx) : Array Value := κ.2.2.2.2.2.2.1
abbrev kb (κ : Kx) : List Frame := κ.2.2.2.2.2.2.2.1
abbrev kt (κ : Kx) : Method := κ.2.2.2.2.2.2.2.2.1
abbrev kc (κ : Kx) : Code := κ.2.2.2.2.2.2.2.2.2.1
abbrev kQ (κ : Kx) : State → Prop := κ.2.2.2.2.2.2.2.2.2.2.1
abbrev kn (κ : Kx) : Nat := κ.2.2.2.2.2.2.2.2.2.2.2.1
abbrev ko (κ : Kx) : Nat := κ.2.2.2.2.2.2.2.2.2.2.2.2
def J (κ : Kx) (nL : Nat) (Wd : Heap → List Loc → Prop) (pc : Nat) (L : List (Nat × Value)) (st : List Value) : Prop :=
  ∀ (H : Heap) (locs : List Loc) (ls : Array Slot), Wd H locs → lv_has ls nL L → W (kp κ) (kl κ) (ke κ) (kR κ) (ks κ) (km κ) (ka κ) (kb κ) (kt κ) (kc κ) H locs (kn κ) (ko κ) (kQ κ) (F0 (km κ) pc ls st)
def CB (κ : Kx) (cc : ByteArray) (nL : Nat) (own : String) (fr lo : Nat) : Prop := CallFix (kp κ) (km κ) (kc κ) cc nL (ks κ) (ka κ) lw_all own ∧ fr ≤ (kR κ).frames ∧ lo ≤ (kR κ).locals ∧ kn κ ≤ (kR κ).cells ∧ ko κ ≤ (kR κ).slots
abbrev xfil (i : Nat) (v : Value) (L : List (Nat × Value)) : List (Nat × Value) := (i, v) :: L.filter (fun q => !(q.1 == i) && !(q.1 + 1 == i && q.2.category == 2))
theorem r0 : (-2147483648 : Int) ≤ 0 ∧ (0 : Int) < 2147483648 := by omega
section JR
variable {κ : Kx} {cc : ByteArray} {nL fr lo : Nat} {own : String} {Wd : Heap → List Loc → Prop} {pc : Nat} {L : List (Nat × Value)} {st : List Value}
theorem j_iconst (C : CB κ cc nL own fr lo) {n : Int} (hdg : decode cc pc = .ok (.iconst n, 1)) (k : J κ nL Wd (pc + 1) L (.int (iI n) :: st)) : J κ nL Wd pc L st := fun H locs ls hw hl => lv_iconst C.1.1 C.1.2.1 hdg rfl (k H locs ls hw hl)
theorem j_bipush (C : CB κ cc nL own fr lo) {n : Int} (hdg : decode cc pc = .ok (.bipush n, 2)) (hv : (Int8.ofInt n).toInt32 = iI n) (k : J κ nL Wd (pc + 2) L (.int (iI n) :: st)) : J κ nL Wd pc L st := fun H locs ls hw hl => lv_bipush C.1.1 C.1.2.1 hdg hv (k H locs ls hw hl)
theorem j_sipush (C : CB κ cc nL own fr lo) {n : Int} (hdg : decode cc pc = .ok (.sipush n, 3)) (hv : (Int16.ofInt n).toInt32 = iI n) (k : J κ nL Wd (pc + 3) L (.int (iI n) :: st)) : J κ nL Wd pc L st := fun H locs ls hw hl => lv_sipush C.1.1 C.1.2.1 hdg hv (k H locs ls hw hl)
theorem j_iload_n (C : CB κ cc nL own fr lo) (x : Nat) {f : Fin 4} {i : Nat} {v : Int32} (hdg : decode cc pc = .ok (.iload_n f, 1)) (hi : (f : Nat) = i) (hv : L[x]? = some (i, .int v)) (k : J κ nL Wd (pc + 1) L (.int v :: st)) : J κ nL Wd pc L st := fun H locs ls hw hl => lv_iload_n C.1.1 C.1.2.1 hdg hi (lv_at hl x hv) (k H locs ls hw hl)
theorem j_iload (C : CB κ cc nL own fr lo) (x : Nat) {i : Nat} {v : Int32} (hdg : decode cc pc = .ok (.iload i, 2)) (hv : L[x]? = some (i, .int v)) (k : J κ nL Wd (pc + 2) L (.int v :: st)) : J κ nL Wd pc L st := fun H locs ls hw hl => lv_iload C.1.1 C.1.2.1 hdg (lv_at hl x hv) (k H locs ls hw hl)
theorem j_aload_n (C : CB κ cc nL own fr lo) (x : Nat) {f : Fin 4} {i : Nat} {v : Nat} (hdg : decode cc pc = .ok (.aload_n f, 1)) (hi : (f : Nat) = i) (hv : L[x]? = some (i, .ref v)) (k : J κ nL Wd (pc + 1) L (.ref v :: st)) : J κ nL Wd pc L st := fun H locs ls hw hl => lv_aload_n C.1.1 C.1.2.1 hdg hi (lv_at hl x hv) (k H locs ls hw hl)
theorem j_istore_n (C : CB κ cc nL own fr lo) (ks' : List Nat) {f : Fin 4} {i : Nat} {v : Int32} {L' : List (Nat × Value)} (hdg : decode cc pc = .ok (.istore_n f, 1)) (hi : (f : Nat) = i) (hn : i < nL) (hL : lv_pick (xfil i (.int v) L) ks' = L') (k : J κ nL Wd (pc + 1) L' st) : J κ nL Wd pc L (.int v :: st) := fun H locs ls hw hl => lv_istore_n C.1.1 C.1.2.1 hdg hi hl hn rfl (fun ls' hl' => k H locs ls' hw (lv_sub hl' ks' hL))
theorem j_istore (C : CB κ cc nL own fr lo) (ks' : List Nat) {i : Nat} {v : Int32} {L' : List (Nat × Value)} (hdg : decode cc pc = .ok (.istore i, 2)) (hn : i < nL) (hL : lv_pick (xfil i (.int v) L) ks' = L') (k : J κ nL Wd (pc + 2) L' st) : J κ nL Wd pc L (.int v :: st) := fun H locs ls hw hl => lv_istore C.1.1 C.1.2.1 hdg hl hn rfl (fun ls' hl' => k H locs ls' hw (lv_sub hl' ks' hL))
theorem j_iinc (C : CB κ cc nL own fr lo) (x : Nat) (ks' : List Nat) {i : Nat} {n z : Int} {L' : List (Nat × Value)} (hdg : decode cc pc = .ok (.iinc i n, 3)) (hv : L[x]? = some (i, .int (iI z))) (hn : i < nL) (hL : lv_pick (xfil i (.int (iI (z + n))) L) ks' = L') (k : J κ nL Wd (pc + 3) L' st) : J κ nL Wd pc L st := fun H locs ls hw hl => lv_iinc (v := iI (z + n)) C.1.1 C.1.2.1 hdg hl hv (iI_add z n) hn rfl (fun ls' hl' => k H locs ls' hw (lv_sub hl' ks' hL))
theorem j_iadd (C : CB κ cc nL own fr lo) {a b : Int} (hdg : decode cc pc = .ok (.iadd, 1)) (k : J κ nL Wd (pc + 1) L (.int (iI (a + b)) :: st)) : J κ nL Wd pc L (.int (iI b) :: .int (iI a) :: st) := fun H locs ls hw hl => lv_iadd C.1.1 C.1.2.1 hdg (by rw [iI_add]; exact k H locs ls hw hl)
theorem j_isub (C : CB κ cc nL own fr lo) {a b : Int} (hdg : decode cc pc = .ok (.isub, 1)) (k : J κ nL Wd (pc + 1) L (.int (iI (a - b)) :: st)) : J κ nL Wd pc L (.int (iI b) :: .int (iI a) :: st) := fun H locs ls hw hl => lv_isub C.1.1 C.1.2.1 hdg (by rw [iI_sub]; exact k H locs ls hw hl)
theorem j_idiv (C : CB κ cc nL own fr lo) {a b : Int} (hdg : decode cc pc = .ok (.idiv, 1)) (h0 : 0 ≤ a ∧ a < 2147483648) (hb : 0 < b ∧ b < 2147483648) (k : J κ nL Wd (pc + 1) L (.int (iI (a / b)) :: st)) : J κ nL Wd pc L (.int (iI b) :: .int (iI a) :: st) := fun H locs ls hw hl => lv_idiv C.1.1 C.1.2.1 hdg (fun e => by
  have e2 := (iI_eq (a := b) (b := 0) (by omega) (by omega)).mp e
  omega) (by rw [iI_div h0.1 h0.2 hb.1 hb.2]; exact k H locs ls hw hl)
theorem j_irem (C : CB κ cc nL own fr lo) {a b : Int} (hdg : decode cc pc = .ok (.irem, 1)) (h0 : 0 ≤ a ∧ a < 2147483648) (hb : 0 < b ∧ b < 2147483648) (k : J κ nL Wd (pc + 1) L (.int (iI (a % b)) :: st)) : J κ nL Wd pc L (.int (iI b) :: .int (iI a) :: st) := fun H locs ls hw hl => lv_irem C.1.1 C.1.2.1 hdg (fun e => by
  have e2 := (iI_eq (a := b) (b := 0) (by omega) (by omega)).mp e
  omega) (by rw [iI_rem h0.1 h0.2 hb.1 hb.2]; exact k H locs ls hw hl)
theorem j_iand1 (C : CB κ cc nL own fr lo) {a : Int} (hdg : decode cc pc = .ok (.iand, 1)) (h0 : 0 ≤ a ∧ a < 2147483648) (k : J κ nL Wd (pc + 1) L (.int (iI (a % 2)) :: st)) : J κ nL Wd pc L (.int (iI 1) :: .int (iI a) :: st) := fun H locs ls hw hl => lv_iand C.1.1 C.1.2.1 hdg (by rw [iI_and1 h0.1 h0.2]; exact k H locs ls hw hl)
theorem j_dup (C : CB κ cc nL own fr lo) {v : Nat} (hdg : decode cc pc = .ok (.dup, 1)) (k : J κ nL Wd (pc + 1) L (.ref v :: .ref v :: st)) : J κ nL Wd pc L (.ref v :: st) := fun H locs ls hw hl => lv_dup C.1.1 C.1.2.1 hdg rfl (k H locs ls hw hl)
theorem j_goto (C : CB κ cc nL own fr lo) {off : Int} {tgt : Nat} (hdg : decode cc pc = .ok (.goto off, 3)) (ht : (pc : Int) + off = (tgt : Int)) (k : J κ nL Wd tgt L st) : J κ nL Wd pc L st := fun H locs ls hw hl => lv_goto C.1.1 C.1.2.1 hdg ht (k H locs ls hw hl)
theorem j_icmp_lt (C : CB κ cc nL own fr lo) {a b : Int} {off : Int} {tgt : Nat} (hdg : decode cc pc = .ok (.if_icmp .lt off, 3)) (ht : (pc : Int) + off = (tgt : Int)) (ha : -2147483648 ≤ a ∧ a < 2147483648) (hb : -2147483648 ≤ b ∧ b < 2147483648) (kt : a < b → J κ nL Wd tgt L st) (kf : ¬ a < b → J κ nL Wd (pc + 3) L st) : J κ nL Wd pc L (.int (iI b) :: .int (iI a) :: st) := fun H locs ls hw hl => lv_icmp_lt C.1.1 C.1.2.1 hdg ht (fun q => kt ((iI_lt ha hb).mp q) H locs ls hw hl) (fun q => kf (fun e => q ((iI_lt ha hb).mpr e)) H locs ls hw hl)
theorem j_icmp_lt_t (C : CB κ cc nL own fr lo) {a b : Int} {off : Int} {tgt : Nat} (hdg : decode cc pc = .ok (.if_icmp .lt off, 3)) (ht : (pc : Int) + off = (tgt : Int)) (ha : -2147483648 ≤ a ∧ a < 2147483648) (hb : -2147483648 ≤ b ∧ b < 2147483648) (h : a < b) (kt : J κ nL Wd tgt L st) : J κ nL Wd pc L (.int (iI b) :: .int (iI a) :: st) := j_icmp_lt C hdg ht ha hb (fun _ => kt) (fun q => absurd h q)
theorem j_icmp_lt_f (C : CB κ cc nL own fr lo) {a b : Int} {off : Int} (hdg : decode cc pc = .ok (.if_icmp .lt off, 3)) (ha : -2147483648 ≤ a ∧ a < 2147483648) (hb : -2147483648 ≤ b ∧ b < 2147483648) {tgt : Nat} (ht : (pc : Int) + off = (tgt : Int)) (h : ¬ a < b) (kf : J κ nL Wd (pc + 3) L st) : J κ nL Wd pc L (.int (iI b) :: .int (iI a) :: st) := j_icmp_lt C hdg ht ha hb (fun q => absurd q h) (fun _ => kf)
theorem j_if_lt (C : CB κ cc nL own fr lo) {a : Int} {off : Int} {tgt : Nat} (hdg : decode cc pc = .ok (.ifCond .lt off, 3)) (ht : (pc : Int) + off = (tgt : Int)) (ha : -2147483648 ≤ a ∧ a < 2147483648) (kt : a < 0 → J κ nL Wd tgt L st) (kf : ¬ a < 0 → J κ nL Wd (pc + 3) L st) : J κ nL Wd pc L (.int (iI a) :: st) := fun H locs ls hw hl => lv_if_lt C.1.1 C.1.2.1 hdg ht (fun q => kt ((iI_lt ha r0).mp q) H locs ls hw hl) (fun q => kf (fun e => q ((iI_lt ha r0).mpr e)) H locs ls hw hl)
theorem j_if_lt_t (C : CB κ cc nL own fr lo) {a : Int} {off : Int} {tgt : Nat} (hdg : decode cc pc = .ok (.ifCond .lt off, 3)) (ht : (pc : Int) + off = (tgt : Int)) (ha : -2147483648 ≤ a ∧ a < 2147483648) (h : a < 0) (kt : J κ nL Wd tgt L st) : J κ nL Wd pc L (.int (iI a) :: st) := j_if_lt C hdg ht ha (fun _ => kt) (fun q => absurd h q)
theorem j_if_lt_f (C : CB κ cc nL own fr lo) {a : Int} {off : Int} (hdg : decode cc pc = .ok (.ifCond .lt off, 3)) (ha : -2147483648 ≤ a ∧ a < 2147483648) {tgt : Nat} (ht : (pc : Int) + off = (tgt : Int)) (h : ¬ a < 0) (kf : J κ nL Wd (pc + 3) L st) : J κ nL Wd pc L (.int (iI a) :: st) := j_if_lt C hdg ht ha (fun q => absurd q h) (fun _ => kf)
theorem j_icmp_ge (C : CB κ cc nL own fr lo) {a b : Int} {off : Int} {tgt : Nat} (hdg : decode cc pc = .ok (.if_icmp .ge off, 3)) (ht : (pc : Int) + off = (tgt : Int)) (ha : -2147483648 ≤ a ∧ a < 2147483648) (hb : -2147483648 ≤ b ∧ b < 2147483648) (kt : b ≤ a → J κ nL Wd tgt L st) (kf : ¬ b ≤ a → J κ nL Wd (pc + 3) L st) : J κ nL Wd pc L (.int (iI b) :: .int (iI a) :: st) := fun H locs ls hw hl => lv_icmp_ge C.1.1 C.1.2.1 hdg ht (fun q => kt ((iI_le hb ha).mp q) H locs ls hw hl) (fun q => kf (fun e => q ((iI_le hb ha).mpr e)) H locs ls hw hl)
theorem j_icmp_ge_t (C : CB κ cc nL own fr lo) {a b : Int} {off : Int} {tgt : Nat} (hdg : decode cc pc = .ok (.if_icmp .ge off, 3)) (ht : (pc : Int) + off = (tgt : Int)) (ha : -2147483648 ≤ a ∧ a < 2147483648) (hb : -2147483648 ≤ b ∧ b < 2147483648) (h : b ≤ a) (kt : J κ nL Wd tgt L st) : J κ nL Wd pc L (.int (iI b) :: .int (iI a) :: st) := j_icmp_ge C hdg ht ha hb (fun _ => kt) (fun q => absurd h q)
theorem j_icmp_ge_f (C : CB κ cc nL own fr lo) {a b : Int} {off : Int} (hdg : decode cc pc = .ok (.if_icmp .ge off, 3)) (ha : -2147483648 ≤ a ∧ a < 2147483648) (hb : -2147483648 ≤ b ∧ b < 2147483648) {tgt : Nat} (ht : (pc : Int) + off = (tgt : Int)) (h : ¬ b ≤ a) (kf : J κ nL Wd (pc + 3) L st) : J κ nL Wd pc L (.int (iI b) :: .int (iI a) :: st) := j_icmp_ge C hdg ht ha hb (fun q => absurd q h) (fun _ => kf)
theorem j_if_ge (C : CB κ cc nL own fr lo) {a : Int} {off : Int} {tgt : Nat} (hdg : decode cc pc = .ok (.ifCond .ge off, 3)) (ht : (pc : Int) + off = (tgt : Int)) (ha : -2147483648 ≤ a ∧ a < 2147483648) (kt : 0 ≤ a → J κ nL Wd tgt L st) (kf : ¬ 0 ≤ a → J κ nL Wd (pc + 3) L st) : J κ nL Wd pc L (.int (iI a) :: st) := fun H locs ls hw hl => lv_if_ge C.1.1 C.1.2.1 hdg ht (fun q => kt ((iI_le r0 ha).mp q) H locs ls hw hl) (fun q => kf (fun e => q ((iI_le r0 ha).mpr e)) H locs ls hw hl)
theorem j_if_ge_t (C : CB κ cc nL own fr lo) {a : Int} {off : Int} {tgt : Nat} (hdg : decode cc pc = .ok (.ifCond .ge off, 3)) (ht : (pc : Int) + off = (tgt : Int)) (ha : -2147483648 ≤ a ∧ a < 2147483648) (h : 0 ≤ a) (kt : J κ nL Wd tgt L st) : J κ nL Wd pc L (.int (iI a) :: st) := j_if_ge C hdg ht ha (fun _ => kt) (fun q => absurd h q)
theorem j_if_ge_f (C : CB κ cc nL own fr lo) {a : Int} {off : Int} (hdg : decode cc pc = .ok (.ifCond .ge off, 3)) (ha : -2147483648 ≤ a ∧ a < 2147483648) {tgt : Nat} (ht : (pc : Int) + off = (tgt : Int)) (h : ¬ 0 ≤ a) (kf : J κ nL Wd (pc + 3) L st) : J κ nL Wd pc L (.int (iI a) :: st) := j_if_ge C hdg ht ha (fun q => absurd q h) (fun _ => kf)
theorem j_icmp_gt (C : CB κ cc nL own fr lo) {a b : Int} {off : Int} {tgt : Nat} (hdg : decode cc pc = .ok (.if_icmp .gt off, 3)) (ht : (pc : Int) + off = (tgt : Int)) (ha : -2147483648 ≤ a ∧ a < 2147483648) (hb : -2147483648 ≤ b ∧ b < 2147483648) (kt : b < a → J κ nL Wd tgt L st) (kf : ¬ b < a → J κ nL Wd (pc + 3) L st) : J κ nL Wd pc L (.int (iI b) :: .int (iI a) :: st) := fun H locs ls hw hl => lv_icmp_gt C.1.1 C.1.2.1 hdg ht (fun q => kt ((iI_lt hb ha).mp q) H locs ls hw hl) (fun q => kf (fun e => q ((iI_lt hb ha).mpr e)) H locs ls hw hl)
theorem j_icmp_gt_t (C : CB κ cc nL own fr lo) {a b : Int} {off : Int} {tgt : Nat} (hdg : decode cc pc = .ok (.if_icmp .gt off, 3)) (ht : (pc : Int) + off = (tgt : Int)) (ha : -2147483648 ≤ a ∧ a < 2147483648) (hb : -2147483648 ≤ b ∧ b < 2147483648) (h : b < a) (kt : J κ nL Wd tgt L st) : J κ nL Wd pc L (.int (iI b) :: .int (iI a) :: st) := j_icmp_gt C hdg ht ha hb (fun _ => kt) (fun q => absurd h q)
theorem j_icmp_gt_f (C : CB κ cc nL own fr lo) {a b : Int} {off : Int} (hdg : decode cc pc = .ok (.if_icmp .gt off, 3)) (ha : -2147483648 ≤ a ∧ a < 2147483648) (hb : -2147483648 ≤ b ∧ b < 2147483648) {tgt : Nat} (ht : (pc : Int) + off = (tgt : Int)) (h : ¬ b < a) (kf : J κ nL Wd (pc + 3) L st) : J κ nL Wd pc L (.int (iI b) :: .int (iI a) :: st) := j_icmp_gt C hdg ht ha hb (fun q => absurd q h) (fun _ => kf)
theorem j_if_gt (C : CB κ cc nL own fr lo) {a : Int} {off : Int} {tgt : Nat} (hdg : decode cc pc = .ok (.ifCond .gt off, 3)) (ht : (pc : Int) + off = (tgt : Int)) (ha : -2147483648 ≤ a ∧ a < 2147483648) (kt : 0 < a → J κ nL Wd tgt L st) (kf : ¬ 0 < a → J κ nL Wd (pc + 3) L st) : J κ nL Wd pc L (.int (iI a) :: st) := fun H locs ls hw hl => lv_if_gt C.1.1 C.1.2.1 hdg ht (fun q => kt ((iI_lt r0 ha).mp q) H locs ls hw hl) (fun q => kf (fun e => q ((iI_lt r0 ha).mpr e)) H locs ls hw hl)
theorem j_if_gt_t (C : CB κ cc nL own fr lo) {a : Int} {off : Int} {tgt : Nat} (hdg : decode cc pc = .ok (.ifCond .gt off, 3)) (ht : (pc : Int) + off = (tgt : Int)) (ha : -2147483648 ≤ a ∧ a < 2147483648) (h : 0 < a) (kt : J κ nL Wd tgt L st) : J κ nL Wd pc L (.int (iI a) :: st) := j_if_gt C hdg ht ha (fun _ => kt) (fun q => absurd h q)
theorem j_if_gt_f (C : CB κ cc nL own fr lo) {a : Int} {off : Int} (hdg : decode cc pc = .ok (.ifCond .gt off, 3)) (ha : -2147483648 ≤ a ∧ a < 2147483648) {tgt : Nat} (ht : (pc : Int) + off = (tgt : Int)) (h : ¬ 0 < a) (kf : J κ nL Wd (pc + 3) L st) : J κ nL Wd pc L (.int (iI a) :: st) := j_if_gt C hdg ht ha (fun q => absurd q h) (fun _ => kf)
theorem j_icmp_le (C : CB κ cc nL own fr lo) {a b : Int} {off : Int} {tgt : Nat} (hdg : decode cc pc = .ok (.if_icmp .le off, 3)) (ht : (pc : Int) + off = (tgt : Int)) (ha : -2147483648 ≤ a ∧ a < 2147483648) (hb : -2147483648 ≤ b ∧ b < 2147483648) (kt : a ≤ b → J κ nL Wd tgt L st) (kf : ¬ a ≤ b → J κ nL Wd (pc + 3) L st) : J κ nL Wd pc L (.int (iI b) :: .int (iI a) :: st) := fun H locs ls hw hl => lv_icmp_le C.1.1 C.1.2.1 hdg ht (fun q => kt ((iI_le ha hb).mp q) H locs ls hw hl) (fun q => kf (fun e => q ((iI_le ha hb).mpr e)) H locs ls hw hl)
theorem j_icmp_le_t (C : CB κ cc nL own fr lo) {a b : Int} {off : Int} {tgt : Nat} (hdg : decode cc pc = .ok (.if_icmp .le off, 3)) (ht : (pc : Int) + off = (tgt : Int)) (ha : -2147483648 ≤ a ∧ a < 2147483648) (hb : -2147483648 ≤ b ∧ b < 2147483648) (h : a ≤ b) (kt : J κ nL Wd tgt L st) : J κ nL Wd pc L (.int (iI b) :: .int (iI a) :: st) := j_icmp_le C hdg ht ha hb (fun _ => kt) (fun q => absurd h q)
theorem j_icmp_le_f (C : CB κ cc nL own fr lo) {a b : Int} {off : Int} (hdg : decode cc pc = .ok (.if_icmp .le off, 3)) (ha : -2147483648 ≤ a ∧ a < 2147483648) (hb : -2147483648 ≤ b ∧ b < 2147483648) {tgt : Nat} (ht : (pc : Int) + off = (tgt : Int)) (h : ¬ a ≤ b) (kf : J κ nL Wd (pc + 3) L st) : J κ nL Wd pc L (.int (iI b) :: .int (iI a) :: st) := j_icmp_le C hdg ht ha hb (fun q => absurd q h) (fun _ => kf)
theorem j_if_le (C : CB κ cc nL own fr lo) {a : Int} {off : Int} {tgt : Nat} (hdg : decode cc pc = .ok (.ifCond .le off, 3)) (ht : (pc : Int) + off = (tgt : Int)) (ha : -2147483648 ≤ a ∧ a < 2147483648) (kt : a ≤ 0 → J κ nL Wd tgt L st) (kf : ¬ a ≤ 0 → J κ nL Wd (pc + 3) L st) : J κ nL Wd pc L (.int (iI a) :: st) := fun H locs ls hw hl => lv_if_le C.1.1 C.1.2.1 hdg ht (fun q => kt ((iI_le ha r0).mp q) H locs ls hw hl) (fun q => kf (fun e => q ((iI_le ha r0).mpr e)) H locs ls hw hl)
theorem j_if_le_t (C : CB κ cc nL own fr lo) {a : Int} {off : Int} {tgt : Nat} (hdg : decode cc pc = .ok (.ifCond .le off, 3)) (ht : (pc : Int) + off = (tgt : Int)) (ha : -2147483648 ≤ a ∧ a < 2147483648) (h : a ≤ 0) (kt : J κ nL Wd tgt L st) : J κ nL Wd pc L (.int (iI a) :: st) := j_if_le C hdg ht ha (fun _ => kt) (fun q => absurd h q)
theorem j_if_le_f (C : CB κ cc nL own fr lo) {a : Int} {off : Int} (hdg : decode cc pc = .ok (.ifCond .le off, 3)) (ha : -2147483648 ≤ a ∧ a < 2147483648) {tgt : Nat} (ht : (pc : Int) + off = (tgt : Int)) (h : ¬ a ≤ 0) (kf : J κ nL Wd (pc + 3) L st) : J κ nL Wd pc L (.int (iI a) :: st) := j_if_le C hdg ht ha (fun q => absurd q h) (fun _ => kf)
theorem j_icmp_eq (C : CB κ cc nL own fr lo) {a b : Int} {off : Int} {tgt : Nat} (hdg : decode cc pc = .ok (.if_icmp .eq off, 3)) (ht : (pc : Int) + off = (tgt : Int)) (ha : -2147483648 ≤ a ∧ a < 2147483648) (hb : -2147483648 ≤ b ∧ b < 2147483648) (kt : a = b → J κ nL Wd tgt L st) (kf : ¬ a = b → J κ nL Wd (pc + 3) L st) : J κ nL Wd pc L (.int (iI b) :: .int (iI a) :: st) := fun H locs ls hw hl => lv_icmp_eq C.1.1 C.1.2.1 hdg ht (fun q => kt ((iI_eq ha hb).mp q) H locs ls hw hl) (fun q => kf (fun e => q ((iI_eq ha hb).mpr e)) H locs ls hw hl)
theorem j_icmp_eq_t (C : CB κ cc nL own fr lo) {a b : Int} {off : Int} {tgt : Nat} (hdg : decode cc pc = .ok (.if_icmp .eq off, 3)) (ht : (pc : Int) + off = (tgt : Int)) (ha : -2147483648 ≤ a ∧ a < 2147483648) (hb : -2147483648 ≤ b ∧ b < 2147483648) (h : a = b) (kt : J κ nL Wd tgt L st) : J κ nL Wd pc L (.int (iI b) :: .int (iI a) :: st) := j_icmp_eq C hdg ht ha hb (fun _ => kt) (fun q => absurd h q)
theorem j_icmp_eq_f (C : CB κ cc nL own fr lo) {a b : Int} {off : Int} (hdg : decode cc pc = .ok (.if_icmp .eq off, 3)) (ha : -2147483648 ≤ a ∧ a < 2147483648) (hb : -2147483648 ≤ b ∧ b < 2147483648) {tgt : Nat} (ht : (pc : Int) + off = (tgt : Int)) (h : ¬ a = b) (kf : J κ nL Wd (pc + 3) L st) : J κ nL Wd pc L (.int (iI b) :: .int (iI a) :: st) := j_icmp_eq C hdg ht ha hb (fun q => absurd q h) (fun _ => kf)
theorem j_if_eq (C : CB κ cc nL own fr lo) {a : Int} {off : Int} {tgt : Nat} (hdg : decode cc pc = .ok (.ifCond .eq off, 3)) (ht : (pc : Int) + off = (tgt : Int)) (ha : -2147483648 ≤ a ∧ a < 2147483648) (kt : a = 0 → J κ nL Wd tgt L st) (kf : ¬ a = 0 → J κ nL Wd (pc + 3) L st) : J κ nL Wd pc L (.int (iI a) :: st) := fun H locs ls hw hl => lv_if_eq C.1.1 C.1.2.1 hdg ht (fun q => kt ((iI_eq ha r0).mp q) H locs ls hw hl) (fun q => kf (fun e => q ((iI_eq ha r0).mpr e)) H locs ls hw hl)
theorem j_if_eq_t (C : CB κ cc nL own fr lo) {a : Int} {off : Int} {tgt : Nat} (hdg : decode cc pc = .ok (.ifCond .eq off, 3)) (ht : (pc : Int) + off = (tgt : Int)) (ha : -2147483648 ≤ a ∧ a < 2147483648) (h : a = 0) (kt : J κ nL Wd tgt L st) : J κ nL Wd pc L (.int (iI a) :: st) := j_if_eq C hdg ht ha (fun _ => kt) (fun q => absurd h q)
theorem j_if_eq_f (C : CB κ cc nL own fr lo) {a : Int} {off : Int} (hdg : decode cc pc = .ok (.ifCond .eq off, 3)) (ha : -2147483648 ≤ a ∧ a < 2147483648) {tgt : Nat} (ht : (pc : Int) + off = (tgt : Int)) (h : ¬ a = 0) (kf : J κ nL Wd (pc + 3) L st) : J κ nL Wd pc L (.int (iI a) :: st) := j_if_eq C hdg ht ha (fun q => absurd q h) (fun _ => kf)
theorem j_icmp_ne (C : CB κ cc nL own fr lo) {a b : Int} {off : Int} {tgt : Nat} (hdg : decode cc pc = .ok (.if_icmp .ne off, 3)) (ht : (pc : Int) + off = (tgt : Int)) (ha : -2147483648 ≤ a ∧ a < 2147483648) (hb : -2147483648 ≤ b ∧ b < 2147483648) (kt : ¬ a = b → J κ nL Wd tgt L st) (kf : a = b → J κ nL Wd (pc + 3) L st) : J κ nL Wd pc L (.int (iI b) :: .int (iI a) :: st) := fun H locs ls hw hl => lv_icmp_ne C.1.1 C.1.2.1 hdg ht (fun q => kt (fun e => q (by rw [e])) H locs ls hw hl) (fun q => kf ((iI_eq ha hb).mp q) H locs ls hw hl)
theorem j_icmp_ne_t (C : CB κ cc nL own fr lo) {a b : Int} {off : Int} {tgt : Nat} (hdg : decode cc pc = .ok (.if_icmp .ne off, 3)) (ht : (pc : Int) + off = (tgt : Int)) (ha : -2147483648 ≤ a ∧ a < 2147483648) (hb : -2147483648 ≤ b ∧ b < 2147483648) (h : ¬ a = b) (kt : J κ nL Wd tgt L st) : J κ nL Wd pc L (.int (iI b) :: .int (iI a) :: st) := j_icmp_ne C hdg ht ha hb (fun _ => kt) (fun q => absurd q h)
theorem j_icmp_ne_f (C : CB κ cc nL own fr lo) {a b : Int} {off : Int} (hdg : decode cc pc = .ok (.if_icmp .ne off, 3)) (ha : -2147483648 ≤ a ∧ a < 2147483648) (hb : -2147483648 ≤ b ∧ b < 2147483648) {tgt : Nat} (ht : (pc : Int) + off = (tgt : Int)) (h : a = b) (kf : J κ nL Wd (pc + 3) L st) : J κ nL Wd pc L (.int (iI b) :: .int (iI a) :: st) := j_icmp_ne C hdg ht ha hb (fun q => absurd h q) (fun _ => kf)
theorem j_if_ne (C : CB κ cc nL own fr lo) {a : Int} {off : Int} {tgt : Nat} (hdg : decode cc pc = .ok (.ifCond .ne off, 3)) (ht : (pc : Int) + off = (tgt : Int)) (ha : -2147483648 ≤ a ∧ a < 2147483648) (kt : ¬ a = 0 → J κ nL Wd tgt L st) (kf : a = 0 → J κ nL Wd (pc + 3) L st) : J κ nL Wd pc L (.int (iI a) :: st) := fun H locs ls hw hl => lv_if_ne C.1.1 C.1.2.1 hdg ht (fun q => kt (fun e => q (by rw [e]; rfl)) H locs ls hw hl) (fun q => kf ((iI_eq ha r0).mp q) H locs ls hw hl)
theorem j_if_ne_t (C : CB κ cc nL own fr lo) {a : Int} {off : Int} {tgt : Nat} (hdg : decode cc pc = .ok (.ifCond .ne off, 3)) (ht : (pc : Int) + off = (tgt : Int)) (ha : -2147483648 ≤ a ∧ a < 2147483648) (h : ¬ a = 0) (kt : J κ nL Wd tgt L st) : J κ nL Wd pc L (.int (iI a) :: st) := j_if_ne C hdg ht ha (fun _ => kt) (fun q => absurd q h)
theorem j_if_ne_f (C : CB κ cc nL own fr lo) {a : Int} {off : Int} (hdg : decode cc pc = .ok (.ifCond .ne off, 3)) (ha : -2147483648 ≤ a ∧ a < 2147483648) {tgt : Nat} (ht : (pc : Int) + off = (tgt : Int)) (h : a = 0) (kf : J κ nL Wd (pc + 3) L st) : J κ nL Wd pc L (.int (iI a) :: st) := j_if_ne C hdg ht ha (fun q => absurd h q) (fun _ => kf)
end JR
end
section
/-! states: array number, place, number -/
abbrev St : Type := Nat → Nat → Nat
def s2 (σ : St) (k i v : Nat) : St := fun k' j => if k' = k then (if j = i then v else σ k' j) else σ k' j
theorem s2_ne {σ : St} {k i v k' : Nat} (h : k' ≠ k) : s2 σ k i v k' = σ k' := by
  funext j
  simp [s2, h]
theorem s2_eq {σ : St} {k i v j : Nat} : s2 σ k i v k j = if j = i then v else σ k j := by simp [s2]
theorem s2_at {σ : St} {k i v : Nat} : s2 σ k i v k i = v := by simp [s2]
theorem s2_off {σ : St} {k i v j : Nat} (h : j ≠ i) : s2 σ k i v k j = σ k j := by simp [s2, h]
def bnd (σ : St) : Prop := ∀ k j, σ k j ≤ 432
theorem bnd_s2 {σ : St} {k i v : Nat} (h : bnd σ) (hv : v ≤ 432) : bnd (s2 σ k i v) := by
  intro k' j
  have h1 := h k' j
  unfold s2
  split
  · split
    · exact hv
    · exact h1
  · exact h1
abbrev vCl : List vw_C := [(RX0, TX0, 10), (RX1, TX1, 6)]
abbrev XO : Type := va_G × (Nat → Prop) × Heap × Nat × (Nat → Nat) × (Nat → ClassId)
abbrev oD (O : XO) : va_G := O.1
abbrev oA (O : XO) : Nat → Prop := O.2.1
abbrev oH (O : XO) : Heap := O.2.2.1
abbrev oh (O : XO) : Nat := O.2.2.2.1
abbrev oa (O : XO) : Nat → Nat := O.2.2.2.2.1
abbrev od (O : XO) : Nat → ClassId := O.2.2.2.2.2
def xarr (O : XO) (σ : St) (k n : Nat) : Nat × va_E := (oa O k, .inl (od O k, n, .inl (fun j => iI ((σ k j : Nat) : Int))))
def xup (O : XO) (σ : St) (k n j v : Nat) : Nat × va_E := (oa O k, .inl (od O k, n, .inl (upd (fun j => iI ((σ k j : Nat) : Int)) j (iI ((v : Nat) : Int)))))
theorem xarr_ne {O : XO} {σ : St} {k k' n j v : Nat} (h : k' ≠ k) : xarr O (s2 σ k j v) k' n = xarr O σ k' n := by
  unfold xarr
  rw [s2_ne h]
theorem xarr_at {O : XO} {σ : St} {k n j v : Nat} : xarr O (s2 σ k j v) k n = xup O σ k n j v := by
  unfold xarr xup
  have e : (fun q => iI ((s2 σ k j v k q : Nat) : Int)) = upd (fun j => iI ((σ k j : Nat) : Int)) j (iI ((v : Nat) : Int)) := by
    funext q
    unfold upd
    rw [s2_eq]
    split <;> rfl
  rw [e]
abbrev xrm (fr lo : Nat) : Room := { frames := fr, cells := 0, slots := 0, locals := lo }
theorem nb0 : narrow .boolean (.int (iI 0)) = .int (iI 0) := by rfl
theorem nb1 : narrow .boolean (.int (iI 1)) = .int (iI 1) := by rfl
theorem vz0 : vp_nar .boolean (iI 0) = iI 0 := by rfl
theorem vz1 : vp_nar .boolean (iI 1) = iI 1 := by rfl
theorem vzn {v : Nat} (h : v ≤ 1) : vp_nar .boolean (iI ((v : Nat) : Int)) = iI ((v : Nat) : Int) := by
  rcases (show v = 0 ∨ v = 1 by omega) with rfl | rfl
  · exact vz0
  · exact vz1
theorem j_sub {κ : Kx} {nL : Nat} {Wd : Heap → List Loc → Prop} {pc : Nat} {L L' : List (Nat × Value)} {st : List Value} (ks' : List Nat) (h : lv_pick L ks' = L') (k : J κ nL Wd pc L' st) : J κ nL Wd pc L st := fun H locs ls hw hl => k H locs ls hw (lv_sub hl ks' h)
/-! static methods: nothing is written -/
def sW (κ : Kx) : Heap → List Loc → Prop := fun H locs => va_S (fun _ => False) (ks κ).heap H locs
def RS (κ : Kx) (ret : FieldType) (post : Int32 → Prop) : Prop := (kt κ).sig.returnType = some ret ∧ (kt κ).locks = false ∧ kQ κ = MQ (kb κ) (va_Qi (fun r (_ : Unit) => post r) (fun _ _ => True) (fun _ => False)) (ka κ) (ks κ) (kn κ) (ko κ) (fun _ => False)
def SMi (l : Launch) (y : MethodName) (bc : ByteArray) (nL : Nat) (ret : FieldType) (fr lo : Nat) (av : List Value) (post : Int32 → Prop) : Prop := Met l y (ws_ y bc nL (some ret)) (xrm fr lo) (va_Pc av (fun _ => True)) (va_Qi (fun r (_ : Unit) => post r) (fun _ _ => True) (fun _ => False)) 0 0 (fun _ => False)
theorem s_iret {κ : Kx} {cc : ByteArray} {nL fr lo : Nat} {own : String} {pc : Nat} {L : List (Nat × Value)} {ret : FieldType} {post : Int32 → Prop} (C : CB κ cc nL own fr lo) (Rt : RS κ ret post) {z : Int} (hn : narrow ret (.int (iI z)) = .int (iI z)) (hp : post (iI z)) (hdg : decode cc pc = .ok (.ireturn, 1)) : J κ nL (sW κ) pc L [.int (iI z)] := by
  intro H locs ls hw hl
  obtain ⟨h1, h2, h4⟩ := Rt
  rw [h4]
  exact W.zret C.1.1 C.1.2.1 h1 hn (fun t ht hW => ⟨⟨iI z, (), rfl, hp, trivial⟩, hw.F ht⟩) hw.2.2 hdg h2
theorem s_callS {κ : Kx} {cc bc : ByteArray} {nL fr lo nL' fr' lo' : Nat} {own : String} {pc idx : Nat} {L : List (Nat × Value)} {st stk av : List Value} {ret : FieldType} {y : MethodName} {post : Int32 → Prop} (C : CB κ cc nL own fr lo) (hM : SMi (kl κ) y bc nL' ret fr' lo' av post) (n : Nat) (hn : av.length = n) (hq : GoodIn lw_all (va_wsS own idx y (ws_ y bc nL' (some ret)))) (hd : y.cls ≠ "java/lang/invoke/MethodHandle" ∧ y.cls ≠ "java/lang/invoke/VarHandle" ∧ (parseMethodDescriptor y.desc).map (fun d => d.parameters.length) = some n) (hr : fr' + 1 ≤ fr ∧ 8 + (nL' + 11) + lo' ≤ lo) (hdg : decode cc pc = .ok (.invokestatic idx, 3)) (hs : stk = av.reverse ++ st) (hc : (st.map fun v => v.category).sum ≤ 8) (kk : ∀ r, post r → J κ nL (sW κ) (pc + 3) L (.int r :: st)) : J κ nL (sW κ) pc L stk := by
  subst hs
  intro H locs ls hw hl
  exact va_calli (va_runS (As := av) (rest := st) C.1 hM (va_cwS n C.1.2.2.2.2 hq rfl rfl rfl hd ⟨Nat.le_trans hr.1 C.2.1, Nat.le_trans hr.2 C.2.2.1⟩) ⟨fun a U g mk q => ⟨q.1, trivial⟩, fun U hU hW => ⟨rfl, trivial⟩⟩ rfl hn hl.1 rfl (lv_room hc) hdg ⟨C.2.2.2.1, C.2.2.2.2⟩) hw (fun q _ h => h.elim) (fun q h => h.elim) (fun r u t H1 locs1 ht hvm hp hB hz hk hS1 => kk r hp H1 locs1 ls hS1 hl)
theorem SMi.of {l : Launch} {y : MethodName} {bc : ByteArray} {nL : Nat} {ret : FieldType} {fr lo : Nat} {av : List Value} {post : Int32 → Prop} (hy : plainName y.cls = true) (hle : (lg_sl av).length ≤ nL) (body : ∀ κ : Kx, kl κ = l → CB κ bc nL y.cls fr lo → RS κ ret post → J κ nL (sW κ) 0 (lv_args 0 av) []) : SMi l y bc nL ret fr lo av post := by
  refine Met.ofW (cc := bc) (maxL := nL) (ret := some ret) hy rfl ?_
  intro p e s m args below meth c s₁ B hml hv
  obtain ⟨rfl, -⟩ := hv
  have hts := atoms_spec (ws := ws_ y bc nL (some ret)) B.pre
  have hts : ∀ w ∈ lw_all, w.before _ s = true := fun w h => hts w (List.mem_cons_of_mem _ h)
  have hown : s.vm.findClass y.cls = some m.cls := findClass_of_methodNamed B.named
  have hl := lv_entry av (n := nL) hle
  rw [lg_entry_eq]
  exact body (p, l, e, (headSpec (ws_ y bc nL (some ret)) (xrm fr lo)).room, s, m, _, below, meth, c, _, 0, 0) rfl ⟨⟨B.exec, B.bytes, hml, hown, hts⟩, Nat.le_refl _, Nat.le_refl _, Nat.zero_le _, Nat.zero_le _⟩ ⟨B.returns, B.notSynchronized, rfl⟩ s.heap [] _ va_S.rf hl

/-! ===== the world of RX0 ===== -/
def xfs (O : XO) (σ : St) : List Value := [.ref (oa O 0), .ref (oa O 1), .ref (oa O 2), .ref (oa O 3), .ref (oa O 4), .ref (oa O 5), .ref (oa O 6), .ref (oa O 7), .ref (oa O 8), .int (iI ((σ 9 0 : Nat) : Int))]
def xws (O : XO) (σ : St) : va_W := [(oh O, .inr (0, xfs O σ)), xarr O σ 0 216, xarr O σ 1 216, xarr O σ 2 216, xarr O σ 3 432, xarr O σ 4 432, xarr O σ 5 432, xarr O σ 6 432, xarr O σ 7 216, xarr O σ 8 216]
def xty (O : XO) : List (ClassId × FieldType) := [(od O 0, .boolean), (od O 1, .int), (od O 2, .boolean), (od O 3, .int), (od O 4, .boolean), (od O 5, .int), (od O 6, .int), (od O 7, .int), (od O 8, .boolean)]
def xW (O : XO) (σ : St) : Heap → List Loc → Prop := fun H locs => va_P (oD O) vCl (xws O σ) H ∧ va_D (oA O) (xws O σ) ∧ va_S (oA O) (oH O) H locs ∧ bnd σ
def XC (κ : Kx) (O : XO) : Prop := va_K (oD O) vCl (xty O) (ks κ) ∧ (∀ q, (oH O).size ≤ q → oA O q)
def XB (O : XO) (A : Nat → Prop) (σ : St) (t : State) : Prop := va_P (oD O) vCl (xws O σ) t.heap ∧ va_K (oD O) vCl (xty O) t ∧ va_D A (xws O σ) ∧ bnd σ
abbrev xpre (O : XO) (av : List Value) (σ : St) (sz : Nat) : Array Value → State → Prop := va_Pc (.ref (oh O) :: av) (fun U => U.heap.size = sz ∧ XB O (fun _ => True) σ U)
def XMi (l : Launch) (O : XO) (y : MethodName) (bc : ByteArray) (nL : Nat) (ret : FieldType) (fr lo : Nat) (av : List Value) (σ : St) (post : Int32 → St → Prop) : Prop := ∀ sz : Nat, Met l y (ws_ y bc nL (some ret)) (xrm fr lo) (xpre O av σ sz) (va_Qi post (XB O (va_A (xws O σ) sz)) (va_A (xws O σ) sz)) 0 0 (va_A (xws O σ) sz)
def XMv (l : Launch) (O : XO) (y : MethodName) (bc : ByteArray) (nL : Nat) (fr lo : Nat) (av : List Value) (σ : St) (post : St → Prop) : Prop := ∀ sz : Nat, Met l y (ws_ y bc nL none) (xrm fr lo) (xpre O av σ sz) (va_Qv post (XB O (va_A (xws O σ) sz)) (va_A (xws O σ) sz)) 0 0 (va_A (xws O σ) sz)
def XRI (κ : Kx) (O : XO) (ret : FieldType) (post : Int32 → St → Prop) : Prop := (kt κ).sig.returnType = some ret ∧ (kt κ).locks = false ∧ oH O = (ks κ).heap ∧ kQ κ = MQ (kb κ) (va_Qi post (XB O (oA O)) (oA O)) (ka κ) (ks κ) (kn κ) (ko κ) (oA O)
def XRV (κ : Kx) (O : XO) (post : St → Prop) : Prop := (kt κ).sig.returnType = none ∧ (kt κ).locks = false ∧ oH O = (ks κ).heap ∧ kQ κ = MQ (kb κ) (va_Qv post (XB O (oA O)) (oA O)) (ka κ) (ks κ) (kn κ) (ko κ) (oA O)
theorem xfs_ne {O : XO} {σ : St} {k j v : Nat} (h : k ≠ 9) : xfs O (s2 σ k j v) = xfs O σ := by
  unfold xfs
  rw [s2_ne (Ne.symm h)]
theorem xset_0 {O : XO} {σ : St} {j v : Nat} : (xws O σ).set (0 + 1) (xup O σ 0 216 j v) = xws O (s2 σ 0 j v) := by
  have h0 : xarr O (s2 σ 0 j v) 0 216 = xup O σ 0 216 j v := xarr_at
  have h1 : xarr O (s2 σ 0 j v) 1 216 = xarr O σ 1 216 := xarr_ne (by decide)
  have h2 : xarr O (s2 σ 0 j v) 2 216 = xarr O σ 2 216 := xarr_ne (by decide)
  have h3 : xarr O (s2 σ 0 j v) 3 432 = xarr O σ 3 432 := xarr_ne (by decide)
  have h4 : xarr O (s2 σ 0 j v) 4 432 = xarr O σ 4 432 := xarr_ne (by decide)
  have h5 : xarr O (s2 σ 0 j v) 5 432 = xarr O σ 5 432 := xarr_ne (by decide)
  have h6 : xarr O (s2 σ 0 j v) 6 432 = xarr O σ 6 432 := xarr_ne (by decide)
  have h7 : xarr O (s2 σ 0 j v) 7 216 = xarr O σ 7 216 := xarr_ne (by decide)
  have h8 : xarr O (s2 σ 0 j v) 8 216 = xarr O σ 8 216 := xarr_ne (by decide)
  unfold xws
  rw [h0, h1, h2, h3, h4, h5, h6, h7, h8, xfs_ne (by decide)]
  rfl
theorem xset_1 {O : XO} {σ : St} {j v : Nat} : (xws O σ).set (1 + 1) (xup O σ 1 216 j v) = xws O (s2 σ 1 j v) := by
  have h0 : xarr O (s2 σ 1 j v) 0 216 = xarr O σ 0 216 := xarr_ne (by decide)
  have h1 : xarr O (s2 σ 1 j v) 1 216 = xup O σ 1 216 j v := xarr_at
  have h2 : xarr O (s2 σ 1 j v) 2 216 = xarr O σ 2 216 := xarr_ne (by decide)
  have h3 : xarr O (s2 σ 1 j v) 3 432 = xarr O σ 3 432 := xarr_ne (by decide)
  have h4 : xarr O (s2 σ 1 j v) 4 432 = xarr O σ 4 432 := xarr_ne (by decide)
  have h5 : xarr O (s2 σ 1 j v) 5 432 = xarr O σ 5 432 := xarr_ne (by decide)
  have h6 : xarr O (s2 σ 1 j v) 6 432 = xarr O σ 6 432 := xarr_ne (by decide)
  have h7 : xarr O (s2 σ 1 j v) 7 216 = xarr O σ 7 216 := xarr_ne (by decide)
  have h8 : xarr O (s2 σ 1 j v) 8 216 = xarr O σ 8 216 := xarr_ne (by decide)
  unfold xws
  rw [h0, h1, h2, h3, h4, h5, h6, h7, h8, xfs_ne (by decide)]
  rfl
theorem xset_2 {O : XO} {σ : St} {j v : Nat} : (xws O σ).set (2 + 1) (xup O σ 2 216 j v) = xws O (s2 σ 2 j v) := by
  have h0 : xarr O (s2 σ 2 j v) 0 216 = xarr O σ 0 216 := xarr_ne (by decide)
  have h1 : xarr O (s2 σ 2 j v) 1 216 = xarr O σ 1 216 := xarr_ne (by decide)
  have h2 : xarr O (s2 σ 2 j v) 2 216 = xup O σ 2 216 j v := xarr_at
  have h3 : xarr O (s2 σ 2 j v) 3 432 = xarr O σ 3 432 := xarr_ne (by decide)
  have h4 : xarr O (s2 σ 2 j v) 4 432 = xarr O σ 4 432 := xarr_ne (by decide)
  have h5 : xarr O (s2 σ 2 j v) 5 432 = xarr O σ 5 432 := xarr_ne (by decide)
  have h6 : xarr O (s2 σ 2 j v) 6 432 = xarr O σ 6 432 := xarr_ne (by decide)
  have h7 : xarr O (s2 σ 2 j v) 7 216 = xarr O σ 7 216 := xarr_ne (by decide)
  have h8 : xarr O (s2 σ 2 j v) 8 216 = xarr O σ 8 216 := xarr_ne (by decide)
  unfold xws
  rw [h0, h1, h2, h3, h4, h5, h6, h7, h8, xfs_ne (by decide)]
  rfl
theorem xset_3 {O : XO} {σ : St} {j v : Nat} : (xws O σ).set (3 + 1) (xup O σ 3 432 j v) = xws O (s2 σ 3 j v) := by
  have h0 : xarr O (s2 σ 3 j v) 0 216 = xarr O σ 0 216 := xarr_ne (by decide)
  have h1 : xarr O (s2 σ 3 j v) 1 216 = xarr O σ 1 216 := xarr_ne (by decide)
  have h2 : xarr O (s2 σ 3 j v) 2 216 = xarr O σ 2 216 := xarr_ne (by decide)
  have h3 : xarr O (s2 σ 3 j v) 3 432 = xup O σ 3 432 j v := xarr_at
  have h4 : xarr O (s2 σ 3 j v) 4 432 = xarr O σ 4 432 := xarr_ne (by decide)
  have h5 : xarr O (s2 σ 3 j v) 5 432 = xarr O σ 5 432 := xarr_ne (by decide)
  have h6 : xarr O (s2 σ 3 j v) 6 432 = xarr O σ 6 432 := xarr_ne (by decide)
  have h7 : xarr O (s2 σ 3 j v) 7 216 = xarr O σ 7 216 := xarr_ne (by decide)
  have h8 : xarr O (s2 σ 3 j v) 8 216 = xarr O σ 8 216 := xarr_ne (by decide)
  unfold xws
  rw [h0, h1, h2, h3, h4, h5, h6, h7, h8, xfs_ne (by decide)]
  rfl
theorem xset_4 {O : XO} {σ : St} {j v : Nat} : (xws O σ).set (4 + 1) (xup O σ 4 432 j v) = xws O (s2 σ 4 j v) := by
  have h0 : xarr O (s2 σ 4 j v) 0 216 = xarr O σ 0 216 := xarr_ne (by decide)
  have h1 : xarr O (s2 σ 4 j v) 1 216 = xarr O σ 1 216 := xarr_ne (by decide)
  have h2 : xarr O (s2 σ 4 j v) 2 216 = xarr O σ 2 216 := xarr_ne (by decide)
  have h3 : xarr O (s2 σ 4 j v) 3 432 = xarr O σ 3 432 := xarr_ne (by decide)
  have h4 : xarr O (s2 σ 4 j v) 4 432 = xup O σ 4 432 j v := xarr_at
  have h5 : xarr O (s2 σ 4 j v) 5 432 = xarr O σ 5 432 := xarr_ne (by decide)
  have h6 : xarr O (s2 σ 4 j v) 6 432 = xarr O σ 6 432 := xarr_ne (by decide)
  have h7 : xarr O (s2 σ 4 j v) 7 216 = xarr O σ 7 216 := xarr_ne (by decide)
  have h8 : xarr O (s2 σ 4 j v) 8 216 = xarr O σ 8 216 := xarr_ne (by decide)
  unfold xws
  rw [h0, h1, h2, h3, h4, h5, h6, h7, h8, xfs_ne (by decide)]
  rfl
theorem xset_5 {O : XO} {σ : St} {j v : Nat} : (xws O σ).set (5 + 1) (xup O σ 5 432 j v) = xws O (s2 σ 5 j v) := by
  have h0 : xarr O (s2 σ 5 j v) 0 216 = xarr O σ 0 216 := xarr_ne (by decide)
  have h1 : xarr O (s2 σ 5 j v) 1 216 = xarr O σ 1 216 := xarr_ne (by decide)
  have h2 : xarr O (s2 σ 5 j v) 2 216 = xarr O σ 2 216 := xarr_ne (by decide)
  have h3 : xarr O (s2 σ 5 j v) 3 432 = xarr O σ 3 432 := xarr_ne (by decide)
  have h4 : xarr O (s2 σ 5 j v) 4 432 = xarr O σ 4 432 := xarr_ne (by decide)
  have h5 : xarr O (s2 σ 5 j v) 5 432 = xup O σ 5 432 j v := xarr_at
  have h6 : xarr O (s2 σ 5 j v) 6 432 = xarr O σ 6 432 := xarr_ne (by decide)
  have h7 : xarr O (s2 σ 5 j v) 7 216 = xarr O σ 7 216 := xarr_ne (by decide)
  have h8 : xarr O (s2 σ 5 j v) 8 216 = xarr O σ 8 216 := xarr_ne (by decide)
  unfold xws
  rw [h0, h1, h2, h3, h4, h5, h6, h7, h8, xfs_ne (by decide)]
  rfl
theorem xset_6 {O : XO} {σ : St} {j v : Nat} : (xws O σ).set (6 + 1) (xup O σ 6 432 j v) = xws O (s2 σ 6 j v) := by
  have h0 : xarr O (s2 σ 6 j v) 0 216 = xarr O σ 0 216 := xarr_ne (by decide)
  have h1 : xarr O (s2 σ 6 j v) 1 216 = xarr O σ 1 216 := xarr_ne (by decide)
  have h2 : xarr O (s2 σ 6 j v) 2 216 = xarr O σ 2 216 := xarr_ne (by decide)
  have h3 : xarr O (s2 σ 6 j v) 3 432 = xarr O σ 3 432 := xarr_ne (by decide)
  have h4 : xarr O (s2 σ 6 j v) 4 432 = xarr O σ 4 432 := xarr_ne (by decide)
  have h5 : xarr O (s2 σ 6 j v) 5 432 = xarr O σ 5 432 := xarr_ne (by decide)
  have h6 : xarr O (s2 σ 6 j v) 6 432 = xup O σ 6 432 j v := xarr_at
  have h7 : xarr O (s2 σ 6 j v) 7 216 = xarr O σ 7 216 := xarr_ne (by decide)
  have h8 : xarr O (s2 σ 6 j v) 8 216 = xarr O σ 8 216 := xarr_ne (by decide)
  unfold xws
  rw [h0, h1, h2, h3, h4, h5, h6, h7, h8, xfs_ne (by decide)]
  rfl
theorem xset_7 {O : XO} {σ : St} {j v : Nat} : (xws O σ).set (7 + 1) (xup O σ 7 216 j v) = xws O (s2 σ 7 j v) := by
  have h0 : xarr O (s2 σ 7 j v) 0 216 = xarr O σ 0 216 := xarr_ne (by decide)
  have h1 : xarr O (s2 σ 7 j v) 1 216 = xarr O σ 1 216 := xarr_ne (by decide)
  have h2 : xarr O (s2 σ 7 j v) 2 216 = xarr O σ 2 216 := xarr_ne (by decide)
  have h3 : xarr O (s2 σ 7 j v) 3 432 = xarr O σ 3 432 := xarr_ne (by decide)
  have h4 : xarr O (s2 σ 7 j v) 4 432 = xarr O σ 4 432 := xarr_ne (by decide)
  have h5 : xarr O (s2 σ 7 j v) 5 432 = xarr O σ 5 432 := xarr_ne (by decide)
  have h6 : xarr O (s2 σ 7 j v) 6 432 = xarr O σ 6 432 := xarr_ne (by decide)
  have h7 : xarr O (s2 σ 7 j v) 7 216 = xup O σ 7 216 j v := xarr_at
  have h8 : xarr O (s2 σ 7 j v) 8 216 = xarr O σ 8 216 := xarr_ne (by decide)
  unfold xws
  rw [h0, h1, h2, h3, h4, h5, h6, h7, h8, xfs_ne (by decide)]
  rfl
theorem xset_8 {O : XO} {σ : St} {j v : Nat} : (xws O σ).set (8 + 1) (xup O σ 8 216 j v) = xws O (s2 σ 8 j v) := by
  have h0 : xarr O (s2 σ 8 j v) 0 216 = xarr O σ 0 216 := xarr_ne (by decide)
  have h1 : xarr O (s2 σ 8 j v) 1 216 = xarr O σ 1 216 := xarr_ne (by decide)
  have h2 : xarr O (s2 σ 8 j v) 2 216 = xarr O σ 2 216 := xarr_ne (by decide)
  have h3 : xarr O (s2 σ 8 j v) 3 432 = xarr O σ 3 432 := xarr_ne (by decide)
  have h4 : xarr O (s2 σ 8 j v) 4 432 = xarr O σ 4 432 := xarr_ne (by decide)
  have h5 : xarr O (s2 σ 8 j v) 5 432 = xarr O σ 5 432 := xarr_ne (by decide)
  have h6 : xarr O (s2 σ 8 j v) 6 432 = xarr O σ 6 432 := xarr_ne (by decide)
  have h7 : xarr O (s2 σ 8 j v) 7 216 = xarr O σ 7 216 := xarr_ne (by decide)
  have h8 : xarr O (s2 σ 8 j v) 8 216 = xup O σ 8 216 j v := xarr_at
  unfold xws
  rw [h0, h1, h2, h3, h4, h5, h6, h7, h8, xfs_ne (by decide)]
  rfl
theorem xset_w {O : XO} {σ : St} {v : Nat} : (xws O σ).set 0 (oh O, .inr (0, (xfs O σ).set 9 (.int (iI ((v : Nat) : Int))))) = xws O (s2 σ 9 0 v) := by
  have h0 : xarr O (s2 σ 9 0 v) 0 216 = xarr O σ 0 216 := xarr_ne (by decide)
  have h1 : xarr O (s2 σ 9 0 v) 1 216 = xarr O σ 1 216 := xarr_ne (by decide)
  have h2 : xarr O (s2 σ 9 0 v) 2 216 = xarr O σ 2 216 := xarr_ne (by decide)
  have h3 : xarr O (s2 σ 9 0 v) 3 432 = xarr O σ 3 432 := xarr_ne (by decide)
  have h4 : xarr O (s2 σ 9 0 v) 4 432 = xarr O σ 4 432 := xarr_ne (by decide)
  have h5 : xarr O (s2 σ 9 0 v) 5 432 = xarr O σ 5 432 := xarr_ne (by decide)
  have h6 : xarr O (s2 σ 9 0 v) 6 432 = xarr O σ 6 432 := xarr_ne (by decide)
  have h7 : xarr O (s2 σ 9 0 v) 7 216 = xarr O σ 7 216 := xarr_ne (by decide)
  have h8 : xarr O (s2 σ 9 0 v) 8 216 = xarr O σ 8 216 := xarr_ne (by decide)
  have hf : xfs O (s2 σ 9 0 v) = (xfs O σ).set 9 (.int (iI ((v : Nat) : Int))) := by
    unfold xfs
    rw [s2_at]
    rfl
  unfold xws
  rw [h0, h1, h2, h3, h4, h5, h6, h7, h8, hf]
  rfl
section XR
variable {κ : Kx} {O : XO} {σ : St} {cc : ByteArray} {nL fr lo : Nat} {pc : Nat} {L : List (Nat × Value)} {st : List Value}
theorem x_get (C : CB κ cc nL RX0 fr lo) (X : XC κ O) (k : Nat) (hk : k < 10) {idx : Nat} (hq : Cond.fieldLink RX0 idx (TX0 k).1 (TX0 k).2.1 (TX0 k).2.2.1 ∈ lw_all) {v : Value} (hv : (xfs O σ)[k]? = some v) (hdg : decode cc pc = .ok (.getfield idx, 3)) (kk : J κ nL (xW O σ) (pc + 3) L (v :: st)) : J κ nL (xW O σ) pc L (.ref (oh O) :: st) :=
  fun H locs ls hw hl => va_get (C := RX0) (T := TX0) (N := 10) (ci := 0) C.1.1 C.1.2.1 C.1.2.2.2.2 in_X0 C.1.2.2.2.1 X.1 hw.1 0 rfl rfl k hk (C.1.2.2.2.2 _ hq) (fun _ h => h) hv hdg (kk H locs ls hw hl)
theorem x_ild (C : CB κ cc nL RX0 fr lo) (X : XC κ O) (k n j : Nat) (hk : (xws O σ)[k + 1]? = some (xarr O σ k n)) (ht : (xty O)[k]? = some (od O k, .int)) (hn : n < 2147483648) {z : Int} (hz : z = (j : Int)) (hj : j < n) (hdg : decode cc pc = .ok (.iaload, 1)) (kk : σ k j ≤ 432 → J κ nL (xW O σ) (pc + 1) L (.int (iI ((σ k j : Nat) : Int)) :: st)) : J κ nL (xW O σ) pc L (.int (iI z) :: .ref (oa O k) :: st) := by
  subst hz
  exact fun H locs ls hw hl => va_iald (f := fun j => iI ((σ k j : Nat) : Int)) C.1.1 C.1.2.1 X.1 hw.1 (k + 1) k hk ht (iI_in hj hn) hdg (by rw [iI_cl (Nat.lt_trans hj hn)]; exact kk (hw.2.2.2 k j) H locs ls hw hl)
theorem x_zld (C : CB κ cc nL RX0 fr lo) (X : XC κ O) (k n j : Nat) (hk : (xws O σ)[k + 1]? = some (xarr O σ k n)) (ht : (xty O)[k]? = some (od O k, .boolean)) (hn : n < 2147483648) {z : Int} (hz : z = (j : Int)) (hj : j < n) (hdg : decode cc pc = .ok (.baload, 1)) (kk : σ k j ≤ 432 → J κ nL (xW O σ) (pc + 1) L (.int (iI ((σ k j : Nat) : Int)) :: st)) : J κ nL (xW O σ) pc L (.int (iI z) :: .ref (oa O k) :: st) := by
  subst hz
  exact fun H locs ls hw hl => va_zald (f := fun j => iI ((σ k j : Nat) : Int)) C.1.1 C.1.2.1 X.1 hw.1 (k + 1) k hk ht (iI_in hj hn) hdg (by rw [iI_cl (Nat.lt_trans hj hn)]; exact kk (hw.2.2.2 k j) H locs ls hw hl)
theorem x_ist (C : CB κ cc nL RX0 fr lo) (X : XC κ O) (k n j v : Nat) (hk : (xws O σ)[k + 1]? = some (xarr O σ k n)) (ht : (xty O)[k]? = some (od O k, .int)) (hset : (xws O σ).set (k + 1) (xup O σ k n j v) = xws O (s2 σ k j v)) (hn : n < 2147483648) {z w : Int} (hz : z = (j : Int)) (hj : j < n) (hw2 : w = (v : Int)) (hv : v ≤ 432) (hdg : decode cc pc = .ok (.iastore, 1)) (kk : J κ nL (xW O (s2 σ k j v)) (pc + 1) L st) : J κ nL (xW O σ) pc L (.int (iI w) :: .int (iI z) :: .ref (oa O k) :: st) := by
  subst hz
  subst hw2
  exact fun H locs ls hw hl => va_iast (f := fun j => iI ((σ k j : Nat) : Int)) C.1.1 C.1.2.1 X.1 hw.1 hw.2.1 hw.2.2.1 (k + 1) k hk ht (iI_in hj hn) hdg (fun H1 locs1 hP hD hS => by
    rw [iI_cl (Nat.lt_trans hj hn)] at hP hD
    exact kk H1 locs1 ls ⟨hset ▸ hP, hset ▸ hD, hS, bnd_s2 hw.2.2.2 hv⟩ hl)
theorem x_zst (C : CB κ cc nL RX0 fr lo) (X : XC κ O) (k n j v : Nat) (hk : (xws O σ)[k + 1]? = some (xarr O σ k n)) (ht : (xty O)[k]? = some (od O k, .boolean)) (hset : (xws O σ).set (k + 1) (xup O σ k n j v) = xws O (s2 σ k j v)) (hn : n < 2147483648) {z w : Int} (hz : z = (j : Int)) (hj : j < n) (hw2 : w = (v : Int)) (hv : v ≤ 1) (hdg : decode cc pc = .ok (.bastore, 1)) (kk : J κ nL (xW O (s2 σ k j v)) (pc + 1) L st) : J κ nL (xW O σ) pc L (.int (iI w) :: .int (iI z) :: .ref (oa O k) :: st) := by
  subst hz
  subst hw2
  exact fun H locs ls hw hl => va_zast (f := fun j => iI ((σ k j : Nat) : Int)) C.1.1 C.1.2.1 X.1 hw.1 hw.2.1 hw.2.2.1 (k + 1) k hk ht (iI_in hj hn) hdg (fun H1 locs1 hP hD hS => by
    rw [iI_cl (Nat.lt_trans hj hn), vzn hv] at hP hD
    exact kk H1 locs1 ls ⟨hset ▸ hP, hset ▸ hD, hS, bnd_s2 hw.2.2.2 (by omega)⟩ hl)
theorem x_put (C : CB κ cc nL RX0 fr lo) (X : XC κ O) (v : Nat) (hv : v ≤ 432) {w : Int} (hw2 : w = (v : Int)) {idx : Nat} (hq : Cond.fieldLink RX0 idx (TX0 9).1 (TX0 9).2.1 (TX0 9).2.2.1 ∈ lw_all) (hdg : decode cc pc = .ok (.putfield idx, 3)) (kk : J κ nL (xW O (s2 σ 9 0 v)) (pc + 3) L st) : J κ nL (xW O σ) pc L (.int (iI w) :: .ref (oh O) :: st) := by
  subst hw2
  exact fun H locs ls hw hl => va_put (C := RX0) (T := TX0) (N := 10) (ci := 0) (fs := xfs O σ) C.1.1 C.1.2.1 C.1.2.2.2.2 in_X0 tyX0 tyX0_ok nmX0 C.1.2.2.2.1 X.1 hw.1 hw.2.1 hw.2.2.1 0 rfl rfl 9 (by decide) (C.1.2.2.2.2 _ hq) (fun _ h => h) rfl (ty := .int) (by decide +kernel) rfl rfl (show 9 < 10 from by decide) hdg (fun H1 locs1 hP hD hS => by
    rw [xset_w] at hP hD
    exact kk H1 locs1 ls ⟨hP, hD, hS, bnd_s2 hw.2.2.2 hv⟩ hl)
theorem x_iret (C : CB κ cc nL RX0 fr lo) (X : XC κ O) {ret : FieldType} {post : Int32 → St → Prop} (Rt : XRI κ O ret post) {z : Int} (hn : narrow ret (.int (iI z)) = .int (iI z)) (hp : post (iI z) σ) (hdg : decode cc pc = .ok (.ireturn, 1)) : J κ nL (xW O σ) pc L [.int (iI z)] := by
  intro H locs ls hw hl
  obtain ⟨h1, h2, h3, h4⟩ := Rt
  obtain ⟨hP, hD, hS, hb⟩ := hw
  rw [h3] at hS
  rw [h4]
  exact W.zret C.1.1 C.1.2.1 h1 hn (fun t ht hW => ⟨⟨iI z, σ, rfl, hp, by rw [ht]; exact hP, va_K.moved hW.alike X.1, hD, hb⟩, hS.F ht⟩) hS.2.2 hdg h2
theorem x_vret (C : CB κ cc nL RX0 fr lo) (X : XC κ O) {post : St → Prop} (Rt : XRV κ O post) (hp : post σ) (hdg : decode cc pc = .ok (.return_, 1)) : J κ nL (xW O σ) pc L [] := by
  intro H locs ls hw hl
  obtain ⟨h1, h2, h3, h4⟩ := Rt
  obtain ⟨hP, hD, hS, hb⟩ := hw
  rw [h3] at hS
  rw [h4]
  exact W.vret C.1.1 C.1.2.1 h1 (fun t ht hW => ⟨⟨σ, rfl, hp, by rw [ht]; exact hP, va_K.moved hW.alike X.1, hD, hb⟩, hS.F ht⟩) hS.2.2 hdg h2
theorem x_free {H : Heap} {locs : List Loc} (X : XC κ O) (hw : xW O σ H locs) : ∀ q, va_A (xws O σ) H.size q → oA O q := by
  intro q h
  rcases h with ⟨k, e, h⟩ | h
  · exact hw.2.1.2 k (q, e) h
  · exact X.2 q (Nat.le_trans hw.2.2.1.1 h)
theorem x_calli {y : MethodName} {bc : ByteArray} {nL' fr' lo' idx : Nat} {ret : FieldType} {av stk : List Value} {post : Int32 → St → Prop} (C : CB κ cc nL RX0 fr lo) (X : XC κ O) (hM : XMi (kl κ) O y bc nL' ret fr' lo' av σ post) (n : Nat) (hn : av.length = n) (hq : GoodIn lw_all (wsV RX0 idx RX0 y (ws_ y bc nL' (some ret)))) (hd : y.cls = RX0 ∧ y.cls ≠ "java/lang/invoke/MethodHandle" ∧ y.cls ≠ "java/lang/invoke/VarHandle" ∧ (parseMethodDescriptor y.desc).map (fun d => d.parameters.length) = some n) (hr : fr' + 1 ≤ fr ∧ 8 + (nL' + 11) + lo' ≤ lo) (hdg : decode cc pc = .ok (.invokevirtual idx, 3)) (hs : stk = av.reverse ++ .ref (oh O) :: st) (hc : (st.map fun v => v.category).sum ≤ 8) (kk : ∀ r σ', post r σ' → J κ nL (xW O σ') (pc + 3) L (.int r :: st)) : J κ nL (xW O σ) pc L stk := by
  subst hs
  intro H locs ls hw hl
  have hF := x_free X hw
  obtain ⟨hP, hD, hS, hb⟩ := hw
  refine va_calli (va_runV (As := av) (rest := st) C.1 (hM H.size) (cwV n C.1.2.2.2.2 hq rfl rfl rfl hd ⟨Nat.le_trans hr.1 C.2.1, Nat.le_trans hr.2 C.2.2.1⟩) ⟨fun a U g mk q => ?_, va_recv X.1 hP (ci := 0) (q0 := 0) rfl rfl, fun U hU hW => ?_⟩ rfl hn hl.1 rfl (lv_room hc) hdg ⟨C.2.2.2.1, C.2.2.2.2⟩) hS (fun q _ h => hF q h) hF (fun r σ' t H1 locs1 ht hvm hp hB hz hk hS1 => ?_)
  · obtain ⟨q0, q1, qP, qK, qD⟩ := q
    exact ⟨q0, q1, qP, va_K.moved (u := U) (U := U.calling g mk a) (Vm.Alike.refl U.vm) qK, qD⟩
  · exact ⟨rfl, by rw [hU], by rw [hU]; exact hP, va_K.moved hW.alike X.1, hD.weaken (fun _ _ _ _ => trivial), hb⟩
  · obtain ⟨hP1, hK1, hD1, hb1⟩ := hB
    rw [ht] at hP1
    exact kk r σ' hp H1 locs1 ls ⟨hP1, hD1.weaken (fun k q _ h => hF q.1 h), hS1, hb1⟩ hl
theorem XMi.of {l : Launch} {O : XO} {y : MethodName} {bc : ByteArray} {nL : Nat} {ret : FieldType} {fr lo : Nat} {av : List Value} {σ : St} {post : Int32 → St → Prop} (hy : plainName y.cls = true) (hyc : y.cls = RX0) (hle : (lg_sl (.ref (oh O) :: av)).length ≤ nL) (body : ∀ (κ : Kx) (A : Nat → Prop) (H0 : Heap), kl κ = l → CB κ bc nL RX0 fr lo → XC κ (oD O, A, H0, O.2.2.2) → XRI κ (oD O, A, H0, O.2.2.2) ret post → bnd σ → J κ nL (xW (oD O, A, H0, O.2.2.2) σ) 0 (lv_args 0 (.ref (oh O) :: av)) []) : XMi l O y bc nL ret fr lo av σ post := by
  intro sz
  refine Met.ofW (cc := bc) (maxL := nL) (ret := (some ret)) hy rfl ?_
  intro p e s m args below meth c s₁ B hml hv
  obtain ⟨rfl, hsz, hP, hK, hD, hb⟩ := hv
  have hts := atoms_spec (ws := ws_ y bc nL (some ret)) B.pre
  have hts : ∀ w ∈ lw_all, w.before _ s = true := fun w h => hts w (List.mem_cons_of_mem _ h)
  have hown : s.vm.findClass RX0 = some m.cls := hyc ▸ findClass_of_methodNamed B.named
  subst hsz
  have hD1 := hD.self (sz := s.heap.size)
  have hl := lv_entry (.ref (oh O) :: av) (n := nL) hle
  rw [lg_entry_eq]
  exact body (p, l, e, (headSpec (ws_ y bc nL (some ret)) (xrm fr lo)).room, s, m, _, below, meth, c, _, 0, 0) (va_A (xws O σ) s.heap.size) s.heap rfl ⟨⟨B.exec, B.bytes, hml, hown, hts⟩, Nat.le_refl _, Nat.le_refl _, Nat.zero_le _, Nat.zero_le _⟩ ⟨hK, fun q h => Or.inr h⟩ ⟨B.returns, B.notSynchronized, rfl, rfl⟩ hb s.heap [] _ ⟨hP, hD1, va_S.rf, hb⟩ hl
theorem x_callv {y : MethodName} {bc : ByteArray} {nL' fr' lo' idx : Nat} {av stk : List Value} {post : St → Prop} (C : CB κ cc nL RX0 fr lo) (X : XC κ O) (hM : XMv (kl κ) O y bc nL' fr' lo' av σ post) (n : Nat) (hn : av.length = n) (hq : GoodIn lw_all (wsV RX0 idx RX0 y (ws_ y bc nL' none))) (hd : y.cls = RX0 ∧ y.cls ≠ "java/lang/invoke/MethodHandle" ∧ y.cls ≠ "java/lang/invoke/VarHandle" ∧ (parseMethodDescriptor y.desc).map (fun d => d.parameters.length) = some n) (hr : fr' + 1 ≤ fr ∧ 8 + (nL' + 11) + lo' ≤ lo) (hdg : decode cc pc = .ok (.invokevirtual idx, 3)) (hs : stk = av.reverse ++ .ref (oh O) :: st) (hc : (st.map fun v => v.category).sum ≤ 8) (kk : ∀ σ', post σ' → J κ nL (xW O σ') (pc + 3) L st) : J κ nL (xW O σ) pc L stk := by
  subst hs
  intro H locs ls hw hl
  have hF := x_free X hw
  obtain ⟨hP, hD, hS, hb⟩ := hw
  refine va_callv (va_runV (As := av) (rest := st) C.1 (hM H.size) (cwV n C.1.2.2.2.2 hq rfl rfl rfl hd ⟨Nat.le_trans hr.1 C.2.1, Nat.le_trans hr.2 C.2.2.1⟩) ⟨fun a U g mk q => ?_, va_recv X.1 hP (ci := 0) (q0 := 0) rfl rfl, fun U hU hW => ?_⟩ rfl hn hl.1 rfl (lv_room hc) hdg ⟨C.2.2.2.1, C.2.2.2.2⟩) hS (fun q _ h => hF q h) hF (fun σ' t H1 locs1 ht hvm hp hB hz hk hS1 => ?_)
  · obtain ⟨q0, q1, qP, qK, qD⟩ := q
    exact ⟨q0, q1, qP, va_K.moved (u := U) (U := U.calling g mk a) (Vm.Alike.refl U.vm) qK, qD⟩
  · exact ⟨rfl, by rw [hU], by rw [hU]; exact hP, va_K.moved hW.alike X.1, hD.weaken (fun _ _ _ _ => trivial), hb⟩
  · obtain ⟨hP1, hK1, hD1, hb1⟩ := hB
    rw [ht] at hP1
    exact kk σ' hp H1 locs1 ls ⟨hP1, hD1.weaken (fun k q _ h => hF q.1 h), hS1, hb1⟩ hl
theorem XMv.of {l : Launch} {O : XO} {y : MethodName} {bc : ByteArray} {nL : Nat} {fr lo : Nat} {av : List Value} {σ : St} {post : St → Prop} (hy : plainName y.cls = true) (hyc : y.cls = RX0) (hle : (lg_sl (.ref (oh O) :: av)).length ≤ nL) (body : ∀ (κ : Kx) (A : Nat → Prop) (H0 : Heap), kl κ = l → CB κ bc nL RX0 fr lo → XC κ (oD O, A, H0, O.2.2.2) → XRV κ (oD O, A, H0, O.2.2.2) post → bnd σ → J κ nL (xW (oD O, A, H0, O.2.2.2) σ) 0 (lv_args 0 (.ref (oh O) :: av)) []) : XMv l O y bc nL fr lo av σ post := by
  intro sz
  refine Met.ofW (cc := bc) (maxL := nL) (ret := none) hy rfl ?_
  intro p e s m args below meth c s₁ B hml hv
  obtain ⟨rfl, hsz, hP, hK, hD, hb⟩ := hv
  have hts := atoms_spec (ws := ws_ y bc nL none) B.pre
  have hts : ∀ w ∈ lw_all, w.before _ s = true := fun w h => hts w (List.mem_cons_of_mem _ h)
  have hown : s.vm.findClass RX0 = some m.cls := hyc ▸ findClass_of_methodNamed B.named
  subst hsz
  have hD1 := hD.self (sz := s.heap.size)
  have hl := lv_entry (.ref (oh O) :: av) (n := nL) hle
  rw [lg_entry_eq]
  exact body (p, l, e, (headSpec (ws_ y bc nL none) (xrm fr lo)).room, s, m, _, below, meth, c, _, 0, 0) (va_A (xws O σ) s.heap.size) s.heap rfl ⟨⟨B.exec, B.bytes, hml, hown, hts⟩, Nat.le_refl _, Nat.le_refl _, Nat.zero_le _, Nat.zero_le _⟩ ⟨hK, fun q h => Or.inr h⟩ ⟨B.returns, B.notSynchronized, rfl, rfl⟩ hb s.heap [] _ ⟨hP, hD1, va_S.rf, hb⟩ hl
theorem x_callS {y : MethodName} {bc : ByteArray} {nL' fr' lo' idx : Nat} {ret : FieldType} {av stk : List Value} {post : Int32 → Prop} (C : CB κ cc nL RX0 fr lo) (X : XC κ O) (hM : SMi (kl κ) y bc nL' ret fr' lo' av post) (n : Nat) (hn : av.length = n) (hq : GoodIn lw_all (va_wsS RX0 idx y (ws_ y bc nL' (some ret)))) (hd : y.cls ≠ "java/lang/invoke/MethodHandle" ∧ y.cls ≠ "java/lang/invoke/VarHandle" ∧ (parseMethodDescriptor y.desc).map (fun d => d.parameters.length) = some n) (hr : fr' + 1 ≤ fr ∧ 8 + (nL' + 11) + lo' ≤ lo) (hdg : decode cc pc = .ok (.invokestatic idx, 3)) (hs : stk = av.reverse ++ st) (hc : (st.map fun v => v.category).sum ≤ 8) (kk : ∀ r, post r → J κ nL (xW O σ) (pc + 3) L (.int r :: st)) : J κ nL (xW O σ) pc L stk := by
  subst hs
  intro H locs ls hw hl
  obtain ⟨hP, hD, hS, hb⟩ := hw
  exact va_calli (va_runS (As := av) (rest := st) C.1 hM (va_cwS n C.1.2.2.2.2 hq rfl rfl rfl hd ⟨Nat.le_trans hr.1 C.2.1, Nat.le_trans hr.2 C.2.2.1⟩) ⟨fun a U g mk q => ⟨q.1, trivial⟩, fun U hU hW => ⟨rfl, trivial⟩⟩ rfl hn hl.1 rfl (lv_room hc) hdg ⟨C.2.2.2.1, C.2.2.2.2⟩) hS (fun q _ h => h.elim) (fun q h => h.elim) (fun r u t H1 locs1 ht hvm hp hB hz hk hS1 => kk r hp H1 locs1 ls ⟨hP.kept (fun k q hq => hk q.1 (hP k q hq).lt (fun h => h)), hD, hS1, hb⟩ hl)
end XR
/-! ===== the world of RX1 ===== -/
def mfs (O : XO) (σ : St) : List Value := [.ref (oa O 0), .ref (oa O 1), .ref (oa O 2), .ref (oa O 3), .ref (oa O 4), .ref (oa O 5)]
def mws (O : XO) (σ : St) : va_W := [(oh O, .inr (1, mfs O σ)), xarr O σ 0 216, xarr O σ 1 216, xarr O σ 2 216, xarr O σ 3 216, xarr O σ 4 216, xarr O σ 5 216]
def mty (O : XO) : List (ClassId × FieldType) := [(od O 0, .boolean), (od O 1, .int), (od O 2, .int), (od O 3, .int), (od O 4, .int), (od O 5, .int)]
def mW (O : XO) (σ : St) : Heap → List Loc → Prop := fun H locs => va_P (oD O) vCl (mws O σ) H ∧ va_D (oA O) (mws O σ) ∧ va_S (oA O) (oH O) H locs ∧ bnd σ
def MC (κ : Kx) (O : XO) : Prop := va_K (oD O) vCl (mty O) (ks κ) ∧ (∀ q, (oH O).size ≤ q → oA O q)
def MB (O : XO) (A : Nat → Prop) (σ : St) (t : State) : Prop := va_P (oD O) vCl (mws O σ) t.heap ∧ va_K (oD O) vCl (mty O) t ∧ va_D A (mws O σ) ∧ bnd σ
abbrev mpre (O : XO) (av : List Value) (σ : St) (sz : Nat) : Array Value → State → Prop := va_Pc (.ref (oh O) :: av) (fun U => U.heap.size = sz ∧ MB O (fun _ => True) σ U)
def MMi (l : Launch) (O : XO) (y : MethodName) (bc : ByteArray) (nL : Nat) (ret : FieldType) (fr lo : Nat) (av : List Value) (σ : St) (post : Int32 → St → Prop) : Prop := ∀ sz : Nat, Met l y (ws_ y bc nL (some ret)) (xrm fr lo) (mpre O av σ sz) (va_Qi post (MB O (va_A (mws O σ) sz)) (va_A (mws O σ) sz)) 0 0 (va_A (mws O σ) sz)
def MMv (l : Launch) (O : XO) (y : MethodName) (bc : ByteArray) (nL : Nat) (fr lo : Nat) (av : List Value) (σ : St) (post : St → Prop) : Prop := ∀ sz : Nat, Met l y (ws_ y bc nL none) (xrm fr lo) (mpre O av σ sz) (va_Qv post (MB O (va_A (mws O σ) sz)) (va_A (mws O σ) sz)) 0 0 (va_A (mws O σ) sz)
def MRI (κ : Kx) (O : XO) (ret : FieldType) (post : Int32 → St → Prop) : Prop := (kt κ).sig.returnType = some ret ∧ (kt κ).locks = false ∧ oH O = (ks κ).heap ∧ kQ κ = MQ (kb κ) (va_Qi post (MB O (oA O)) (oA O)) (ka κ) (ks κ) (kn κ) (ko κ) (oA O)
def MRV (κ : Kx) (O : XO) (post : St → Prop) : Prop := (kt κ).sig.returnType = none ∧ (kt κ).locks = false ∧ oH O = (ks κ).heap ∧ kQ κ = MQ (kb κ) (va_Qv post (MB O (oA O)) (oA O)) (ka κ) (ks κ) (kn κ) (ko κ) (oA O)
theorem mfs_ne {O : XO} {σ : St} {k j v : Nat} (h : k ≠ 9) : mfs O (s2 σ k j v) = mfs O σ := by
  unfold mfs
  rfl
theorem mset_0 {O : XO} {σ : St} {j v : Nat} : (mws O σ).set (0 + 1) (xup O σ 0 216 j v) = mws O (s2 σ 0 j v) := by
  have h0 : xarr O (s2 σ 0 j v) 0 216 = xup O σ 0 216 j v := xarr_at
  have h1 : xarr O (s2 σ 0 j v) 1 216 = xarr O σ 1 216 := xarr_ne (by decide)
  have h2 : xarr O (s2 σ 0 j v) 2 216 = xarr O σ 2 216 := xarr_ne (by decide)
  have h3 : xarr O (s2 σ 0 j v) 3 216 = xarr O σ 3 216 := xarr_ne (by decide)
  have h4 : xarr O (s2 σ 0 j v) 4 216 = xarr O σ 4 216 := xarr_ne (by decide)
  have h5 : xarr O (s2 σ 0 j v) 5 216 = xarr O σ 5 216 := xarr_ne (by decide)
  unfold mws
  rw [h0, h1, h2, h3, h4, h5, mfs_ne (by decide)]
  rfl
theorem mset_1 {O : XO} {σ : St} {j v : Nat} : (mws O σ).set (1 + 1) (xup O σ 1 216 j v) = mws O (s2 σ 1 j v) := by
  have h0 : xarr O (s2 σ 1 j v) 0 216 = xarr O σ 0 216 := xarr_ne (by decide)
  have h1 : xarr O (s2 σ 1 j v) 1 216 = xup O σ 1 216 j v := xarr_at
  have h2 : xarr O (s2 σ 1 j v) 2 216 = xarr O σ 2 216 := xarr_ne (by decide)
  have h3 : xarr O (s2 σ 1 j v) 3 216 = xarr O σ 3 216 := xarr_ne (by decide)
  have h4 : xarr O (s2 σ 1 j v) 4 216 = xarr O σ 4 216 := xarr_ne (by decide)
  have h5 : xarr O (s2 σ 1 j v) 5 216 = xarr O σ 5 216 := xarr_ne (by decide)
  unfold mws
  rw [h0, h1, h2, h3, h4, h5, mfs_ne (by decide)]
  rfl
theorem mset_2 {O : XO} {σ : St} {j v : Nat} : (mws O σ).set (2 + 1) (xup O σ 2 216 j v) = mws O (s2 σ 2 j v) := by
  have h0 : xarr O (s2 σ 2 j v) 0 216 = xarr O σ 0 216 := xarr_ne (by decide)
  have h1 : xarr O (s2 σ 2 j v) 1 216 = xarr O σ 1 216 := xarr_ne (by decide)
  have h2 : xarr O (s2 σ 2 j v) 2 216 = xup O σ 2 216 j v := xarr_at
  have h3 : xarr O (s2 σ 2 j v) 3 216 = xarr O σ 3 216 := xarr_ne (by decide)
  have h4 : xarr O (s2 σ 2 j v) 4 216 = xarr O σ 4 216 := xarr_ne (by decide)
  have h5 : xarr O (s2 σ 2 j v) 5 216 = xarr O σ 5 216 := xarr_ne (by decide)
  unfold mws
  rw [h0, h1, h2, h3, h4, h5, mfs_ne (by decide)]
  rfl
theorem mset_3 {O : XO} {σ : St} {j v : Nat} : (mws O σ).set (3 + 1) (xup O σ 3 216 j v) = mws O (s2 σ 3 j v) := by
  have h0 : xarr O (s2 σ 3 j v) 0 216 = xarr O σ 0 216 := xarr_ne (by decide)
  have h1 : xarr O (s2 σ 3 j v) 1 216 = xarr O σ 1 216 := xarr_ne (by decide)
  have h2 : xarr O (s2 σ 3 j v) 2 216 = xarr O σ 2 216 := xarr_ne (by decide)
  have h3 : xarr O (s2 σ 3 j v) 3 216 = xup O σ 3 216 j v := xarr_at
  have h4 : xarr O (s2 σ 3 j v) 4 216 = xarr O σ 4 216 := xarr_ne (by decide)
  have h5 : xarr O (s2 σ 3 j v) 5 216 = xarr O σ 5 216 := xarr_ne (by decide)
  unfold mws
  rw [h0, h1, h2, h3, h4, h5, mfs_ne (by decide)]
  rfl
theorem mset_4 {O : XO} {σ : St} {j v : Nat} : (mws O σ).set (4 + 1) (xup O σ 4 216 j v) = mws O (s2 σ 4 j v) := by
  have h0 : xarr O (s2 σ 4 j v) 0 216 = xarr O σ 0 216 := xarr_ne (by decide)
  have h1 : xarr O (s2 σ 4 j v) 1 216 = xarr O σ 1 216 := xarr_ne (by decide)
  have h2 : xarr O (s2 σ 4 j v) 2 216 = xarr O σ 2 216 := xarr_ne (by decide)
  have h3 : xarr O (s2 σ 4 j v) 3 216 = xarr O σ 3 216 := xarr_ne (by decide)
  have h4 : xarr O (s2 σ 4 j v) 4 216 = xup O σ 4 216 j v := xarr_at
  have h5 : xarr O (s2 σ 4 j v) 5 216 = xarr O σ 5 216 := xarr_ne (by decide)
  unfold mws
  rw [h0, h1, h2, h3, h4, h5, mfs_ne (by decide)]
  rfl
theorem mset_5 {O : XO} {σ : St} {j v : Nat} : (mws O σ).set (5 + 1) (xup O σ 5 216 j v) = mws O (s2 σ 5 j v) := by
  have h0 : xarr O (s2 σ 5 j v) 0 216 = xarr O σ 0 216 := xarr_ne (by decide)
  have h1 : xarr O (s2 σ 5 j v) 1 216 = xarr O σ 1 216 := xarr_ne (by decide)
  have h2 : xarr O (s2 σ 5 j v) 2 216 = xarr O σ 2 216 := xarr_ne (by decide)
  have h3 : xarr O (s2 σ 5 j v) 3 216 = xarr O σ 3 216 := xarr_ne (by decide)
  have h4 : xarr O (s2 σ 5 j v) 4 216 = xarr O σ 4 216 := xarr_ne (by decide)
  have h5 : xarr O (s2 σ 5 j v) 5 216 = xup O σ 5 216 j v := xarr_at
  unfold mws
  rw [h0, h1, h2, h3, h4, h5, mfs_ne (by decide)]
  rfl
section MR
variable {κ : Kx} {O : XO} {σ : St} {cc : ByteArray} {nL fr lo : Nat} {pc : Nat} {L : List (Nat × Value)} {st : List Value}
theorem m_get (C : CB κ cc nL RX1 fr lo) (X : MC κ O) (k : Nat) (hk : k < 6) {idx : Nat} (hq : Cond.fieldLink RX1 idx (TX1 k).1 (TX1 k).2.1 (TX1 k).2.2.1 ∈ lw_all) {v : Value} (hv : (mfs O σ)[k]? = some v) (hdg : decode cc pc = .ok (.getfield idx, 3)) (kk : J κ nL (mW O σ) (pc + 3) L (v :: st)) : J κ nL (mW O σ) pc L (.ref (oh O) :: st) :=
  fun H locs ls hw hl => va_get (C := RX1) (T := TX1) (N := 6) (ci := 1) C.1.1 C.1.2.1 C.1.2.2.2.2 in_X1 C.1.2.2.2.1 X.1 hw.1 0 rfl rfl k hk (C.1.2.2.2.2 _ hq) (fun _ h => h) hv hdg (kk H locs ls hw hl)
theorem m_ild (C : CB κ cc nL RX1 fr lo) (X : MC κ O) (k n j : Nat) (hk : (mws O σ)[k + 1]? = some (xarr O σ k n)) (ht : (mty O)[k]? = some (od O k, .int)) (hn : n < 2147483648) {z : Int} (hz : z = (j : Int)) (hj : j < n) (hdg : decode cc pc = .ok (.iaload, 1)) (kk : σ k j ≤ 432 → J κ nL (mW O σ) (pc + 1) L (.int (iI ((σ k j : Nat) : Int)) :: st)) : J κ nL (mW O σ) pc L (.int (iI z) :: .ref (oa O k) :: st) := by
  subst hz
  exact fun H locs ls hw hl => va_iald (f := fun j => iI ((σ k j : Nat) : Int)) C.1.1 C.1.2.1 X.1 hw.1 (k + 1) k hk ht (iI_in hj hn) hdg (by rw [iI_cl (Nat.lt_trans hj hn)]; exact kk (hw.2.2.2 k j) H locs ls hw hl)
theorem m_zld (C : CB κ cc nL RX1 fr lo) (X : MC κ O) (k n j : Nat) (hk : (mws O σ)[k + 1]? = some (xarr O σ k n)) (ht : (mty O)[k]? = some (od O k, .boolean)) (hn : n < 2147483648) {z : Int} (hz : z = (j : Int)) (hj : j < n) (hdg : decode cc pc = .ok (.baload, 1)) (kk : σ k j ≤ 432 → J κ nL (mW O σ) (pc + 1) L (.int (iI ((σ k j : Nat) : Int)) :: st)) : J κ nL (mW O σ) pc L (.int (iI z) :: .ref (oa O k) :: st) := by
  subst hz
  exact fun H locs ls hw hl => va_zald (f := fun j => iI ((σ k j : Nat) : Int)) C.1.1 C.1.2.1 X.1 hw.1 (k + 1) k hk ht (iI_in hj hn) hdg (by rw [iI_cl (Nat.lt_trans hj hn)]; exact kk (hw.2.2.2 k j) H locs ls hw hl)
theorem m_ist (C : CB κ cc nL RX1 fr lo) (X : MC κ O) (k n j v : Nat) (hk : (mws O σ)[k + 1]? = some (xarr O σ k n)) (ht : (mty O)[k]? = some (od O k, .int)) (hset : (mws O σ).set (k + 1) (xup O σ k n j v) = mws O (s2 σ k j v)) (hn : n < 2147483648) {z w : Int} (hz : z = (j : Int)) (hj : j < n) (hw2 : w = (v : Int)) (hv : v ≤ 432) (hdg : decode cc pc = .ok (.iastore, 1)) (kk : J κ nL (mW O (s2 σ k j v)) (pc + 1) L st) : J κ nL (mW O σ) pc L (.int (iI w) :: .int (iI z) :: .ref (oa O k) :: st) := by
  subst hz
  subst hw2
  exact fun H locs ls hw hl => va_iast (f := fun j => iI ((σ k j : Nat) : Int)) C.1.1 C.1.2.1 X.1 hw.1 hw.2.1 hw.2.2.1 (k + 1) k hk ht (iI_in hj hn) hdg (fun H1 locs1 hP hD hS => by
    rw [iI_cl (Nat.lt_trans hj hn)] at hP hD
    exact kk H1 locs1 ls ⟨hset ▸ hP, hset ▸ hD, hS, bnd_s2 hw.2.2.2 hv⟩ hl)
theorem m_zst (C : CB κ cc nL RX1 fr lo) (X : MC κ O) (k n j v : Nat) (hk : (mws O σ)[k + 1]? = some (xarr O σ k n)) (ht : (mty O)[k]? = some (od O k, .boolean)) (hset : (mws O σ).set (k + 1) (xup O σ k n j v) = mws O (s2 σ k j v)) (hn : n < 2147483648) {z w : Int} (hz : z = (j : Int)) (hj : j < n) (hw2 : w = (v : Int)) (hv : v ≤ 1) (hdg : decode cc pc = .ok (.bastore, 1)) (kk : J κ nL (mW O (s2 σ k j v)) (pc + 1) L st) : J κ nL (mW O σ) pc L (.int (iI w) :: .int (iI z) :: .ref (oa O k) :: st) := by
  subst hz
  subst hw2
  exact fun H locs ls hw hl => va_zast (f := fun j => iI ((σ k j : Nat) : Int)) C.1.1 C.1.2.1 X.1 hw.1 hw.2.1 hw.2.2.1 (k + 1) k hk ht (iI_in hj hn) hdg (fun H1 locs1 hP hD hS => by
    rw [iI_cl (Nat.lt_trans hj hn), vzn hv] at hP hD
    exact kk H1 locs1 ls ⟨hset ▸ hP, hset ▸ hD, hS, bnd_s2 hw.2.2.2 (by omega)⟩ hl)
theorem m_iret (C : CB κ cc nL RX1 fr lo) (X : MC κ O) {ret : FieldType} {post : Int32 → St → Prop} (Rt : MRI κ O ret post) {z : Int} (hn : narrow ret (.int (iI z)) = .int (iI z)) (hp : post (iI z) σ) (hdg : decode cc pc = .ok (.ireturn, 1)) : J κ nL (mW O σ) pc L [.int (iI z)] := by
  intro H locs ls hw hl
  obtain ⟨h1, h2, h3, h4⟩ := Rt
  obtain ⟨hP, hD, hS, hb⟩ := hw
  rw [h3] at hS
  rw [h4]
  exact W.zret C.1.1 C.1.2.1 h1 hn (fun t ht hW => ⟨⟨iI z, σ, rfl, hp, by rw [ht]; exact hP, va_K.moved hW.alike X.1, hD, hb⟩, hS.F ht⟩) hS.2.2 hdg h2
theorem m_vret (C : CB κ cc nL RX1 fr lo) (X : MC κ O) {post : St → Prop} (Rt : MRV κ O post) (hp : post σ) (hdg : decode cc pc = .ok (.return_, 1)) : J κ nL (mW O σ) pc L [] := by
  intro H locs ls hw hl
  obtain ⟨h1, h2, h3, h4⟩ := Rt
  obtain ⟨hP, hD, hS, hb⟩ := hw
  rw [h3] at hS
  rw [h4]
  exact W.vret C.1.1 C.1.2.1 h1 (fun t ht hW => ⟨⟨σ, rfl, hp, by rw [ht]; exact hP, va_K.moved hW.alike X.1, hD, hb⟩, hS.F ht⟩) hS.2.2 hdg h2
theorem m_free {H : Heap} {locs : List Loc} (X : MC κ O) (hw : mW O σ H locs) : ∀ q, va_A (mws O σ) H.size q → oA O q := by
  intro q h
  rcases h with ⟨k, e, h⟩ | h
  · exact hw.2.1.2 k (q, e) h
  · exact X.2 q (Nat.le_trans hw.2.2.1.1 h)
theorem m_calli {y : MethodName} {bc : ByteArray} {nL' fr' lo' idx : Nat} {ret : FieldType} {av stk : List Value} {post : Int32 → St → Prop} (C : CB κ cc nL RX1 fr lo) (X : MC κ O) (hM : MMi (kl κ) O y bc nL' ret fr' lo' av σ post) (n : Nat) (hn : av.length = n) (hq : GoodIn lw_all (wsV RX1 idx RX1 y (ws_ y bc nL' (some ret)))) (hd : y.cls = RX1 ∧ y.cls ≠ "java/lang/invoke/MethodHandle" ∧ y.cls ≠ "java/lang/invoke/VarHandle" ∧ (parseMethodDescriptor y.desc).map (fun d => d.parameters.length) = some n) (hr : fr' + 1 ≤ fr ∧ 8 + (nL' + 11) + lo' ≤ lo) (hdg : decode cc pc = .ok (.invokevirtual idx, 3)) (hs : stk = av.reverse ++ .ref (oh O) :: st) (hc : (st.map fun v => v.category).sum ≤ 8) (kk : ∀ r σ', post r σ' → J κ nL (mW O σ') (pc + 3) L (.int r :: st)) : J κ nL (mW O σ) pc L stk := by
  subst hs
  intro H locs ls hw hl
  have hF := m_free X hw
  obtain ⟨hP, hD, hS, hb⟩ := hw
  refine va_calli (va_runV (As := av) (rest := st) C.1 (hM H.size) (cwV n C.1.2.2.2.2 hq rfl rfl rfl hd ⟨Nat.le_trans hr.1 C.2.1, Nat.le_trans hr.2 C.2.2.1⟩) ⟨fun a U g mk q => ?_, va_recv X.1 hP (ci := 1) (q0 := 0) rfl rfl, fun U hU hW => ?_⟩ rfl hn hl.1 rfl (lv_room hc) hdg ⟨C.2.2.2.1, C.2.2.2.2⟩) hS (fun q _ h => hF q h) hF (fun r σ' t H1 locs1 ht hvm hp hB hz hk hS1 => ?_)
  · obtain ⟨q0, q1, qP, qK, qD⟩ := q
    exact ⟨q0, q1, qP, va_K.moved (u := U) (U := U.calling g mk a) (Vm.Alike.refl U.vm) qK, qD⟩
  · exact ⟨rfl, by rw [hU], by rw [hU]; exact hP, va_K.moved hW.alike X.1, hD.weaken (fun _ _ _ _ => trivial), hb⟩
  · obtain ⟨hP1, hK1, hD1, hb1⟩ := hB
    rw [ht] at hP1
    exact kk r σ' hp H1 locs1 ls ⟨hP1, hD1.weaken (fun k q _ h => hF q.1 h), hS1, hb1⟩ hl
theorem MMi.of {l : Launch} {O : XO} {y : MethodName} {bc : ByteArray} {nL : Nat} {ret : FieldType} {fr lo : Nat} {av : List Value} {σ : St} {post : Int32 → St → Prop} (hy : plainName y.cls = true) (hyc : y.cls = RX1) (hle : (lg_sl (.ref (oh O) :: av)).length ≤ nL) (body : ∀ (κ : Kx) (A : Nat → Prop) (H0 : Heap), kl κ = l → CB κ bc nL RX1 fr lo → MC κ (oD O, A, H0, O.2.2.2) → MRI κ (oD O, A, H0, O.2.2.2) ret post → bnd σ → J κ nL (mW (oD O, A, H0, O.2.2.2) σ) 0 (lv_args 0 (.ref (oh O) :: av)) []) : MMi l O y bc nL ret fr lo av σ post := by
  intro sz
  refine Met.ofW (cc := bc) (maxL := nL) (ret := (some ret)) hy rfl ?_
  intro p e s m args below meth c s₁ B hml hv
  obtain ⟨rfl, hsz, hP, hK, hD, hb⟩ := hv
  have hts := atoms_spec (ws := ws_ y bc nL (some ret)) B.pre
  have hts : ∀ w ∈ lw_all, w.before _ s = true := fun w h => hts w (List.mem_cons_of_mem _ h)
  have hown : s.vm.findClass RX1 = some m.cls := hyc ▸ findClass_of_methodNamed B.named
  subst hsz
  have hD1 := hD.self (sz := s.heap.size)
  have hl := lv_entry (.ref (oh O) :: av) (n := nL) hle
  rw [lg_entry_eq]
  exact body (p, l, e, (headSpec (ws_ y bc nL (some ret)) (xrm fr lo)).room, s, m, _, below, meth, c, _, 0, 0) (va_A (mws O σ) s.heap.size) s.heap rfl ⟨⟨B.exec, B.bytes, hml, hown, hts⟩, Nat.le_refl _, Nat.le_refl _, Nat.zero_le _, Nat.zero_le _⟩ ⟨hK, fun q h => Or.inr h⟩ ⟨B.returns, B.notSynchronized, rfl, rfl⟩ hb s.heap [] _ ⟨hP, hD1, va_S.rf, hb⟩ hl
theorem m_callv {y : MethodName} {bc : ByteArray} {nL' fr' lo' idx : Nat} {av stk : List Value} {post : St → Prop} (C : CB κ cc nL RX1 fr lo) (X : MC κ O) (hM : MMv (kl κ) O y bc nL' fr' lo' av σ post) (n : Nat) (hn : av.length = n) (hq : GoodIn lw_all (wsV RX1 idx RX1 y (ws_ y bc nL' none))) (hd : y.cls = RX1 ∧ y.cls ≠ "java/lang/invoke/MethodHandle" ∧ y.cls ≠ "java/lang/invoke/VarHandle" ∧ (parseMethodDescriptor y.desc).map (fun d => d.parameters.length) = some n) (hr : fr' + 1 ≤ fr ∧ 8 + (nL' + 11) + lo' ≤ lo) (hdg : decode cc pc = .ok (.invokevirtual idx, 3)) (hs : stk = av.reverse ++ .ref (oh O) :: st) (hc : (st.map fun v => v.category).sum ≤ 8) (kk : ∀ σ', post σ' → J κ nL (mW O σ') (pc + 3) L st) : J κ nL (mW O σ) pc L stk := by
  subst hs
  intro H locs ls hw hl
  have hF := m_free X hw
  obtain ⟨hP, hD, hS, hb⟩ := hw
  refine va_callv (va_runV (As := av) (rest := st) C.1 (hM H.size) (cwV n C.1.2.2.2.2 hq rfl rfl rfl hd ⟨Nat.le_trans hr.1 C.2.1, Nat.le_trans hr.2 C.2.2.1⟩) ⟨fun a U g mk q => ?_, va_recv X.1 hP (ci := 1) (q0 := 0) rfl rfl, fun U hU hW => ?_⟩ rfl hn hl.1 rfl (lv_room hc) hdg ⟨C.2.2.2.1, C.2.2.2.2⟩) hS (fun q _ h => hF q h) hF (fun σ' t H1 locs1 ht hvm hp hB hz hk hS1 => ?_)
  · obtain ⟨q0, q1, qP, qK, qD⟩ := q
    exact ⟨q0, q1, qP, va_K.moved (u := U) (U := U.calling g mk a) (Vm.Alike.refl U.vm) qK, qD⟩
  · exact ⟨rfl, by rw [hU], by rw [hU]; exact hP, va_K.moved hW.alike X.1, hD.weaken (fun _ _ _ _ => trivial), hb⟩
  · obtain ⟨hP1, hK1, hD1, hb1⟩ := hB
    rw [ht] at hP1
    exact kk σ' hp H1 locs1 ls ⟨hP1, hD1.weaken (fun k q _ h => hF q.1 h), hS1, hb1⟩ hl
theorem MMv.of {l : Launch} {O : XO} {y : MethodName} {bc : ByteArray} {nL : Nat} {fr lo : Nat} {av : List Value} {σ : St} {post : St → Prop} (hy : plainName y.cls = true) (hyc : y.cls = RX1) (hle : (lg_sl (.ref (oh O) :: av)).length ≤ nL) (body : ∀ (κ : Kx) (A : Nat → Prop) (H0 : Heap), kl κ = l → CB κ bc nL RX1 fr lo → MC κ (oD O, A, H0, O.2.2.2) → MRV κ (oD O, A, H0, O.2.2.2) post → bnd σ → J κ nL (mW (oD O, A, H0, O.2.2.2) σ) 0 (lv_args 0 (.ref (oh O) :: av)) []) : MMv l O y bc nL fr lo av σ post := by
  intro sz
  refine Met.ofW (cc := bc) (maxL := nL) (ret := none) hy rfl ?_
  intro p e s m args below meth c s₁ B hml hv
  obtain ⟨rfl, hsz, hP, hK, hD, hb⟩ := hv
  have hts := atoms_spec (ws := ws_ y bc nL none) B.pre
  have hts : ∀ w ∈ lw_all, w.before _ s = true := fun w h => hts w (List.mem_cons_of_mem _ h)
  have hown : s.vm.findClass RX1 = some m.cls := hyc ▸ findClass_of_methodNamed B.named
  subst hsz
  have hD1 := hD.self (sz := s.heap.size)
  have hl := lv_entry (.ref (oh O) :: av) (n := nL) hle
  rw [lg_entry_eq]
  exact body (p, l, e, (headSpec (ws_ y bc nL none) (xrm fr lo)).room, s, m, _, below, meth, c, _, 0, 0) (va_A (mws O σ) s.heap.size) s.heap rfl ⟨⟨B.exec, B.bytes, hml, hown, hts⟩, Nat.le_refl _, Nat.le_refl _, Nat.zero_le _, Nat.zero_le _⟩ ⟨hK, fun q h => Or.inr h⟩ ⟨B.returns, B.notSynchronized, rfl, rfl⟩ hb s.heap [] _ ⟨hP, hD1, va_S.rf, hb⟩ hl
end MR
end
section
/-! plain words -/
def nsz (w : Nat) : Int := if 3 < w then 36 else if w < 2 then 1 else 6
def nbr (c w : Nat) : Int := if w % 2 = 0 then (if 0 < (c : Int) / nsz w % 6 then (c : Int) - nsz w else -1) else (if (c : Int) / nsz w % 6 < 5 then (c : Int) + nsz w else -1)
def bes (c w : Nat) : Int := if w = 0 then (if c % 6 < 5 then (c : Int) + 1 else -1) else if w = 1 then (if 0 < c % 6 then (c : Int) - 1 else -1) else if w = 2 then (if c / 6 % 6 < 5 then (c : Int) + 6 else -1) else if w = 3 then (if 0 < c / 6 % 6 then (c : Int) - 6 else -1) else if w = 4 then (if c / 36 < 5 then (c : Int) + 36 else -1) else (if 0 < c / 36 then (c : Int) - 36 else -1)
def flip1 (w : Nat) : Nat := if w % 2 = 0 then w + 1 else w - 1
theorem nbr_all : ∀ c, c < 216 → ∀ w, w < 6 → nbr c w = -1 ∨ (0 ≤ nbr c w ∧ nbr c w < 216 ∧ nbr (nbr c w).toNat (flip1 w) = c) := by decide +kernel
theorem bes_all : ∀ c, c < 216 → ∀ w, w < 6 → bes c w = nbr c (flip1 w) := by decide +kernel
theorem flip1_lt {w : Nat} (h : w < 6) : flip1 w < 6 := by
  unfold flip1
  split <;> omega
theorem flip1_2 {w : Nat} : flip1 (flip1 w) = w := by
  unfold flip1
  split <;> split <;> omega
theorem nbr_rg {c w : Nat} (hc : c < 216) (hw : w < 6) : nbr c w = -1 ∨ ∃ d : Nat, d < 216 ∧ nbr c w = (d : Int) ∧ nbr d (flip1 w) = (c : Int) := by
  rcases nbr_all c hc w hw with h | ⟨h1, h2, h3⟩
  · exact Or.inl h
  · exact Or.inr ⟨(nbr c w).toNat, by omega, by omega, h3⟩
def boxP (lo hi : Int) : Prop := (0 ≤ lo ∧ lo < 216) ∧ (0 ≤ hi ∧ hi < 216) ∧ lo % 6 ≤ hi % 6 ∧ lo / 6 % 6 ≤ hi / 6 % 6 ∧ lo / 36 ≤ hi / 36
def inP (c lo hi : Int) : Prop := (lo % 6 ≤ c % 6 ∧ c % 6 ≤ hi % 6) ∧ (lo / 6 % 6 ≤ c / 6 % 6 ∧ c / 6 % 6 ≤ hi / 6 % 6) ∧ lo / 36 ≤ c / 36 ∧ c / 36 ≤ hi / 36
def onP (c lo hi : Int) : Prop := (c % 6 = lo % 6 ∨ c % 6 = hi % 6) ∨ (c / 6 % 6 = lo / 6 % 6 ∨ c / 6 % 6 = hi / 6 % 6) ∨ c / 36 = lo / 36 ∨ c / 36 = hi / 36
/-- a boolean answer -/
def ynP (r : Int32) (p : Prop) : Prop := (r = iI 1 ∧ p) ∨ (r = iI 0 ∧ ¬ p)
theorem ynY {p : Prop} (h : p) : ynP (iI 1) p := Or.inl ⟨rfl, h⟩
theorem ynN {p : Prop} (h : ¬ p) : ynP (iI 0) p := Or.inr ⟨rfl, h⟩
end
section
theorem m_isCell (l : Launch) (z : Int) (hz : -2147483648 ≤ z ∧ z < 2147483648) : SMi l yX0_isCell cX0_isCell 1 .boolean 0 0 [.int (iI z)] (fun r => ynP r (0 ≤ z ∧ z < 216)) := by
  refine SMi.of (by decide) (Nat.le_of_ble_eq_true rfl) ?_
  intro κ hκ C Rt
  refine (?_ : J κ 1 (sW κ) 0 [(0, .int (iI z))] [])
  refine j_iload_n C 0 dX0_isCell_0 rfl rfl ?_
  refine j_if_lt C (tgt := 15) dX0_isCell_1 (by decide) (by omega) (fun hc1 => ?_) (fun hc1 => ?_)
  · refine j_iconst C dX0_isCell_15 ?_
    exact s_iret C Rt (by first | exact nb1 | exact nb0) (by first | exact ynY (by omega) | exact ynN (by omega)) dX0_isCell_16
  · refine j_iload_n C 0 dX0_isCell_4 rfl rfl ?_
    refine j_sipush C dX0_isCell_5 (by decide) ?_
    refine j_icmp_ge C (tgt := 15) dX0_isCell_8 (by decide) (by omega) (by omega) (fun hc8 => ?_) (fun hc8 => ?_)
    · refine j_iconst C dX0_isCell_15 ?_
      exact s_iret C Rt (by first | exact nb1 | exact nb0) (by first | exact ynY (by omega) | exact ynN (by omega)) dX0_isCell_16
    · refine j_iconst C dX0_isCell_11 ?_
      refine j_goto C (tgt := 16) dX0_isCell_12 (by decide) ?_
      exact s_iret C Rt (by first | exact nb1 | exact nb0) (by first | exact ynY (by omega) | exact ynN (by omega)) dX0_isCell_16
theorem m_neighbour (l : Launch) (c w : Nat) (hc : c < 216) (hw : w < 6) : SMi l yX0_neighbour cX0_neighbour 4 .int 0 0 [.int (iI (c : Int)), .int (iI (w : Int))] (fun r => r = iI (nbr c w)) := by
  refine SMi.of (by decide) (Nat.le_of_ble_eq_true rfl) ?_
  intro κ hκ C Rt
  refine (?_ : J κ 4 (sW κ) 0 [(0, .int (iI (c : Int))), (1, .int (iI (w : Int)))] [])
  refine j_iload_n C 1 dX0_neighbour_0 rfl rfl ?_
  refine j_iconst C dX0_neighbour_1 ?_
  refine j_icmp_ge C (tgt := 9) dX0_neighbour_2 (by decide) (by omega) (by omega) (fun hc2 => ?_) (fun hc2 => ?_)
  · refine j_bipush C dX0_neighbour_9 (by decide) ?_
    refine j_istore_n C [1, 2, 0] (L' := [(0, _), (1, _), (2, _)]) dX0_neighbour_11 rfl (by decide) rfl ?_
    refine j_iload_n C 1 dX0_neighbour_12 rfl rfl ?_
    refine j_iconst C dX0_neighbour_13 ?_
    refine j_icmp_le C (tgt := 22) dX0_neighbour_14 (by decide) (by omega) (by omega) (fun hc14 => ?_) (fun hc14 => ?_)
    · refine j_iload_n C 2 dX0_neighbour_22 rfl rfl ?_
      refine j_istore_n C [1, 2, 0] (L' := [(0, _), (1, _), (2, _)]) dX0_neighbour_23 rfl (by decide) rfl ?_
      refine j_iload_n C 0 dX0_neighbour_24 rfl rfl ?_
      refine j_iload_n C 2 dX0_neighbour_25 rfl rfl ?_
      refine j_idiv C dX0_neighbour_26 (by omega) (by omega) ?_
      refine j_bipush C dX0_neighbour_27 (by decide) ?_
      refine j_irem C dX0_neighbour_29 (by omega) (by omega) ?_
      refine j_istore_n C [1, 2, 3, 0] (L' := [(0, _), (1, _), (2, _), (3, _)]) dX0_neighbour_30 rfl (by decide) rfl ?_
      refine j_iload_n C 1 dX0_neighbour_31 rfl rfl ?_
      refine j_iconst C dX0_neighbour_32 ?_
      refine j_iand1 C dX0_neighbour_33 (by omega) ?_
      refine j_if_ne C (tgt := 49) dX0_neighbour_34 (by decide) (by omega) (fun hc34 => ?_) (fun hc34 => ?_)
      · refine j_iload_n C 3 dX0_neighbour_49 rfl rfl ?_
        refine j_iconst C dX0_neighbour_50 ?_
        refine j_icmp_ge C (tgt := 60) dX0_neighbour_51 (by decide) (by omega) (by omega) (fun hc51 => ?_) (fun hc51 => ?_)
        · refine j_iconst C dX0_neighbour_60 ?_
          exact s_iret C Rt (rfl) (by unfold nbr nsz; congr 1; (repeat' split) <;> omega) dX0_neighbour_61
        · refine j_iload_n C 0 dX0_neighbour_54 rfl rfl ?_
          refine j_iload_n C 2 dX0_neighbour_55 rfl rfl ?_
          refine j_iadd C dX0_neighbour_56 ?_
          refine j_goto C (tgt := 61) dX0_neighbour_57 (by decide) ?_
          exact s_iret C Rt (rfl) (by unfold nbr nsz; congr 1; (repeat' split) <;> omega) dX0_neighbour_61
      · refine j_iload_n C 3 dX0_neighbour_37 rfl rfl ?_
        refine j_if_le C (tgt := 47) dX0_neighbour_38 (by decide) (by omega) (fun hc38 => ?_) (fun hc38 => ?_)
        · refine j_iconst C dX0_neighbour_47 ?_
          exact s_iret C Rt (rfl) (by unfold nbr nsz; congr 1; (repeat' split) <;> omega) dX0_neighbour_48
        · refine j_iload_n C 0 dX0_neighbour_41 rfl rfl ?_
          refine j_iload_n C 2 dX0_neighbour_42 rfl rfl ?_
          refine j_isub C dX0_neighbour_43 ?_
          refine j_goto C (tgt := 48) dX0_neighbour_44 (by decide) ?_
          exact s_iret C Rt (rfl) (by unfold nbr nsz; congr 1; (repeat' split) <;> omega) dX0_neighbour_48
    · refine j_bipush C dX0_neighbour_17 (by decide) ?_
      refine j_goto C (tgt := 23) dX0_neighbour_19 (by decide) ?_
      refine j_istore_n C [1, 2, 0] (L' := [(0, _), (1, _), (2, _)]) dX0_neighbour_23 rfl (by decide) rfl ?_
      refine j_iload_n C 0 dX0_neighbour_24 rfl rfl ?_
      refine j_iload_n C 2 dX0_neighbour_25 rfl rfl ?_
      refine j_idiv C dX0_neighbour_26 (by omega) (by omega) ?_
      refine j_bipush C dX0_neighbour_27 (by decide) ?_
      refine j_irem C dX0_neighbour_29 (by omega) (by omega) ?_
      refine j_istore_n C [1, 2, 3, 0] (L' := [(0, _), (1, _), (2, _), (3, _)]) dX0_neighbour_30 rfl (by decide) rfl ?_
      refine j_iload_n C 1 dX0_neighbour_31 rfl rfl ?_
      refine j_iconst C dX0_neighbour_32 ?_
      refine j_iand1 C dX0_neighbour_33 (by omega) ?_
      refine j_if_ne C (tgt := 49) dX0_neighbour_34 (by decide) (by omega) (fun hc34 => ?_) (fun hc34 => ?_)
      · refine j_iload_n C 3 dX0_neighbour_49 rfl rfl ?_
        refine j_iconst C dX0_neighbour_50 ?_
        refine j_icmp_ge C (tgt := 60) dX0_neighbour_51 (by decide) (by omega) (by omega) (fun hc51 => ?_) (fun hc51 => ?_)
        · refine j_iconst C dX0_neighbour_60 ?_
          exact s_iret C Rt (rfl) (by unfold nbr nsz; congr 1; (repeat' split) <;> omega) dX0_neighbour_61
        · refine j_iload_n C 0 dX0_neighbour_54 rfl rfl ?_
          refine j_iload_n C 2 dX0_neighbour_55 rfl rfl ?_
          refine j_iadd C dX0_neighbour_56 ?_
          refine j_goto C (tgt := 61) dX0_neighbour_57 (by decide) ?_
          exact s_iret C Rt (rfl) (by unfold nbr nsz; congr 1; (repeat' split) <;> omega) dX0_neighbour_61
      · refine j_iload_n C 3 dX0_neighbour_37 rfl rfl ?_
        refine j_if_le C (tgt := 47) dX0_neighbour_38 (by decide) (by omega) (fun hc38 => ?_) (fun hc38 => ?_)
        · refine j_iconst C dX0_neighbour_47 ?_
          exact s_iret C Rt (rfl) (by unfold nbr nsz; congr 1; (repeat' split) <;> omega) dX0_neighbour_48
        · refine j_iload_n C 0 dX0_neighbour_41 rfl rfl ?_
          refine j_iload_n C 2 dX0_neighbour_42 rfl rfl ?_
          refine j_isub C dX0_neighbour_43 ?_
          refine j_goto C (tgt := 48) dX0_neighbour_44 (by decide) ?_
          exact s_iret C Rt (rfl) (by unfold nbr nsz; congr 1; (repeat' split) <;> omega) dX0_neighbour_48
  · refine j_iconst C dX0_neighbour_5 ?_
    refine j_goto C (tgt := 11) dX0_neighbour_6 (by decide) ?_
    refine j_istore_n C [1, 2, 0] (L' := [(0, _), (1, _), (2, _)]) dX0_neighbour_11 rfl (by decide) rfl ?_
    refine j_iload_n C 1 dX0_neighbour_12 rfl rfl ?_
    refine j_iconst C dX0_neighbour_13 ?_
    refine j_icmp_le C (tgt := 22) dX0_neighbour_14 (by decide) (by omega) (by omega) (fun hc14 => ?_) (fun hc14 => ?_)
    · refine j_iload_n C 2 dX0_neighbour_22 rfl rfl ?_
      refine j_istore_n C [1, 2, 0] (L' := [(0, _), (1, _), (2, _)]) dX0_neighbour_23 rfl (by decide) rfl ?_
      refine j_iload_n C 0 dX0_neighbour_24 rfl rfl ?_
      refine j_iload_n C 2 dX0_neighbour_25 rfl rfl ?_
      refine j_idiv C dX0_neighbour_26 (by omega) (by omega) ?_
      refine j_bipush C dX0_neighbour_27 (by decide) ?_
      refine j_irem C dX0_neighbour_29 (by omega) (by omega) ?_
      refine j_istore_n C [1, 2, 3, 0] (L' := [(0, _), (1, _), (2, _), (3, _)]) dX0_neighbour_30 rfl (by decide) rfl ?_
      refine j_iload_n C 1 dX0_neighbour_31 rfl rfl ?_
      refine j_iconst C dX0_neighbour_32 ?_
      refine j_iand1 C dX0_neighbour_33 (by omega) ?_
      refine j_if_ne C (tgt := 49) dX0_neighbour_34 (by decide) (by omega) (fun hc34 => ?_) (fun hc34 => ?_)
      · refine j_iload_n C 3 dX0_neighbour_49 rfl rfl ?_
        refine j_iconst C dX0_neighbour_50 ?_
        refine j_icmp_ge C (tgt := 60) dX0_neighbour_51 (by decide) (by omega) (by omega) (fun hc51 => ?_) (fun hc51 => ?_)
        · refine j_iconst C dX0_neighbour_60 ?_
          exact s_iret C Rt (rfl) (by unfold nbr nsz; congr 1; (repeat' split) <;> omega) dX0_neighbour_61
        · refine j_iload_n C 0 dX0_neighbour_54 rfl rfl ?_
          refine j_iload_n C 2 dX0_neighbour_55 rfl rfl ?_
          refine j_iadd C dX0_neighbour_56 ?_
          refine j_goto C (tgt := 61) dX0_neighbour_57 (by decide) ?_
          exact s_iret C Rt (rfl) (by unfold nbr nsz; congr 1; (repeat' split) <;> omega) dX0_neighbour_61
      · refine j_iload_n C 3 dX0_neighbour_37 rfl rfl ?_
        refine j_if_le C (tgt := 47) dX0_neighbour_38 (by decide) (by omega) (fun hc38 => ?_) (fun hc38 => ?_)
        · refine j_iconst C dX0_neighbour_47 ?_
          exact s_iret C Rt (rfl) (by unfold nbr nsz; congr 1; (repeat' split) <;> omega) dX0_neighbour_48
        · refine j_iload_n C 0 dX0_neighbour_41 rfl rfl ?_
          refine j_iload_n C 2 dX0_neighbour_42 rfl rfl ?_
          refine j_isub C dX0_neighbour_43 ?_
          refine j_goto C (tgt := 48) dX0_neighbour_44 (by decide) ?_
          exact s_iret C Rt (rfl) (by unfold nbr nsz; congr 1; (repeat' split) <;> omega) dX0_neighbour_48
    · refine j_bipush C dX0_neighbour_17 (by decide) ?_
      refine j_goto C (tgt := 23) dX0_neighbour_19 (by decide) ?_
      refine j_istore_n C [1, 2, 0] (L' := [(0, _), (1, _), (2, _)]) dX0_neighbour_23 rfl (by decide) rfl ?_
      refine j_iload_n C 0 dX0_neighbour_24 rfl rfl ?_
      refine j_iload_n C 2 dX0_neighbour_25 rfl rfl ?_
      refine j_idiv C dX0_neighbour_26 (by omega) (by omega) ?_
      refine j_bipush C dX0_neighbour_27 (by decide) ?_
      refine j_irem C dX0_neighbour_29 (by omega) (by omega) ?_
      refine j_istore_n C [1, 2, 3, 0] (L' := [(0, _), (1, _), (2, _), (3, _)]) dX0_neighbour_30 rfl (by decide) rfl ?_
      refine j_iload_n C 1 dX0_neighbour_31 rfl rfl ?_
      refine j_iconst C dX0_neighbour_32 ?_
      refine j_iand1 C dX0_neighbour_33 (by omega) ?_
      refine j_if_ne C (tgt := 49) dX0_neighbour_34 (by decide) (by omega) (fun hc34 => ?_) (fun hc34 => ?_)
      · refine j_iload_n C 3 dX0_neighbour_49 rfl rfl ?_
        refine j_iconst C dX0_neighbour_50 ?_
        refine j_icmp_ge C (tgt := 60) dX0_neighbour_51 (by decide) (by omega) (by omega) (fun hc51 => ?_) (fun hc51 => ?_)
        · refine j_iconst C dX0_neighbour_60 ?_
          exact s_iret C Rt (rfl) (by unfold nbr nsz; congr 1; (repeat' split) <;> omega) dX0_neighbour_61
        · refine j_iload_n C 0 dX0_neighbour_54 rfl rfl ?_
          refine j_iload_n C 2 dX0_neighbour_55 rfl rfl ?_
          refine j_iadd C dX0_neighbour_56 ?_
          refine j_goto C (tgt := 61) dX0_neighbour_57 (by decide) ?_
          exact s_iret C Rt (rfl) (by unfold nbr nsz; congr 1; (repeat' split) <;> omega) dX0_neighbour_61
      · refine j_iload_n C 3 dX0_neighbour_37 rfl rfl ?_
        refine j_if_le C (tgt := 47) dX0_neighbour_38 (by decide) (by omega) (fun hc38 => ?_) (fun hc38 => ?_)
        · refine j_iconst C dX0_neighbour_47 ?_
          exact s_iret C Rt (rfl) (by unfold nbr nsz; congr 1; (repeat' split) <;> omega) dX0_neighbour_48
        · refine j_iload_n C 0 dX0_neighbour_41 rfl rfl ?_
          refine j_iload_n C 2 dX0_neighbour_42 rfl rfl ?_
          refine j_isub C dX0_neighbour_43 ?_
          refine j_goto C (tgt := 48) dX0_neighbour_44 (by decide) ?_
          exact s_iret C Rt (rfl) (by unfold nbr nsz; congr 1; (repeat' split) <;> omega) dX0_neighbour_48
theorem m_isBox (l : Launch) (lo : Int) (hlo : -2147483648 ≤ lo ∧ lo < 2147483648) (hi : Int) (hhi : -2147483648 ≤ hi ∧ hi < 2147483648) : SMi l yX0_isBox cX0_isBox 2 .boolean 1 20 [.int (iI lo), .int (iI hi)] (fun r => ynP r (boxP lo hi)) := by
  refine SMi.of (by decide) (Nat.le_of_ble_eq_true rfl) ?_
  intro κ hκ C Rt
  refine (?_ : J κ 2 (sW κ) 0 [(0, .int (iI lo)), (1, .int (iI hi))] [])
  refine j_iload_n C 0 dX0_isBox_0 rfl rfl ?_
  refine s_callS C (m_isCell _ lo hlo) 1 rfl (lw_S q66 q67 q19 q68) (by decide +kernel) (by decide) dX0_isBox_1 rfl (Nat.le_of_ble_eq_true rfl) (fun r hp => ?_)
  rcases hp with ⟨rfl, hplo⟩ | ⟨rfl, hplo⟩
  · refine j_if_eq_f C dX0_isBox_4 (by omega) (tgt := 14) (by decide) (by decide) ?_
    refine j_iload_n C 1 dX0_isBox_7 rfl rfl ?_
    refine s_callS C (m_isCell _ hi hhi) 1 rfl (lw_S q66 q67 q19 q68) (by decide +kernel) (by decide) dX0_isBox_8 rfl (Nat.le_of_ble_eq_true rfl) (fun r hp => ?_)
    rcases hp with ⟨rfl, hphi⟩ | ⟨rfl, hphi⟩
    · refine j_if_ne_t C (tgt := 16) dX0_isBox_11 (by decide) (by omega) (by decide) ?_
      refine j_iload_n C 0 dX0_isBox_16 rfl rfl ?_
      refine j_bipush C dX0_isBox_17 (by decide) ?_
      refine j_irem C dX0_isBox_19 (by omega) (by omega) ?_
      refine j_iload_n C 1 dX0_isBox_20 rfl rfl ?_
      refine j_bipush C dX0_isBox_21 (by decide) ?_
      refine j_irem C dX0_isBox_23 (by omega) (by omega) ?_
      refine j_icmp_gt C (tgt := 59) dX0_isBox_24 (by decide) (by omega) (by omega) (fun hc24 => ?_) (fun hc24 => ?_)
      · refine j_iconst C dX0_isBox_59 ?_
        exact s_iret C Rt (by first | exact nb1 | exact nb0) (by first | exact ynY (by unfold boxP; omega) | exact ynN (by unfold boxP; omega)) dX0_isBox_60
      · refine j_iload_n C 0 dX0_isBox_27 rfl rfl ?_
        refine j_bipush C dX0_isBox_28 (by decide) ?_
        refine j_idiv C dX0_isBox_30 (by omega) (by omega) ?_
        refine j_bipush C dX0_isBox_31 (by decide) ?_
        refine j_irem C dX0_isBox_33 (by omega) (by omega) ?_
        refine j_iload_n C 1 dX0_isBox_34 rfl rfl ?_
        refine j_bipush C dX0_isBox_35 (by decide) ?_
        refine j_idiv C dX0_isBox_37 (by omega) (by omega) ?_
        refine j_bipush C dX0_isBox_38 (by decide) ?_
        refine j_irem C dX0_isBox_40 (by omega) (by omega) ?_
        refine j_icmp_gt C (tgt := 59) dX0_isBox_41 (by decide) (by omega) (by omega) (fun hc41 => ?_) (fun hc41 => ?_)
        · refine j_iconst C dX0_isBox_59 ?_
          exact s_iret C Rt (by first | exact nb1 | exact nb0) (by first | exact ynY (by unfold boxP; omega) | exact ynN (by unfold boxP; omega)) dX0_isBox_60
        · refine j_iload_n C 0 dX0_isBox_44 rfl rfl ?_
          refine j_bipush C dX0_isBox_45 (by decide) ?_
          refine j_idiv C dX0_isBox_47 (by omega) (by omega) ?_
          refine j_iload_n C 1 dX0_isBox_48 rfl rfl ?_
          refine j_bipush C dX0_isBox_49 (by decide) ?_
          refine j_idiv C dX0_isBox_51 (by omega) (by omega) ?_
          refine j_icmp_gt C (tgt := 59) dX0_isBox_52 (by decide) (by omega) (by omega) (fun hc52 => ?_) (fun hc52 => ?_)
          · refine j_iconst C dX0_isBox_59 ?_
            exact s_iret C Rt (by first | exact nb1 | exact nb0) (by first | exact ynY (by unfold boxP; omega) | exact ynN (by unfold boxP; omega)) dX0_isBox_60
          · refine j_iconst C dX0_isBox_55 ?_
            refine j_goto C (tgt := 60) dX0_isBox_56 (by decide) ?_
            exact s_iret C Rt (by first | exact nb1 | exact nb0) (by first | exact ynY (by unfold boxP; omega) | exact ynN (by unfold boxP; omega)) dX0_isBox_60
    · refine j_if_ne_f C dX0_isBox_11 (by omega) (tgt := 16) (by decide) (by decide) ?_
      refine j_iconst C dX0_isBox_14 ?_
      exact s_iret C Rt (by first | exact nb1 | exact nb0) (by first | exact ynY (by unfold boxP; omega) | exact ynN (by unfold boxP; omega)) dX0_isBox_15
  · refine j_if_eq_t C (tgt := 14) dX0_isBox_4 (by decide) (by omega) (by decide) ?_
    refine j_iconst C dX0_isBox_14 ?_
    exact s_iret C Rt (by first | exact nb1 | exact nb0) (by first | exact ynY (by unfold boxP; omega) | exact ynN (by unfold boxP; omega)) dX0_isBox_15
theorem m_inBox (l : Launch) (c : Int) (hc : 0 ≤ c ∧ c < 216) (lo : Int) (hlo : 0 ≤ lo ∧ lo < 216) (hi : Int) (hhi : 0 ≤ hi ∧ hi < 216) : SMi l yX0_inBox cX0_inBox 5 .boolean 0 0 [.int (iI c), .int (iI lo), .int (iI hi)] (fun r => ynP r (inP c lo hi)) := by
  refine SMi.of (by decide) (Nat.le_of_ble_eq_true rfl) ?_
  intro κ hκ C Rt
  refine (?_ : J κ 5 (sW κ) 0 [(0, .int (iI c)), (1, .int (iI lo)), (2, .int (iI hi))] [])
  have K2 : ∀ (x y : Int), (x = 1 ∧ (lo % 6 ≤ c % 6 ∧ c % 6 ≤ hi % 6)) ∨ (x = 0 ∧ ¬ (lo % 6 ≤ c % 6 ∧ c % 6 ≤ hi % 6)) → (y = 1 ∧ (lo / 6 % 6 ≤ c / 6 % 6 ∧ c / 6 % 6 ≤ hi / 6 % 6)) ∨ (y = 0 ∧ ¬ (lo / 6 % 6 ≤ c / 6 % 6 ∧ c / 6 % 6 ≤ hi / 6 % 6)) → J κ 5 (sW κ) 67 [(0, .int (iI c)), (1, .int (iI lo)), (2, .int (iI hi)), (3, .int (iI x))] [.int (iI y)] := by
    intro x y hx hy
    refine j_istore C [1, 2, 3, 4, 0] (L' := [(0, _), (1, _), (2, _), (3, _), (4, _)]) dX0_inBox_67 (by decide) rfl ?_
    refine j_iload_n C 3 dX0_inBox_69 rfl rfl ?_
    refine j_if_eq C (tgt := 104) dX0_inBox_70 (by decide) (by omega) (fun hc70 => ?_) (fun hc70 => ?_)
    · refine j_iconst C dX0_inBox_104 ?_
      exact s_iret C Rt (by first | exact nb1 | exact nb0) (by first | exact ynY (by unfold inP; omega) | exact ynN (by unfold inP; omega)) dX0_inBox_105
    · refine j_iload C 4 dX0_inBox_73 rfl ?_
      refine j_if_eq C (tgt := 104) dX0_inBox_75 (by decide) (by omega) (fun hc75 => ?_) (fun hc75 => ?_)
      · refine j_iconst C dX0_inBox_104 ?_
        exact s_iret C Rt (by first | exact nb1 | exact nb0) (by first | exact ynY (by unfold inP; omega) | exact ynN (by unfold inP; omega)) dX0_inBox_105
      · refine j_iload_n C 0 dX0_inBox_78 rfl rfl ?_
        refine j_bipush C dX0_inBox_79 (by decide) ?_
        refine j_idiv C dX0_inBox_81 (by omega) (by omega) ?_
        refine j_iload_n C 1 dX0_inBox_82 rfl rfl ?_
        refine j_bipush C dX0_inBox_83 (by decide) ?_
        refine j_idiv C dX0_inBox_85 (by omega) (by omega) ?_
        refine j_icmp_lt C (tgt := 104) dX0_inBox_86 (by decide) (by omega) (by omega) (fun hc86 => ?_) (fun hc86 => ?_)
        · refine j_iconst C dX0_inBox_104 ?_
          exact s_iret C Rt (by first | exact nb1 | exact nb0) (by first | exact ynY (by unfold inP; omega) | exact ynN (by unfold inP; omega)) dX0_inBox_105
        · refine j_iload_n C 0 dX0_inBox_89 rfl rfl ?_
          refine j_bipush C dX0_inBox_90 (by decide) ?_
          refine j_idiv C dX0_inBox_92 (by omega) (by omega) ?_
          refine j_iload_n C 2 dX0_inBox_93 rfl rfl ?_
          refine j_bipush C dX0_inBox_94 (by decide) ?_
          refine j_idiv C dX0_inBox_96 (by omega) (by omega) ?_
          refine j_icmp_gt C (tgt := 104) dX0_inBox_97 (by decide) (by omega) (by omega) (fun hc97 => ?_) (fun hc97 => ?_)
          · refine j_iconst C dX0_inBox_104 ?_
            exact s_iret C Rt (by first | exact nb1 | exact nb0) (by first | exact ynY (by unfold inP; omega) | exact ynN (by unfold inP; omega)) dX0_inBox_105
          · refine j_iconst C dX0_inBox_100 ?_
            refine j_goto C (tgt := 105) dX0_inBox_101 (by decide) ?_
            exact s_iret C Rt (by first | exact nb1 | exact nb0) (by first | exact ynY (by unfold inP; omega) | exact ynN (by unfold inP; omega)) dX0_inBox_105
  have K1 : ∀ (x : Int), (x = 1 ∧ (lo % 6 ≤ c % 6 ∧ c % 6 ≤ hi % 6)) ∨ (x = 0 ∧ ¬ (lo % 6 ≤ c % 6 ∧ c % 6 ≤ hi % 6)) → J κ 5 (sW κ) 27 [(0, .int (iI c)), (1, .int (iI lo)), (2, .int (iI hi))] [.int (iI x)] := by
    intro x hx
    refine j_istore_n C [1, 2, 3, 0] (L' := [(0, _), (1, _), (2, _), (3, _)]) dX0_inBox_27 rfl (by decide) rfl ?_
    refine j_iload_n C 0 dX0_inBox_28 rfl rfl ?_
    refine j_bipush C dX0_inBox_29 (by decide) ?_
    refine j_idiv C dX0_inBox_31 (by omega) (by omega) ?_
    refine j_bipush C dX0_inBox_32 (by decide) ?_
    refine j_irem C dX0_inBox_34 (by omega) (by omega) ?_
    refine j_iload_n C 1 dX0_inBox_35 rfl rfl ?_
    refine j_bipush C dX0_inBox_36 (by decide) ?_
    refine j_idiv C dX0_inBox_38 (by omega) (by omega) ?_
    refine j_bipush C dX0_inBox_39 (by decide) ?_
    refine j_irem C dX0_inBox_41 (by omega) (by omega) ?_
    refine j_icmp_lt C (tgt := 66) dX0_inBox_42 (by decide) (by omega) (by omega) (fun hc42 => ?_) (fun hc42 => ?_)
    · refine j_iconst C dX0_inBox_66 ?_
      exact K2 _ _ hx (by omega)
    · refine j_iload_n C 0 dX0_inBox_45 rfl rfl ?_
      refine j_bipush C dX0_inBox_46 (by decide) ?_
      refine j_idiv C dX0_inBox_48 (by omega) (by omega) ?_
      refine j_bipush C dX0_inBox_49 (by decide) ?_
      refine j_irem C dX0_inBox_51 (by omega) (by omega) ?_
      refine j_iload_n C 2 dX0_inBox_52 rfl rfl ?_
      refine j_bipush C dX0_inBox_53 (by decide) ?_
      refine j_idiv C dX0_inBox_55 (by omega) (by omega) ?_
      refine j_bipush C dX0_inBox_56 (by decide) ?_
      refine j_irem C dX0_inBox_58 (by omega) (by omega) ?_
      refine j_icmp_gt C (tgt := 66) dX0_inBox_59 (by decide) (by omega) (by omega) (fun hc59 => ?_) (fun hc59 => ?_)
      · refine j_iconst C dX0_inBox_66 ?_
        exact K2 _ _ hx (by omega)
      · refine j_iconst C dX0_inBox_62 ?_
        refine j_goto C (tgt := 67) dX0_inBox_63 (by decide) ?_
        exact K2 _ _ hx (by omega)
  refine j_iload_n C 0 dX0_inBox_0 rfl rfl ?_
  refine j_bipush C dX0_inBox_1 (by decide) ?_
  refine j_irem C dX0_inBox_3 (by omega) (by omega) ?_
  refine j_iload_n C 1 dX0_inBox_4 rfl rfl ?_
  refine j_bipush C dX0_inBox_5 (by decide) ?_
  refine j_irem C dX0_inBox_7 (by omega) (by omega) ?_
  refine j_icmp_lt C (tgt := 26) dX0_inBox_8 (by decide) (by omega) (by omega) (fun hc8 => ?_) (fun hc8 => ?_)
  · refine j_iconst C dX0_inBox_26 ?_
    exact K1 _ (by omega)
  · refine j_iload_n C 0 dX0_inBox_11 rfl rfl ?_
    refine j_bipush C dX0_inBox_12 (by decide) ?_
    refine j_irem C dX0_inBox_14 (by omega) (by omega) ?_
    refine j_iload_n C 2 dX0_inBox_15 rfl rfl ?_
    refine j_bipush C dX0_inBox_16 (by decide) ?_
    refine j_irem C dX0_inBox_18 (by omega) (by omega) ?_
    refine j_icmp_gt C (tgt := 26) dX0_inBox_19 (by decide) (by omega) (by omega) (fun hc19 => ?_) (fun hc19 => ?_)
    · refine j_iconst C dX0_inBox_26 ?_
      exact K1 _ (by omega)
    · refine j_iconst C dX0_inBox_22 ?_
      refine j_goto C (tgt := 27) dX0_inBox_23 (by decide) ?_
      exact K1 _ (by omega)
theorem m_onWall (l : Launch) (c : Int) (hc : 0 ≤ c ∧ c < 216) (lo : Int) (hlo : 0 ≤ lo ∧ lo < 216) (hi : Int) (hhi : 0 ≤ hi ∧ hi < 216) : SMi l yX0_onWall cX0_onWall 5 .boolean 0 0 [.int (iI c), .int (iI lo), .int (iI hi)] (fun r => ynP r (onP c lo hi)) := by
  refine SMi.of (by decide) (Nat.le_of_ble_eq_true rfl) ?_
  intro κ hκ C Rt
  refine (?_ : J κ 5 (sW κ) 0 [(0, .int (iI c)), (1, .int (iI lo)), (2, .int (iI hi))] [])
  have K2 : ∀ (x y : Int), (x = 1 ∧ (c % 6 = lo % 6 ∨ c % 6 = hi % 6)) ∨ (x = 0 ∧ ¬ (c % 6 = lo % 6 ∨ c % 6 = hi % 6)) → (y = 1 ∧ (c / 6 % 6 = lo / 6 % 6 ∨ c / 6 % 6 = hi / 6 % 6)) ∨ (y = 0 ∧ ¬ (c / 6 % 6 = lo / 6 % 6 ∨ c / 6 % 6 = hi / 6 % 6)) → J κ 5 (sW κ) 67 [(0, .int (iI c)), (1, .int (iI lo)), (2, .int (iI hi)), (3, .int (iI x))] [.int (iI y)] := by
    intro x y hx hy
    refine j_istore C [1, 2, 3, 4, 0] (L' := [(0, _), (1, _), (2, _), (3, _), (4, _)]) dX0_onWall_67 (by decide) rfl ?_
    refine j_iload_n C 3 dX0_onWall_69 rfl rfl ?_
    refine j_if_ne C (tgt := 100) dX0_onWall_70 (by decide) (by omega) (fun hc70 => ?_) (fun hc70 => ?_)
    · refine j_iconst C dX0_onWall_100 ?_
      refine j_goto C (tgt := 105) dX0_onWall_101 (by decide) ?_
      exact s_iret C Rt (by first | exact nb1 | exact nb0) (by first | exact ynY (by unfold onP; omega) | exact ynN (by unfold onP; omega)) dX0_onWall_105
    · refine j_iload C 4 dX0_onWall_73 rfl ?_
      refine j_if_ne C (tgt := 100) dX0_onWall_75 (by decide) (by omega) (fun hc75 => ?_) (fun hc75 => ?_)
      · refine j_iconst C dX0_onWall_100 ?_
        refine j_goto C (tgt := 105) dX0_onWall_101 (by decide) ?_
        exact s_iret C Rt (by first | exact nb1 | exact nb0) (by first | exact ynY (by unfold onP; omega) | exact ynN (by unfold onP; omega)) dX0_onWall_105
      · refine j_iload_n C 0 dX0_onWall_78 rfl rfl ?_
        refine j_bipush C dX0_onWall_79 (by decide) ?_
        refine j_idiv C dX0_onWall_81 (by omega) (by omega) ?_
        refine j_iload_n C 1 dX0_onWall_82 rfl rfl ?_
        refine j_bipush C dX0_onWall_83 (by decide) ?_
        refine j_idiv C dX0_onWall_85 (by omega) (by omega) ?_
        refine j_icmp_eq C (tgt := 100) dX0_onWall_86 (by decide) (by omega) (by omega) (fun hc86 => ?_) (fun hc86 => ?_)
        · refine j_iconst C dX0_onWall_100 ?_
          refine j_goto C (tgt := 105) dX0_onWall_101 (by decide) ?_
          exact s_iret C Rt (by first | exact nb1 | exact nb0) (by first | exact ynY (by unfold onP; omega) | exact ynN (by unfold onP; omega)) dX0_onWall_105
        · refine j_iload_n C 0 dX0_onWall_89 rfl rfl ?_
          refine j_bipush C dX0_onWall_90 (by decide) ?_
          refine j_idiv C dX0_onWall_92 (by omega) (by omega) ?_
          refine j_iload_n C 2 dX0_onWall_93 rfl rfl ?_
          refine j_bipush C dX0_onWall_94 (by decide) ?_
          refine j_idiv C dX0_onWall_96 (by omega) (by omega) ?_
          refine j_icmp_ne C (tgt := 104) dX0_onWall_97 (by decide) (by omega) (by omega) (fun hc97 => ?_) (fun hc97 => ?_)
          · refine j_iconst C dX0_onWall_104 ?_
            exact s_iret C Rt (by first | exact nb1 | exact nb0) (by first | exact ynY (by unfold onP; omega) | exact ynN (by unfold onP; omega)) dX0_onWall_105
          · refine j_iconst C dX0_onWall_100 ?_
            refine j_goto C (tgt := 105) dX0_onWall_101 (by decide) ?_
            exact s_iret C Rt (by first | exact nb1 | exact nb0) (by first | exact ynY (by unfold onP; omega) | exact ynN (by unfold onP; omega)) dX0_onWall_105
  have K1 : ∀ (x : Int), (x = 1 ∧ (c % 6 = lo % 6 ∨ c % 6 = hi % 6)) ∨ (x = 0 ∧ ¬ (c % 6 = lo % 6 ∨ c % 6 = hi % 6)) → J κ 5 (sW κ) 27 [(0, .int (iI c)), (1, .int (iI lo)), (2, .int (iI hi))] [.int (iI x)] := by
    intro x hx
    refine j_istore_n C [1, 2, 3, 0] (L' := [(0, _), (1, _), (2, _), (3, _)]) dX0_onWall_27 rfl (by decide) rfl ?_
    refine j_iload_n C 0 dX0_onWall_28 rfl rfl ?_
    refine j_bipush C dX0_onWall_29 (by decide) ?_
    refine j_idiv C dX0_onWall_31 (by omega) (by omega) ?_
    refine j_bipush C dX0_onWall_32 (by decide) ?_
    refine j_irem C dX0_onWall_34 (by omega) (by omega) ?_
    refine j_iload_n C 1 dX0_onWall_35 rfl rfl ?_
    refine j_bipush C dX0_onWall_36 (by decide) ?_
    refine j_idiv C dX0_onWall_38 (by omega) (by omega) ?_
    refine j_bipush C dX0_onWall_39 (by decide) ?_
    refine j_irem C dX0_onWall_41 (by omega) (by omega) ?_
    refine j_icmp_eq C (tgt := 62) dX0_onWall_42 (by decide) (by omega) (by omega) (fun hc42 => ?_) (fun hc42 => ?_)
    · refine j_iconst C dX0_onWall_62 ?_
      refine j_goto C (tgt := 67) dX0_onWall_63 (by decide) ?_
      exact K2 _ _ hx (by omega)
    · refine j_iload_n C 0 dX0_onWall_45 rfl rfl ?_
      refine j_bipush C dX0_onWall_46 (by decide) ?_
      refine j_idiv C dX0_onWall_48 (by omega) (by omega) ?_
      refine j_bipush C dX0_onWall_49 (by decide) ?_
      refine j_irem C dX0_onWall_51 (by omega) (by omega) ?_
      refine j_iload_n C 2 dX0_onWall_52 rfl rfl ?_
      refine j_bipush C dX0_onWall_53 (by decide) ?_
      refine j_idiv C dX0_onWall_55 (by omega) (by omega) ?_
      refine j_bipush C dX0_onWall_56 (by decide) ?_
      refine j_irem C dX0_onWall_58 (by omega) (by omega) ?_
      refine j_icmp_ne C (tgt := 66) dX0_onWall_59 (by decide) (by omega) (by omega) (fun hc59 => ?_) (fun hc59 => ?_)
      · refine j_iconst C dX0_onWall_66 ?_
        exact K2 _ _ hx (by omega)
      · refine j_iconst C dX0_onWall_62 ?_
        refine j_goto C (tgt := 67) dX0_onWall_63 (by decide) ?_
        exact K2 _ _ hx (by omega)
  refine j_iload_n C 0 dX0_onWall_0 rfl rfl ?_
  refine j_bipush C dX0_onWall_1 (by decide) ?_
  refine j_irem C dX0_onWall_3 (by omega) (by omega) ?_
  refine j_iload_n C 1 dX0_onWall_4 rfl rfl ?_
  refine j_bipush C dX0_onWall_5 (by decide) ?_
  refine j_irem C dX0_onWall_7 (by omega) (by omega) ?_
  refine j_icmp_eq C (tgt := 22) dX0_onWall_8 (by decide) (by omega) (by omega) (fun hc8 => ?_) (fun hc8 => ?_)
  · refine j_iconst C dX0_onWall_22 ?_
    refine j_goto C (tgt := 27) dX0_onWall_23 (by decide) ?_
    exact K1 _ (by omega)
  · refine j_iload_n C 0 dX0_onWall_11 rfl rfl ?_
    refine j_bipush C dX0_onWall_12 (by decide) ?_
    refine j_irem C dX0_onWall_14 (by omega) (by omega) ?_
    refine j_iload_n C 2 dX0_onWall_15 rfl rfl ?_
    refine j_bipush C dX0_onWall_16 (by decide) ?_
    refine j_irem C dX0_onWall_18 (by omega) (by omega) ?_
    refine j_icmp_ne C (tgt := 26) dX0_onWall_19 (by decide) (by omega) (by omega) (fun hc19 => ?_) (fun hc19 => ?_)
    · refine j_iconst C dX0_onWall_26 ?_
      exact K1 _ (by omega)
    · refine j_iconst C dX0_onWall_22 ?_
      refine j_goto C (tgt := 27) dX0_onWall_23 (by decide) ?_
      exact K1 _ (by omega)
end
section
/-! counting -/
noncomputable def cnt (P : Nat → Prop) : Nat → Nat
  | 0 => 0
  | n + 1 => cnt P n + @ite Nat (P n) (Classical.propDecidable _) 1 0
theorem cnt_t {P : Nat → Prop} {n : Nat} (h : P n) : cnt P (n + 1) = cnt P n + 1 := by
  show cnt P n + @ite Nat (P n) (Classical.propDecidable _) 1 0 = _
  rw [if_pos h]
theorem cnt_f {P : Nat → Prop} {n : Nat} (h : ¬ P n) : cnt P (n + 1) = cnt P n := by
  show cnt P n + @ite Nat (P n) (Classical.propDecidable _) 1 0 = _
  rw [if_neg h]
  rfl
theorem cnt_le (P : Nat → Prop) (n : Nat) : cnt P n ≤ n := by
  induction n with
  | zero => exact Nat.le_refl _
  | succ n ih =>
    by_cases h : P n
    · rw [cnt_t h]; omega
    · rw [cnt_f h]; omega
theorem cnt_congr {P P' : Nat → Prop} {n : Nat} (h : ∀ k, k < n → (P k ↔ P' k)) : cnt P n = cnt P' n := by
  induction n with
  | zero => rfl
  | succ n ih =>
    have e := ih (fun k hk => h k (Nat.lt_succ_of_lt hk))
    by_cases hp : P n
    · rw [cnt_t hp, cnt_t ((h n (Nat.lt_succ_self n)).mp hp), e]
    · rw [cnt_f hp, cnt_f (fun q => hp ((h n (Nat.lt_succ_self n)).mpr q)), e]
theorem cnt_mono {P P' : Nat → Prop} {n : Nat} (h : ∀ k, k < n → P k → P' k) : cnt P n ≤ cnt P' n := by
  induction n with
  | zero => exact Nat.le_refl _
  | succ n ih =>
    have e := ih (fun k hk => h k (Nat.lt_succ_of_lt hk))
    by_cases hp : P n
    · rw [cnt_t hp, cnt_t (h n (Nat.lt_succ_self n) hp)]; omega
    · rw [cnt_f hp]
      by_cases hq : P' n
      · rw [cnt_t hq]; omega
      · rw [cnt_f hq]; exact e
/-- one more member -/
theorem cnt_ins {P P' : Nat → Prop} {n q : Nat} (hq : q < n) (h1 : ¬ P q) (h2 : P' q) (h : ∀ k, k < n → k ≠ q → (P k ↔ P' k)) : cnt P' n = cnt P n + 1 := by
  induction n with
  | zero => omega
  | succ n ih =>
    by_cases e : q = n
    · subst e
      rw [cnt_t h2, cnt_f h1, cnt_congr (fun k hk => (h k (Nat.lt_succ_of_lt hk) (Nat.ne_of_lt hk)).symm)]
    · have e2 := ih (by omega) (fun k hk hne => h k (Nat.lt_succ_of_lt hk) hne)
      have hn := h n (Nat.lt_succ_self n) (fun z => e z.symm)
      by_cases hp : P n
      · rw [cnt_t hp, cnt_t (hn.mp hp), e2]
      · rw [cnt_f hp, cnt_f (fun z => hp (hn.mpr z)), e2]
theorem cnt_pos {P : Nat → Prop} {n q : Nat} (hq : q < n) (h : P q) : 1 ≤ cnt P n := by
  induction n with
  | zero => omega
  | succ n ih =>
    by_cases e : q = n
    · subst e
      rw [cnt_t h]; omega
    · have e2 := ih (by omega)
      by_cases hp : P n
      · rw [cnt_t hp]; omega
      · rw [cnt_f hp]; omega
/-! places: two layers of 216 cells -/
def pnb (p w : Nat) : Int := if p < 216 then nbr p w else if nbr (p - 216) w < 0 then -1 else 216 + nbr (p - 216) w
def padj (p q : Nat) : Prop := ∃ w, w < 6 ∧ pnb p w = (q : Int)
theorem pnb_rg {p w : Nat} (hp : p < 432) (hw : w < 6) : pnb p w = -1 ∨ ∃ q : Nat, q < 432 ∧ pnb p w = (q : Int) ∧ pnb q (flip1 w) = (p : Int) := by
  unfold pnb
  by_cases h : p < 216
  · rw [if_pos h]
    rcases nbr_rg h hw with e | ⟨d, hd, e1, e2⟩
    · exact Or.inl e
    · exact Or.inr ⟨d, by omega, e1, by rw [if_pos hd]; exact e2⟩
  · rw [if_neg h]
    rcases nbr_rg (show p - 216 < 216 by omega) hw with e | ⟨d, hd, e1, e2⟩
    · rw [e]; exact Or.inl rfl
    · refine Or.inr ⟨216 + d, by omega, by rw [e1, if_neg (by omega)]; omega, ?_⟩
      rw [if_neg (by omega), show 216 + d - 216 = d by omega, e2, if_neg (by omega)]
      omega
/-- the neighbour as the code finds it: base b, cell d -/
theorem pnb_of {p b w d : Nat} (hp : p < 432) (hb : (p < 216 ∧ b = 0) ∨ (216 ≤ p ∧ b = 216)) (e : nbr (p - b) w = (d : Int)) : pnb p w = ((b + d : Nat) : Int) := by
  unfold pnb
  rcases hb with ⟨h1, rfl⟩ | ⟨h1, rfl⟩
  · rw [if_pos h1]
    rw [show p - 0 = p by omega] at e
    rw [e]; omega
  · rw [if_neg (by omega), e, if_neg (by omega)]
    omega
theorem pnb_no {p b w : Nat} (hb : (p < 216 ∧ b = 0) ∨ (216 ≤ p ∧ b = 216)) (e : nbr (p - b) w = -1) : pnb p w = -1 := by
  unfold pnb
  rcases hb with ⟨h1, rfl⟩ | ⟨h1, rfl⟩
  · rw [if_pos h1]
    rw [show p - 0 = p by omega] at e
    exact e
  · rw [if_neg (by omega), e, if_pos (by omega)]
theorem padj_symm {p q : Nat} (hp : p < 432) (h : padj p q) : padj q p := by
  obtain ⟨w, hw, e⟩ := h
  rcases pnb_rg hp hw with e1 | ⟨q', _, e1, e2⟩
  · omega
  · have : q' = q := by omega
    subst this
    exact ⟨flip1 w, flip1_lt hw, e2⟩
theorem padj_lt {p q : Nat} (hp : p < 432) (h : padj p q) : q < 432 := by
  obtain ⟨w, hw, e⟩ := h
  rcases pnb_rg hp hw with e1 | ⟨q', h2, e1, e2⟩ <;> omega
def sol (σ : St) (p : Nat) : Nat := σ 0 (p % 216)
def srcv (σ : St) (p : Nat) : Nat := if p < 216 then σ 1 p else if σ 2 (p - 216) = 0 then 0 else 8
def sup (σ : St) (p : Nat) : Prop := σ 3 p = 0 ∨ σ 3 p ≤ srcv σ p ∨ (sol σ p = 0 ∧ ∃ q, q < 432 ∧ padj q p ∧ σ 3 p + 1 ≤ σ 3 q)
def MID (σ : St) : Prop := (∀ p, p < 432 → sup σ p) ∧ (∀ p q, p < 432 → q < 432 → padj p q → sol σ q = 0 → σ 3 p ≤ σ 3 q + 1 ∨ σ 4 p = 1) ∧ (∀ p, p < 432 → srcv σ p ≤ σ 3 p ∨ σ 4 p = 1) ∧ ∀ p, p < 432 → σ 4 p ≤ 1 ∧ σ 3 p ≤ 12
theorem srcv_congr {σ σ' : St} (h1 : σ' 1 = σ 1) (h2 : σ' 2 = σ 2) (p : Nat) : srcv σ' p = srcv σ p := by
  unfold srcv
  rw [h1, h2]
theorem sol_congr {σ σ' : St} (h : σ' 0 = σ 0) (p : Nat) : sol σ' p = sol σ p := by
  unfold sol
  rw [h]
/-! taking light away -/
def TA (σ0 σ : St) (W : Nat) (E : Nat → Nat → Prop) : Prop :=
  (∀ k, k ≠ 3 → k ≠ 4 → k ≠ 5 → k ≠ 6 → k ≠ 9 → σ k = σ0 k) ∧
  (∀ p, p < 432 → σ 3 p = σ0 3 p ∨ (σ 3 p = 0 ∧ σ 4 p = 1)) ∧
  (∀ p, p < 432 → σ0 4 p = 1 → σ 4 p = 1) ∧ (∀ p, p < 432 → σ 4 p ≤ 1) ∧
  (∀ p, p < 432 → σ0 3 p ≠ 0 → σ 3 p = 0 → (∃ i, i < W ∧ σ 5 i = p) ∨ ∀ q, q < 432 → padj p q → E p q ∨ σ 3 q = 0 ∨ (σ0 3 p ≤ σ 3 q ∧ σ 4 q = 1)) ∧
  (∀ i, i < W → σ 5 i < 432 ∧ σ 6 i = σ0 3 (σ 5 i) ∧ σ 3 (σ 5 i) = 0)
noncomputable def zc (σ : St) : Nat := cnt (fun p => σ 3 p = 0) 432
def dropS (σ : St) (q : Nat) : St := s2 (s2 (s2 (s2 (s2 σ 5 (σ 9 0) q) 6 (σ 9 0) (σ 3 q)) 9 0 (σ 9 0 + 1)) 3 q 0) 4 q 1
theorem dropS_3 (σ : St) (q p : Nat) : dropS σ q 3 p = if p = q then 0 else σ 3 p := by simp [dropS, s2]
theorem dropS_4 (σ : St) (q p : Nat) : dropS σ q 4 p = if p = q then 1 else σ 4 p := by simp [dropS, s2]
theorem dropS_5 (σ : St) (q p : Nat) : dropS σ q 5 p = if p = σ 9 0 then q else σ 5 p := by simp [dropS, s2]
theorem dropS_6 (σ : St) (q p : Nat) : dropS σ q 6 p = if p = σ 9 0 then σ 3 q else σ 6 p := by simp [dropS, s2]
theorem dropS_9 (σ : St) (q : Nat) : dropS σ q 9 0 = σ 9 0 + 1 := by simp [dropS, s2]
theorem dropS_k (σ : St) (q k : Nat) (h3 : k ≠ 3) (h4 : k ≠ 4) (h5 : k ≠ 5) (h6 : k ≠ 6) (h9 : k ≠ 9) : dropS σ q k = σ k := by
  funext j
  simp [dropS, s2, h3, h4, h5, h6, h9]
theorem ta_0 {σ : St} (h4 : ∀ p, p < 432 → σ 4 p ≤ 1) : TA σ (s2 σ 9 0 0) 0 (fun _ _ => False) := by
  refine ⟨fun k _ _ _ _ h9 => s2_ne h9, fun p _ => Or.inl ?_, fun p _ h => ?_, fun p hp => ?_, fun p _ h1 h2 => ?_, fun i h => absurd h (Nat.not_lt_zero _)⟩
  · rw [s2_ne (by decide)]
  · rw [s2_ne (by decide)]; exact h
  · rw [s2_ne (by decide)]; exact h4 p hp
  · rw [s2_ne (by decide)] at h2
    exact absurd h2 h1
theorem ta_weaken {σ0 σ : St} {W : Nat} {E E' : Nat → Nat → Prop} (h : TA σ0 σ W E) (hE : ∀ p q, p < 432 → q < 432 → E p q → E' p q ∨ σ 3 q = 0 ∨ (σ0 3 p ≤ σ 3 q ∧ σ 4 q = 1)) : TA σ0 σ W E' := by
  obtain ⟨h1, h2, h3, h4, h5, h6⟩ := h
  refine ⟨h1, h2, h3, h4, fun p hp a b => ?_, h6⟩
  rcases h5 p hp a b with g | g
  · exact Or.inl g
  · refine Or.inr (fun q hq hpq => ?_)
    rcases g q hq hpq with g | g
    · exact hE p q hp hq g
    · exact Or.inr g
theorem ta_drop {σ0 σ : St} {W q : Nat} {E : Nat → Nat → Prop} (h : TA σ0 σ W E) (hW : σ 9 0 = W) (hq : q < 432) (hz : σ 3 q ≠ 0) : TA σ0 (dropS σ q) (W + 1) E := by
  obtain ⟨h1, h2, h3, h4, h5, h6⟩ := h
  have hq0 : σ 3 q = σ0 3 q := by
    rcases h2 q hq with g | g
    · exact g
    · exact absurd g.1 hz
  refine ⟨fun k a b c d f => ?_, fun p hp => ?_, fun p hp g => ?_, fun p hp => ?_, fun p hp a b => ?_, fun i hi => ?_⟩
  · rw [dropS_k σ q k a b c d f]; exact h1 k a b c d f
  · rw [dropS_3, dropS_4]
    by_cases e : p = q
    · simp [e]
    · simp only [e, if_false]; exact h2 p hp
  · rw [dropS_4]
    by_cases e : p = q
    · simp [e]
    · simp only [e, if_false]; exact h3 p hp g
  · rw [dropS_4]
    by_cases e : p = q
    · simp [e]
    · simp only [e, if_false]; exact h4 p hp
  · by_cases e : p = q
    · exact Or.inl ⟨W, Nat.lt_succ_self _, by rw [dropS_5, hW, if_pos rfl, e]⟩
    · rw [dropS_3, if_neg e] at b
      rcases h5 p hp a b with ⟨i, hi, g⟩ | g
      · exact Or.inl ⟨i, by omega, by rw [dropS_5, hW, if_neg (by omega)]; exact g⟩
      · refine Or.inr (fun r hr hpr => ?_)
        rw [dropS_3, dropS_4]
        by_cases e2 : r = q
        · simp [e2]
        · simp only [e2, if_false]; exact g r hr hpr
  · rw [dropS_5, dropS_6, hW]
    by_cases e : i = W
    · simp only [e, if_true]
      exact ⟨hq, hq0, by rw [dropS_3, if_pos rfl]⟩
    · simp only [e, if_false]
      obtain ⟨a, b, c⟩ := h6 i (by omega)
      refine ⟨a, b, ?_⟩
      rw [dropS_3]
      split
      · rfl
      · exact c
theorem zc_drop {σ : St} {q : Nat} (hq : q < 432) (hz : σ 3 q ≠ 0) : zc (dropS σ q) = zc σ + 1 := by
  unfold zc
  refine cnt_ins hq hz (by rw [dropS_3, if_pos rfl]) (fun k _ hk => ?_)
  rw [dropS_3, if_neg hk]
theorem zc_le (σ : St) : zc σ ≤ 432 := cnt_le _ _
/-- the neighbours of 'a' that are still to be seen: ways w .. 5 -/
def Ew (a w : Nat) : Nat → Nat → Prop := fun p q => p = a ∧ ∃ w', w ≤ w' ∧ w' < 6 ∧ pnb a w' = (q : Int)
theorem ta_pop {σ0 σ : St} {W : Nat} (h : TA σ0 σ (W + 1) (fun _ _ => False)) : TA σ0 (s2 σ 9 0 W) W (Ew (σ 5 W) 0) := by
  obtain ⟨h1, h2, h3, h4, h5, h6⟩ := h
  have e3 : s2 σ 9 0 W 3 = σ 3 := s2_ne (by decide)
  have e4 : s2 σ 9 0 W 4 = σ 4 := s2_ne (by decide)
  have e5 : s2 σ 9 0 W 5 = σ 5 := s2_ne (by decide)
  have e6 : s2 σ 9 0 W 6 = σ 6 := s2_ne (by decide)
  refine ⟨fun k a b c d f => ?_, ?_, ?_, ?_, fun p hp a b => ?_, fun i hi => ?_⟩
  · rw [s2_ne f]; exact h1 k a b c d f
  · rw [e3, e4]; exact h2
  · rw [e4]; exact h3
  · rw [e4]; exact h4
  · rw [e3] at b
    rw [e3, e4, e5]
    rcases h5 p hp a b with ⟨i, hi, g⟩ | g
    · by_cases e : i = W
      · refine Or.inr (fun q hq hpq => Or.inl ?_)
        subst e
        rw [g]
        obtain ⟨w, hw, e⟩ := hpq
        exact ⟨rfl, w, Nat.zero_le _, hw, e⟩
      · exact Or.inl ⟨i, by omega, g⟩
    · refine Or.inr (fun q hq hpq => ?_)
      rcases g q hq hpq with g | g
      · exact g.elim
      · exact Or.inr g
  · rw [e3, e5, e6]
    exact h6 i (by omega)
theorem ta_rim {σ0 σ : St} {W q : Nat} {E : Nat → Nat → Prop} (h : TA σ0 σ W E) : TA σ0 (s2 σ 4 q 1) W E := by
  obtain ⟨h1, h2, h3, h4, h5, h6⟩ := h
  have e3 : s2 σ 4 q 1 3 = σ 3 := s2_ne (by decide)
  have e5 : s2 σ 4 q 1 5 = σ 5 := s2_ne (by decide)
  have e6 : s2 σ 4 q 1 6 = σ 6 := s2_ne (by decide)
  have up : ∀ p, σ 4 p = 1 → s2 σ 4 q 1 4 p = 1 := by
    intro p hp
    rw [s2_eq]
    split
    · rfl
    · exact hp
  refine ⟨fun k a b c d f => ?_, fun p hp => ?_, fun p hp g => up p (h3 p hp g), fun p hp => ?_, fun p hp a b => ?_, fun i hi => ?_⟩
  · rw [s2_ne b]; exact h1 k a b c d f
  · rw [e3]
    rcases h2 p hp with g | g
    · exact Or.inl g
    · exact Or.inr ⟨g.1, up p g.2⟩
  · rw [s2_eq]
    have := h4 p hp
    split <;> omega
  · rw [e3] at b
    rw [e3, e5]
    rcases h5 p hp a b with g | g
    · exact Or.inl g
    · refine Or.inr (fun r hr hpr => ?_)
      rcases g r hr hpr with g | g | g
      · exact Or.inl g
      · exact Or.inr (Or.inl g)
      · exact Or.inr (Or.inr ⟨g.1, up r g.2⟩)
  · rw [e3, e5, e6]
    exact h6 i hi
theorem zc_rim (σ : St) (q v : Nat) : zc (s2 σ 4 q v) = zc σ := by
  unfold zc
  rw [s2_ne (by decide)]
theorem zc_w (σ : St) (v : Nat) : zc (s2 σ 9 0 v) = zc σ := by
  unfold zc
  rw [s2_ne (by decide)]
/-- the way w of 'a' is done: no neighbour there, or one that is dark, or a rim that is as bright -/
theorem ta_way {σ0 σ : St} {W a w : Nat} (h : TA σ0 σ W (Ew a w)) (hq : ∀ q : Nat, q < 432 → pnb a w = (q : Int) → σ 3 q = 0 ∨ (σ0 3 a ≤ σ 3 q ∧ σ 4 q = 1)) : TA σ0 σ W (Ew a (w + 1)) := by
  refine ta_weaken h (fun p q hp hq2 e => ?_)
  obtain ⟨rfl, w', h1, h2, h3⟩ := e
  by_cases e : w' = w
  · subst e
    exact Or.inr (hq q hq2 h3)
  · exact Or.inl ⟨rfl, w', by omega, h2, h3⟩
theorem ta_done {σ0 σ : St} {W a : Nat} (h : TA σ0 σ W (Ew a 6)) : TA σ0 σ W (fun _ _ => False) := by
  refine ta_weaken h (fun p q hp hq2 e => ?_)
  obtain ⟨rfl, w', h1, h2, h3⟩ := e
  omega
theorem ta_fin {σ0 σ : St} (hM : MID σ0) (h : TA σ0 σ 0 (fun _ _ => False)) : MID σ := by
  obtain ⟨h1, h2, h3, h4, h5, h6⟩ := h
  obtain ⟨m1, m2, m3, m4⟩ := hM
  have es : ∀ p, srcv σ p = srcv σ0 p := srcv_congr (h1 1 (by decide) (by decide) (by decide) (by decide) (by decide)) (h1 2 (by decide) (by decide) (by decide) (by decide) (by decide))
  have eo : ∀ p, sol σ p = sol σ0 p := sol_congr (h1 0 (by decide) (by decide) (by decide) (by decide) (by decide))
  have done : ∀ p, p < 432 → σ0 3 p ≠ 0 → σ 3 p = 0 → ∀ q, q < 432 → padj p q → σ 3 q = 0 ∨ (σ0 3 p ≤ σ 3 q ∧ σ 4 q = 1) := by
    intro p hp a b q hq hpq
    rcases h5 p hp a b with ⟨i, hi, _⟩ | g
    · omega
    · rcases g q hq hpq with g | g
      · exact g.elim
      · exact g
  refine ⟨fun p hp => ?_, fun p q hp hq hpq hs => ?_, fun p hp => ?_, fun p hp => ⟨h4 p hp, ?_⟩⟩
  · unfold sup
    rw [es, eo]
    by_cases z : σ 3 p = 0
    · exact Or.inl z
    · have e : σ 3 p = σ0 3 p := by
        rcases h2 p hp with g | g
        · exact g
        · exact absurd g.1 z
      rw [e]
      rcases m1 p hp with g | g | ⟨g, q, hq, hqp, hl⟩
      · exact Or.inl g
      · exact Or.inr (Or.inl g)
      · refine Or.inr (Or.inr ⟨g, q, hq, hqp, ?_⟩)
        rcases h2 q hq with k | k
        · rw [k]; exact hl
        · rcases done q hq (by omega) k.1 p hp hqp with k2 | k2
          · exact absurd k2 z
          · omega
  · rw [eo] at hs
    rcases h2 p hp with e | e
    · rcases h2 q hq with f | f
      · rw [e, f]
        rcases m2 p q hp hq hpq hs with g | g
        · exact Or.inl g
        · exact Or.inr (h3 p hp g)
      · by_cases z : σ0 3 q = 0
        · rcases m2 p q hp hq hpq hs with g | g
          · exact Or.inl (by omega)
          · exact Or.inr (h3 p hp g)
        · rcases done q hq z f.1 p hp (padj_symm hp hpq) with g | g
          · exact Or.inl (by omega)
          · exact Or.inr g.2
    · exact Or.inr e.2
  · rw [es]
    rcases h2 p hp with e | e
    · rcases m3 p hp with g | g
      · exact Or.inl (by omega)
      · exact Or.inr (h3 p hp g)
    · exact Or.inr e.2
  · have := (m4 p hp).2
    rcases h2 p hp with e | e <;> omega
/-- what takeAway leaves -/
def TAO (σ0 σ : St) (p0 : Nat) : Prop := (∀ k, k ≠ 3 → k ≠ 4 → k ≠ 5 → k ≠ 6 → k ≠ 9 → σ k = σ0 k) ∧ (∀ p, p < 432 → σ 3 p = σ0 3 p ∨ σ 3 p = 0) ∧ (∀ p, p < 432 → σ0 4 p = 1 → σ 4 p = 1) ∧ σ 3 p0 = 0 ∧ MID σ
end
section
def lgt (σ : St) (c : Nat) : Nat := if σ 3 (216 + c) < σ 3 c then σ 3 c else σ 3 (216 + c)
theorem m_nb (l : Launch) (c w : Nat) (zc zw : Int) (h1 : zc = (c : Int)) (h2 : zw = (w : Int)) (hc : c < 216) (hw : w < 6) : SMi l yX0_neighbour cX0_neighbour 4 .int 0 0 [.int (iI zc), .int (iI zw)] (fun r => r = iI (nbr c w)) := by
  subst h1
  subst h2
  exact m_neighbour l c w hc hw
theorem zc_lt {σ : St} {q : Nat} (hq : q < 432) (hz : σ 3 q ≠ 0) : zc σ < 432 := by
  have h1 := zc_drop hq hz
  have h2 := zc_le (dropS σ q)
  omega
set_option maxHeartbeats 4000000 in
theorem w_light {κ : Kx} {O : XO} {σ : St} (c : Nat) (z : Int) (hz : z = (c : Int)) (hc : c < 216) (C : CB κ cX0_light 3 RX0 0 0) (X : XC κ O) (Rt : XRI κ O .int (fun r σ' => r = iI ((lgt σ c : Nat) : Int) ∧ σ' = σ)) (hb : bnd σ) : J κ 3 (xW O σ) 0 [(0, .ref (oh O)), (1, .int (iI z))] [] := by
  refine j_aload_n C 0 dX0_light_0 rfl rfl ?_
  refine x_get C X 3 (by decide) q32 rfl dX0_light_1 ?_
  refine j_sipush C dX0_light_4 (by decide) ?_
  refine j_iload_n C 1 dX0_light_7 rfl rfl ?_
  refine j_iadd C dX0_light_8 ?_
  refine x_ild C X 3 432 (216 + c) rfl rfl (by decide) (by omega) (by omega) dX0_light_9 (fun hb9 => ?_)
  refine j_istore_n C [1, 2, 0] (L' := [(0, _), (1, _), (2, _)]) dX0_light_10 rfl (by decide) rfl ?_
  refine j_aload_n C 0 dX0_light_11 rfl rfl ?_
  refine x_get C X 3 (by decide) q32 rfl dX0_light_12 ?_
  refine j_iload_n C 1 dX0_light_15 rfl rfl ?_
  refine x_ild C X 3 432 (c) rfl rfl (by decide) (by omega) (by omega) dX0_light_16 (fun hb16 => ?_)
  refine j_iload_n C 2 dX0_light_17 rfl rfl ?_
  refine j_icmp_le C (tgt := 30) dX0_light_18 (by decide) (by omega) (by omega) (fun hc18 => ?_) (fun hc18 => ?_)
  · refine j_iload_n C 2 dX0_light_30 rfl rfl ?_
    exact x_iret C X Rt (rfl) (⟨by unfold lgt; congr 2; split <;> omega, rfl⟩) dX0_light_31
  · refine j_aload_n C 0 dX0_light_21 rfl rfl ?_
    refine x_get C X 3 (by decide) q32 rfl dX0_light_22 ?_
    refine j_iload_n C 1 dX0_light_25 rfl rfl ?_
    refine x_ild C X 3 432 (c) rfl rfl (by decide) (by omega) (by omega) dX0_light_26 (fun hb26 => ?_)
    refine j_goto C (tgt := 31) dX0_light_27 (by decide) ?_
    exact x_iret C X Rt (rfl) (⟨by unfold lgt; congr 2; split <;> omega, rfl⟩) dX0_light_31
theorem m_light (l : Launch) (O : XO) (σ : St) (c : Nat) (z : Int) (hz : z = (c : Int)) (hc : c < 216) : XMi l O yX0_light cX0_light 3 .int 0 0 [.int (iI z)] σ (fun r σ' => r = iI ((lgt σ c : Nat) : Int) ∧ σ' = σ) := by
  refine XMi.of (by decide) rfl (Nat.le_of_ble_eq_true rfl) ?_
  intro κ A H0 hκ C X Rt hb
  exact w_light (O := (oD O, A, H0, O.2.2.2)) c z hz hc C X Rt hb
set_option maxHeartbeats 4000000 in
theorem w_source {κ : Kx} {O : XO} {σ : St} (p : Nat) (z : Int) (hz : z = (p : Int)) (hp : p < 432) (C : CB κ cX0_source 2 RX0 0 0) (X : XC κ O) (Rt : XRI κ O .int (fun r σ' => r = iI ((srcv σ p : Nat) : Int) ∧ σ' = σ)) (hb : bnd σ) : J κ 2 (xW O σ) 0 [(0, .ref (oh O)), (1, .int (iI z))] [] := by
  refine j_iload_n C 1 dX0_source_0 rfl rfl ?_
  refine j_sipush C dX0_source_1 (by decide) ?_
  refine j_icmp_ge C (tgt := 14) dX0_source_4 (by decide) (by omega) (by omega) (fun hc4 => ?_) (fun hc4 => ?_)
  · refine j_aload_n C 0 dX0_source_14 rfl rfl ?_
    refine x_get C X 2 (by decide) q31 rfl dX0_source_15 ?_
    refine j_iload_n C 1 dX0_source_18 rfl rfl ?_
    refine j_sipush C dX0_source_19 (by decide) ?_
    refine j_isub C dX0_source_22 ?_
    refine x_zld C X 2 216 (p - 216) rfl rfl (by decide) (by omega) (by omega) dX0_source_23 (fun hb23 => ?_)
    refine j_if_eq C (tgt := 32) dX0_source_24 (by decide) (by omega) (fun hc24 => ?_) (fun hc24 => ?_)
    · refine j_iconst C dX0_source_32 ?_
      exact x_iret C X Rt (rfl) (⟨by unfold srcv; congr 1; (repeat' split) <;> omega, rfl⟩) dX0_source_33
    · refine j_bipush C dX0_source_27 (by decide) ?_
      refine j_goto C (tgt := 33) dX0_source_29 (by decide) ?_
      exact x_iret C X Rt (rfl) (⟨by unfold srcv; congr 1; (repeat' split) <;> omega, rfl⟩) dX0_source_33
  · refine j_aload_n C 0 dX0_source_7 rfl rfl ?_
    refine x_get C X 1 (by decide) q30 rfl dX0_source_8 ?_
    refine j_iload_n C 1 dX0_source_11 rfl rfl ?_
    refine x_ild C X 1 216 (p) rfl rfl (by decide) (by omega) (by omega) dX0_source_12 (fun hb12 => ?_)
    exact x_iret C X Rt (rfl) (⟨by unfold srcv; congr 1; (repeat' split) <;> omega, rfl⟩) dX0_source_13
theorem m_source (l : Launch) (O : XO) (σ : St) (p : Nat) (z : Int) (hz : z = (p : Int)) (hp : p < 432) : XMi l O yX0_source cX0_source 2 .int 0 0 [.int (iI z)] σ (fun r σ' => r = iI ((srcv σ p : Nat) : Int) ∧ σ' = σ) := by
  refine XMi.of (by decide) rfl (Nat.le_of_ble_eq_true rfl) ?_
  intro κ A H0 hκ C X Rt hb
  exact w_source (O := (oD O, A, H0, O.2.2.2)) p z hz hp C X Rt hb
set_option maxHeartbeats 4000000 in
theorem w_drop {κ : Kx} {O : XO} {σ : St} (q : Nat) (z : Int) (hz : z = (q : Int)) (hq : q < 432) (hw : σ 9 0 < 432) (C : CB κ cX0_drop 2 RX0 0 0) (X : XC κ O) (Rt : XRV κ O (fun σ' => σ' = dropS σ q)) (hb : bnd σ) : J κ 2 (xW O σ) 0 [(0, .ref (oh O)), (1, .int (iI z))] [] := by
  have hb3 := hb 3 q
  have e1 : s2 σ 5 (σ 9 0) q 9 0 = σ 9 0 := by rw [s2_ne (by decide)]
  have e2 : s2 σ 5 (σ 9 0) q 3 q = σ 3 q := by rw [s2_ne (by decide)]
  have e3 : s2 (s2 σ 5 (σ 9 0) q) 6 (σ 9 0) (σ 3 q) 9 0 = σ 9 0 := by rw [s2_ne (by decide), s2_ne (by decide)]
  refine j_aload_n C 0 dX0_drop_0 rfl rfl ?_
  refine x_get C X 5 (by decide) q34 rfl dX0_drop_1 ?_
  refine j_aload_n C 0 dX0_drop_4 rfl rfl ?_
  refine x_get C X 9 (by decide) q38 rfl dX0_drop_5 ?_
  refine j_iload_n C 1 dX0_drop_8 rfl rfl ?_
  refine x_ist C X 5 432 (σ 9 0) (q) rfl rfl xset_5 (by decide) (by omega) (by omega) (by omega) (by omega) dX0_drop_9 ?_
  refine j_aload_n C 0 dX0_drop_10 rfl rfl ?_
  refine x_get C X 6 (by decide) q35 rfl dX0_drop_11 ?_
  refine j_aload_n C 0 dX0_drop_14 rfl rfl ?_
  refine x_get C X 9 (by decide) q38 rfl dX0_drop_15 ?_
  refine j_aload_n C 0 dX0_drop_18 rfl rfl ?_
  refine x_get C X 3 (by decide) q32 rfl dX0_drop_19 ?_
  refine j_iload_n C 1 dX0_drop_22 rfl rfl ?_
  refine x_ild C X 3 432 (q) rfl rfl (by decide) (by omega) (by omega) dX0_drop_23 (fun hb23 => ?_)
  refine x_ist C X 6 432 (σ 9 0) (σ 3 q) rfl rfl xset_6 (by decide) (by omega) (by omega) (by omega) (by omega) dX0_drop_24 ?_
  refine j_aload_n C 0 dX0_drop_25 rfl rfl ?_
  refine j_dup C dX0_drop_26 ?_
  refine x_get C X 9 (by decide) q38 rfl dX0_drop_27 ?_
  refine j_iconst C dX0_drop_30 ?_
  refine j_iadd C dX0_drop_31 ?_
  refine x_put C X (σ 9 0 + 1) (by omega) (by omega) q38 dX0_drop_32 ?_
  refine j_aload_n C 0 dX0_drop_35 rfl rfl ?_
  refine x_get C X 3 (by decide) q32 rfl dX0_drop_36 ?_
  refine j_iload_n C 1 dX0_drop_39 rfl rfl ?_
  refine j_iconst C dX0_drop_40 ?_
  refine x_ist C X 3 432 (q) (0) rfl rfl xset_3 (by decide) (by omega) (by omega) (by omega) (by omega) dX0_drop_41 ?_
  refine j_aload_n C 0 dX0_drop_42 rfl rfl ?_
  refine x_get C X 4 (by decide) q33 rfl dX0_drop_43 ?_
  refine j_iload_n C 1 dX0_drop_46 rfl rfl ?_
  refine j_iconst C dX0_drop_47 ?_
  refine x_zst C X 4 432 (q) (1) rfl rfl xset_4 (by decide) (by omega) (by omega) (by omega) (by omega) dX0_drop_48 ?_
  exact x_vret C X Rt (rfl) dX0_drop_49
theorem m_drop (l : Launch) (O : XO) (σ : St) (q : Nat) (z : Int) (hz : z = (q : Int)) (hq : q < 432) (hw : σ 9 0 < 432) : XMv l O yX0_drop cX0_drop 2 0 0 [.int (iI z)] σ (fun σ' => σ' = dropS σ q) := by
  refine XMv.of (by decide) rfl (Nat.le_of_ble_eq_true rfl) ?_
  intro κ A H0 hκ C X Rt hb
  exact w_drop (O := (oD O, A, H0, O.2.2.2)) q z hz hq hw C X Rt hb
set_option maxHeartbeats 4000000 in
theorem w_takeAway {κ : Kx} {O : XO} {σ : St} (p : Nat) (zp : Int) (hzp : zp = (p : Int)) (hp : p < 432) (hM : MID σ) (C : CB κ cX0_takeAway 8 RX0 1 23) (X : XC κ O) (Rt : XRV κ O (fun σ' => TAO σ σ' p)) (hb : bnd σ) : J κ 8 (xW O σ) 0 [(0, .ref (oh O)), (1, .int (iI zp))] [] := by
  have K22 : ∀ (n step W : Nat) (σ1 : St) (z : Int), z = (step : Int) → 432 < step + n → TA σ σ1 W (fun _ _ => False) → σ1 9 0 = W → step + W ≤ zc σ1 → σ1 3 p = 0 → J κ 8 (xW O σ1) 22 [(0, .ref (oh O)), (1, .int (iI zp)), (2, .int (iI z))] [] := by
    intro n
    induction n with
    | zero =>
      intro step W σ1 z hz hn hT hW hs h0
      exact absurd hs (by have := zc_le σ1; omega)
    | succ n ih =>
      intro step W σ1 z hz hn hT hW hs h0
      have hzc := zc_le σ1
      have K86 : ∀ (k w W2 : Nat) (σ2 : St) (z6 : Int) (a b : Nat) (za zl zb : Int), z6 = (w : Int) → za = (a : Int) → zl = ((σ 3 a : Nat) : Int) → zb = (b : Int) → 6 < w + k → w ≤ 6 → a < 432 → ((a < 216 ∧ b = 0) ∨ (216 ≤ a ∧ b = 216)) → TA σ σ2 W2 (Ew a w) → σ2 9 0 = W2 → step + 1 + W2 ≤ zc σ2 → σ2 3 p = 0 → J κ 8 (xW O σ2) 86 [(0, .ref (oh O)), (1, .int (iI zp)), (2, .int (iI z)), (3, .int (iI za)), (4, .int (iI zl)), (5, .int (iI zb)), (6, .int (iI z6))] [] := by
        intro k
        induction k with
        | zero => intros; omega
        | succ k ih2 =>
          intro w W2 σ2 z6 a b za zl zb hz6 hza hzl hzb hk hw6 ha hab hT2 hW2 hs2 h02
          have hla := (hM.2.2.2 a ha).2
          have hzc2 := zc_le σ2
          refine j_iload C 6 dX0_takeAway_86 rfl ?_
          refine j_bipush C dX0_takeAway_88 (by decide) ?_
          refine j_icmp_ge C (tgt := 167) dX0_takeAway_90 (by decide) (by omega) (by omega) (fun hc90 => ?_) (fun hc90 => ?_)
          · refine j_iinc C 2 [1, 2, 0, 3, 4, 5, 6] (L' := [(0, _), (1, _), (2, _), (3, _), (4, _), (5, _), (6, _)]) dX0_takeAway_167 rfl (by decide) rfl ?_
            refine j_goto C (tgt := 22) dX0_takeAway_170 (by decide) ?_
            refine j_sub [0, 1, 2] (L' := [(0, _), (1, _), (2, _)]) rfl ?_
            have e6 : w = 6 := by omega
            subst e6
            exact ih (step + 1) W2 σ2 _ (by omega) (by omega) (ta_done hT2) hW2 (by omega) h02
          · refine j_iload_n C 3 dX0_takeAway_93 rfl rfl ?_
            refine j_iload C 5 dX0_takeAway_94 rfl ?_
            refine j_isub C dX0_takeAway_96 ?_
            refine j_iload C 6 dX0_takeAway_97 rfl ?_
            refine x_callS C X (m_nb _ (a - b) w _ _ (by omega) (by omega) (by omega) (by omega)) 2 rfl (lw_S q81 q82 q19 q83) (by decide +kernel) (by decide) dX0_takeAway_99 rfl (Nat.le_of_ble_eq_true rfl) (fun r hp => ?_)
            subst hp
            rcases nbr_rg (show a - b < 216 by omega) (show w < 6 by omega) with e | ⟨d, hd, e, e2⟩
            · rw [e]
              have hpn := pnb_no hab e
              refine j_istore C [1, 2, 3, 4, 5, 6, 7, 0] (L' := [(0, _), (1, _), (2, _), (3, _), (4, _), (5, _), (6, _), (7, _)]) dX0_takeAway_102 (by decide) rfl ?_
              refine j_iload C 7 dX0_takeAway_104 rfl ?_
              refine j_iconst C dX0_takeAway_106 ?_
              refine j_icmp_eq_t C (tgt := 161) dX0_takeAway_107 (by decide) (by omega) (by omega) (by omega) ?_
              refine j_iinc C 6 [1, 2, 3, 4, 5, 6, 0, 7] (L' := [(0, _), (1, _), (2, _), (3, _), (4, _), (5, _), (6, _), (7, _)]) dX0_takeAway_161 rfl (by decide) rfl ?_
              refine j_goto C (tgt := 86) dX0_takeAway_164 (by decide) ?_
              refine j_sub [0, 1, 2, 3, 4, 5, 6] (L' := [(0, _), (1, _), (2, _), (3, _), (4, _), (5, _), (6, _)]) rfl ?_
              exact ih2 (w + 1) W2 σ2 _ a b _ _ _ (by omega) hza hzl hzb (by omega) (by omega) ha hab (ta_way hT2 (fun q _ e => absurd e (by omega))) hW2 hs2 h02
            · rw [e]
              have hpn := pnb_of ha hab e
              have hbd : b + d < 432 := by omega
              refine j_istore C [1, 2, 3, 4, 5, 6, 7, 0] (L' := [(0, _), (1, _), (2, _), (3, _), (4, _), (5, _), (6, _), (7, _)]) dX0_takeAway_102 (by decide) rfl ?_
              refine j_iload C 7 dX0_takeAway_104 rfl ?_
              refine j_iconst C dX0_takeAway_106 ?_
              refine j_icmp_eq_f C dX0_takeAway_107 (by omega) (by omega) (tgt := 161) (by decide) (by omega) ?_
              refine j_aload_n C 0 dX0_takeAway_110 rfl rfl ?_
              refine x_get C X 3 (by decide) q32 rfl dX0_takeAway_111 ?_
              refine j_iload C 5 dX0_takeAway_114 rfl ?_
              refine j_iload C 7 dX0_takeAway_116 rfl ?_
              refine j_iadd C dX0_takeAway_118 ?_
              refine x_ild C X 3 432 (b + d) rfl rfl (by decide) (by omega) (by omega) dX0_takeAway_119 (fun hb119 => ?_)
              refine j_if_le C (tgt := 161) dX0_takeAway_120 (by decide) (by omega) (fun hc120 => ?_) (fun hc120 => ?_)
              · refine j_iinc C 6 [1, 2, 3, 4, 5, 6, 0, 7] (L' := [(0, _), (1, _), (2, _), (3, _), (4, _), (5, _), (6, _), (7, _)]) dX0_takeAway_161 rfl (by decide) rfl ?_
                refine j_goto C (tgt := 86) dX0_takeAway_164 (by decide) ?_
                refine j_sub [0, 1, 2, 3, 4, 5, 6] (L' := [(0, _), (1, _), (2, _), (3, _), (4, _), (5, _), (6, _)]) rfl ?_
                exact ih2 (w + 1) W2 σ2 _ a b _ _ _ (by omega) hza hzl hzb (by omega) (by omega) ha hab (ta_way hT2 (fun q _ e => by
                  have eq : q = b + d := by omega
                  subst eq
                  exact Or.inl (by omega))) hW2 hs2 h02
              · refine j_aload_n C 0 dX0_takeAway_123 rfl rfl ?_
                refine x_get C X 3 (by decide) q32 rfl dX0_takeAway_124 ?_
                refine j_iload C 5 dX0_takeAway_127 rfl ?_
                refine j_iload C 7 dX0_takeAway_129 rfl ?_
                refine j_iadd C dX0_takeAway_131 ?_
                refine x_ild C X 3 432 (b + d) rfl rfl (by decide) (by omega) (by omega) dX0_takeAway_132 (fun hb132 => ?_)
                refine j_iload C 4 dX0_takeAway_133 rfl ?_
                refine j_icmp_ge C (tgt := 150) dX0_takeAway_135 (by decide) (by omega) (by omega) (fun hc135 => ?_) (fun hc135 => ?_)
                · refine j_aload_n C 0 dX0_takeAway_150 rfl rfl ?_
                  refine x_get C X 4 (by decide) q33 rfl dX0_takeAway_151 ?_
                  refine j_iload C 5 dX0_takeAway_154 rfl ?_
                  refine j_iload C 7 dX0_takeAway_156 rfl ?_
                  refine j_iadd C dX0_takeAway_158 ?_
                  refine j_iconst C dX0_takeAway_159 ?_
                  refine x_zst C X 4 432 (b + d) (1) rfl rfl xset_4 (by decide) (by omega) (by omega) (by omega) (by omega) dX0_takeAway_160 ?_
                  refine j_iinc C 6 [1, 2, 3, 4, 5, 6, 0, 7] (L' := [(0, _), (1, _), (2, _), (3, _), (4, _), (5, _), (6, _), (7, _)]) dX0_takeAway_161 rfl (by decide) rfl ?_
                  refine j_goto C (tgt := 86) dX0_takeAway_164 (by decide) ?_
                  refine j_sub [0, 1, 2, 3, 4, 5, 6] (L' := [(0, _), (1, _), (2, _), (3, _), (4, _), (5, _), (6, _)]) rfl ?_
                  have e3 : s2 σ2 4 (b + d) 1 3 = σ2 3 := s2_ne (by decide)
                  exact ih2 (w + 1) W2 _ _ a b _ _ _ (by omega) hza hzl hzb (by omega) (by omega) ha hab (ta_way (ta_rim hT2) (fun q _ e => by
                    have eq : q = b + d := by omega
                    subst eq
                    exact Or.inr ⟨by rw [e3]; omega, s2_at⟩)) (by rw [s2_ne (by decide)]; exact hW2) (by rw [zc_rim]; exact hs2) (by rw [e3]; exact h02)
                · refine j_aload_n C 0 dX0_takeAway_138 rfl rfl ?_
                  refine j_iload C 5 dX0_takeAway_139 rfl ?_
                  refine j_iload C 7 dX0_takeAway_141 rfl ?_
                  refine j_iadd C dX0_takeAway_143 ?_
                  refine x_callv C X (m_drop _ O σ2 (b + d) _ (by omega) hbd (by have := zc_lt hbd (show σ2 3 (b + d) ≠ 0 by omega); omega)) 1 rfl (lw_V q77 q79 qs2 q19 q80) (by decide +kernel) (by decide) dX0_takeAway_144 rfl (Nat.le_of_ble_eq_true rfl) (fun σ3 hp => ?_)
                  subst hp
                  refine j_goto C (tgt := 161) dX0_takeAway_147 (by decide) ?_
                  refine j_iinc C 6 [1, 2, 3, 4, 5, 6, 0, 7] (L' := [(0, _), (1, _), (2, _), (3, _), (4, _), (5, _), (6, _), (7, _)]) dX0_takeAway_161 rfl (by decide) rfl ?_
                  refine j_goto C (tgt := 86) dX0_takeAway_164 (by decide) ?_
                  refine j_sub [0, 1, 2, 3, 4, 5, 6] (L' := [(0, _), (1, _), (2, _), (3, _), (4, _), (5, _), (6, _)]) rfl ?_
                  exact ih2 (w + 1) (W2 + 1) _ _ a b _ _ _ (by omega) hza hzl hzb (by omega) (by omega) ha hab (ta_way (ta_drop hT2 hW2 hbd (by omega)) (fun q _ e => by
                    have eq : q = b + d := by omega
                    subst eq
                    exact Or.inl (by rw [dropS_3, if_pos rfl]))) (by rw [dropS_9, hW2]) (by rw [zc_drop hbd (by omega)]; omega) (by rw [dropS_3]; split <;> omega)
      refine j_iload_n C 2 dX0_takeAway_22 rfl rfl ?_
      refine j_sipush C dX0_takeAway_23 (by decide) ?_
      refine j_icmp_ge C (tgt := 173) dX0_takeAway_26 (by decide) (by omega) (by omega) (fun hc26 => ?_) (fun hc26 => ?_)
      · exact x_vret C X Rt (by
              have eW : W = 0 := by omega
              subst eW
              exact ⟨hT.1, fun q hq => by
                rcases hT.2.1 q hq with g | g
                · exact Or.inl g
                · exact Or.inr g.1, hT.2.2.1, h0, ta_fin hM hT⟩) dX0_takeAway_173
      · have hbW := hb
        refine j_aload_n C 0 dX0_takeAway_29 rfl rfl ?_
        refine x_get C X 9 (by decide) q38 rfl dX0_takeAway_30 ?_
        refine j_if_le C (tgt := 173) dX0_takeAway_33 (by decide) (by omega) (fun hc33 => ?_) (fun hc33 => ?_)
        · exact x_vret C X Rt (by
              have eW : W = 0 := by omega
              subst eW
              exact ⟨hT.1, fun q hq => by
                rcases hT.2.1 q hq with g | g
                · exact Or.inl g
                · exact Or.inr g.1, hT.2.2.1, h0, ta_fin hM hT⟩) dX0_takeAway_173
        · obtain ⟨W1, rfl⟩ : ∃ W1, W = W1 + 1 := ⟨W - 1, by omega⟩
          refine j_aload_n C 0 dX0_takeAway_36 rfl rfl ?_
          refine j_dup C dX0_takeAway_37 ?_
          refine x_get C X 9 (by decide) q38 rfl dX0_takeAway_38 ?_
          refine j_iconst C dX0_takeAway_41 ?_
          refine j_isub C dX0_takeAway_42 ?_
          refine x_put C X (W1) (by omega) (by omega) q38 dX0_takeAway_43 ?_
          have hT2 := ta_pop hT
          have hat := hT.2.2.2.2.2 W1 (Nat.lt_succ_self _)
          have h52 : (s2 σ1 9 0 W1) 5 = σ1 5 := s2_ne (by decide)
          have h62 : (s2 σ1 9 0 W1) 6 = σ1 6 := s2_ne (by decide)
          have hz2 : step + 1 + W1 ≤ zc (s2 σ1 9 0 W1) := by rw [zc_w]; omega
          have h02 : (s2 σ1 9 0 W1) 3 p = 0 := by rw [s2_ne (by decide)]; exact h0
          have h92 : s2 σ1 9 0 W1 9 0 = W1 := s2_at
          generalize s2 σ1 9 0 W1 = σ2 at hT2 h52 h62 hz2 h02 h92 ⊢
          have ea : σ2 5 W1 = σ1 5 W1 := by rw [h52]
          have el : σ2 6 W1 = σ 3 (σ1 5 W1) := by rw [h62]; exact hat.2.1
          have hla := (hM.2.2.2 _ hat.1).2
          refine j_aload_n C 0 dX0_takeAway_46 rfl rfl ?_
          refine x_get C X 5 (by decide) q34 rfl dX0_takeAway_47 ?_
          refine j_aload_n C 0 dX0_takeAway_50 rfl rfl ?_
          refine x_get C X 9 (by decide) q38 rfl dX0_takeAway_51 ?_
          refine x_ild C X 5 432 (W1) rfl rfl (by decide) (by omega) (by omega) dX0_takeAway_54 (fun hb54 => ?_)
          refine j_istore_n C [1, 2, 3, 0] (L' := [(0, _), (1, _), (2, _), (3, _)]) dX0_takeAway_55 rfl (by decide) rfl ?_
          refine j_aload_n C 0 dX0_takeAway_56 rfl rfl ?_
          refine x_get C X 6 (by decide) q35 rfl dX0_takeAway_57 ?_
          refine j_aload_n C 0 dX0_takeAway_60 rfl rfl ?_
          refine x_get C X 9 (by decide) q38 rfl dX0_takeAway_61 ?_
          refine x_ild C X 6 432 (W1) rfl rfl (by decide) (by omega) (by omega) dX0_takeAway_64 (fun hb64 => ?_)
          refine j_istore C [1, 2, 3, 4, 0] (L' := [(0, _), (1, _), (2, _), (3, _), (4, _)]) dX0_takeAway_65 (by decide) rfl ?_
          refine j_iload_n C 3 dX0_takeAway_67 rfl rfl ?_
          refine j_sipush C dX0_takeAway_68 (by decide) ?_
          refine j_icmp_ge C (tgt := 78) dX0_takeAway_71 (by decide) (by omega) (by omega) (fun hc71 => ?_) (fun hc71 => ?_)
          · refine j_sipush C dX0_takeAway_78 (by decide) ?_
            refine j_istore C [1, 2, 3, 4, 5, 0] (L' := [(0, _), (1, _), (2, _), (3, _), (4, _), (5, _)]) dX0_takeAway_81 (by decide) rfl ?_
            refine j_iconst C dX0_takeAway_83 ?_
            refine j_istore C [1, 2, 3, 4, 5, 6, 0] (L' := [(0, _), (1, _), (2, _), (3, _), (4, _), (5, _), (6, _)]) dX0_takeAway_84 (by decide) rfl ?_
            exact K86 7 0 W1 σ2 _ (σ1 5 W1) 216 _ _ _ (by omega) (by omega) (by omega) (by omega) (by omega) (by omega) hat.1 (by omega) hT2 h92 hz2 h02
          · refine j_iconst C dX0_takeAway_74 ?_
            refine j_goto C (tgt := 81) dX0_takeAway_75 (by decide) ?_
            refine j_istore C [1, 2, 3, 4, 5, 0] (L' := [(0, _), (1, _), (2, _), (3, _), (4, _), (5, _)]) dX0_takeAway_81 (by decide) rfl ?_
            refine j_iconst C dX0_takeAway_83 ?_
            refine j_istore C [1, 2, 3, 4, 5, 6, 0] (L' := [(0, _), (1, _), (2, _), (3, _), (4, _), (5, _), (6, _)]) dX0_takeAway_84 (by decide) rfl ?_
            exact K86 7 0 W1 σ2 _ (σ1 5 W1) 0 _ _ _ (by omega) (by omega) (by omega) (by omega) (by omega) (by omega) hat.1 (by omega) hT2 h92 hz2 h02
  refine j_aload_n C 0 dX0_takeAway_0 rfl rfl ?_
  refine x_get C X 3 (by decide) q32 rfl dX0_takeAway_1 ?_
  refine j_iload_n C 1 dX0_takeAway_4 rfl rfl ?_
  refine x_ild C X 3 432 (p) rfl rfl (by decide) (by omega) (by omega) dX0_takeAway_5 (fun hb5 => ?_)
  refine j_if_ne C (tgt := 10) dX0_takeAway_6 (by decide) (by omega) (fun hc6 => ?_) (fun hc6 => ?_)
  · refine j_aload_n C 0 dX0_takeAway_10 rfl rfl ?_
    refine j_iconst C dX0_takeAway_11 ?_
    refine x_put C X (0) (by omega) (by omega) q38 dX0_takeAway_12 ?_
    refine j_aload_n C 0 dX0_takeAway_15 rfl rfl ?_
    refine j_iload_n C 1 dX0_takeAway_16 rfl rfl ?_
    refine x_callv C X (m_drop _ O (s2 σ 9 0 0) p _ (by omega) hp (by rw [s2_at]; omega)) 1 rfl (lw_V q77 q79 qs2 q19 q80) (by decide +kernel) (by decide) dX0_takeAway_17 rfl (Nat.le_of_ble_eq_true rfl) (fun σ3 hd => ?_)
    subst hd
    refine j_iconst C dX0_takeAway_20 ?_
    refine j_istore_n C [1, 2, 0] (L' := [(0, _), (1, _), (2, _)]) dX0_takeAway_21 rfl (by decide) rfl ?_
    have hz0 : (s2 σ 9 0 0) 3 p ≠ 0 := by rw [s2_ne (by decide)]; omega
    exact K22 433 0 1 _ _ rfl (by omega) (ta_drop (ta_0 (fun q hq => (hM.2.2.2 q hq).1)) s2_at hp hz0) (by rw [dropS_9, s2_at]) (by rw [zc_drop hp hz0]; omega) (by rw [dropS_3, if_pos rfl])
  · exact x_vret C X Rt (⟨fun _ _ _ _ _ _ => rfl, fun _ _ => Or.inl rfl, fun _ _ h => h, by omega, hM⟩) dX0_takeAway_9
theorem m_takeAway (l : Launch) (O : XO) (σ : St) (p : Nat) (zp : Int) (hzp : zp = (p : Int)) (hp : p < 432) (hM : MID σ) : XMv l O yX0_takeAway cX0_takeAway 8 1 23 [.int (iI zp)] σ (fun σ' => TAO σ σ' p) := by
  refine XMv.of (by decide) rfl (Nat.le_of_ble_eq_true rfl) ?_
  intro κ A H0 hκ C X Rt hb
  exact w_takeAway (O := (oD O, A, H0, O.2.2.2)) p zp hzp hp hM C X Rt hb
end
section
/-! light flows in again -/
theorem sol_bd {σ : St} {b d : Nat} (hd : d < 216) (hb : b = 0 ∨ b = 216) : sol σ (b + d) = σ 0 d := by
  unfold sol
  rw [show (b + d) % 216 = d by omega]
def PS (σ σ1 : St) (p ℓ w : Nat) : Prop := (∀ k, k ≠ 3 → k ≠ 4 → σ1 k = σ k) ∧ ∀ q : Nat, q < 432 →
  ((∃ w', w' < w ∧ pnb p w' = (q : Int)) ∧ sol σ q = 0 ∧ σ 3 q + 1 < ℓ ∧ σ1 3 q + 1 = ℓ ∧ σ1 4 q = 1) ∨ (((∃ w', w' < w ∧ pnb p w' = (q : Int)) → sol σ q = 0 → ℓ ≤ σ 3 q + 1) ∧ σ1 3 q = σ 3 q ∧ σ1 4 q = σ 4 q)
theorem ps_0 (σ : St) (p ℓ : Nat) : PS σ σ p ℓ 0 := ⟨fun _ _ _ => rfl, fun q _ => Or.inr ⟨fun ⟨w', h, _⟩ => absurd h (Nat.not_lt_zero _), rfl, rfl⟩⟩
theorem ps_skip {σ σ1 : St} {p ℓ w : Nat} (h : PS σ σ1 p ℓ w) (hq : ∀ q : Nat, q < 432 → pnb p w = (q : Int) → sol σ q = 0 → ℓ ≤ σ1 3 q + 1) : PS σ σ1 p ℓ (w + 1) := by
  refine ⟨h.1, fun q hq2 => ?_⟩
  rcases h.2 q hq2 with ⟨⟨w', h1, h2⟩, g⟩ | ⟨g1, g2, g3⟩
  · exact Or.inl ⟨⟨w', by omega, h2⟩, g⟩
  · refine Or.inr ⟨fun ⟨w', h1, h2⟩ hs => ?_, g2, g3⟩
    by_cases e : w' = w
    · subst e
      rw [← g2]
      exact hq q hq2 h2 hs
    · exact g1 ⟨w', by omega, h2⟩ hs
theorem ps_set {σ σ1 : St} {p ℓ w q0 : Nat} (h : PS σ σ1 p ℓ w) (hq0 : q0 < 432) (e : pnb p w = (q0 : Int)) (hs : sol σ q0 = 0) (hl : σ1 3 q0 + 1 < ℓ) : PS σ (s2 (s2 σ1 3 q0 (ℓ - 1)) 4 q0 1) p ℓ (w + 1) := by
  refine ⟨fun k h3 h4 => by rw [s2_ne h4, s2_ne h3]; exact h.1 k h3 h4, fun q hq2 => ?_⟩
  have e3 : s2 (s2 σ1 3 q0 (ℓ - 1)) 4 q0 1 3 q = if q = q0 then ℓ - 1 else σ1 3 q := by rw [s2_ne (by decide), s2_eq]
  have e4 : s2 (s2 σ1 3 q0 (ℓ - 1)) 4 q0 1 4 q = if q = q0 then 1 else σ1 4 q := by
    rw [s2_eq, s2_ne (by decide)]
  rw [e3, e4]
  by_cases eq : q = q0
  · subst eq
    simp only [if_true]
    rcases h.2 q hq2 with g | ⟨g1, g2, g3⟩
    · omega
    · exact Or.inl ⟨⟨w, by omega, e⟩, hs, by omega, by omega, trivial⟩
  · simp only [eq, if_false]
    rcases h.2 q hq2 with ⟨⟨w', h1, h2⟩, g⟩ | ⟨g1, g2, g3⟩
    · exact Or.inl ⟨⟨w', by omega, h2⟩, g⟩
    · refine Or.inr ⟨fun ⟨w', h1, h2⟩ hs2 => ?_, g2, g3⟩
      by_cases e5 : w' = w
      · subst e5
        omega
      · exact g1 ⟨w', by omega, h2⟩ hs2
def F1 (σ σ1 : St) (i : Nat) : Prop := (∀ k, k ≠ 3 → σ1 k = σ k) ∧ ∀ p, p < 432 → (σ1 3 p = σ 3 p ∧ (σ 4 p = 0 ∨ i ≤ p ∨ srcv σ p ≤ σ 3 p)) ∨ (σ 4 p ≠ 0 ∧ σ1 3 p = srcv σ p ∧ σ 3 p ≤ srcv σ p)
theorem f1_0 (σ : St) : F1 σ σ 0 := ⟨fun _ _ => rfl, fun p _ => Or.inl ⟨rfl, Or.inr (Or.inl (Nat.zero_le _))⟩⟩
theorem f1_skip {σ σ1 : St} {i : Nat} (h : F1 σ σ1 i) (hi : σ 4 i = 0) : F1 σ σ1 (i + 1) := by
  refine ⟨h.1, fun p hp => ?_⟩
  rcases h.2 p hp with ⟨g1, g2⟩ | g
  · by_cases e : p = i
    · subst e
      exact Or.inl ⟨g1, Or.inl hi⟩
    · exact Or.inl ⟨g1, by omega⟩
  · exact Or.inr g
theorem f1_set {σ σ1 : St} {i v : Nat} (h : F1 σ σ1 i) (hi : i < 432) (hr : σ 4 i ≠ 0) (hv : (v = srcv σ i ∧ σ1 3 i < v) ∨ (v = σ1 3 i ∧ srcv σ i ≤ v)) : F1 σ (s2 σ1 3 i v) (i + 1) := by
  refine ⟨fun k hk => by rw [s2_ne hk]; exact h.1 k hk, fun p hp => ?_⟩
  rw [s2_eq]
  by_cases e : p = i
  · subst e
    simp only [if_true]
    rcases h.2 p hp with ⟨g1, g2⟩ | g
    · rcases hv with k | k
      · exact Or.inr ⟨hr, k.1, by omega⟩
      · exact Or.inl ⟨by omega, Or.inr (Or.inr (by omega))⟩
    · rcases hv with k | k
      · omega
      · exact Or.inr ⟨hr, by omega, by omega⟩
  · simp only [e, if_false]
    rcases h.2 p hp with ⟨g1, g2⟩ | g
    · exact Or.inl ⟨g1, by omega⟩
    · exact Or.inr g
def GF (σ : St) (ℓ i : Nat) : Prop := (∀ p, p < 432 → sup σ p) ∧ (∀ p, p < 432 → srcv σ p ≤ σ 3 p) ∧ (∀ p q, p < 432 → q < 432 → padj p q → sol σ q = 0 → σ 3 p ≤ σ 3 q + 1 ∨ σ 4 p = 1) ∧ (∀ p, p < 432 → σ 4 p ≤ 1 ∧ σ 3 p ≤ 12) ∧ ∀ p, p < 432 → σ 4 p = 1 → σ 3 p ≤ ℓ ∧ (p < i → σ 3 p < ℓ)
theorem gf_start {σ σ1 : St} (hM : MID σ) (h : F1 σ σ1 432) (hla : ∀ c, c < 216 → σ 1 c ≤ 12) : GF σ1 12 0 := by
  obtain ⟨m1, m2, m3, m4⟩ := hM
  obtain ⟨h1, h2⟩ := h
  have es : ∀ p, srcv σ1 p = srcv σ p := srcv_congr (h1 1 (by decide)) (h1 2 (by decide))
  have eo : ∀ p, sol σ1 p = sol σ p := sol_congr (h1 0 (by decide))
  have e4 : σ1 4 = σ 4 := h1 4 (by decide)
  have up : ∀ p, p < 432 → σ 3 p ≤ σ1 3 p := by
    intro p hp
    rcases h2 p hp with g | g <;> omega
  have s12 : ∀ p, p < 432 → srcv σ p ≤ 12 := by
    intro p hp
    unfold srcv
    split
    · rename_i q; exact hla p q
    · split <;> omega
  have b12 : ∀ p, p < 432 → σ1 3 p ≤ 12 := by
    intro p hp
    have a := s12 p hp
    have b := (m4 p hp).2
    rcases h2 p hp with g | g <;> omega
  refine ⟨fun p hp => ?_, fun p hp => ?_, fun p q hp hq hpq hs => ?_, fun p hp => ⟨by rw [e4]; exact (m4 p hp).1, b12 p hp⟩, fun p hp _ => ⟨b12 p hp, fun z => absurd z (Nat.not_lt_zero _)⟩⟩
  · unfold sup
    rw [es, eo]
    rcases h2 p hp with ⟨g1, g2⟩ | ⟨g0, g1, g2⟩
    · rw [g1]
      rcases m1 p hp with k | k | ⟨k, q, hq, hqp, hl⟩
      · exact Or.inl k
      · exact Or.inr (Or.inl k)
      · exact Or.inr (Or.inr ⟨k, q, hq, hqp, Nat.le_trans hl (up q hq)⟩)
    · exact Or.inr (Or.inl (by omega))
  · rw [es]
    have b := (m4 p hp).1
    rcases h2 p hp with ⟨g1, g2 | g2 | g2⟩ | g
    · rcases m3 p hp with k | k <;> omega
    · omega
    · omega
    · omega
  · rw [eo] at hs
    rw [e4]
    have b := (m4 p hp).1
    rcases h2 p hp with ⟨g1, g2⟩ | g
    · rcases m2 p q hp hq hpq hs with k | k
      · have := up q hq
        exact Or.inl (by omega)
      · exact Or.inr k
    · exact Or.inr (by omega)
theorem gf_skip {σ : St} {ℓ i : Nat} (h : GF σ ℓ i) (hi : σ 4 i = 0 ∨ σ 3 i ≠ ℓ) : GF σ ℓ (i + 1) := by
  obtain ⟨h1, h2, h3, h4, h5⟩ := h
  refine ⟨h1, h2, h3, h4, fun p hp hr => ⟨(h5 p hp hr).1, fun hlt => ?_⟩⟩
  have g := h5 p hp hr
  by_cases e : p = i
  · subst e
    rcases hi with k | k <;> omega
  · exact g.2 (by omega)
theorem gf_next {σ : St} {ℓ : Nat} (h : GF σ (ℓ + 1) 432) : GF σ ℓ 0 := by
  obtain ⟨h1, h2, h3, h4, h5⟩ := h
  refine ⟨h1, h2, h3, h4, fun p hp hr => ⟨?_, fun z => absurd z (Nat.not_lt_zero _)⟩⟩
  have g := (h5 p hp hr).2 hp
  omega
theorem gf_pass {σ σ2 : St} {ℓ i : Nat} (h : GF σ ℓ i) (hi : i < 432) (hr : σ 4 i ≠ 0) (hl : σ 3 i = ℓ) (hp : PS (s2 σ 4 i 0) σ2 i ℓ 6) : GF σ2 ℓ (i + 1) ∧ ∀ k, k ≠ 3 → k ≠ 4 → σ2 k = σ k := by
  obtain ⟨h1, h2, h3, h4, h5⟩ := h
  obtain ⟨p1, p2⟩ := hp
  have fr : ∀ k, k ≠ 3 → k ≠ 4 → σ2 k = σ k := fun k a b => by rw [p1 k a b, s2_ne b]
  have e3 : s2 σ 4 i 0 3 = σ 3 := s2_ne (by decide)
  have es : ∀ p, srcv σ2 p = srcv σ p := srcv_congr (fr 1 (by decide) (by decide)) (fr 2 (by decide) (by decide))
  have eo : ∀ p, sol σ2 p = sol σ p := sol_congr (fr 0 (by decide) (by decide))
  have eo1 : ∀ p, sol (s2 σ 4 i 0) p = sol σ p := sol_congr (s2_ne (by decide))
  have p3 : ∀ q, q < 432 → (padj i q ∧ sol σ q = 0 ∧ σ 3 q + 1 < ℓ ∧ σ2 3 q + 1 = ℓ ∧ σ2 4 q = 1) ∨ ((padj i q → sol σ q = 0 → ℓ ≤ σ 3 q + 1) ∧ σ2 3 q = σ 3 q ∧ σ2 4 q = if q = i then 0 else σ 4 q) := by
    intro q hq
    rcases p2 q hq with ⟨⟨w', a, b⟩, c, d, f⟩ | ⟨a, b, c⟩
    · rw [eo1] at c
      rw [e3] at d
      exact Or.inl ⟨⟨w', a, b⟩, c, d, f⟩
    · rw [e3] at a b
      rw [eo1] at a
      rw [s2_eq] at c
      exact Or.inr ⟨fun ⟨w', x, y⟩ => a ⟨w', x, y⟩, b, c⟩
  have up : ∀ q, q < 432 → σ 3 q ≤ σ2 3 q := by
    intro q hq
    rcases p3 q hq with g | g <;> omega
  have hi3 : σ2 3 i = ℓ ∧ σ2 4 i = 0 := by
    rcases p3 i hi with g | ⟨_, g, k⟩
    · omega
    · rw [if_pos rfl] at k
      exact ⟨by omega, k⟩
  refine ⟨⟨fun p hp => ?_, fun p hp => ?_, fun p q hp hq hpq hs => ?_, fun p hp => ?_, fun p hp hr2 => ?_⟩, fr⟩
  · unfold sup
    rw [es, eo]
    rcases p3 p hp with ⟨a, b, c, d, f⟩ | ⟨a, b, c⟩
    · exact Or.inr (Or.inr ⟨b, i, hi, a, by omega⟩)
    · rw [b]
      rcases h1 p hp with k | k | ⟨k, q, hq, hqp, hl2⟩
      · exact Or.inl k
      · exact Or.inr (Or.inl k)
      · exact Or.inr (Or.inr ⟨k, q, hq, hqp, Nat.le_trans hl2 (up q hq)⟩)
  · rw [es]
    exact Nat.le_trans (h2 p hp) (up p hp)
  · rw [eo] at hs
    rcases p3 p hp with ⟨a, b, c, d, f⟩ | ⟨a, b, c⟩
    · exact Or.inr f
    · by_cases e : p = i
      · subst e
        rcases p3 q hq with g | ⟨g1, g2, g3⟩
        · exact Or.inl (by omega)
        · have := g1 hpq hs
          exact Or.inl (by omega)
      · rw [if_neg e] at c
        rcases h3 p q hp hq hpq hs with g | g
        · have := up q hq
          exact Or.inl (by omega)
        · exact Or.inr (by omega)
  · have g := h4 p hp
    have gi := h4 i hi
    rcases p3 p hp with ⟨a, b, c, d, f⟩ | ⟨a, b, c⟩
    · omega
    · refine ⟨?_, by omega⟩
      rw [c]
      split <;> omega
  · rcases p3 p hp with ⟨a, b, c, d, f⟩ | ⟨a, b, c⟩
    · omega
    · by_cases e : p = i
      · subst e
        omega
      · rw [if_neg e] at c
        have g := h5 p hp (by omega)
        refine ⟨by omega, fun hlt => ?_⟩
        have := g.2 (by omega)
        omega
/-- the fixed point -/
def PG (σ : St) : Prop := (∀ p, p < 432 → sup σ p) ∧ (∀ p, p < 432 → srcv σ p ≤ σ 3 p) ∧ (∀ p q, p < 432 → q < 432 → padj p q → sol σ q = 0 → σ 3 p ≤ σ 3 q + 1) ∧ ∀ p, p < 432 → σ 3 p ≤ 12
theorem pg_of {σ σ1 : St} (h : GF σ 0 0) (h1 : ∀ k, k ≠ 4 → σ1 k = σ k) : PG σ1 := by
  obtain ⟨a, b, c, d, f⟩ := h
  have e3 : σ1 3 = σ 3 := h1 3 (by decide)
  have es : ∀ p, srcv σ1 p = srcv σ p := srcv_congr (h1 1 (by decide)) (h1 2 (by decide))
  have eo : ∀ p, sol σ1 p = sol σ p := sol_congr (h1 0 (by decide))
  refine ⟨fun p hp => ?_, fun p hp => ?_, fun p q hp hq hpq hs => ?_, fun p hp => ?_⟩
  · unfold sup
    rw [es, eo, e3]
    exact a p hp
  · rw [es, e3]; exact b p hp
  · rw [eo] at hs
    rw [e3]
    rcases c p q hp hq hpq hs with g | g
    · exact g
    · have := (f p hp g).1
      omega
  · rw [e3]; exact (d p hp).2
def SEr (w se : Nat → Nat) : Prop := ∀ c, c < 216 → se c ≤ 1 ∧ (se c = 1 ↔ w c = 0 ∧ (c + 36 < 216 → se (c + 36) = 1))
def GI (σ : St) : Prop := (∀ c, c < 216 → σ 0 c ≤ 1 ∧ σ 1 c ≤ 12) ∧ SEr (σ 0) (σ 2) ∧ PG σ ∧ ∀ p, p < 432 → σ 4 p = 0
theorem gi_mid {σ : St} (h : GI σ) : MID σ := by
  obtain ⟨h1, h2, ⟨a, b, c, d⟩, h4⟩ := h
  exact ⟨a, fun p q hp hq hpq hs => Or.inl (c p q hp hq hpq hs), fun p hp => Or.inl (b p hp), fun p hp => ⟨by rw [h4 p hp]; omega, d p hp⟩⟩
def FLO (σ σ1 : St) : Prop := PG σ1 ∧ (∀ p, p < 432 → σ1 4 p = 0) ∧ ∀ k, k ≠ 3 → k ≠ 4 → σ1 k = σ k
/-- a lamp is changed, its light taken away before -/
theorem lamp_mid {σ σ1 : St} {c v : Nat} (hc : c < 216) (hT : TAO σ σ1 c) : MID (s2 (s2 σ1 1 c v) 4 c 1) := by
  obtain ⟨t1, t2, t3, t4, m1, m2, m3, m4⟩ := hT
  have e0 : s2 (s2 σ1 1 c v) 4 c 1 0 = σ1 0 := by rw [s2_ne (by decide), s2_ne (by decide)]
  have e2 : s2 (s2 σ1 1 c v) 4 c 1 2 = σ1 2 := by rw [s2_ne (by decide), s2_ne (by decide)]
  have e3 : s2 (s2 σ1 1 c v) 4 c 1 3 = σ1 3 := by rw [s2_ne (by decide), s2_ne (by decide)]
  have e1 : ∀ p, p ≠ c → s2 (s2 σ1 1 c v) 4 c 1 1 p = σ1 1 p := fun p hp => by rw [s2_ne (by decide), s2_off hp]
  have e4 : ∀ p, s2 (s2 σ1 1 c v) 4 c 1 4 p = if p = c then 1 else σ1 4 p := fun p => by rw [s2_eq, s2_ne (by decide)]
  have es : ∀ p, p ≠ c → srcv (s2 (s2 σ1 1 c v) 4 c 1) p = srcv σ1 p := fun p hp => by
    unfold srcv
    rw [e2]
    split
    · exact e1 p hp
    · rfl
  have eo : ∀ p, sol (s2 (s2 σ1 1 c v) 4 c 1) p = sol σ1 p := sol_congr e0
  have r1 : ∀ p, σ1 4 p = 1 → s2 (s2 σ1 1 c v) 4 c 1 4 p = 1 := fun p hp => by
    rw [e4]
    split
    · rfl
    · exact hp
  refine ⟨fun p hp => ?_, fun p q hp hq hpq hs => ?_, fun p hp => ?_, fun p hp => ?_⟩
  · unfold sup
    rw [eo, e3]
    by_cases e : p = c
    · subst e
      exact Or.inl t4
    · rw [es p e]
      exact m1 p hp
  · rw [eo] at hs
    rw [e3]
    rcases m2 p q hp hq hpq hs with g | g
    · exact Or.inl g
    · exact Or.inr (r1 p g)
  · by_cases e : p = c
    · exact Or.inr (by rw [e4, if_pos e])
    · rw [es p e, e3]
      rcases m3 p hp with g | g
      · exact Or.inl g
      · exact Or.inr (r1 p g)
  · rw [e3, e4]
    have := m4 p hp
    split <;> omega
end
section
set_option maxHeartbeats 4000000 in
theorem w_pass {κ : Kx} {O : XO} {σ : St} (p ℓ : Nat) (zp zl : Int) (hzp : zp = (p : Int)) (hzl : zl = (ℓ : Int)) (hp : p < 432) (hl : 1 ≤ ℓ ∧ ℓ ≤ 12) (C : CB κ cX0_pass 6 RX0 1 23) (X : XC κ O) (Rt : XRV κ O (fun σ' => PS σ σ' p ℓ 6)) (hb : bnd σ) : J κ 6 (xW O σ) 0 [(0, .ref (oh O)), (1, .int (iI zp)), (2, .int (iI zl))] [] := by
  have K18 : ∀ (k w : Nat) (σ1 : St) (z4 : Int) (b : Nat) (zb : Int), z4 = (w : Int) → zb = (b : Int) → 6 < w + k → w ≤ 6 → ((p < 216 ∧ b = 0) ∨ (216 ≤ p ∧ b = 216)) → PS σ σ1 p ℓ w → J κ 6 (xW O σ1) 18 [(0, .ref (oh O)), (1, .int (iI zp)), (2, .int (iI zl)), (3, .int (iI zb)), (4, .int (iI z4))] [] := by
    intro k
    induction k with
    | zero => intros; omega
    | succ k ih =>
      intro w σ1 z4 b zb hz4 hzb hk hw6 hab hP
      have e0 : σ1 0 = σ 0 := hP.1 0 (by decide) (by decide)
      refine j_iload C 4 dX0_pass_18 rfl ?_
      refine j_bipush C dX0_pass_20 (by decide) ?_
      refine j_icmp_ge C (tgt := 94) dX0_pass_22 (by decide) (by omega) (by omega) (fun hc22 => ?_) (fun hc22 => ?_)
      · exact x_vret C X Rt (by have e6 : w = 6 := (by omega); subst e6; exact hP) dX0_pass_94
      · refine j_iload_n C 1 dX0_pass_25 rfl rfl ?_
        refine j_iload_n C 3 dX0_pass_26 rfl rfl ?_
        refine j_isub C dX0_pass_27 ?_
        refine j_iload C 4 dX0_pass_28 rfl ?_
        refine x_callS C X (m_nb _ (p - b) w _ _ (by omega) (by omega) (by omega) (by omega)) 2 rfl (lw_S q81 q82 q19 q83) (by decide +kernel) (by decide) dX0_pass_30 rfl (Nat.le_of_ble_eq_true rfl) (fun r hp2 => ?_)
        subst hp2
        rcases nbr_rg (show p - b < 216 by omega) (show w < 6 by omega) with e | ⟨d, hd, e, e2⟩
        · rw [e]
          have hpn := pnb_no hab e
          refine j_istore C [1, 2, 3, 4, 5, 0] (L' := [(0, _), (1, _), (2, _), (3, _), (4, _), (5, _)]) dX0_pass_33 (by decide) rfl ?_
          refine j_iload C 5 dX0_pass_35 rfl ?_
          refine j_iconst C dX0_pass_37 ?_
          refine j_icmp_eq_t C (tgt := 88) dX0_pass_38 (by decide) (by omega) (by omega) (by omega) ?_
          refine j_iinc C 4 [1, 2, 3, 4, 0, 5] (L' := [(0, _), (1, _), (2, _), (3, _), (4, _), (5, _)]) dX0_pass_88 rfl (by decide) rfl ?_
          refine j_goto C (tgt := 18) dX0_pass_91 (by decide) ?_
          refine j_sub [0, 1, 2, 3, 4] (L' := [(0, _), (1, _), (2, _), (3, _), (4, _)]) rfl ?_
          exact ih (w + 1) σ1 _ b _ (by omega) hzb (by omega) (by omega) hab (ps_skip hP (fun q _ e => absurd e (by omega)))
        · rw [e]
          have hpn := pnb_of hp hab e
          have hbd : b + d < 432 := by omega
          have hsd : sol σ (b + d) = σ1 0 d := by rw [e0]; exact sol_bd hd (by omega)
          refine j_istore C [1, 2, 3, 4, 5, 0] (L' := [(0, _), (1, _), (2, _), (3, _), (4, _), (5, _)]) dX0_pass_33 (by decide) rfl ?_
          refine j_iload C 5 dX0_pass_35 rfl ?_
          refine j_iconst C dX0_pass_37 ?_
          refine j_icmp_eq_f C dX0_pass_38 (by omega) (by omega) (tgt := 88) (by decide) (by omega) ?_
          refine j_aload_n C 0 dX0_pass_41 rfl rfl ?_
          refine x_get C X 0 (by decide) q29 rfl dX0_pass_42 ?_
          refine j_iload C 5 dX0_pass_45 rfl ?_
          refine x_zld C X 0 216 (d) rfl rfl (by decide) (by omega) (by omega) dX0_pass_47 (fun hb47 => ?_)
          refine j_if_ne C (tgt := 88) dX0_pass_48 (by decide) (by omega) (fun hc48 => ?_) (fun hc48 => ?_)
          · refine j_iinc C 4 [1, 2, 3, 4, 0, 5] (L' := [(0, _), (1, _), (2, _), (3, _), (4, _), (5, _)]) dX0_pass_88 rfl (by decide) rfl ?_
            refine j_goto C (tgt := 18) dX0_pass_91 (by decide) ?_
            refine j_sub [0, 1, 2, 3, 4] (L' := [(0, _), (1, _), (2, _), (3, _), (4, _)]) rfl ?_
            exact ih (w + 1) σ1 _ b _ (by omega) hzb (by omega) (by omega) hab (ps_skip hP (fun q _ e hs => by
              have eq : q = b + d := by omega
              subst eq
              omega))
          · refine j_aload_n C 0 dX0_pass_51 rfl rfl ?_
            refine x_get C X 3 (by decide) q32 rfl dX0_pass_52 ?_
            refine j_iload_n C 3 dX0_pass_55 rfl rfl ?_
            refine j_iload C 5 dX0_pass_56 rfl ?_
            refine j_iadd C dX0_pass_58 ?_
            refine x_ild C X 3 432 (b + d) rfl rfl (by decide) (by omega) (by omega) dX0_pass_59 (fun hb59 => ?_)
            refine j_iload_n C 2 dX0_pass_60 rfl rfl ?_
            refine j_iconst C dX0_pass_61 ?_
            refine j_isub C dX0_pass_62 ?_
            refine j_icmp_ge C (tgt := 88) dX0_pass_63 (by decide) (by omega) (by omega) (fun hc63 => ?_) (fun hc63 => ?_)
            · refine j_iinc C 4 [1, 2, 3, 4, 0, 5] (L' := [(0, _), (1, _), (2, _), (3, _), (4, _), (5, _)]) dX0_pass_88 rfl (by decide) rfl ?_
              refine j_goto C (tgt := 18) dX0_pass_91 (by decide) ?_
              refine j_sub [0, 1, 2, 3, 4] (L' := [(0, _), (1, _), (2, _), (3, _), (4, _)]) rfl ?_
              exact ih (w + 1) σ1 _ b _ (by omega) hzb (by omega) (by omega) hab (ps_skip hP (fun q _ e hs => by
                have eq : q = b + d := by omega
                subst eq
                omega))
            · refine j_aload_n C 0 dX0_pass_66 rfl rfl ?_
              refine x_get C X 3 (by decide) q32 rfl dX0_pass_67 ?_
              refine j_iload_n C 3 dX0_pass_70 rfl rfl ?_
              refine j_iload C 5 dX0_pass_71 rfl ?_
              refine j_iadd C dX0_pass_73 ?_
              refine j_iload_n C 2 dX0_pass_74 rfl rfl ?_
              refine j_iconst C dX0_pass_75 ?_
              refine j_isub C dX0_pass_76 ?_
              refine x_ist C X 3 432 (b + d) (ℓ - 1) rfl rfl xset_3 (by decide) (by omega) (by omega) (by omega) (by omega) dX0_pass_77 ?_
              refine j_aload_n C 0 dX0_pass_78 rfl rfl ?_
              refine x_get C X 4 (by decide) q33 rfl dX0_pass_79 ?_
              refine j_iload_n C 3 dX0_pass_82 rfl rfl ?_
              refine j_iload C 5 dX0_pass_83 rfl ?_
              refine j_iadd C dX0_pass_85 ?_
              refine j_iconst C dX0_pass_86 ?_
              refine x_zst C X 4 432 (b + d) (1) rfl rfl xset_4 (by decide) (by omega) (by omega) (by omega) (by omega) dX0_pass_87 ?_
              refine j_iinc C 4 [1, 2, 3, 4, 0, 5] (L' := [(0, _), (1, _), (2, _), (3, _), (4, _), (5, _)]) dX0_pass_88 rfl (by decide) rfl ?_
              refine j_goto C (tgt := 18) dX0_pass_91 (by decide) ?_
              refine j_sub [0, 1, 2, 3, 4] (L' := [(0, _), (1, _), (2, _), (3, _), (4, _)]) rfl ?_
              exact ih (w + 1) _ _ b _ (by omega) hzb (by omega) (by omega) hab (ps_set hP hbd hpn (by omega) (by omega))
  refine j_iload_n C 1 dX0_pass_0 rfl rfl ?_
  refine j_sipush C dX0_pass_1 (by decide) ?_
  refine j_icmp_ge C (tgt := 11) dX0_pass_4 (by decide) (by omega) (by omega) (fun hc4 => ?_) (fun hc4 => ?_)
  · refine j_sipush C dX0_pass_11 (by decide) ?_
    refine j_istore_n C [1, 2, 3, 0] (L' := [(0, _), (1, _), (2, _), (3, _)]) dX0_pass_14 rfl (by decide) rfl ?_
    refine j_iconst C dX0_pass_15 ?_
    refine j_istore C [1, 2, 3, 4, 0] (L' := [(0, _), (1, _), (2, _), (3, _), (4, _)]) dX0_pass_16 (by decide) rfl ?_
    exact K18 7 0 σ _ 216 _ (by omega) (by omega) (by omega) (by omega) (by omega) (ps_0 σ p ℓ)
  · refine j_iconst C dX0_pass_7 ?_
    refine j_goto C (tgt := 14) dX0_pass_8 (by decide) ?_
    refine j_istore_n C [1, 2, 3, 0] (L' := [(0, _), (1, _), (2, _), (3, _)]) dX0_pass_14 rfl (by decide) rfl ?_
    refine j_iconst C dX0_pass_15 ?_
    refine j_istore C [1, 2, 3, 4, 0] (L' := [(0, _), (1, _), (2, _), (3, _), (4, _)]) dX0_pass_16 (by decide) rfl ?_
    exact K18 7 0 σ _ 0 _ (by omega) (by omega) (by omega) (by omega) (by omega) (ps_0 σ p ℓ)
theorem m_pass (l : Launch) (O : XO) (σ : St) (p ℓ : Nat) (zp zl : Int) (hzp : zp = (p : Int)) (hzl : zl = (ℓ : Int)) (hp : p < 432) (hl : 1 ≤ ℓ ∧ ℓ ≤ 12) : XMv l O yX0_pass cX0_pass 6 1 23 [.int (iI zp), .int (iI zl)] σ (fun σ' => PS σ σ' p ℓ 6) := by
  refine XMv.of (by decide) rfl (Nat.le_of_ble_eq_true rfl) ?_
  intro κ A H0 hκ C X Rt hb
  exact w_pass (O := (oD O, A, H0, O.2.2.2)) p ℓ zp zl hzp hzl hp hl C X Rt hb
set_option maxHeartbeats 4000000 in
theorem w_flow {κ : Kx} {O : XO} {σ : St} (hM : MID σ) (hla : ∀ c, c < 216 → σ 1 c ≤ 12) (C : CB κ cX0_flow 3 RX0 2 48) (X : XC κ O) (Rt : XRV κ O (fun σ' => FLO σ σ')) (hb : bnd σ) : J κ 3 (xW O σ) 0 [(0, .ref (oh O))] [] := by
  have K118 : ∀ (σ2 : St), GF σ2 0 0 → (∀ k, k ≠ 3 → k ≠ 4 → σ2 k = σ k) → ∀ (n i : Nat) (σ1 : St) (z1 : Int), z1 = (i : Int) → 432 < i + n → i ≤ 432 → (∀ k, k ≠ 4 → σ1 k = σ2 k) → (∀ p, p < i → σ1 4 p = 0) → J κ 3 (xW O σ1) 118 [(0, .ref (oh O)), (1, .int (iI z1))] [] := by
    intro σ2 hG hF n
    induction n with
    | zero => intros; omega
    | succ n ih =>
      intro i σ1 z1 hz1 hn hi h1 h2
      refine j_iload_n C 1 dX0_flow_118 rfl rfl ?_
      refine j_sipush C dX0_flow_119 (by decide) ?_
      refine j_icmp_ge C (tgt := 138) dX0_flow_122 (by decide) (by omega) (by omega) (fun hc122 => ?_) (fun hc122 => ?_)
      · exact x_vret C X Rt (⟨pg_of hG h1, fun p hp => h2 p (by omega), fun k h3 h4 => by rw [h1 k h4]; exact hF k h3 h4⟩) dX0_flow_138
      · refine j_aload_n C 0 dX0_flow_125 rfl rfl ?_
        refine x_get C X 4 (by decide) q33 rfl dX0_flow_126 ?_
        refine j_iload_n C 1 dX0_flow_129 rfl rfl ?_
        refine j_iconst C dX0_flow_130 ?_
        refine x_zst C X 4 432 (i) (0) rfl rfl xset_4 (by decide) (by omega) (by omega) (by omega) (by omega) dX0_flow_131 ?_
        refine j_iinc C 1 [1, 0] (L' := [(0, _), (1, _)]) dX0_flow_132 rfl (by decide) rfl ?_
        refine j_goto C (tgt := 118) dX0_flow_135 (by decide) ?_
        exact ih (i + 1) _ _ (by omega) (by omega) (by omega) (fun k hk => by rw [s2_ne hk]; exact h1 k hk) (fun p hp => by
          rw [s2_eq]
          split
          · rfl
          · exact h2 p (by omega))
  have K59 : ∀ (ℓ : Nat) (σ1 : St) (z1 : Int), z1 = (ℓ : Int) → ℓ ≤ 12 → (∀ k, k ≠ 3 → k ≠ 4 → σ1 k = σ k) → GF σ1 ℓ 0 → J κ 3 (xW O σ1) 59 [(0, .ref (oh O)), (1, .int (iI z1))] [] := by
    intro ℓ
    induction ℓ with
    | zero =>
      intro σ1 z1 hz1 hl hF hG
      refine j_iload_n C 1 dX0_flow_59 rfl rfl ?_
      refine j_if_le_t C (tgt := 116) dX0_flow_60 (by decide) (by omega) (by omega) ?_
      refine j_iconst C dX0_flow_116 ?_
      refine j_istore_n C [1, 0] (L' := [(0, _), (1, _)]) dX0_flow_117 rfl (by decide) rfl ?_
      exact K118 σ1 hG hF 433 0 σ1 _ (by omega) (by omega) (by omega) (fun _ _ => rfl) (fun p hp => absurd hp (Nat.not_lt_zero _))
    | succ ℓ ihl =>
      intro σ1 z1 hz1 hl hF hG
      have K65 : ∀ (n i : Nat) (σ2 : St) (z2 : Int), z2 = (i : Int) → 432 < i + n → i ≤ 432 → (∀ k, k ≠ 3 → k ≠ 4 → σ2 k = σ k) → GF σ2 (ℓ + 1) i → J κ 3 (xW O σ2) 65 [(0, .ref (oh O)), (1, .int (iI z1)), (2, .int (iI z2))] [] := by
        intro n
        induction n with
        | zero => intros; omega
        | succ n ih =>
          intro i σ2 z2 hz2 hn hi hF2 hG2
          refine j_iload_n C 2 dX0_flow_65 rfl rfl ?_
          refine j_sipush C dX0_flow_66 (by decide) ?_
          refine j_icmp_ge C (tgt := 110) dX0_flow_69 (by decide) (by omega) (by omega) (fun hc69 => ?_) (fun hc69 => ?_)
          · refine j_iinc C 1 [1, 0, 2] (L' := [(0, _), (1, _), (2, _)]) dX0_flow_110 rfl (by decide) rfl ?_
            refine j_goto C (tgt := 59) dX0_flow_113 (by decide) ?_
            refine j_sub [0, 1] (L' := [(0, _), (1, _)]) rfl ?_
            have e6 : i = 432 := by omega
            subst e6
            exact ihl σ2 _ (by omega) (by omega) hF2 (gf_next hG2)
          · refine j_aload_n C 0 dX0_flow_72 rfl rfl ?_
            refine x_get C X 4 (by decide) q33 rfl dX0_flow_73 ?_
            refine j_iload_n C 2 dX0_flow_76 rfl rfl ?_
            refine x_zld C X 4 432 (i) rfl rfl (by decide) (by omega) (by omega) dX0_flow_77 (fun hb77 => ?_)
            refine j_if_eq C (tgt := 104) dX0_flow_78 (by decide) (by omega) (fun hc78 => ?_) (fun hc78 => ?_)
            · refine j_iinc C 2 [1, 2, 0] (L' := [(0, _), (1, _), (2, _)]) dX0_flow_104 rfl (by decide) rfl ?_
              refine j_goto C (tgt := 65) dX0_flow_107 (by decide) ?_
              exact ih (i + 1) σ2 _ (by omega) (by omega) (by omega) hF2 (gf_skip hG2 (Or.inl (by omega)))
            · refine j_aload_n C 0 dX0_flow_81 rfl rfl ?_
              refine x_get C X 3 (by decide) q32 rfl dX0_flow_82 ?_
              refine j_iload_n C 2 dX0_flow_85 rfl rfl ?_
              refine x_ild C X 3 432 (i) rfl rfl (by decide) (by omega) (by omega) dX0_flow_86 (fun hb86 => ?_)
              refine j_iload_n C 1 dX0_flow_87 rfl rfl ?_
              refine j_icmp_ne C (tgt := 104) dX0_flow_88 (by decide) (by omega) (by omega) (fun hc88 => ?_) (fun hc88 => ?_)
              · refine j_iinc C 2 [1, 2, 0] (L' := [(0, _), (1, _), (2, _)]) dX0_flow_104 rfl (by decide) rfl ?_
                refine j_goto C (tgt := 65) dX0_flow_107 (by decide) ?_
                exact ih (i + 1) σ2 _ (by omega) (by omega) (by omega) hF2 (gf_skip hG2 (Or.inr (by omega)))
              · refine j_aload_n C 0 dX0_flow_91 rfl rfl ?_
                refine x_get C X 4 (by decide) q33 rfl dX0_flow_92 ?_
                refine j_iload_n C 2 dX0_flow_95 rfl rfl ?_
                refine j_iconst C dX0_flow_96 ?_
                refine x_zst C X 4 432 (i) (0) rfl rfl xset_4 (by decide) (by omega) (by omega) (by omega) (by omega) dX0_flow_97 ?_
                refine j_aload_n C 0 dX0_flow_98 rfl rfl ?_
                refine j_iload_n C 2 dX0_flow_99 rfl rfl ?_
                refine j_iload_n C 1 dX0_flow_100 rfl rfl ?_
                refine x_callv C X (m_pass _ O (s2 σ2 4 i 0) i (ℓ + 1) _ _ (by omega) (by omega) (by omega) (by omega)) 2 rfl (lw_V q92 q94 qs5 q19 q95) (by decide +kernel) (by decide) dX0_flow_101 rfl (Nat.le_of_ble_eq_true rfl) (fun σ3 hps => ?_)
                refine j_iinc C 2 [1, 2, 0] (L' := [(0, _), (1, _), (2, _)]) dX0_flow_104 rfl (by decide) rfl ?_
                refine j_goto C (tgt := 65) dX0_flow_107 (by decide) ?_
                obtain ⟨g1, g2⟩ := gf_pass hG2 (by omega) (by omega) (by omega) hps
                exact ih (i + 1) σ3 _ (by omega) (by omega) (by omega) (fun k h3 h4 => by rw [g2 k h3 h4]; exact hF2 k h3 h4) g1
      refine j_iload_n C 1 dX0_flow_59 rfl rfl ?_
      refine j_if_le_f C dX0_flow_60 (by omega) (tgt := 116) (by decide) (by omega) ?_
      refine j_iconst C dX0_flow_63 ?_
      refine j_istore_n C [1, 2, 0] (L' := [(0, _), (1, _), (2, _)]) dX0_flow_64 rfl (by decide) rfl ?_
      exact K65 433 0 σ1 _ (by omega) (by omega) (by omega) hF hG
  have K2 : ∀ (n i : Nat) (σ1 : St) (z1 : Int), z1 = (i : Int) → 432 < i + n → i ≤ 432 → F1 σ σ1 i → J κ 3 (xW O σ1) 2 [(0, .ref (oh O)), (1, .int (iI z1))] [] := by
    intro n
    induction n with
    | zero => intros; omega
    | succ n ih =>
      intro i σ1 z1 hz1 hn hi hF
      have e4 : σ1 4 i = σ 4 i := by rw [hF.1 4 (by decide)]
      have es : srcv σ1 i = srcv σ i := srcv_congr (hF.1 1 (by decide)) (hF.1 2 (by decide)) i
      refine j_iload_n C 1 dX0_flow_2 rfl rfl ?_
      refine j_sipush C dX0_flow_3 (by decide) ?_
      refine j_icmp_ge C (tgt := 56) dX0_flow_6 (by decide) (by omega) (by omega) (fun hc6 => ?_) (fun hc6 => ?_)
      · refine j_bipush C dX0_flow_56 (by decide) ?_
        refine j_istore_n C [1, 0] (L' := [(0, _), (1, _)]) dX0_flow_58 rfl (by decide) rfl ?_
        have e6 : i = 432 := by omega
        subst e6
        exact K59 12 σ1 _ rfl (by omega) (fun k h3 _ => hF.1 k h3) (gf_start hM hF hla)
      · refine j_aload_n C 0 dX0_flow_9 rfl rfl ?_
        refine x_get C X 4 (by decide) q33 rfl dX0_flow_10 ?_
        refine j_iload_n C 1 dX0_flow_13 rfl rfl ?_
        refine x_zld C X 4 432 (i) rfl rfl (by decide) (by omega) (by omega) dX0_flow_14 (fun hb14 => ?_)
        refine j_if_eq C (tgt := 50) dX0_flow_15 (by decide) (by omega) (fun hc15 => ?_) (fun hc15 => ?_)
        · refine j_iinc C 1 [1, 0] (L' := [(0, _), (1, _)]) dX0_flow_50 rfl (by decide) rfl ?_
          refine j_goto C (tgt := 2) dX0_flow_53 (by decide) ?_
          exact ih (i + 1) σ1 _ (by omega) (by omega) (by omega) (f1_skip hF (by omega))
        · refine j_aload_n C 0 dX0_flow_18 rfl rfl ?_
          refine j_iload_n C 1 dX0_flow_19 rfl rfl ?_
          refine x_calli C X (m_source _ O σ1 i _ (by omega) (by omega)) 1 rfl (lw_V q88 q90 qs4 q19 q91) (by decide +kernel) (by decide) dX0_flow_20 rfl (Nat.le_of_ble_eq_true rfl) (fun r σ2 hps => ?_)
          obtain ⟨rfl, rfl⟩ := hps
          have hs8 : srcv σ2 i ≤ 432 := by rw [es]; unfold srcv; have := hla i; (repeat' split) <;> omega
          refine j_istore_n C [1, 2, 0] (L' := [(0, _), (1, _), (2, _)]) dX0_flow_23 rfl (by decide) rfl ?_
          refine j_aload_n C 0 dX0_flow_24 rfl rfl ?_
          refine x_get C X 3 (by decide) q32 rfl dX0_flow_25 ?_
          refine j_iload_n C 1 dX0_flow_28 rfl rfl ?_
          refine j_iload_n C 2 dX0_flow_29 rfl rfl ?_
          refine j_aload_n C 0 dX0_flow_30 rfl rfl ?_
          refine x_get C X 3 (by decide) q32 rfl dX0_flow_31 ?_
          refine j_iload_n C 1 dX0_flow_34 rfl rfl ?_
          refine x_ild C X 3 432 (i) rfl rfl (by decide) (by omega) (by omega) dX0_flow_35 (fun hb35 => ?_)
          refine j_icmp_le C (tgt := 43) dX0_flow_36 (by decide) (by omega) (by omega) (fun hc36 => ?_) (fun hc36 => ?_)
          · refine j_aload_n C 0 dX0_flow_43 rfl rfl ?_
            refine x_get C X 3 (by decide) q32 rfl dX0_flow_44 ?_
            refine j_iload_n C 1 dX0_flow_47 rfl rfl ?_
            refine x_ild C X 3 432 (i) rfl rfl (by decide) (by omega) (by omega) dX0_flow_48 (fun hb48 => ?_)
            refine x_ist C X 3 432 (i) (σ2 3 i) rfl rfl xset_3 (by decide) (by omega) (by omega) (by omega) (by omega) dX0_flow_49 ?_
            refine j_iinc C 1 [1, 0, 2] (L' := [(0, _), (1, _), (2, _)]) dX0_flow_50 rfl (by decide) rfl ?_
            refine j_goto C (tgt := 2) dX0_flow_53 (by decide) ?_
            refine j_sub [0, 1] (L' := [(0, _), (1, _)]) rfl ?_
            exact ih (i + 1) _ _ (by omega) (by omega) (by omega) (f1_set hF (by omega) (by omega) (Or.inr ⟨rfl, by omega⟩))
          · refine j_iload_n C 2 dX0_flow_39 rfl rfl ?_
            refine j_goto C (tgt := 49) dX0_flow_40 (by decide) ?_
            refine x_ist C X 3 432 (i) (srcv σ i) rfl rfl xset_3 (by decide) (by omega) (by omega) (by omega) (by omega) dX0_flow_49 ?_
            refine j_iinc C 1 [1, 0, 2] (L' := [(0, _), (1, _), (2, _)]) dX0_flow_50 rfl (by decide) rfl ?_
            refine j_goto C (tgt := 2) dX0_flow_53 (by decide) ?_
            refine j_sub [0, 1] (L' := [(0, _), (1, _)]) rfl ?_
            exact ih (i + 1) _ _ (by omega) (by omega) (by omega) (f1_set hF (by omega) (by omega) (Or.inl ⟨rfl, by omega⟩))
  refine j_iconst C dX0_flow_0 ?_
  refine j_istore_n C [1, 0] (L' := [(0, _), (1, _)]) dX0_flow_1 rfl (by decide) rfl ?_
  exact K2 433 0 σ _ (by omega) (by omega) (by omega) (f1_0 σ)
theorem m_flow (l : Launch) (O : XO) (σ : St) (hM : MID σ) (hla : ∀ c, c < 216 → σ 1 c ≤ 12) : XMv l O yX0_flow cX0_flow 3 2 48 [] σ (fun σ' => FLO σ σ') := by
  refine XMv.of (by decide) rfl (Nat.le_of_ble_eq_true rfl) ?_
  intro κ A H0 hκ C X Rt hb
  exact w_flow (O := (oD O, A, H0, O.2.2.2)) hM hla C X Rt hb
def LPO (σ σ1 : St) (c v : Nat) : Prop := GI σ1 ∧ σ1 0 = σ 0 ∧ σ1 1 = s2 σ 1 c v 1 ∧ σ1 2 = σ 2 ∧ σ1 7 = σ 7 ∧ σ1 8 = σ 8
theorem lamp_post {σ σ1 σ2 : St} {c v : Nat} (hG : GI σ) (hc : c < 216) (hv : v ≤ 12) (hT : TAO σ σ1 c) (hf : FLO (s2 (s2 σ1 1 c v) 4 c 1) σ2) : LPO σ σ2 c v := by
  obtain ⟨p1, p2, p3⟩ := hf
  have f1 : ∀ k, k ≠ 3 → k ≠ 4 → k ≠ 5 → k ≠ 6 → k ≠ 9 → σ1 k = σ k := hT.1
  have e0 : σ2 0 = σ 0 := by rw [p3 0 (by decide) (by decide), s2_ne (by decide), s2_ne (by decide), f1 0 (by decide) (by decide) (by decide) (by decide) (by decide)]
  have e2 : σ2 2 = σ 2 := by rw [p3 2 (by decide) (by decide), s2_ne (by decide), s2_ne (by decide), f1 2 (by decide) (by decide) (by decide) (by decide) (by decide)]
  have e7 : σ2 7 = σ 7 := by rw [p3 7 (by decide) (by decide), s2_ne (by decide), s2_ne (by decide), f1 7 (by decide) (by decide) (by decide) (by decide) (by decide)]
  have e8 : σ2 8 = σ 8 := by rw [p3 8 (by decide) (by decide), s2_ne (by decide), s2_ne (by decide), f1 8 (by decide) (by decide) (by decide) (by decide) (by decide)]
  have e1 : σ2 1 = s2 σ 1 c v 1 := by
    rw [p3 1 (by decide) (by decide), s2_ne (by decide)]
    funext x
    rw [s2_eq, s2_eq, f1 1 (by decide) (by decide) (by decide) (by decide) (by decide)]
  refine ⟨⟨fun x hx => ?_, ?_, p1, p2⟩, e0, e1, e2, e7, e8⟩
  · rw [e0, e1, s2_eq]
    have := hG.1 x hx
    refine ⟨this.1, ?_⟩
    split <;> omega
  · rw [e0, e2]
    exact hG.2.1
set_option maxHeartbeats 4000000 in
theorem w_setLamp {κ : Kx} {O : XO} {σ : St} (c v : Nat) (zc zv : Int) (hzc : zc = (c : Int)) (hzv : zv = (v : Int)) (hc : c < 216) (hv : v ≤ 12) (hG : GI σ) (C : CB κ cX0_setLamp 3 RX0 3 70) (X : XC κ O) (Rt : XRV κ O (fun σ' => LPO σ σ' c v)) (hb : bnd σ) : J κ 3 (xW O σ) 0 [(0, .ref (oh O)), (1, .int (iI zc)), (2, .int (iI zv))] [] := by
  have hM := gi_mid hG
  refine j_aload_n C 0 dX0_setLamp_0 rfl rfl ?_
  refine j_iload_n C 1 dX0_setLamp_1 rfl rfl ?_
  refine x_callv C X (m_takeAway _ O σ c _ (by omega) (by omega) hM) 1 rfl (lw_V q73 q75 qs1 q19 q76) (by decide +kernel) (by decide) dX0_setLamp_2 rfl (Nat.le_of_ble_eq_true rfl) (fun σ1 hT => ?_)
  have f1 : ∀ k, k ≠ 3 → k ≠ 4 → k ≠ 5 → k ≠ 6 → k ≠ 9 → σ1 k = σ k := hT.1
  have hL : ∀ x, x < 216 → s2 (s2 σ1 1 c v) 4 c 1 1 x ≤ 12 := by
    intro x hx
    rw [s2_ne (by decide), s2_eq, f1 1 (by decide) (by decide) (by decide) (by decide) (by decide)]
    have := (hG.1 x hx).2
    split <;> omega
  refine j_aload_n C 0 dX0_setLamp_5 rfl rfl ?_
  refine x_get C X 1 (by decide) q30 rfl dX0_setLamp_6 ?_
  refine j_iload_n C 1 dX0_setLamp_9 rfl rfl ?_
  refine j_iload_n C 2 dX0_setLamp_10 rfl rfl ?_
  refine x_ist C X 1 216 (c) (v) rfl rfl xset_1 (by decide) (by omega) (by omega) (by omega) (by omega) dX0_setLamp_11 ?_
  refine j_aload_n C 0 dX0_setLamp_12 rfl rfl ?_
  refine x_get C X 4 (by decide) q33 rfl dX0_setLamp_13 ?_
  refine j_iload_n C 1 dX0_setLamp_16 rfl rfl ?_
  refine j_iconst C dX0_setLamp_17 ?_
  refine x_zst C X 4 432 (c) (1) rfl rfl xset_4 (by decide) (by omega) (by omega) (by omega) (by omega) dX0_setLamp_18 ?_
  refine j_aload_n C 0 dX0_setLamp_19 rfl rfl ?_
  refine x_callv C X (m_flow _ O (s2 (s2 σ1 1 c v) 4 c 1) (lamp_mid hc hT) hL) 0 rfl (lw_V q84 q86 qs3 q19 q87) (by decide +kernel) (by decide) dX0_setLamp_20 rfl (Nat.le_of_ble_eq_true rfl) (fun σ2 hf => ?_)
  exact x_vret C X Rt (lamp_post hG hc hv hT hf) dX0_setLamp_23
theorem m_setLamp (l : Launch) (O : XO) (σ : St) (c v : Nat) (zc zv : Int) (hzc : zc = (c : Int)) (hzv : zv = (v : Int)) (hc : c < 216) (hv : v ≤ 12) (hG : GI σ) : XMv l O yX0_setLamp cX0_setLamp 3 3 70 [.int (iI zc), .int (iI zv)] σ (fun σ' => LPO σ σ' c v) := by
  refine XMv.of (by decide) rfl (Nat.le_of_ble_eq_true rfl) ?_
  intro κ A H0 hκ C X Rt hb
  exact w_setLamp (O := (oD O, A, H0, O.2.2.2)) c v zc zv hzc hzv hc hv hG C X Rt hb
end
section
/-! a cell becomes solid or open -/
def CA (σ σ1 : St) (c : Nat) (z : Int) : Prop := MID σ1 ∧ (∀ k, k ≠ 3 → k ≠ 4 → k ≠ 5 → k ≠ 6 → k ≠ 9 → σ1 k = σ k) ∧ σ1 3 c = 0 ∧ σ1 3 (216 + c) = 0 ∧ ∀ x : Nat, x ≤ c → x % 36 = c % 36 → z < (x : Int) → σ 2 x = 1 → σ1 3 (216 + x) = 0
theorem ca_0 {σ σ1 σ2 : St} {c : Nat} (hc : c < 216) (h1 : TAO σ σ1 c) (h2 : TAO σ1 σ2 (216 + c)) : CA σ σ2 c (c : Int) := by
  refine ⟨h2.2.2.2.2, fun k a b d e f => by rw [h2.1 k a b d e f, h1.1 k a b d e f], ?_, h2.2.2.2.1, fun x a b d => by omega⟩
  have g := h1.2.2.2.1
  rcases h2.2.1 c (by omega) with k | k
  · rw [k]; exact g
  · exact k
theorem ca_skip {σ σ1 : St} {c b : Nat} {z : Int} (hz : z = (b : Int)) (hm : b % 36 = c % 36) (h : CA σ σ1 c z) (hb : σ 2 b ≠ 1) : CA σ σ1 c (z - 36) := by
  obtain ⟨h1, h2, h3, h4, h5⟩ := h
  refine ⟨h1, h2, h3, h4, fun x a e f g => ?_⟩
  by_cases eq : x = b
  · subst eq
    exact absurd g hb
  · exact h5 x a e (by omega) g
theorem ca_take {σ σ1 σ2 : St} {c b : Nat} {z : Int} (hc : c < 216) (hz : z = (b : Int)) (hm : b % 36 = c % 36) (h : CA σ σ1 c z) (hT : TAO σ1 σ2 (216 + b)) : CA σ σ2 c (z - 36) := by
  obtain ⟨h1, h2, h3, h4, h5⟩ := h
  obtain ⟨t1, t2, t3, t4, t5⟩ := hT
  have z0 : ∀ p, p < 432 → σ1 3 p = 0 → σ2 3 p = 0 := by
    intro p hp e
    rcases t2 p hp with k | k
    · rw [k]; exact e
    · exact k
  refine ⟨t5, fun k a b d e f => by rw [t1 k a b d e f, h2 k a b d e f], z0 c (by omega) h3, z0 _ (by omega) h4, fun x a e f g => ?_⟩
  by_cases eq : x = b
  · subst eq
    exact t4
  · exact z0 _ (by omega) (h5 x a e (by omega) g)
def CBI (σ2 σ3 : St) (c : Nat) (z : Int) (sky : Nat) : Prop := (∀ k, k ≠ 2 → k ≠ 4 → σ3 k = σ2 k) ∧
  (∀ x : Nat, x < 216 → x ≤ c → x % 36 = c % 36 → z < (x : Int) → σ3 2 x ≤ 1 ∧ (σ3 2 x = 1 ↔ σ2 0 x = 0 ∧ (x + 36 < 216 → σ3 2 (x + 36) = 1)) ∧ σ3 4 (216 + x) = 1) ∧
  (∀ x : Nat, x < 216 → ¬ (x ≤ c ∧ x % 36 = c % 36 ∧ z < (x : Int)) → σ3 2 x = σ2 2 x) ∧
  (∀ p, p < 432 → (σ2 4 p = 1 → σ3 4 p = 1) ∧ σ3 4 p ≤ 1) ∧
  sky ≤ 1 ∧ (sky = 1 ↔ ∀ y : Nat, (y : Int) = z + 36 → y < 216 → σ3 2 y = 1)
theorem cb_0 {σ2 : St} {c sky : Nat} (h4 : ∀ p, p < 432 → σ2 4 p ≤ 1) (hs : sky ≤ 1) (hk : sky = 1 ↔ (c + 36 < 216 → σ2 2 (c + 36) = 1)) : CBI σ2 σ2 c (c : Int) sky := by
  refine ⟨fun _ _ _ => rfl, fun x a b d e => by omega, fun _ _ _ => rfl, fun p hp => ⟨fun h => h, h4 p hp⟩, hs, hk.trans ⟨fun h y e1 e2 => ?_, fun h e => h (c + 36) (by omega) e⟩⟩
  have : y = c + 36 := by omega
  subst this
  exact h e2
theorem cb_step {σ2 σ3 : St} {c b sky sky2 : Nat} {z : Int} (hc : c < 216) (hz : z = (b : Int)) (hbc : b ≤ c) (hm : b % 36 = c % 36) (h : CBI σ2 σ3 c z sky) (hs : sky2 ≤ 1) (hk : sky2 = 1 ↔ sky = 1 ∧ σ3 0 b = 0) : CBI σ2 (s2 (s2 σ3 2 b sky2) 4 (216 + b) 1) c (z - 36) sky2 := by
  obtain ⟨h1, h2, h3, h4, h5, h6⟩ := h
  have e2 : ∀ x, s2 (s2 σ3 2 b sky2) 4 (216 + b) 1 2 x = if x = b then sky2 else σ3 2 x := fun x => by rw [s2_ne (by decide), s2_eq]
  have e4 : ∀ x, s2 (s2 σ3 2 b sky2) 4 (216 + b) 1 4 x = if x = 216 + b then 1 else σ3 4 x := fun x => by rw [s2_eq, s2_ne (by decide)]
  have e0 : σ3 0 b = σ2 0 b := by rw [h1 0 (by decide) (by decide)]
  refine ⟨fun k a d => by rw [s2_ne d, s2_ne a]; exact h1 k a d, fun x a d e f => ?_, fun x a d => ?_, fun p hp => ?_, hs, ?_⟩
  · rw [e2, e2, e4]
    by_cases eq : x = b
    · subst eq
      simp only [if_true]
      refine ⟨hs, ?_, trivial⟩
      rw [hk, if_neg (by omega), h6, e0]
      constructor
      · rintro ⟨g1, g2⟩
        exact ⟨g2, fun g3 => g1 (x + 36) (by omega) g3⟩
      · rintro ⟨g1, g2⟩
        refine ⟨fun y e1 e3 => ?_, g1⟩
        have : y = x + 36 := by omega
        subst this
        exact g2 e3
    · have g := h2 x a d e (by omega)
      rw [if_neg eq, if_neg (by omega), if_neg (by omega)]
      exact g
  · rw [e2]
    have : x ≠ b := fun eq => d (by omega)
    rw [if_neg this]
    exact h3 x a (fun g => d (by omega))
  · rw [e4]
    have g := h4 p hp
    split
    · exact ⟨fun _ => rfl, by omega⟩
    · exact g
  · constructor
    · intro g y e1 _
      have : y = b := by omega
      subst this
      rw [e2, if_pos rfl]
      exact g
    · intro g
      have := g b (by omega) (by omega)
      rw [e2, if_pos rfl] at this
      exact this
def CCI (σ3 σ5 : St) (c w : Nat) : Prop := (∀ k, k ≠ 4 → σ5 k = σ3 k) ∧ (∀ p, p < 432 → (σ3 4 p = 1 → σ5 4 p = 1) ∧ σ5 4 p ≤ 1) ∧ σ5 4 c = 1 ∧ ∀ w', w' < w → ∀ d : Nat, d < 216 → nbr c w' = (d : Int) → σ5 4 d = 1 ∧ σ5 4 (216 + d) = 1
theorem cc_0 {σ3 : St} {c : Nat} (h4 : ∀ p, p < 432 → σ3 4 p ≤ 1) : CCI σ3 (s2 σ3 4 c 1) c 0 := by
  refine ⟨fun k h => s2_ne h, fun p hp => ?_, s2_at, fun w' h => absurd h (Nat.not_lt_zero _)⟩
  rw [s2_eq]
  have := h4 p hp
  split
  · exact ⟨fun _ => rfl, by omega⟩
  · exact ⟨fun h => h, this⟩
theorem cc_skip {σ3 σ5 : St} {c w : Nat} (h : CCI σ3 σ5 c w) (e : nbr c w = -1) : CCI σ3 σ5 c (w + 1) := by
  refine ⟨h.1, h.2.1, h.2.2.1, fun w' hw d hd e2 => ?_⟩
  by_cases eq : w' = w
  · subst eq
    omega
  · exact h.2.2.2 w' (by omega) d hd e2
theorem cc_set {σ3 σ5 : St} {c w d : Nat} (h : CCI σ3 σ5 c w) (hd : d < 216) (e : nbr c w = (d : Int)) : CCI σ3 (s2 (s2 σ5 4 d 1) 4 (216 + d) 1) c (w + 1) := by
  have e4 : ∀ x, s2 (s2 σ5 4 d 1) 4 (216 + d) 1 4 x = if x = 216 + d then 1 else if x = d then 1 else σ5 4 x := fun x => by rw [s2_eq, s2_eq]
  have up : ∀ x, σ5 4 x = 1 → s2 (s2 σ5 4 d 1) 4 (216 + d) 1 4 x = 1 := fun x hx => by
    rw [e4]
    (repeat' split) <;> first | rfl | exact hx
  refine ⟨fun k hk => by rw [s2_ne hk, s2_ne hk]; exact h.1 k hk, fun p hp => ⟨fun g => up p ((h.2.1 p hp).1 g), ?_⟩, up c h.2.2.1, fun w' hw d' hd' e2 => ?_⟩
  · rw [e4]
    have := (h.2.1 p hp).2
    (repeat' split) <;> omega
  · by_cases eq : w' = w
    · subst eq
      have : d' = d := by omega
      subst this
      refine ⟨?_, ?_⟩
      · rw [e4, if_neg (by omega), if_pos rfl]
      · rw [e4, if_pos rfl]
    · have g := h.2.2.2 w' (by omega) d' hd' e2
      exact ⟨up _ g.1, up _ g.2⟩
def CHO (σ σ1 : St) (c v : Nat) : Prop := GI σ1 ∧ σ1 0 = s2 σ 0 c v 0 ∧ σ1 1 = σ 1 ∧ σ1 7 = σ 7 ∧ σ1 8 = σ 8
theorem change_mid {σ σ1 σ3 σ5 : St} {c v sky : Nat} {z1 z3 : Int} (hG : GI σ) (hc : c < 216) (hA : CA σ σ1 c z1) (hz1 : z1 < 0) (hB : CBI (s2 σ1 0 c v) σ3 c z3 sky) (hz3 : z3 < 0) (hC : CCI σ3 σ5 c 6) :
    MID σ5 ∧ SEr (σ5 0) (σ5 2) ∧ σ5 0 = s2 σ 0 c v 0 ∧ σ5 1 = σ 1 ∧ σ5 7 = σ 7 ∧ σ5 8 = σ 8 := by
  obtain ⟨⟨m1, m2, m3, m4⟩, a2, a3, a4, a5⟩ := hA
  obtain ⟨b1, b2, b3, b4, b5, b6⟩ := hB
  obtain ⟨c1, c2, c3, c4⟩ := hC
  have f0 : σ1 0 = σ 0 := a2 0 (by decide) (by decide) (by decide) (by decide) (by decide)
  have f1 : σ1 1 = σ 1 := a2 1 (by decide) (by decide) (by decide) (by decide) (by decide)
  have f2 : σ1 2 = σ 2 := a2 2 (by decide) (by decide) (by decide) (by decide) (by decide)
  have f7 : σ1 7 = σ 7 := a2 7 (by decide) (by decide) (by decide) (by decide) (by decide)
  have f8 : σ1 8 = σ 8 := a2 8 (by decide) (by decide) (by decide) (by decide) (by decide)
  have e0 : ∀ x, σ5 0 x = if x = c then v else σ 0 x := fun x => by
    rw [c1 0 (by decide), b1 0 (by decide) (by decide), s2_eq, f0]
  have e00 : s2 σ1 0 c v 0 = σ5 0 := by rw [c1 0 (by decide), b1 0 (by decide) (by decide)]
  have e1 : σ5 1 = σ 1 := by rw [c1 1 (by decide), b1 1 (by decide) (by decide), s2_ne (by decide), f1]
  have e3 : σ5 3 = σ1 3 := by rw [c1 3 (by decide), b1 3 (by decide) (by decide), s2_ne (by decide)]
  have e7 : σ5 7 = σ 7 := by rw [c1 7 (by decide), b1 7 (by decide) (by decide), s2_ne (by decide), f7]
  have e8 : σ5 8 = σ 8 := by rw [c1 8 (by decide), b1 8 (by decide) (by decide), s2_ne (by decide), f8]
  have e52 : σ5 2 = σ3 2 := c1 2 (by decide)
  have out2 : ∀ x : Nat, x < 216 → ¬ (x ≤ c ∧ x % 36 = c % 36) → σ5 2 x = σ 2 x := by
    intro x hx hn
    rw [e52, b3 x hx (fun g => hn ⟨g.1, g.2.1⟩), s2_ne (by decide), f2]
  have in2 : ∀ x : Nat, x < 216 → x ≤ c → x % 36 = c % 36 → σ5 2 x ≤ 1 ∧ (σ5 2 x = 1 ↔ σ5 0 x = 0 ∧ (x + 36 < 216 → σ5 2 (x + 36) = 1)) ∧ σ5 4 (216 + x) = 1 := by
    intro x hx h1 h2
    have g := b2 x hx h1 h2 (by omega)
    rw [e00] at g
    rw [e52]
    exact ⟨g.1, g.2.1, (c2 _ (by omega)).1 g.2.2⟩
  have rup : ∀ p, p < 432 → σ1 4 p = 1 → σ5 4 p = 1 := by
    intro p hp h
    exact (c2 p hp).1 ((b4 p hp).1 (by rw [s2_ne (by decide)]; exact h))
  have eso : ∀ p, p < 432 → p % 216 ≠ c → sol σ5 p = sol σ1 p := by
    intro p hp hn
    unfold sol
    rw [e0, if_neg hn, f0]
  have esr : ∀ p, p < 432 → (p < 216 ∨ ¬ (p - 216 ≤ c ∧ (p - 216) % 36 = c % 36)) → srcv σ5 p = srcv σ1 p := by
    intro p hp hn
    unfold srcv
    by_cases h : p < 216
    · rw [if_pos h, if_pos h, e1, f1]
    · rw [if_neg h, if_neg h, out2 (p - 216) (by omega) (by omega), f2]
  refine ⟨⟨fun p hp => ?_, fun p q hp hq hpq hs => ?_, fun p hp => ?_, fun p hp => ?_⟩, ?_, by rw [← e00]; funext x; rw [s2_eq, s2_eq, f0], e1, e7, e8⟩
  · unfold sup
    rw [e3]
    by_cases z : σ1 3 p = 0
    · exact Or.inl z
    · have hn : p % 216 ≠ c := by
        intro e
        rcases (show p = c ∨ p = 216 + c by omega) with g | g
        · exact z (by rw [g]; exact a3)
        · exact z (by rw [g]; exact a4)
      rw [eso p hp hn]
      rcases m1 p hp with k | k | k
      · exact absurd k z
      · refine Or.inr (Or.inl ?_)
        by_cases h : p < 216 ∨ ¬ (p - 216 ≤ c ∧ (p - 216) % 36 = c % 36)
        · rw [esr p hp h]; exact k
        · have hg : 216 ≤ p ∧ p - 216 ≤ c ∧ (p - 216) % 36 = c % 36 := by omega
          have hse := (hG.2.1 (p - 216) (by omega)).1
          unfold srcv at k
          rw [if_neg (by omega), f2] at k
          by_cases s : σ 2 (p - 216) = 0
          · rw [if_pos s] at k
            omega
          · have g := a5 (p - 216) hg.2.1 hg.2.2 (by omega) (by omega)
            rw [show 216 + (p - 216) = p by omega] at g
            exact absurd g z
      · exact Or.inr (Or.inr k)
  · rw [e3]
    by_cases e : q % 216 = c
    · refine Or.inr ?_
      obtain ⟨w, hw, ew⟩ := padj_symm hp hpq
      rcases (show q = c ∨ q = 216 + c by omega) with g | g
      · subst g
        unfold pnb at ew
        rw [if_pos hc] at ew
        rcases nbr_rg hc hw with k | ⟨d, hd, k, _⟩
        · omega
        · have : p = d := by omega
          subst this
          exact (c4 w hw p hd ew).1
      · subst g
        unfold pnb at ew
        rw [if_neg (by omega), show 216 + c - 216 = c by omega] at ew
        rcases nbr_rg hc hw with k | ⟨d, hd, k, _⟩
        · rw [k, if_pos (by omega)] at ew
          omega
        · rw [k, if_neg (by omega)] at ew
          have : p = 216 + d := by omega
          subst this
          exact (c4 w hw d hd k).2
    · rw [eso q hq e] at hs
      rcases m2 p q hp hq hpq hs with g | g
      · exact Or.inl g
      · exact Or.inr (rup p hp g)
  · by_cases h : p < 216 ∨ ¬ (p - 216 ≤ c ∧ (p - 216) % 36 = c % 36)
    · rw [esr p hp h, e3]
      rcases m3 p hp with g | g
      · exact Or.inl g
      · exact Or.inr (rup p hp g)
    · refine Or.inr ?_
      have g := (in2 (p - 216) (by omega) (by omega) (by omega)).2.2
      rw [show 216 + (p - 216) = p by omega] at g
      exact g
  · rw [e3]
    exact ⟨(c2 p hp).2, (m4 p hp).2⟩
  · intro x hx
    by_cases h : x ≤ c ∧ x % 36 = c % 36
    · have g := in2 x hx h.1 h.2
      exact ⟨g.1, g.2.1⟩
    · have g := hG.2.1 x hx
      rw [out2 x hx h, e0, if_neg (fun e => h (by omega))]
      refine ⟨g.1, g.2.trans ⟨fun k => ⟨k.1, fun l => ?_⟩, fun k => ⟨k.1, fun l => ?_⟩⟩⟩
      · rw [out2 (x + 36) l (by omega)]; exact k.2 l
      · have := k.2 l
        rw [out2 (x + 36) l (by omega)] at this
        exact this
theorem change_post {σ σ5 σ6 : St} {c v : Nat} (hG : GI σ) (hc : c < 216) (hv : v ≤ 1) (h : MID σ5 ∧ SEr (σ5 0) (σ5 2) ∧ σ5 0 = s2 σ 0 c v 0 ∧ σ5 1 = σ 1 ∧ σ5 7 = σ 7 ∧ σ5 8 = σ 8) (hf : FLO σ5 σ6) : CHO σ σ6 c v := by
  obtain ⟨p1, p2, p3⟩ := hf
  obtain ⟨-, h2, h3, h4, h5, h6⟩ := h
  have e0 : σ6 0 = s2 σ 0 c v 0 := by rw [p3 0 (by decide) (by decide), h3]
  have e1 : σ6 1 = σ 1 := by rw [p3 1 (by decide) (by decide), h4]
  refine ⟨⟨fun x hx => ?_, ?_, p1, p2⟩, e0, e1, by rw [p3 7 (by decide) (by decide), h5], by rw [p3 8 (by decide) (by decide), h6]⟩
  · rw [e0, e1, s2_eq]
    have := hG.1 x hx
    refine ⟨?_, this.2⟩
    split <;> omega
  · rw [p3 0 (by decide) (by decide), p3 2 (by decide) (by decide)]
    exact h2
theorem change_same {σ : St} {c v : Nat} (hG : GI σ) (e : σ 0 c = v) : CHO σ σ c v := by
  refine ⟨hG, ?_, rfl, rfl, rfl⟩
  funext x
  rw [s2_eq]
  split
  · rename_i h; rw [h]; exact e
  · rfl
end
section
set_option maxHeartbeats 4000000 in
theorem w_change {κ : Kx} {O : XO} {σ : St} (c v : Nat) (zc zv : Int) (hzc : zc = (c : Int)) (hzv : zv = (v : Int)) (hc : c < 216) (hv : v ≤ 1) (hG : GI σ) (C : CB κ cX0_change 6 RX0 3 70) (X : XC κ O) (Rt : XRV κ O (fun σ' => CHO σ σ' c v)) (hb : bnd σ) : J κ 6 (xW O σ) 0 [(0, .ref (oh O)), (1, .int (iI zc)), (2, .int (iI zv))] [] := by
  have K154 : ∀ (σ1 σ3 : St) (sky : Nat) (z1 z3 : Int), CA σ σ1 c z1 → z1 < 0 → CBI (s2 σ1 0 c v) σ3 c z3 sky → z3 < 0 → ∀ (k w : Nat) (σ5 : St) (zs z4 : Int), z4 = (w : Int) → 6 < w + k → w ≤ 6 → CCI σ3 σ5 c w → J κ 6 (xW O σ5) 154 [(0, .ref (oh O)), (1, .int (iI zc)), (2, .int (iI zv)), (3, .int (iI zs)), (4, .int (iI z4))] [] := by
    intro σ1 σ3 sky z1 z3 hA hz1 hB hz3 k
    induction k with
    | zero => intros; omega
    | succ k ih =>
      intro w σ5 zs z4 hz4 hk hw6 hC
      refine j_iload C 4 dX0_change_154 rfl ?_
      refine j_bipush C dX0_change_156 (by decide) ?_
      refine j_icmp_ge C (tgt := 201) dX0_change_158 (by decide) (by omega) (by omega) (fun hc158 => ?_) (fun hc158 => ?_)
      · have e6 : w = 6 := by omega
        subst e6
        have hmid := change_mid hG hc hA hz1 hB hz3 hC
        have hlam : ∀ x, x < 216 → σ5 1 x ≤ 12 := fun x hx => by rw [hmid.2.2.2.1]; exact (hG.1 x hx).2
        refine j_aload_n C 0 dX0_change_201 rfl rfl ?_
        refine x_callv C X (m_flow _ O σ5 hmid.1 hlam) 0 rfl (lw_V q84 q86 qs3 q19 q87) (by decide +kernel) (by decide) dX0_change_202 rfl (Nat.le_of_ble_eq_true rfl) (fun σ6 hf => ?_)
        exact x_vret C X Rt (change_post hG hc hv hmid hf) dX0_change_205
      · refine j_iload_n C 1 dX0_change_161 rfl rfl ?_
        refine j_iload C 4 dX0_change_162 rfl ?_
        refine x_callS C X (m_nb _ c w _ _ (by omega) (by omega) (by omega) (by omega)) 2 rfl (lw_S q81 q82 q19 q83) (by decide +kernel) (by decide) dX0_change_164 rfl (Nat.le_of_ble_eq_true rfl) (fun r hp2 => ?_)
        subst hp2
        rcases nbr_rg hc (show w < 6 by omega) with e | ⟨d, hd, e, e2⟩
        · rw [e]
          refine j_istore C [1, 2, 3, 4, 5, 0] (L' := [(0, _), (1, _), (2, _), (3, _), (4, _), (5, _)]) dX0_change_167 (by decide) rfl ?_
          refine j_iload C 5 dX0_change_169 rfl ?_
          refine j_iconst C dX0_change_171 ?_
          refine j_icmp_eq_t C (tgt := 195) dX0_change_172 (by decide) (by omega) (by omega) (by omega) ?_
          refine j_iinc C 4 [1, 2, 3, 4, 0, 5] (L' := [(0, _), (1, _), (2, _), (3, _), (4, _), (5, _)]) dX0_change_195 rfl (by decide) rfl ?_
          refine j_goto C (tgt := 154) dX0_change_198 (by decide) ?_
          refine j_sub [0, 1, 2, 3, 4] (L' := [(0, _), (1, _), (2, _), (3, _), (4, _)]) rfl ?_
          exact ih (w + 1) σ5 zs _ (by omega) (by omega) (by omega) (cc_skip hC e)
        · rw [e]
          refine j_istore C [1, 2, 3, 4, 5, 0] (L' := [(0, _), (1, _), (2, _), (3, _), (4, _), (5, _)]) dX0_change_167 (by decide) rfl ?_
          refine j_iload C 5 dX0_change_169 rfl ?_
          refine j_iconst C dX0_change_171 ?_
          refine j_icmp_eq_f C dX0_change_172 (by omega) (by omega) (tgt := 195) (by decide) (by omega) ?_
          refine j_aload_n C 0 dX0_change_175 rfl rfl ?_
          refine x_get C X 4 (by decide) q33 rfl dX0_change_176 ?_
          refine j_iload C 5 dX0_change_179 rfl ?_
          refine j_iconst C dX0_change_181 ?_
          refine x_zst C X 4 432 (d) (1) rfl rfl xset_4 (by decide) (by omega) (by omega) (by omega) (by omega) dX0_change_182 ?_
          refine j_aload_n C 0 dX0_change_183 rfl rfl ?_
          refine x_get C X 4 (by decide) q33 rfl dX0_change_184 ?_
          refine j_sipush C dX0_change_187 (by decide) ?_
          refine j_iload C 5 dX0_change_190 rfl ?_
          refine j_iadd C dX0_change_192 ?_
          refine j_iconst C dX0_change_193 ?_
          refine x_zst C X 4 432 (216 + d) (1) rfl rfl xset_4 (by decide) (by omega) (by omega) (by omega) (by omega) dX0_change_194 ?_
          refine j_iinc C 4 [1, 2, 3, 4, 0, 5] (L' := [(0, _), (1, _), (2, _), (3, _), (4, _), (5, _)]) dX0_change_195 rfl (by decide) rfl ?_
          refine j_goto C (tgt := 154) dX0_change_198 (by decide) ?_
          refine j_sub [0, 1, 2, 3, 4] (L' := [(0, _), (1, _), (2, _), (3, _), (4, _)]) rfl ?_
          exact ih (w + 1) _ zs _ (by omega) (by omega) (by omega) (cc_set hC hd e)
  have K93 : ∀ (σ1 : St) (z1 : Int), CA σ σ1 c z1 → z1 < 0 → ∀ (n : Nat) (σ3 : St) (sky : Nat) (z zs : Int), zs = (sky : Int) → z + 36 < (n : Int) → -36 ≤ z → z ≤ (c : Int) → ((c : Int) - z) % 36 = 0 → CBI (s2 σ1 0 c v) σ3 c z sky → J κ 6 (xW O σ3) 93 [(0, .ref (oh O)), (1, .int (iI zc)), (2, .int (iI zv)), (3, .int (iI zs)), (4, .int (iI z))] [] := by
    intro σ1 z1 hA hz1 n
    induction n with
    | zero => intros; omega
    | succ n ih =>
      intro σ3 sky z zs hzs hn hz hzc2 hzm hB
      have hs1 := hB.2.2.2.2.1
      refine j_iload C 4 dX0_change_93 rfl ?_
      refine j_if_lt C (tgt := 144) dX0_change_95 (by decide) (by omega) (fun hc95 => ?_) (fun hc95 => ?_)
      · refine j_aload_n C 0 dX0_change_144 rfl rfl ?_
        refine x_get C X 4 (by decide) q33 rfl dX0_change_145 ?_
        refine j_iload_n C 1 dX0_change_148 rfl rfl ?_
        refine j_iconst C dX0_change_149 ?_
        refine x_zst C X 4 432 (c) (1) rfl rfl xset_4 (by decide) (by omega) (by omega) (by omega) (by omega) dX0_change_150 ?_
        refine j_iconst C dX0_change_151 ?_
        refine j_istore C [1, 2, 3, 4, 0] (L' := [(0, _), (1, _), (2, _), (3, _), (4, _)]) dX0_change_152 (by decide) rfl ?_
        exact K154 σ1 σ3 sky z1 z hA hz1 hB (by omega) 7 0 _ _ _ (by omega) (by omega) (by omega) (cc_0 (fun p hp => (hB.2.2.2.1 p hp).2))
      · obtain ⟨b, hb2⟩ : ∃ b : Nat, z = (b : Int) := ⟨z.toNat, by omega⟩
        refine j_iload_n C 3 dX0_change_98 rfl rfl ?_
        refine j_if_eq C (tgt := 116) dX0_change_99 (by decide) (by omega) (fun hc99 => ?_) (fun hc99 => ?_)
        · refine j_iconst C dX0_change_116 ?_
          refine j_istore_n C [1, 2, 3, 0, 4] (L' := [(0, _), (1, _), (2, _), (3, _), (4, _)]) dX0_change_117 rfl (by decide) rfl ?_
          refine j_aload_n C 0 dX0_change_118 rfl rfl ?_
          refine x_get C X 2 (by decide) q31 rfl dX0_change_119 ?_
          refine j_iload C 4 dX0_change_122 rfl ?_
          refine j_iload_n C 3 dX0_change_124 rfl rfl ?_
          refine x_zst C X 2 216 (b) (0) rfl rfl xset_2 (by decide) (by omega) (by omega) (by omega) (by omega) dX0_change_125 ?_
          refine j_aload_n C 0 dX0_change_126 rfl rfl ?_
          refine x_get C X 4 (by decide) q33 rfl dX0_change_127 ?_
          refine j_sipush C dX0_change_130 (by decide) ?_
          refine j_iload C 4 dX0_change_133 rfl ?_
          refine j_iadd C dX0_change_135 ?_
          refine j_iconst C dX0_change_136 ?_
          refine x_zst C X 4 432 (216 + b) (1) rfl rfl xset_4 (by decide) (by omega) (by omega) (by omega) (by omega) dX0_change_137 ?_
          refine j_iinc C 4 [1, 2, 3, 4, 0] (L' := [(0, _), (1, _), (2, _), (3, _), (4, _)]) dX0_change_138 rfl (by decide) rfl ?_
          refine j_goto C (tgt := 93) dX0_change_141 (by decide) ?_
          exact ih _ 0 _ _ (by omega) (by omega) (by omega) (by omega) (by omega) (cb_step hc hb2 (by omega) (by omega) hB (by omega) ⟨fun g => absurd g (by omega), fun g => by omega⟩)
        · refine j_aload_n C 0 dX0_change_102 rfl rfl ?_
          refine x_get C X 0 (by decide) q29 rfl dX0_change_103 ?_
          refine j_iload C 4 dX0_change_106 rfl ?_
          refine x_zld C X 0 216 (b) rfl rfl (by decide) (by omega) (by omega) dX0_change_108 (fun hb108 => ?_)
          refine j_if_ne C (tgt := 116) dX0_change_109 (by decide) (by omega) (fun hc109 => ?_) (fun hc109 => ?_)
          · refine j_iconst C dX0_change_116 ?_
            refine j_istore_n C [1, 2, 3, 0, 4] (L' := [(0, _), (1, _), (2, _), (3, _), (4, _)]) dX0_change_117 rfl (by decide) rfl ?_
            refine j_aload_n C 0 dX0_change_118 rfl rfl ?_
            refine x_get C X 2 (by decide) q31 rfl dX0_change_119 ?_
            refine j_iload C 4 dX0_change_122 rfl ?_
            refine j_iload_n C 3 dX0_change_124 rfl rfl ?_
            refine x_zst C X 2 216 (b) (0) rfl rfl xset_2 (by decide) (by omega) (by omega) (by omega) (by omega) dX0_change_125 ?_
            refine j_aload_n C 0 dX0_change_126 rfl rfl ?_
            refine x_get C X 4 (by decide) q33 rfl dX0_change_127 ?_
            refine j_sipush C dX0_change_130 (by decide) ?_
            refine j_iload C 4 dX0_change_133 rfl ?_
            refine j_iadd C dX0_change_135 ?_
            refine j_iconst C dX0_change_136 ?_
            refine x_zst C X 4 432 (216 + b) (1) rfl rfl xset_4 (by decide) (by omega) (by omega) (by omega) (by omega) dX0_change_137 ?_
            refine j_iinc C 4 [1, 2, 3, 4, 0] (L' := [(0, _), (1, _), (2, _), (3, _), (4, _)]) dX0_change_138 rfl (by decide) rfl ?_
            refine j_goto C (tgt := 93) dX0_change_141 (by decide) ?_
            exact ih _ 0 _ _ (by omega) (by omega) (by omega) (by omega) (by omega) (cb_step hc hb2 (by omega) (by omega) hB (by omega) ⟨fun g => absurd g (by omega), fun g => by omega⟩)
          · refine j_iconst C dX0_change_112 ?_
            refine j_goto C (tgt := 117) dX0_change_113 (by decide) ?_
            refine j_istore_n C [1, 2, 3, 0, 4] (L' := [(0, _), (1, _), (2, _), (3, _), (4, _)]) dX0_change_117 rfl (by decide) rfl ?_
            refine j_aload_n C 0 dX0_change_118 rfl rfl ?_
            refine x_get C X 2 (by decide) q31 rfl dX0_change_119 ?_
            refine j_iload C 4 dX0_change_122 rfl ?_
            refine j_iload_n C 3 dX0_change_124 rfl rfl ?_
            refine x_zst C X 2 216 (b) (1) rfl rfl xset_2 (by decide) (by omega) (by omega) (by omega) (by omega) dX0_change_125 ?_
            refine j_aload_n C 0 dX0_change_126 rfl rfl ?_
            refine x_get C X 4 (by decide) q33 rfl dX0_change_127 ?_
            refine j_sipush C dX0_change_130 (by decide) ?_
            refine j_iload C 4 dX0_change_133 rfl ?_
            refine j_iadd C dX0_change_135 ?_
            refine j_iconst C dX0_change_136 ?_
            refine x_zst C X 4 432 (216 + b) (1) rfl rfl xset_4 (by decide) (by omega) (by omega) (by omega) (by omega) dX0_change_137 ?_
            refine j_iinc C 4 [1, 2, 3, 4, 0] (L' := [(0, _), (1, _), (2, _), (3, _), (4, _)]) dX0_change_138 rfl (by decide) rfl ?_
            refine j_goto C (tgt := 93) dX0_change_141 (by decide) ?_
            exact ih _ 1 _ _ (by omega) (by omega) (by omega) (by omega) (by omega) (cb_step hc hb2 (by omega) (by omega) hB (by omega) ⟨fun _ => ⟨by omega, by omega⟩, fun _ => rfl⟩)
  have K27 : ∀ (n : Nat) (σ1 : St) (z : Int), z + 36 < (n : Int) → -36 ≤ z → z ≤ (c : Int) → ((c : Int) - z) % 36 = 0 → CA σ σ1 c z → J κ 6 (xW O σ1) 27 [(0, .ref (oh O)), (1, .int (iI zc)), (2, .int (iI zv)), (3, .int (iI z))] [] := by
    intro n
    induction n with
    | zero => intros; omega
    | succ n ih =>
      intro σ1 z hn hz hzc2 hzm hA
      have f2 : σ1 2 = σ 2 := hA.2.1 2 (by decide) (by decide) (by decide) (by decide) (by decide)
      have e2 : s2 σ1 0 c v 2 (c + 36) = σ 2 (c + 36) := by rw [s2_ne (by decide), f2]
      have hse : c + 36 < 216 → σ 2 (c + 36) ≤ 1 := fun h => (hG.2.1 _ h).1
      have h4 : ∀ p, p < 432 → s2 σ1 0 c v 4 p ≤ 1 := fun p hp => by rw [s2_ne (by decide)]; exact (hA.1.2.2.2 p hp).1
      refine j_iload_n C 3 dX0_change_27 rfl rfl ?_
      refine j_if_lt C (tgt := 55) dX0_change_28 (by decide) (by omega) (fun hc28 => ?_) (fun hc28 => ?_)
      · refine j_aload_n C 0 dX0_change_55 rfl rfl ?_
        refine x_get C X 0 (by decide) q29 rfl dX0_change_56 ?_
        refine j_iload_n C 1 dX0_change_59 rfl rfl ?_
        refine j_iload_n C 2 dX0_change_60 rfl rfl ?_
        refine x_zst C X 0 216 (c) (v) rfl rfl xset_0 (by decide) (by omega) (by omega) (by omega) (by omega) dX0_change_61 ?_
        refine j_iload_n C 1 dX0_change_62 rfl rfl ?_
        refine j_bipush C dX0_change_63 (by decide) ?_
        refine j_iadd C dX0_change_65 ?_
        refine j_sipush C dX0_change_66 (by decide) ?_
        refine j_icmp_ge C (tgt := 84) dX0_change_69 (by decide) (by omega) (by omega) (fun hc69 => ?_) (fun hc69 => ?_)
        · refine j_iconst C dX0_change_84 ?_
          refine j_goto C (tgt := 89) dX0_change_85 (by decide) ?_
          refine j_istore_n C [1, 2, 3, 0] (L' := [(0, _), (1, _), (2, _), (3, _)]) dX0_change_89 rfl (by decide) rfl ?_
          refine j_iload_n C 1 dX0_change_90 rfl rfl ?_
          refine j_istore C [1, 2, 3, 4, 0] (L' := [(0, _), (1, _), (2, _), (3, _), (4, _)]) dX0_change_91 (by decide) rfl ?_
          exact K93 σ1 z hA (by omega) 300 _ 1 _ _ (by omega) (by omega) (by omega) (by omega) (by omega) (by subst hzc; exact cb_0 h4 (by omega) ⟨fun _ h => absurd h (by omega), fun _ => rfl⟩)
        · refine j_aload_n C 0 dX0_change_72 rfl rfl ?_
          refine x_get C X 2 (by decide) q31 rfl dX0_change_73 ?_
          refine j_iload_n C 1 dX0_change_76 rfl rfl ?_
          refine j_bipush C dX0_change_77 (by decide) ?_
          refine j_iadd C dX0_change_79 ?_
          refine x_zld C X 2 216 (c + 36) rfl rfl (by decide) (by omega) (by omega) dX0_change_80 (fun hb80 => ?_)
          refine j_if_eq C (tgt := 88) dX0_change_81 (by decide) (by omega) (fun hc81 => ?_) (fun hc81 => ?_)
          · refine j_iconst C dX0_change_88 ?_
            refine j_istore_n C [1, 2, 3, 0] (L' := [(0, _), (1, _), (2, _), (3, _)]) dX0_change_89 rfl (by decide) rfl ?_
            refine j_iload_n C 1 dX0_change_90 rfl rfl ?_
            refine j_istore C [1, 2, 3, 4, 0] (L' := [(0, _), (1, _), (2, _), (3, _), (4, _)]) dX0_change_91 (by decide) rfl ?_
            exact K93 σ1 z hA (by omega) 300 _ 0 _ _ (by omega) (by omega) (by omega) (by omega) (by omega) (by subst hzc; exact cb_0 h4 (by omega) ⟨fun h => absurd h (by omega), fun h => by have := h (by omega); omega⟩)
          · refine j_iconst C dX0_change_84 ?_
            refine j_goto C (tgt := 89) dX0_change_85 (by decide) ?_
            refine j_istore_n C [1, 2, 3, 0] (L' := [(0, _), (1, _), (2, _), (3, _)]) dX0_change_89 rfl (by decide) rfl ?_
            refine j_iload_n C 1 dX0_change_90 rfl rfl ?_
            refine j_istore C [1, 2, 3, 4, 0] (L' := [(0, _), (1, _), (2, _), (3, _), (4, _)]) dX0_change_91 (by decide) rfl ?_
            exact K93 σ1 z hA (by omega) 300 _ 1 _ _ (by omega) (by omega) (by omega) (by omega) (by omega) (by subst hzc; exact cb_0 h4 (by omega) ⟨fun _ h => by have := hse h; omega, fun _ => rfl⟩)
      · obtain ⟨b, hb2⟩ : ∃ b : Nat, z = (b : Int) := ⟨z.toNat, by omega⟩
        have f2b : σ1 2 b = σ 2 b := by rw [f2]
        refine j_aload_n C 0 dX0_change_31 rfl rfl ?_
        refine x_get C X 2 (by decide) q31 rfl dX0_change_32 ?_
        refine j_iload_n C 3 dX0_change_35 rfl rfl ?_
        refine x_zld C X 2 216 (b) rfl rfl (by decide) (by omega) (by omega) dX0_change_36 (fun hb36 => ?_)
        refine j_if_eq C (tgt := 49) dX0_change_37 (by decide) (by omega) (fun hc37 => ?_) (fun hc37 => ?_)
        · refine j_iinc C 3 [1, 2, 3, 0] (L' := [(0, _), (1, _), (2, _), (3, _)]) dX0_change_49 rfl (by decide) rfl ?_
          refine j_goto C (tgt := 27) dX0_change_52 (by decide) ?_
          exact ih σ1 _ (by omega) (by omega) (by omega) (by omega) (ca_skip hb2 (by omega) hA (by omega))
        · refine j_aload_n C 0 dX0_change_40 rfl rfl ?_
          refine j_sipush C dX0_change_41 (by decide) ?_
          refine j_iload_n C 3 dX0_change_44 rfl rfl ?_
          refine j_iadd C dX0_change_45 ?_
          refine x_callv C X (m_takeAway _ O σ1 (216 + b) _ (by omega) (by omega) hA.1) 1 rfl (lw_V q73 q75 qs1 q19 q76) (by decide +kernel) (by decide) dX0_change_46 rfl (Nat.le_of_ble_eq_true rfl) (fun σ4 hT4 => ?_)
          refine j_iinc C 3 [1, 2, 3, 0] (L' := [(0, _), (1, _), (2, _), (3, _)]) dX0_change_49 rfl (by decide) rfl ?_
          refine j_goto C (tgt := 27) dX0_change_52 (by decide) ?_
          exact ih σ4 _ (by omega) (by omega) (by omega) (by omega) (ca_take hc hb2 (by omega) hA hT4)
  refine j_aload_n C 0 dX0_change_0 rfl rfl ?_
  refine x_get C X 0 (by decide) q29 rfl dX0_change_1 ?_
  refine j_iload_n C 1 dX0_change_4 rfl rfl ?_
  refine x_zld C X 0 216 (c) rfl rfl (by decide) (by omega) (by omega) dX0_change_5 (fun hb5 => ?_)
  refine j_iload_n C 2 dX0_change_6 rfl rfl ?_
  refine j_icmp_ne C (tgt := 11) dX0_change_7 (by decide) (by omega) (by omega) (fun hc7 => ?_) (fun hc7 => ?_)
  · refine j_aload_n C 0 dX0_change_11 rfl rfl ?_
    refine j_iload_n C 1 dX0_change_12 rfl rfl ?_
    refine x_callv C X (m_takeAway _ O σ c _ (by omega) (by omega) (gi_mid hG)) 1 rfl (lw_V q73 q75 qs1 q19 q76) (by decide +kernel) (by decide) dX0_change_13 rfl (Nat.le_of_ble_eq_true rfl) (fun σ1 hT1 => ?_)
    refine j_aload_n C 0 dX0_change_16 rfl rfl ?_
    refine j_sipush C dX0_change_17 (by decide) ?_
    refine j_iload_n C 1 dX0_change_20 rfl rfl ?_
    refine j_iadd C dX0_change_21 ?_
    refine x_callv C X (m_takeAway _ O σ1 (216 + c) _ (by omega) (by omega) hT1.2.2.2.2) 1 rfl (lw_V q73 q75 qs1 q19 q76) (by decide +kernel) (by decide) dX0_change_22 rfl (Nat.le_of_ble_eq_true rfl) (fun σ2 hT2 => ?_)
    refine j_iload_n C 1 dX0_change_25 rfl rfl ?_
    refine j_istore_n C [1, 2, 3, 0] (L' := [(0, _), (1, _), (2, _), (3, _)]) dX0_change_26 rfl (by decide) rfl ?_
    exact K27 300 σ2 _ (by omega) (by omega) (by omega) (by omega) (by subst hzc; exact ca_0 hc hT1 hT2)
  · exact x_vret C X Rt (change_same hG (by omega)) dX0_change_10
theorem m_change (l : Launch) (O : XO) (σ : St) (c v : Nat) (zc zv : Int) (hzc : zc = (c : Int)) (hzv : zv = (v : Int)) (hc : c < 216) (hv : v ≤ 1) (hG : GI σ) : XMv l O yX0_change cX0_change 6 3 70 [.int (iI zc), .int (iI zv)] σ (fun σ' => CHO σ σ' c v) := by
  refine XMv.of (by decide) rfl (Nat.le_of_ble_eq_true rfl) ?_
  intro κ A H0 hκ C X Rt hb
  exact w_change (O := (oD O, A, H0, O.2.2.2)) c v zc zv hzc hzv hc hv hG C X Rt hb
end
section
/-! what the public methods answer -/
def mx (a b : Nat) : Nat := if b < a then a else b
theorem lgt_mx (σ : St) (c : Nat) : lgt σ c = mx (σ 3 c) (σ 3 (216 + c)) := rfl
theorem lgt_le {σ : St} (hb : bnd σ) (c : Nat) : lgt σ c ≤ 432 := by
  unfold lgt
  have h1 := hb 3 c
  have h2 := hb 3 (216 + c)
  split <;> assumption
def fl (f : Int) : Nat := if f = 0 then 0 else 1
theorem fl_0 {f : Int} (h : f = 0) : fl f = 0 := if_pos h
theorem fl_1 {f : Int} (h : ¬ f = 0) : fl f = 1 := if_neg h
theorem fl_le (f : Int) : fl f ≤ 1 := by
  unfold fl
  split <;> omega
/-- an answer for a cell's number, or for a number that is none -/
def vpost (z : Int) (bad : Prop) (good : Nat → Prop) : Prop := (¬ (0 ≤ z ∧ z < 216) ∧ bad) ∨ ∃ c : Nat, c < 216 ∧ z = (c : Int) ∧ good c
def bpost (lo hi : Int) (bad good : Prop) : Prop := (¬ boxP lo hi ∧ bad) ∨ (boxP lo hi ∧ good)
def FI (σ σ1 : St) (P : Nat → Prop) (v c ch : Nat) : Prop := GI σ1 ∧ σ1 1 = σ 1 ∧ (∀ x, x < 216 → (x < c ∧ P x → σ1 0 x = v) ∧ (¬ (x < c ∧ P x) → σ1 0 x = σ 0 x)) ∧ ch = cnt (fun x => P x ∧ σ 0 x ≠ v) c
theorem fi_0 {σ : St} {P : Nat → Prop} {v : Nat} (hG : GI σ) : FI σ σ P v 0 0 := ⟨hG, rfl, fun x _ => ⟨fun h => absurd h.1 (Nat.not_lt_zero _), fun _ => rfl⟩, rfl⟩
theorem fi_at {σ σ1 : St} {P : Nat → Prop} {v c ch : Nat} (h : FI σ σ1 P v c ch) (hc : c < 216) : σ1 0 c = σ 0 c := (h.2.2.1 c hc).2 (fun g => Nat.lt_irrefl _ g.1)
theorem fi_skip {σ σ1 : St} {P : Nat → Prop} {v c ch : Nat} (h : FI σ σ1 P v c ch) (hc : c < 216) (hn : ¬ (P c ∧ σ 0 c ≠ v)) : FI σ σ1 P v (c + 1) ch := by
  have e := fi_at h hc
  obtain ⟨h1, h2, h3, h4⟩ := h
  refine ⟨h1, h2, fun x hx => ?_, by rw [h4, cnt_f hn]⟩
  by_cases eq : x = c
  · subst eq
    refine ⟨fun g => ?_, fun _ => e⟩
    rw [e]
    exact Classical.byContradiction (fun z => hn ⟨g.2, z⟩)
  · have g := h3 x hx
    exact ⟨fun k => g.1 ⟨by omega, k.2⟩, fun k => g.2 (fun l => k ⟨by omega, l.2⟩)⟩
theorem fi_set {σ σ1 σ2 : St} {P : Nat → Prop} {v c ch : Nat} (h : FI σ σ1 P v c ch) (hc : c < 216) (hP : P c) (hv : σ 0 c ≠ v) (hC : CHO σ1 σ2 c v) : FI σ σ2 P v (c + 1) (ch + 1) := by
  obtain ⟨h1, h2, h3, h4⟩ := h
  obtain ⟨k1, k2, k3, -⟩ := hC
  refine ⟨k1, by rw [k3, h2], fun x hx => ?_, by rw [h4, cnt_t ⟨hP, hv⟩]⟩
  rw [k2, s2_eq]
  by_cases eq : x = c
  · subst eq
    simp only [if_true]
    exact ⟨fun _ => trivial, fun k => absurd ⟨Nat.lt_succ_self _, hP⟩ k⟩
  · simp only [eq, if_false]
    have g := h3 x hx
    exact ⟨fun k => g.1 ⟨by omega, k.2⟩, fun k => g.2 (fun l => k ⟨by omega, l.2⟩)⟩
/-- the darkest open cell, the first of them -/
def dk (w L : Nat → Nat) : Nat → Int
  | 0 => -1
  | n + 1 => if w n = 0 ∧ (dk w L n = -1 ∨ L n < L (dk w L n).toNat) then (n : Int) else dk w L n
theorem dk_rg (w L : Nat → Nat) (n : Nat) : dk w L n = -1 ∨ (0 ≤ dk w L n ∧ dk w L n < n) := by
  induction n with
  | zero => exact Or.inl rfl
  | succ n ih =>
    unfold dk
    split
    · exact Or.inr ⟨by omega, by omega⟩
    · rcases ih with h | h
      · exact Or.inl h
      · exact Or.inr ⟨h.1, by omega⟩
theorem dk_t {w L : Nat → Nat} {n : Nat} (h : w n = 0 ∧ (dk w L n = -1 ∨ L n < L (dk w L n).toNat)) : dk w L (n + 1) = (n : Int) := by
  show (if _ then _ else _) = _
  rw [if_pos h]
theorem dk_f {w L : Nat → Nat} {n : Nat} (h : ¬ (w n = 0 ∧ (dk w L n = -1 ∨ L n < L (dk w L n).toNat))) : dk w L (n + 1) = dk w L n := by
  show (if _ then _ else _) = _
  rw [if_neg h]
/-- a face of a solid cell: place 6 c + way -/
def fcP (nb : Nat → Nat → Int) (w : Nat → Nat) (k : Nat) : Prop := w (k / 6) ≠ 0 ∧ (nb (k / 6) (k % 6) = -1 ∨ w (nb (k / 6) (k % 6)).toNat = 0)
/-- light in cells: the fixed point over 216 cells -/
def adj (c d : Nat) : Prop := ∃ w, w < 6 ∧ nbr c w = (d : Int)
def GL (w src F : Nat → Nat) : Prop := (∀ c, c < 216 → F c ≤ 12) ∧ (∀ c, c < 216 → src c ≤ F c) ∧ (∀ c d, c < 216 → d < 216 → adj c d → w c = 0 → F d ≤ F c + 1) ∧ ∀ c, c < 216 → F c = 0 ∨ F c ≤ src c ∨ (w c = 0 ∧ ∃ d, d < 216 ∧ adj c d ∧ F c + 1 ≤ F d)
theorem adj_symm {c d : Nat} (hc : c < 216) (h : adj c d) : adj d c := by
  obtain ⟨w, hw, e⟩ := h
  rcases nbr_rg hc hw with e1 | ⟨q, _, e1, e2⟩
  · omega
  · have : q = d := by omega
    subst this
    exact ⟨flip1 w, flip1_lt hw, e2⟩
theorem padj_lo {c d : Nat} (hc : c < 216) : padj c d ↔ adj c d := by
  unfold padj adj pnb
  simp only [if_pos hc]
theorem padj_hi {c d : Nat} (hc : c < 216) : padj (216 + c) (216 + d) ↔ adj c d := by
  unfold padj adj pnb
  simp only [if_neg (show ¬ (216 + c < 216) by omega), show 216 + c - 216 = c by omega]
  constructor
  · rintro ⟨w, hw, e⟩
    refine ⟨w, hw, ?_⟩
    split at e <;> omega
  · rintro ⟨w, hw, e⟩
    refine ⟨w, hw, ?_⟩
    rw [if_neg (by omega)]
    omega
theorem padj_same {p q : Nat} (hp : p < 432) (h : padj p q) : (p < 216 ↔ q < 216) := by
  obtain ⟨w, hw, e⟩ := h
  unfold pnb at e
  by_cases h : p < 216
  · rw [if_pos h] at e
    rcases nbr_rg h hw with k | ⟨d, hd, k, _⟩ <;> omega
  · rw [if_neg h] at e
    split at e <;> omega
theorem gi_lo {σ : St} (h : GI σ) : GL (σ 0) (σ 1) (σ 3) := by
  obtain ⟨h1, h2, ⟨a, b, c, d⟩, h4⟩ := h
  have so : ∀ x, x < 216 → sol σ x = σ 0 x := fun x hx => by unfold sol; rw [show x % 216 = x by omega]
  have sr : ∀ x, x < 216 → srcv σ x = σ 1 x := fun x hx => by unfold srcv; rw [if_pos hx]
  refine ⟨fun x hx => d x (by omega), fun x hx => ?_, fun x y hx hy hxy hw => ?_, fun x hx => ?_⟩
  · rw [← sr x hx]; exact b x (by omega)
  · exact c y x (by omega) (by omega) ((padj_lo hy).mpr (adj_symm hx hxy)) (by rw [so x hx]; exact hw)
  · rcases a x (by omega) with g | g | ⟨g, q, hq, hqx, hl⟩
    · exact Or.inl g
    · rw [sr x hx] at g; exact Or.inr (Or.inl g)
    · rw [so x hx] at g
      have hq2 : q < 216 := (padj_same hq hqx).mpr hx
      exact Or.inr (Or.inr ⟨g, q, hq2, adj_symm hq2 ((padj_lo hq2).mp hqx), hl⟩)
theorem gi_hi {σ : St} (h : GI σ) : GL (σ 0) (fun c => 8 * σ 2 c) (fun c => σ 3 (216 + c)) := by
  obtain ⟨h1, h2, ⟨a, b, c, d⟩, h4⟩ := h
  have so : ∀ x, x < 216 → sol σ (216 + x) = σ 0 x := fun x hx => by unfold sol; rw [show (216 + x) % 216 = x by omega]
  have sr : ∀ x, x < 216 → srcv σ (216 + x) = 8 * σ 2 x := fun x hx => by
    unfold srcv
    rw [if_neg (by omega), show 216 + x - 216 = x by omega]
    have := (h2 x hx).1
    split <;> omega
  refine ⟨fun x hx => d _ (by omega), fun x hx => ?_, fun x y hx hy hxy hw => ?_, fun x hx => ?_⟩
  · show 8 * σ 2 x ≤ σ 3 (216 + x)
    rw [← sr x hx]; exact b _ (by omega)
  · exact c (216 + y) (216 + x) (by omega) (by omega) ((padj_hi hy).mpr (adj_symm hx hxy)) (by rw [so x hx]; exact hw)
  · rcases a (216 + x) (by omega) with g | g | ⟨g, q, hq, hqx, hl⟩
    · exact Or.inl g
    · rw [sr x hx] at g; exact Or.inr (Or.inl g)
    · rw [so x hx] at g
      have hq2 : ¬ q < 216 := fun e => absurd ((padj_same hq hqx).mp e) (by omega)
      obtain ⟨y, rfl⟩ : ∃ y, q = 216 + y := ⟨q - 216, by omega⟩
      exact Or.inr (Or.inr ⟨g, y, by omega, adj_symm (by omega) ((padj_hi (by omega)).mp hqx), hl⟩)
end
section
set_option maxHeartbeats 4000000 in
theorem w_solid {κ : Kx} {O : XO} {σ : St} (z f : Int) (hz : -2147483648 ≤ z ∧ z < 2147483648) (hf : -2147483648 ≤ f ∧ f < 2147483648) (hG : GI σ) (C : CB κ cX0_solid 4 RX0 4 95) (X : XC κ O) (Rt : XRI κ O .int (fun r σ' => vpost z (r = iI (-1) ∧ σ' = σ) (fun c => r = iI ((σ 0 c : Nat) : Int) ∧ CHO σ σ' c (fl f)))) (hb : bnd σ) : J κ 4 (xW O σ) 0 [(0, .ref (oh O)), (1, .int (iI z)), (2, .int (iI f))] [] := by
  refine j_iload_n C 1 dX0_solid_0 rfl rfl ?_
  refine x_callS C X (m_isCell _ z hz) 1 rfl (lw_S q66 q67 q19 q68) (by decide +kernel) (by decide) dX0_solid_1 rfl (Nat.le_of_ble_eq_true rfl) (fun r hp => ?_)
  rcases hp with ⟨rfl, hp⟩ | ⟨rfl, hp⟩
  · obtain ⟨c, hzc⟩ : ∃ c : Nat, z = (c : Int) := ⟨z.toNat, by omega⟩
    have hc : c < 216 := by omega
    have h01 := (hG.1 c hc).1
    refine j_if_ne_t C (tgt := 9) dX0_solid_4 (by decide) (by omega) (by decide) ?_
    refine j_aload_n C 0 dX0_solid_9 rfl rfl ?_
    refine x_get C X 0 (by decide) q29 rfl dX0_solid_10 ?_
    refine j_iload_n C 1 dX0_solid_13 rfl rfl ?_
    refine x_zld C X 0 216 (c) rfl rfl (by decide) (by omega) (by omega) dX0_solid_14 (fun hb14 => ?_)
    refine j_if_eq C (tgt := 22) dX0_solid_15 (by decide) (by omega) (fun hc15 => ?_) (fun hc15 => ?_)
    · refine j_iconst C dX0_solid_22 ?_
      refine j_istore_n C [1, 2, 3, 0] (L' := [(0, _), (1, _), (2, _), (3, _)]) dX0_solid_23 rfl (by decide) rfl ?_
      refine j_aload_n C 0 dX0_solid_24 rfl rfl ?_
      refine j_iload_n C 1 dX0_solid_25 rfl rfl ?_
      refine j_iload_n C 2 dX0_solid_26 rfl rfl ?_
      refine j_if_eq C (tgt := 34) dX0_solid_27 (by decide) (by omega) (fun hc27 => ?_) (fun hc27 => ?_)
      · refine j_iconst C dX0_solid_34 ?_
        refine x_callv C X (m_change _ O σ c 0 _ _ (by omega) (by omega) hc (by omega) hG) 2 rfl (lw_V q69 q71 qs0 q19 q72) (by decide +kernel) (by decide) dX0_solid_35 rfl (Nat.le_of_ble_eq_true rfl) (fun σ1 hC => ?_)
        refine j_iload_n C 3 dX0_solid_38 rfl rfl ?_
        exact x_iret C X Rt (rfl) (Or.inr ⟨c, hc, hzc, by congr 1; omega, by rw [fl_0 hc27]; exact hC⟩) dX0_solid_39
      · refine j_iconst C dX0_solid_30 ?_
        refine j_goto C (tgt := 35) dX0_solid_31 (by decide) ?_
        refine x_callv C X (m_change _ O σ c 1 _ _ (by omega) (by omega) hc (by omega) hG) 2 rfl (lw_V q69 q71 qs0 q19 q72) (by decide +kernel) (by decide) dX0_solid_35 rfl (Nat.le_of_ble_eq_true rfl) (fun σ1 hC => ?_)
        refine j_iload_n C 3 dX0_solid_38 rfl rfl ?_
        exact x_iret C X Rt (rfl) (Or.inr ⟨c, hc, hzc, by congr 1; omega, by rw [fl_1 hc27]; exact hC⟩) dX0_solid_39
    · refine j_iconst C dX0_solid_18 ?_
      refine j_goto C (tgt := 23) dX0_solid_19 (by decide) ?_
      refine j_istore_n C [1, 2, 3, 0] (L' := [(0, _), (1, _), (2, _), (3, _)]) dX0_solid_23 rfl (by decide) rfl ?_
      refine j_aload_n C 0 dX0_solid_24 rfl rfl ?_
      refine j_iload_n C 1 dX0_solid_25 rfl rfl ?_
      refine j_iload_n C 2 dX0_solid_26 rfl rfl ?_
      refine j_if_eq C (tgt := 34) dX0_solid_27 (by decide) (by omega) (fun hc27 => ?_) (fun hc27 => ?_)
      · refine j_iconst C dX0_solid_34 ?_
        refine x_callv C X (m_change _ O σ c 0 _ _ (by omega) (by omega) hc (by omega) hG) 2 rfl (lw_V q69 q71 qs0 q19 q72) (by decide +kernel) (by decide) dX0_solid_35 rfl (Nat.le_of_ble_eq_true rfl) (fun σ1 hC => ?_)
        refine j_iload_n C 3 dX0_solid_38 rfl rfl ?_
        exact x_iret C X Rt (rfl) (Or.inr ⟨c, hc, hzc, by congr 1; omega, by rw [fl_0 hc27]; exact hC⟩) dX0_solid_39
      · refine j_iconst C dX0_solid_30 ?_
        refine j_goto C (tgt := 35) dX0_solid_31 (by decide) ?_
        refine x_callv C X (m_change _ O σ c 1 _ _ (by omega) (by omega) hc (by omega) hG) 2 rfl (lw_V q69 q71 qs0 q19 q72) (by decide +kernel) (by decide) dX0_solid_35 rfl (Nat.le_of_ble_eq_true rfl) (fun σ1 hC => ?_)
        refine j_iload_n C 3 dX0_solid_38 rfl rfl ?_
        exact x_iret C X Rt (rfl) (Or.inr ⟨c, hc, hzc, by congr 1; omega, by rw [fl_1 hc27]; exact hC⟩) dX0_solid_39
  · refine j_if_ne_f C dX0_solid_4 (by omega) (tgt := 9) (by decide) (by decide) ?_
    refine j_iconst C dX0_solid_7 ?_
    exact x_iret C X Rt (rfl) (Or.inl ⟨hp, rfl, rfl⟩) dX0_solid_8
theorem m_solid (l : Launch) (O : XO) (σ : St) (z f : Int) (hz : -2147483648 ≤ z ∧ z < 2147483648) (hf : -2147483648 ≤ f ∧ f < 2147483648) (hG : GI σ) : XMi l O yX0_solid cX0_solid 4 .int 4 95 [.int (iI z), .int (iI f)] σ (fun r σ' => vpost z (r = iI (-1) ∧ σ' = σ) (fun c => r = iI ((σ 0 c : Nat) : Int) ∧ CHO σ σ' c (fl f))) := by
  refine XMi.of (by decide) rfl (Nat.le_of_ble_eq_true rfl) ?_
  intro κ A H0 hκ C X Rt hb
  exact w_solid (O := (oD O, A, H0, O.2.2.2)) z f hz hf hG C X Rt hb
set_option maxHeartbeats 4000000 in
theorem w_isSolid {κ : Kx} {O : XO} {σ : St} (z : Int) (hz : -2147483648 ≤ z ∧ z < 2147483648) (hG : GI σ) (C : CB κ cX0_isSolid 2 RX0 1 20) (X : XC κ O) (Rt : XRI κ O .int (fun r σ' => vpost z (r = iI (-1) ∧ σ' = σ) (fun c => r = iI ((σ 0 c : Nat) : Int) ∧ σ' = σ))) (hb : bnd σ) : J κ 2 (xW O σ) 0 [(0, .ref (oh O)), (1, .int (iI z))] [] := by
  refine j_iload_n C 1 dX0_isSolid_0 rfl rfl ?_
  refine x_callS C X (m_isCell _ z hz) 1 rfl (lw_S q66 q67 q19 q68) (by decide +kernel) (by decide) dX0_isSolid_1 rfl (Nat.le_of_ble_eq_true rfl) (fun r hp => ?_)
  rcases hp with ⟨rfl, hp⟩ | ⟨rfl, hp⟩
  · obtain ⟨c, hzc⟩ : ∃ c : Nat, z = (c : Int) := ⟨z.toNat, by omega⟩
    have hc : c < 216 := by omega
    have h01 := (hG.1 c hc).1
    refine j_if_ne_t C (tgt := 9) dX0_isSolid_4 (by decide) (by omega) (by decide) ?_
    refine j_aload_n C 0 dX0_isSolid_9 rfl rfl ?_
    refine x_get C X 0 (by decide) q29 rfl dX0_isSolid_10 ?_
    refine j_iload_n C 1 dX0_isSolid_13 rfl rfl ?_
    refine x_zld C X 0 216 (c) rfl rfl (by decide) (by omega) (by omega) dX0_isSolid_14 (fun hb14 => ?_)
    refine j_if_eq C (tgt := 22) dX0_isSolid_15 (by decide) (by omega) (fun hc15 => ?_) (fun hc15 => ?_)
    · refine j_iconst C dX0_isSolid_22 ?_
      exact x_iret C X Rt (rfl) (Or.inr ⟨c, hc, hzc, by congr 1; omega, rfl⟩) dX0_isSolid_23
    · refine j_iconst C dX0_isSolid_18 ?_
      refine j_goto C (tgt := 23) dX0_isSolid_19 (by decide) ?_
      exact x_iret C X Rt (rfl) (Or.inr ⟨c, hc, hzc, by congr 1; omega, rfl⟩) dX0_isSolid_23
  · refine j_if_ne_f C dX0_isSolid_4 (by omega) (tgt := 9) (by decide) (by decide) ?_
    refine j_iconst C dX0_isSolid_7 ?_
    exact x_iret C X Rt (rfl) (Or.inl ⟨hp, rfl, rfl⟩) dX0_isSolid_8
theorem m_isSolid (l : Launch) (O : XO) (σ : St) (z : Int) (hz : -2147483648 ≤ z ∧ z < 2147483648) (hG : GI σ) : XMi l O yX0_isSolid cX0_isSolid 2 .int 1 20 [.int (iI z)] σ (fun r σ' => vpost z (r = iI (-1) ∧ σ' = σ) (fun c => r = iI ((σ 0 c : Nat) : Int) ∧ σ' = σ)) := by
  refine XMi.of (by decide) rfl (Nat.le_of_ble_eq_true rfl) ?_
  intro κ A H0 hκ C X Rt hb
  exact w_isSolid (O := (oD O, A, H0, O.2.2.2)) z hz hG C X Rt hb
set_option maxHeartbeats 4000000 in
theorem w_lamplight {κ : Kx} {O : XO} {σ : St} (z : Int) (hz : -2147483648 ≤ z ∧ z < 2147483648) (hG : GI σ) (C : CB κ cX0_lamplight 2 RX0 1 20) (X : XC κ O) (Rt : XRI κ O .int (fun r σ' => vpost z (r = iI (-1) ∧ σ' = σ) (fun c => r = iI ((σ 3 (c) : Nat) : Int) ∧ σ' = σ))) (hb : bnd σ) : J κ 2 (xW O σ) 0 [(0, .ref (oh O)), (1, .int (iI z))] [] := by
  refine j_iload_n C 1 dX0_lamplight_0 rfl rfl ?_
  refine x_callS C X (m_isCell _ z hz) 1 rfl (lw_S q66 q67 q19 q68) (by decide +kernel) (by decide) dX0_lamplight_1 rfl (Nat.le_of_ble_eq_true rfl) (fun r hp => ?_)
  rcases hp with ⟨rfl, hp⟩ | ⟨rfl, hp⟩
  · obtain ⟨c, hzc⟩ : ∃ c : Nat, z = (c : Int) := ⟨z.toNat, by omega⟩
    have hc : c < 216 := by omega
    refine j_if_eq_f C dX0_lamplight_4 (by omega) (tgt := 16) (by decide) (by decide) ?_
    refine j_aload_n C 0 dX0_lamplight_7 rfl rfl ?_
    refine x_get C X 3 (by decide) q32 rfl dX0_lamplight_8 ?_
    refine j_iload_n C 1 dX0_lamplight_11 rfl rfl ?_
    refine x_ild C X 3 432 (c) rfl rfl (by decide) (by omega) (by omega) dX0_lamplight_12 (fun hb12 => ?_)
    refine j_goto C (tgt := 17) dX0_lamplight_13 (by decide) ?_
    exact x_iret C X Rt (rfl) (Or.inr ⟨c, hc, hzc, rfl, rfl⟩) dX0_lamplight_17
  · refine j_if_eq_t C (tgt := 16) dX0_lamplight_4 (by decide) (by omega) (by decide) ?_
    refine j_iconst C dX0_lamplight_16 ?_
    exact x_iret C X Rt (rfl) (Or.inl ⟨hp, rfl, rfl⟩) dX0_lamplight_17
theorem m_lamplight (l : Launch) (O : XO) (σ : St) (z : Int) (hz : -2147483648 ≤ z ∧ z < 2147483648) (hG : GI σ) : XMi l O yX0_lamplight cX0_lamplight 2 .int 1 20 [.int (iI z)] σ (fun r σ' => vpost z (r = iI (-1) ∧ σ' = σ) (fun c => r = iI ((σ 3 (c) : Nat) : Int) ∧ σ' = σ)) := by
  refine XMi.of (by decide) rfl (Nat.le_of_ble_eq_true rfl) ?_
  intro κ A H0 hκ C X Rt hb
  exact w_lamplight (O := (oD O, A, H0, O.2.2.2)) z hz hG C X Rt hb
set_option maxHeartbeats 4000000 in
theorem w_skylight {κ : Kx} {O : XO} {σ : St} (z : Int) (hz : -2147483648 ≤ z ∧ z < 2147483648) (hG : GI σ) (C : CB κ cX0_skylight 2 RX0 1 20) (X : XC κ O) (Rt : XRI κ O .int (fun r σ' => vpost z (r = iI (-1) ∧ σ' = σ) (fun c => r = iI ((σ 3 (216 + c) : Nat) : Int) ∧ σ' = σ))) (hb : bnd σ) : J κ 2 (xW O σ) 0 [(0, .ref (oh O)), (1, .int (iI z))] [] := by
  refine j_iload_n C 1 dX0_skylight_0 rfl rfl ?_
  refine x_callS C X (m_isCell _ z hz) 1 rfl (lw_S q66 q67 q19 q68) (by decide +kernel) (by decide) dX0_skylight_1 rfl (Nat.le_of_ble_eq_true rfl) (fun r hp => ?_)
  rcases hp with ⟨rfl, hp⟩ | ⟨rfl, hp⟩
  · obtain ⟨c, hzc⟩ : ∃ c : Nat, z = (c : Int) := ⟨z.toNat, by omega⟩
    have hc : c < 216 := by omega
    refine j_if_eq_f C dX0_skylight_4 (by omega) (tgt := 20) (by decide) (by decide) ?_
    refine j_aload_n C 0 dX0_skylight_7 rfl rfl ?_
    refine x_get C X 3 (by decide) q32 rfl dX0_skylight_8 ?_
    refine j_sipush C dX0_skylight_11 (by decide) ?_
    refine j_iload_n C 1 dX0_skylight_14 rfl rfl ?_
    refine j_iadd C dX0_skylight_15 ?_
    refine x_ild C X 3 432 (216 + c) rfl rfl (by decide) (by omega) (by omega) dX0_skylight_16 (fun hb16 => ?_)
    refine j_goto C (tgt := 21) dX0_skylight_17 (by decide) ?_
    exact x_iret C X Rt (rfl) (Or.inr ⟨c, hc, hzc, rfl, rfl⟩) dX0_skylight_21
  · refine j_if_eq_t C (tgt := 20) dX0_skylight_4 (by decide) (by omega) (by decide) ?_
    refine j_iconst C dX0_skylight_20 ?_
    exact x_iret C X Rt (rfl) (Or.inl ⟨hp, rfl, rfl⟩) dX0_skylight_21
theorem m_skylight (l : Launch) (O : XO) (σ : St) (z : Int) (hz : -2147483648 ≤ z ∧ z < 2147483648) (hG : GI σ) : XMi l O yX0_skylight cX0_skylight 2 .int 1 20 [.int (iI z)] σ (fun r σ' => vpost z (r = iI (-1) ∧ σ' = σ) (fun c => r = iI ((σ 3 (216 + c) : Nat) : Int) ∧ σ' = σ)) := by
  refine XMi.of (by decide) rfl (Nat.le_of_ble_eq_true rfl) ?_
  intro κ A H0 hκ C X Rt hb
  exact w_skylight (O := (oD O, A, H0, O.2.2.2)) z hz hG C X Rt hb
set_option maxHeartbeats 4000000 in
theorem w_lamp {κ : Kx} {O : XO} {σ : St} (z f : Int) (hz : -2147483648 ≤ z ∧ z < 2147483648) (hf : -2147483648 ≤ f ∧ f < 2147483648) (hG : GI σ) (C : CB κ cX0_lamp 4 RX0 4 92) (X : XC κ O) (Rt : XRI κ O .int (fun r σ' => vpost z (r = iI (-1) ∧ σ' = σ) (fun c => (¬ (0 ≤ f ∧ f ≤ 12) ∧ r = iI (-2) ∧ σ' = σ) ∨ ((0 ≤ f ∧ f ≤ 12) ∧ r = iI ((σ 1 c : Nat) : Int) ∧ LPO σ σ' c f.toNat)))) (hb : bnd σ) : J κ 4 (xW O σ) 0 [(0, .ref (oh O)), (1, .int (iI z)), (2, .int (iI f))] [] := by
  refine j_iload_n C 1 dX0_lamp_0 rfl rfl ?_
  refine x_callS C X (m_isCell _ z hz) 1 rfl (lw_S q66 q67 q19 q68) (by decide +kernel) (by decide) dX0_lamp_1 rfl (Nat.le_of_ble_eq_true rfl) (fun r hp => ?_)
  rcases hp with ⟨rfl, hp⟩ | ⟨rfl, hp⟩
  · obtain ⟨c, hzc⟩ : ∃ c : Nat, z = (c : Int) := ⟨z.toNat, by omega⟩
    have hc : c < 216 := by omega
    refine j_if_ne_t C (tgt := 9) dX0_lamp_4 (by decide) (by omega) (by decide) ?_
    refine j_iload_n C 2 dX0_lamp_9 rfl rfl ?_
    refine j_if_lt C (tgt := 19) dX0_lamp_10 (by decide) (by omega) (fun hc10 => ?_) (fun hc10 => ?_)
    · refine j_bipush C dX0_lamp_19 (by decide) ?_
      exact x_iret C X Rt (rfl) (Or.inr ⟨c, hc, hzc, Or.inl ⟨by omega, rfl, rfl⟩⟩) dX0_lamp_21
    · refine j_iload_n C 2 dX0_lamp_13 rfl rfl ?_
      refine j_bipush C dX0_lamp_14 (by decide) ?_
      refine j_icmp_le C (tgt := 22) dX0_lamp_16 (by decide) (by omega) (by omega) (fun hc16 => ?_) (fun hc16 => ?_)
      · refine j_aload_n C 0 dX0_lamp_22 rfl rfl ?_
        refine x_get C X 1 (by decide) q30 rfl dX0_lamp_23 ?_
        refine j_iload_n C 1 dX0_lamp_26 rfl rfl ?_
        refine x_ild C X 1 216 (c) rfl rfl (by decide) (by omega) (by omega) dX0_lamp_27 (fun hb27 => ?_)
        refine j_istore_n C [1, 2, 3, 0] (L' := [(0, _), (1, _), (2, _), (3, _)]) dX0_lamp_28 rfl (by decide) rfl ?_
        refine j_aload_n C 0 dX0_lamp_29 rfl rfl ?_
        refine j_iload_n C 1 dX0_lamp_30 rfl rfl ?_
        refine j_iload_n C 2 dX0_lamp_31 rfl rfl ?_
        refine x_callv C X (m_setLamp _ O σ c f.toNat _ _ (by omega) (by omega) hc (by omega) hG) 2 rfl (lw_V q117 q119 qs6 q19 q120) (by decide +kernel) (by decide) dX0_lamp_32 rfl (Nat.le_of_ble_eq_true rfl) (fun σ1 hC => ?_)
        refine j_iload_n C 3 dX0_lamp_35 rfl rfl ?_
        exact x_iret C X Rt (rfl) (Or.inr ⟨c, hc, hzc, Or.inr ⟨by omega, rfl, hC⟩⟩) dX0_lamp_36
      · refine j_bipush C dX0_lamp_19 (by decide) ?_
        exact x_iret C X Rt (rfl) (Or.inr ⟨c, hc, hzc, Or.inl ⟨by omega, rfl, rfl⟩⟩) dX0_lamp_21
  · refine j_if_ne_f C dX0_lamp_4 (by omega) (tgt := 9) (by decide) (by decide) ?_
    refine j_iconst C dX0_lamp_7 ?_
    exact x_iret C X Rt (rfl) (Or.inl ⟨hp, rfl, rfl⟩) dX0_lamp_8
theorem m_lamp (l : Launch) (O : XO) (σ : St) (z f : Int) (hz : -2147483648 ≤ z ∧ z < 2147483648) (hf : -2147483648 ≤ f ∧ f < 2147483648) (hG : GI σ) : XMi l O yX0_lamp cX0_lamp 4 .int 4 92 [.int (iI z), .int (iI f)] σ (fun r σ' => vpost z (r = iI (-1) ∧ σ' = σ) (fun c => (¬ (0 ≤ f ∧ f ≤ 12) ∧ r = iI (-2) ∧ σ' = σ) ∨ ((0 ≤ f ∧ f ≤ 12) ∧ r = iI ((σ 1 c : Nat) : Int) ∧ LPO σ σ' c f.toNat))) := by
  refine XMi.of (by decide) rfl (Nat.le_of_ble_eq_true rfl) ?_
  intro κ A H0 hκ C X Rt hb
  exact w_lamp (O := (oD O, A, H0, O.2.2.2)) z f hz hf hG C X Rt hb
set_option maxHeartbeats 4000000 in
theorem w_fill {κ : Kx} {O : XO} {σ : St} (lo hi f : Int) (hlo : -2147483648 ≤ lo ∧ lo < 2147483648) (hhi : -2147483648 ≤ hi ∧ hi < 2147483648) (hf : -2147483648 ≤ f ∧ f < 2147483648) (hG : GI σ) (C : CB κ cX0_fill 6 RX0 4 95) (X : XC κ O) (Rt : XRI κ O .int (fun r σ' => bpost lo hi (r = iI (-1) ∧ σ' = σ) (r = iI ((cnt (fun x => inP (x : Int) lo hi ∧ σ 0 x ≠ fl f) 216 : Nat) : Int) ∧ GI σ' ∧ σ' 1 = σ 1 ∧ ∀ x : Nat, x < 216 → (inP (x : Int) lo hi → σ' 0 x = fl f) ∧ (¬ inP (x : Int) lo hi → σ' 0 x = σ 0 x)))) (hb : bnd σ) : J κ 6 (xW O σ) 0 [(0, .ref (oh O)), (1, .int (iI lo)), (2, .int (iI hi)), (3, .int (iI f))] [] := by
  have KK : boxP lo hi → J κ 6 (xW O σ) 10 [(0, .ref (oh O)), (1, .int (iI lo)), (2, .int (iI hi)), (3, .int (iI f))] [] := by
    intro hB
    by_cases hf : f = 0
    · have K16 : ∀ (n c : Nat) (σ1 : St) (ch : Nat) (z4 z5 : Int), z5 = (c : Int) → z4 = (ch : Int) → 216 < c + n → c ≤ 216 → FI σ σ1 (fun x => inP (x : Int) lo hi) 0 c ch → J κ 6 (xW O σ1) 16 [(0, .ref (oh O)), (1, .int (iI lo)), (2, .int (iI hi)), (3, .int (iI f)), (4, .int (iI z4)), (5, .int (iI z5))] [] := by
        intro n
        induction n with
        | zero => intros; omega
        | succ n ih =>
          intro c σ1 ch z4 z5 hz5 hz4 hn hc hF
          have h0 : c < 216 → σ1 0 c = σ 0 c := fun h => fi_at hF h
          refine j_iload C 5 dX0_fill_16 rfl ?_
          refine j_sipush C dX0_fill_18 (by decide) ?_
          refine j_icmp_ge C (tgt := 77) dX0_fill_21 (by decide) (by omega) (by omega) (fun hc21 => ?_) (fun hc21 => ?_)
          · refine j_iload C 4 dX0_fill_77 rfl ?_
            exact x_iret C X Rt (rfl) (Or.inr ⟨hB, by rw [hz4, hF.2.2.2, show c = 216 by omega]; simp only [fl_0 hf], hF.1, hF.2.1, fun x hx => by rw [fl_0 hf]; exact ⟨fun g => (hF.2.2.1 x hx).1 ⟨by omega, g⟩, fun g => (hF.2.2.1 x hx).2 (fun k => g k.2)⟩⟩) dX0_fill_79
          · refine j_iload C 5 dX0_fill_24 rfl ?_
            refine j_iload_n C 1 dX0_fill_26 rfl rfl ?_
            refine j_iload_n C 2 dX0_fill_27 rfl rfl ?_
            refine x_callS C X (m_inBox _ _ (by omega) lo (by have := hB.1; omega) hi (by have := hB.2.1; omega)) 3 rfl (lw_S q103 q104 q19 q105) (by decide +kernel) (by decide) dX0_fill_28 rfl (Nat.le_of_ble_eq_true rfl) (fun r hin => ?_)
            rcases hin with ⟨rfl, hin⟩ | ⟨rfl, hin⟩
            · subst hz5
              refine j_if_eq_f C dX0_fill_31 (by omega) (tgt := 71) (by decide) (by decide) ?_
              refine j_aload_n C 0 dX0_fill_34 rfl rfl ?_
              refine x_get C X 0 (by decide) q29 rfl dX0_fill_35 ?_
              refine j_iload C 5 dX0_fill_38 rfl ?_
              refine x_zld C X 0 216 (c) rfl rfl (by decide) (by omega) (by omega) dX0_fill_40 (fun hb40 => ?_)
              refine j_iload_n C 3 dX0_fill_41 rfl rfl ?_
              refine j_if_eq_t C (tgt := 49) dX0_fill_42 (by decide) (by omega) (hf) ?_
              refine j_iconst C dX0_fill_49 ?_
              refine j_icmp_eq C (tgt := 71) dX0_fill_50 (by decide) (by omega) (by omega) (fun hc50 => ?_) (fun hc50 => ?_)
              · refine j_iinc C 5 [1, 2, 3, 4, 5, 0] (L' := [(0, _), (1, _), (2, _), (3, _), (4, _), (5, _)]) dX0_fill_71 rfl (by decide) rfl ?_
                refine j_goto C (tgt := 16) dX0_fill_74 (by decide) ?_
                exact ih (c + 1) σ1 ch _ _ (by omega) hz4 (by omega) (by omega) (fi_skip hF (by omega) (fun g => g.2 (by omega)))
              · refine j_aload_n C 0 dX0_fill_53 rfl rfl ?_
                refine j_iload C 5 dX0_fill_54 rfl ?_
                refine j_iload_n C 3 dX0_fill_56 rfl rfl ?_
                refine j_if_eq_t C (tgt := 64) dX0_fill_57 (by decide) (by omega) (hf) ?_
                refine j_iconst C dX0_fill_64 ?_
                refine x_callv C X (m_change _ O σ1 c 0 _ _ (by omega) (by omega) (by omega) (by omega) hF.1) 2 rfl (lw_V q69 q71 qs0 q19 q72) (by decide +kernel) (by decide) dX0_fill_65 rfl (Nat.le_of_ble_eq_true rfl) (fun σ2 hC => ?_)
                refine j_iinc C 4 [1, 2, 3, 4, 0, 5] (L' := [(0, _), (1, _), (2, _), (3, _), (4, _), (5, _)]) dX0_fill_68 rfl (by decide) rfl ?_
                refine j_iinc C 5 [1, 2, 3, 4, 5, 0] (L' := [(0, _), (1, _), (2, _), (3, _), (4, _), (5, _)]) dX0_fill_71 rfl (by decide) rfl ?_
                refine j_goto C (tgt := 16) dX0_fill_74 (by decide) ?_
                exact ih (c + 1) σ2 (ch + 1) _ _ (by omega) (by omega) (by omega) (by omega) (fi_set hF (by omega) hin (by omega) hC)
            · subst hz5
              refine j_if_eq_t C (tgt := 71) dX0_fill_31 (by decide) (by omega) (by decide) ?_
              refine j_iinc C 5 [1, 2, 3, 4, 5, 0] (L' := [(0, _), (1, _), (2, _), (3, _), (4, _), (5, _)]) dX0_fill_71 rfl (by decide) rfl ?_
              refine j_goto C (tgt := 16) dX0_fill_74 (by decide) ?_
              exact ih (c + 1) σ1 ch _ _ (by omega) hz4 (by omega) (by omega) (fi_skip hF (by omega) (fun g => hin g.1))
      refine j_iconst C dX0_fill_10 ?_
      refine j_istore C [1, 2, 3, 4, 0] (L' := [(0, _), (1, _), (2, _), (3, _), (4, _)]) dX0_fill_11 (by decide) rfl ?_
      refine j_iconst C dX0_fill_13 ?_
      refine j_istore C [1, 2, 3, 4, 5, 0] (L' := [(0, _), (1, _), (2, _), (3, _), (4, _), (5, _)]) dX0_fill_14 (by decide) rfl ?_
      exact K16 217 0 σ 0 _ _ (by omega) (by omega) (by omega) (by omega) (fi_0 hG)
    · have K16 : ∀ (n c : Nat) (σ1 : St) (ch : Nat) (z4 z5 : Int), z5 = (c : Int) → z4 = (ch : Int) → 216 < c + n → c ≤ 216 → FI σ σ1 (fun x => inP (x : Int) lo hi) 1 c ch → J κ 6 (xW O σ1) 16 [(0, .ref (oh O)), (1, .int (iI lo)), (2, .int (iI hi)), (3, .int (iI f)), (4, .int (iI z4)), (5, .int (iI z5))] [] := by
        intro n
        induction n with
        | zero => intros; omega
        | succ n ih =>
          intro c σ1 ch z4 z5 hz5 hz4 hn hc hF
          have h0 : c < 216 → σ1 0 c = σ 0 c := fun h => fi_at hF h
          refine j_iload C 5 dX0_fill_16 rfl ?_
          refine j_sipush C dX0_fill_18 (by decide) ?_
          refine j_icmp_ge C (tgt := 77) dX0_fill_21 (by decide) (by omega) (by omega) (fun hc21 => ?_) (fun hc21 => ?_)
          · refine j_iload C 4 dX0_fill_77 rfl ?_
            exact x_iret C X Rt (rfl) (Or.inr ⟨hB, by rw [hz4, hF.2.2.2, show c = 216 by omega]; simp only [fl_1 hf], hF.1, hF.2.1, fun x hx => by rw [fl_1 hf]; exact ⟨fun g => (hF.2.2.1 x hx).1 ⟨by omega, g⟩, fun g => (hF.2.2.1 x hx).2 (fun k => g k.2)⟩⟩) dX0_fill_79
          · refine j_iload C 5 dX0_fill_24 rfl ?_
            refine j_iload_n C 1 dX0_fill_26 rfl rfl ?_
            refine j_iload_n C 2 dX0_fill_27 rfl rfl ?_
            refine x_callS C X (m_inBox _ _ (by omega) lo (by have := hB.1; omega) hi (by have := hB.2.1; omega)) 3 rfl (lw_S q103 q104 q19 q105) (by decide +kernel) (by decide) dX0_fill_28 rfl (Nat.le_of_ble_eq_true rfl) (fun r hin => ?_)
            rcases hin with ⟨rfl, hin⟩ | ⟨rfl, hin⟩
            · subst hz5
              refine j_if_eq_f C dX0_fill_31 (by omega) (tgt := 71) (by decide) (by decide) ?_
              refine j_aload_n C 0 dX0_fill_34 rfl rfl ?_
              refine x_get C X 0 (by decide) q29 rfl dX0_fill_35 ?_
              refine j_iload C 5 dX0_fill_38 rfl ?_
              refine x_zld C X 0 216 (c) rfl rfl (by decide) (by omega) (by omega) dX0_fill_40 (fun hb40 => ?_)
              refine j_iload_n C 3 dX0_fill_41 rfl rfl ?_
              refine j_if_eq_f C dX0_fill_42 (by omega) (tgt := 49) (by decide) (hf) ?_
              refine j_iconst C dX0_fill_45 ?_
              refine j_goto C (tgt := 50) dX0_fill_46 (by decide) ?_
              refine j_icmp_eq C (tgt := 71) dX0_fill_50 (by decide) (by omega) (by omega) (fun hc50 => ?_) (fun hc50 => ?_)
              · refine j_iinc C 5 [1, 2, 3, 4, 5, 0] (L' := [(0, _), (1, _), (2, _), (3, _), (4, _), (5, _)]) dX0_fill_71 rfl (by decide) rfl ?_
                refine j_goto C (tgt := 16) dX0_fill_74 (by decide) ?_
                exact ih (c + 1) σ1 ch _ _ (by omega) hz4 (by omega) (by omega) (fi_skip hF (by omega) (fun g => g.2 (by omega)))
              · refine j_aload_n C 0 dX0_fill_53 rfl rfl ?_
                refine j_iload C 5 dX0_fill_54 rfl ?_
                refine j_iload_n C 3 dX0_fill_56 rfl rfl ?_
                refine j_if_eq_f C dX0_fill_57 (by omega) (tgt := 64) (by decide) (hf) ?_
                refine j_iconst C dX0_fill_60 ?_
                refine j_goto C (tgt := 65) dX0_fill_61 (by decide) ?_
                refine x_callv C X (m_change _ O σ1 c 1 _ _ (by omega) (by omega) (by omega) (by omega) hF.1) 2 rfl (lw_V q69 q71 qs0 q19 q72) (by decide +kernel) (by decide) dX0_fill_65 rfl (Nat.le_of_ble_eq_true rfl) (fun σ2 hC => ?_)
                refine j_iinc C 4 [1, 2, 3, 4, 0, 5] (L' := [(0, _), (1, _), (2, _), (3, _), (4, _), (5, _)]) dX0_fill_68 rfl (by decide) rfl ?_
                refine j_iinc C 5 [1, 2, 3, 4, 5, 0] (L' := [(0, _), (1, _), (2, _), (3, _), (4, _), (5, _)]) dX0_fill_71 rfl (by decide) rfl ?_
                refine j_goto C (tgt := 16) dX0_fill_74 (by decide) ?_
                exact ih (c + 1) σ2 (ch + 1) _ _ (by omega) (by omega) (by omega) (by omega) (fi_set hF (by omega) hin (by omega) hC)
            · subst hz5
              refine j_if_eq_t C (tgt := 71) dX0_fill_31 (by decide) (by omega) (by decide) ?_
              refine j_iinc C 5 [1, 2, 3, 4, 5, 0] (L' := [(0, _), (1, _), (2, _), (3, _), (4, _), (5, _)]) dX0_fill_71 rfl (by decide) rfl ?_
              refine j_goto C (tgt := 16) dX0_fill_74 (by decide) ?_
              exact ih (c + 1) σ1 ch _ _ (by omega) hz4 (by omega) (by omega) (fi_skip hF (by omega) (fun g => hin g.1))
      refine j_iconst C dX0_fill_10 ?_
      refine j_istore C [1, 2, 3, 4, 0] (L' := [(0, _), (1, _), (2, _), (3, _), (4, _)]) dX0_fill_11 (by decide) rfl ?_
      refine j_iconst C dX0_fill_13 ?_
      refine j_istore C [1, 2, 3, 4, 5, 0] (L' := [(0, _), (1, _), (2, _), (3, _), (4, _), (5, _)]) dX0_fill_14 (by decide) rfl ?_
      exact K16 217 0 σ 0 _ _ (by omega) (by omega) (by omega) (by omega) (fi_0 hG)
  refine j_iload_n C 1 dX0_fill_0 rfl rfl ?_
  refine j_iload_n C 2 dX0_fill_1 rfl rfl ?_
  refine x_callS C X (m_isBox _ lo hlo hi hhi) 2 rfl (lw_S q100 q101 q19 q102) (by decide +kernel) (by decide) dX0_fill_2 rfl (Nat.le_of_ble_eq_true rfl) (fun r hp => ?_)
  rcases hp with ⟨rfl, hp⟩ | ⟨rfl, hp⟩
  · refine j_if_ne_t C (tgt := 10) dX0_fill_5 (by decide) (by omega) (by decide) ?_
    exact KK hp
  · refine j_if_ne_f C dX0_fill_5 (by omega) (tgt := 10) (by decide) (by decide) ?_
    refine j_iconst C dX0_fill_8 ?_
    exact x_iret C X Rt (rfl) (Or.inl ⟨hp, rfl, rfl⟩) dX0_fill_9
theorem m_fill (l : Launch) (O : XO) (σ : St) (lo hi f : Int) (hlo : -2147483648 ≤ lo ∧ lo < 2147483648) (hhi : -2147483648 ≤ hi ∧ hi < 2147483648) (hf : -2147483648 ≤ f ∧ f < 2147483648) (hG : GI σ) : XMi l O yX0_fill cX0_fill 6 .int 4 95 [.int (iI lo), .int (iI hi), .int (iI f)] σ (fun r σ' => bpost lo hi (r = iI (-1) ∧ σ' = σ) (r = iI ((cnt (fun x => inP (x : Int) lo hi ∧ σ 0 x ≠ fl f) 216 : Nat) : Int) ∧ GI σ' ∧ σ' 1 = σ 1 ∧ ∀ x : Nat, x < 216 → (inP (x : Int) lo hi → σ' 0 x = fl f) ∧ (¬ inP (x : Int) lo hi → σ' 0 x = σ 0 x))) := by
  refine XMi.of (by decide) rfl (Nat.le_of_ble_eq_true rfl) ?_
  intro κ A H0 hκ C X Rt hb
  exact w_fill (O := (oD O, A, H0, O.2.2.2)) lo hi f hlo hhi hf hG C X Rt hb
set_option maxHeartbeats 4000000 in
theorem w_shell {κ : Kx} {O : XO} {σ : St} (lo hi : Int) (hlo : -2147483648 ≤ lo ∧ lo < 2147483648) (hhi : -2147483648 ≤ hi ∧ hi < 2147483648) (hG : GI σ) (C : CB κ cX0_shell 5 RX0 4 95) (X : XC κ O) (Rt : XRI κ O .int (fun r σ' => bpost lo hi (r = iI (-1) ∧ σ' = σ) (r = iI ((cnt (fun x => (inP (x : Int) lo hi ∧ onP (x : Int) lo hi) ∧ σ 0 x ≠ 1) 216 : Nat) : Int) ∧ GI σ' ∧ σ' 1 = σ 1 ∧ ∀ x : Nat, x < 216 → (inP (x : Int) lo hi ∧ onP (x : Int) lo hi → σ' 0 x = 1) ∧ (¬ (inP (x : Int) lo hi ∧ onP (x : Int) lo hi) → σ' 0 x = σ 0 x)))) (hb : bnd σ) : J κ 5 (xW O σ) 0 [(0, .ref (oh O)), (1, .int (iI lo)), (2, .int (iI hi))] [] := by
  have KK : boxP lo hi → J κ 5 (xW O σ) 10 [(0, .ref (oh O)), (1, .int (iI lo)), (2, .int (iI hi))] [] := by
    intro hB
    have K15 : ∀ (n c : Nat) (σ1 : St) (ch : Nat) (z4 z5 : Int), z5 = (c : Int) → z4 = (ch : Int) → 216 < c + n → c ≤ 216 → FI σ σ1 (fun x => inP (x : Int) lo hi ∧ onP (x : Int) lo hi) 1 c ch → J κ 5 (xW O σ1) 15 [(0, .ref (oh O)), (1, .int (iI lo)), (2, .int (iI hi)), (3, .int (iI z4)), (4, .int (iI z5))] [] := by
      intro n
      induction n with
      | zero => intros; omega
      | succ n ih =>
        intro c σ1 ch z4 z5 hz5 hz4 hn hc hF
        have h0 : c < 216 → σ1 0 c = σ 0 c := fun h => fi_at hF h
        have h1 : c < 216 → σ1 0 c ≤ 1 := fun h => (hF.1.1 c h).1
        refine j_iload C 4 dX0_shell_15 rfl ?_
        refine j_sipush C dX0_shell_17 (by decide) ?_
        refine j_icmp_ge C (tgt := 69) dX0_shell_20 (by decide) (by omega) (by omega) (fun hc20 => ?_) (fun hc20 => ?_)
        · refine j_iload_n C 3 dX0_shell_69 rfl rfl ?_
          exact x_iret C X Rt (rfl) (Or.inr ⟨hB, by rw [hz4, hF.2.2.2, show c = 216 by omega], hF.1, hF.2.1, fun x hx => ⟨fun g => (hF.2.2.1 x hx).1 ⟨by omega, g⟩, fun g => (hF.2.2.1 x hx).2 (fun k => g k.2)⟩⟩) dX0_shell_70
        · refine j_iload C 4 dX0_shell_23 rfl ?_
          refine j_iload_n C 1 dX0_shell_25 rfl rfl ?_
          refine j_iload_n C 2 dX0_shell_26 rfl rfl ?_
          refine x_callS C X (m_inBox _ _ (by omega) lo (by have := hB.1; omega) hi (by have := hB.2.1; omega)) 3 rfl (lw_S q103 q104 q19 q105) (by decide +kernel) (by decide) dX0_shell_27 rfl (Nat.le_of_ble_eq_true rfl) (fun r hin => ?_)
          rcases hin with ⟨rfl, hin⟩ | ⟨rfl, hin⟩
          · subst hz5
            refine j_if_eq_f C dX0_shell_30 (by omega) (tgt := 63) (by decide) (by decide) ?_
            refine j_iload C 4 dX0_shell_33 rfl ?_
            refine j_iload_n C 1 dX0_shell_35 rfl rfl ?_
            refine j_iload_n C 2 dX0_shell_36 rfl rfl ?_
            refine x_callS C X (m_onWall _ _ (by omega) lo (by have := hB.1; omega) hi (by have := hB.2.1; omega)) 3 rfl (lw_S q110 q111 q19 q112) (by decide +kernel) (by decide) dX0_shell_37 rfl (Nat.le_of_ble_eq_true rfl) (fun r hon => ?_)
            rcases hon with ⟨rfl, hon⟩ | ⟨rfl, hon⟩
            · refine j_if_eq_f C dX0_shell_40 (by omega) (tgt := 63) (by decide) (by decide) ?_
              refine j_aload_n C 0 dX0_shell_43 rfl rfl ?_
              refine x_get C X 0 (by decide) q29 rfl dX0_shell_44 ?_
              refine j_iload C 4 dX0_shell_47 rfl ?_
              refine x_zld C X 0 216 (c) rfl rfl (by decide) (by omega) (by omega) dX0_shell_49 (fun hb49 => ?_)
              refine j_if_ne C (tgt := 63) dX0_shell_50 (by decide) (by omega) (fun hc50 => ?_) (fun hc50 => ?_)
              · refine j_iinc C 4 [1, 2, 3, 4, 0] (L' := [(0, _), (1, _), (2, _), (3, _), (4, _)]) dX0_shell_63 rfl (by decide) rfl ?_
                refine j_goto C (tgt := 15) dX0_shell_66 (by decide) ?_
                exact ih (c + 1) σ1 ch _ _ (by omega) hz4 (by omega) (by omega) (fi_skip hF (by omega) (fun g => g.2 (by omega)))
              · refine j_aload_n C 0 dX0_shell_53 rfl rfl ?_
                refine j_iload C 4 dX0_shell_54 rfl ?_
                refine j_iconst C dX0_shell_56 ?_
                refine x_callv C X (m_change _ O σ1 c 1 _ _ (by omega) (by omega) (by omega) (by omega) hF.1) 2 rfl (lw_V q69 q71 qs0 q19 q72) (by decide +kernel) (by decide) dX0_shell_57 rfl (Nat.le_of_ble_eq_true rfl) (fun σ2 hC => ?_)
                refine j_iinc C 3 [1, 2, 3, 0, 4] (L' := [(0, _), (1, _), (2, _), (3, _), (4, _)]) dX0_shell_60 rfl (by decide) rfl ?_
                refine j_iinc C 4 [1, 2, 3, 4, 0] (L' := [(0, _), (1, _), (2, _), (3, _), (4, _)]) dX0_shell_63 rfl (by decide) rfl ?_
                refine j_goto C (tgt := 15) dX0_shell_66 (by decide) ?_
                exact ih (c + 1) σ2 (ch + 1) _ _ (by omega) (by omega) (by omega) (by omega) (fi_set hF (by omega) ⟨hin, hon⟩ (by omega) hC)
            · refine j_if_eq_t C (tgt := 63) dX0_shell_40 (by decide) (by omega) (by decide) ?_
              refine j_iinc C 4 [1, 2, 3, 4, 0] (L' := [(0, _), (1, _), (2, _), (3, _), (4, _)]) dX0_shell_63 rfl (by decide) rfl ?_
              refine j_goto C (tgt := 15) dX0_shell_66 (by decide) ?_
              exact ih (c + 1) σ1 ch _ _ (by omega) hz4 (by omega) (by omega) (fi_skip hF (by omega) (fun g => hon g.1.2))
          · subst hz5
            refine j_if_eq_t C (tgt := 63) dX0_shell_30 (by decide) (by omega) (by decide) ?_
            refine j_iinc C 4 [1, 2, 3, 4, 0] (L' := [(0, _), (1, _), (2, _), (3, _), (4, _)]) dX0_shell_63 rfl (by decide) rfl ?_
            refine j_goto C (tgt := 15) dX0_shell_66 (by decide) ?_
            exact ih (c + 1) σ1 ch _ _ (by omega) hz4 (by omega) (by omega) (fi_skip hF (by omega) (fun g => hin g.1.1))
    refine j_iconst C dX0_shell_10 ?_
    refine j_istore_n C [1, 2, 3, 0] (L' := [(0, _), (1, _), (2, _), (3, _)]) dX0_shell_11 rfl (by decide) rfl ?_
    refine j_iconst C dX0_shell_12 ?_
    refine j_istore C [1, 2, 3, 4, 0] (L' := [(0, _), (1, _), (2, _), (3, _), (4, _)]) dX0_shell_13 (by decide) rfl ?_
    exact K15 217 0 σ 0 _ _ (by omega) (by omega) (by omega) (by omega) (fi_0 hG)
  refine j_iload_n C 1 dX0_shell_0 rfl rfl ?_
  refine j_iload_n C 2 dX0_shell_1 rfl rfl ?_
  refine x_callS C X (m_isBox _ lo hlo hi hhi) 2 rfl (lw_S q100 q101 q19 q102) (by decide +kernel) (by decide) dX0_shell_2 rfl (Nat.le_of_ble_eq_true rfl) (fun r hp => ?_)
  rcases hp with ⟨rfl, hp⟩ | ⟨rfl, hp⟩
  · refine j_if_ne_t C (tgt := 10) dX0_shell_5 (by decide) (by omega) (by decide) ?_
    exact KK hp
  · refine j_if_ne_f C dX0_shell_5 (by omega) (tgt := 10) (by decide) (by decide) ?_
    refine j_iconst C dX0_shell_8 ?_
    exact x_iret C X Rt (rfl) (Or.inl ⟨hp, rfl, rfl⟩) dX0_shell_9
theorem m_shell (l : Launch) (O : XO) (σ : St) (lo hi : Int) (hlo : -2147483648 ≤ lo ∧ lo < 2147483648) (hhi : -2147483648 ≤ hi ∧ hi < 2147483648) (hG : GI σ) : XMi l O yX0_shell cX0_shell 5 .int 4 95 [.int (iI lo), .int (iI hi)] σ (fun r σ' => bpost lo hi (r = iI (-1) ∧ σ' = σ) (r = iI ((cnt (fun x => (inP (x : Int) lo hi ∧ onP (x : Int) lo hi) ∧ σ 0 x ≠ 1) 216 : Nat) : Int) ∧ GI σ' ∧ σ' 1 = σ 1 ∧ ∀ x : Nat, x < 216 → (inP (x : Int) lo hi ∧ onP (x : Int) lo hi → σ' 0 x = 1) ∧ (¬ (inP (x : Int) lo hi ∧ onP (x : Int) lo hi) → σ' 0 x = σ 0 x))) := by
  refine XMi.of (by decide) rfl (Nat.le_of_ble_eq_true rfl) ?_
  intro κ A H0 hκ C X Rt hb
  exact w_shell (O := (oD O, A, H0, O.2.2.2)) lo hi hlo hhi hG C X Rt hb
end
section
def litP (L : Nat → Nat) (lo hi lv : Int) (x : Nat) : Prop := inP (x : Int) lo hi ∧ lv ≤ ((L x : Nat) : Int)
def dimP (w L : Nat → Nat) (lv : Int) (x : Nat) : Prop := w x = 0 ∧ ((L x : Nat) : Int) = lv
def shaP (w L : Nat → Nat) (lv : Int) (x : Nat) : Prop := 36 ≤ x ∧ w x = 0 ∧ w (x - 36) ≠ 0 ∧ ((L x : Nat) : Int) ≤ lv
def opnP (se : Nat → Nat) (x : Nat) : Prop := se x ≠ 0
def srvP (L L' : Nat → Nat) (x : Nat) : Prop := L' x < L x
theorem cnt_const {P : Nat → Prop} {a b : Nat} (hab : a ≤ b) (h : ∀ k, a ≤ k → k < b → ¬ P k) : cnt P b = cnt P a := by
  induction b with
  | zero => rw [show a = 0 by omega]
  | succ b ih =>
    by_cases e : a = b + 1
    · rw [e]
    · rw [cnt_f (h b (by omega) (Nat.lt_succ_self b)), ih (by omega) (fun k h1 h2 => h k h1 (by omega))]
theorem gi_congr {σ σ1 : St} (h : ∀ k, k ≤ 4 → σ1 k = σ k) (hG : GI σ) : GI σ1 := by
  have e0 := h 0 (by omega)
  have e1 := h 1 (by omega)
  have e2 := h 2 (by omega)
  have e3 := h 3 (by omega)
  have e4 := h 4 (by omega)
  have es : ∀ p, srcv σ1 p = srcv σ p := srcv_congr e1 e2
  have eo : ∀ p, sol σ1 p = sol σ p := sol_congr e0
  unfold GI PG sup
  simp only [e0, e1, e2, e3, e4, es, eo]
  exact hG
theorem j_bnd {κ : Kx} {O : XO} {σ : St} {nL pc : Nat} {L : List (Nat × Value)} {st : List Value} (k : bnd σ → J κ nL (xW O σ) pc L st) : J κ nL (xW O σ) pc L st := fun H locs ls hw hl => k hw.2.2.2 H locs ls hw hl
set_option maxHeartbeats 4000000 in
theorem w_lit {κ : Kx} {O : XO} {σ : St} (lo hi lv : Int) (hlo : -2147483648 ≤ lo ∧ lo < 2147483648) (hhi : -2147483648 ≤ hi ∧ hi < 2147483648) (hlv : -2147483648 ≤ lv ∧ lv < 2147483648) (C : CB κ cX0_lit 6 RX0 2 41) (X : XC κ O) (Rt : XRI κ O .int (fun r σ' => bpost lo hi (r = iI (-1) ∧ σ' = σ) (r = iI ((cnt (litP (lgt σ) lo hi lv) 216 : Nat) : Int) ∧ σ' = σ))) (hb : bnd σ) : J κ 6 (xW O σ) 0 [(0, .ref (oh O)), (1, .int (iI lo)), (2, .int (iI hi)), (3, .int (iI lv))] [] := by
  have KK : boxP lo hi → J κ 6 (xW O σ) 10 [(0, .ref (oh O)), (1, .int (iI lo)), (2, .int (iI hi)), (3, .int (iI lv))] [] := by
    intro hB
    have K16 : ∀ (n c : Nat) (z4 z5 : Int), z5 = (c : Int) → z4 = ((cnt (litP (lgt σ) lo hi lv) c : Nat) : Int) → 216 < c + n → c ≤ 216 → J κ 6 (xW O σ) 16 [(0, .ref (oh O)), (1, .int (iI lo)), (2, .int (iI hi)), (3, .int (iI lv)), (4, .int (iI z4)), (5, .int (iI z5))] [] := by
      intro n
      induction n with
      | zero => intros; omega
      | succ n ih =>
        intro c z4 z5 hz5 hz4 hn hc
        refine j_iload C 5 dX0_lit_16 rfl ?_
        refine j_sipush C dX0_lit_18 (by decide) ?_
        refine j_icmp_ge C (tgt := 60) dX0_lit_21 (by decide) (by omega) (by omega) (fun hc21 => ?_) (fun hc21 => ?_)
        · refine j_iload C 4 dX0_lit_60 rfl ?_
          exact x_iret C X Rt (rfl) (Or.inr ⟨hB, by rw [hz4, show c = 216 by omega], rfl⟩) dX0_lit_62
        · refine j_iload C 4 dX0_lit_24 rfl ?_
          refine j_iload C 5 dX0_lit_26 rfl ?_
          refine j_iload_n C 1 dX0_lit_28 rfl rfl ?_
          refine j_iload_n C 2 dX0_lit_29 rfl rfl ?_
          refine x_callS C X (m_inBox _ _ (by omega) lo (by have := hB.1; omega) hi (by have := hB.2.1; omega)) 3 rfl (lw_S q103 q104 q19 q105) (by decide +kernel) (by decide) dX0_lit_30 rfl (Nat.le_of_ble_eq_true rfl) (fun r hin => ?_)
          rcases hin with ⟨rfl, hin⟩ | ⟨rfl, hin⟩
          · subst hz5
            refine j_if_eq_f C dX0_lit_33 (by omega) (tgt := 50) (by decide) (by decide) ?_
            refine j_aload_n C 0 dX0_lit_36 rfl rfl ?_
            refine j_iload C 5 dX0_lit_37 rfl ?_
            refine x_calli C X (m_light _ O σ c _ (by omega) (by omega)) 1 rfl (lw_V q137 q139 qs7 q19 q140) (by decide +kernel) (by decide) dX0_lit_39 rfl (Nat.le_of_ble_eq_true rfl) (fun r σ1 hl => ?_)
            obtain ⟨rfl, hσ⟩ := hl
            rw [hσ]
            have hlg := lgt_le hb c
            refine j_iload_n C 3 dX0_lit_42 rfl rfl ?_
            refine j_icmp_lt C (tgt := 50) dX0_lit_43 (by decide) (by omega) (by omega) (fun hc43 => ?_) (fun hc43 => ?_)
            · refine j_iconst C dX0_lit_50 ?_
              refine j_iadd C dX0_lit_51 ?_
              refine j_istore C [1, 2, 3, 4, 0, 5] (L' := [(0, _), (1, _), (2, _), (3, _), (4, _), (5, _)]) dX0_lit_52 (by decide) rfl ?_
              refine j_iinc C 5 [1, 2, 3, 4, 5, 0] (L' := [(0, _), (1, _), (2, _), (3, _), (4, _), (5, _)]) dX0_lit_54 rfl (by decide) rfl ?_
              refine j_goto C (tgt := 16) dX0_lit_57 (by decide) ?_
              have hp : ¬ litP (lgt σ) lo hi lv c := fun g => absurd g.2 (by omega)
              exact ih (c + 1) _ _ (by omega) (by rw [cnt_f hp]; omega) (by omega) (by omega)
            · refine j_iconst C dX0_lit_46 ?_
              refine j_goto C (tgt := 51) dX0_lit_47 (by decide) ?_
              refine j_iadd C dX0_lit_51 ?_
              refine j_istore C [1, 2, 3, 4, 0, 5] (L' := [(0, _), (1, _), (2, _), (3, _), (4, _), (5, _)]) dX0_lit_52 (by decide) rfl ?_
              refine j_iinc C 5 [1, 2, 3, 4, 5, 0] (L' := [(0, _), (1, _), (2, _), (3, _), (4, _), (5, _)]) dX0_lit_54 rfl (by decide) rfl ?_
              refine j_goto C (tgt := 16) dX0_lit_57 (by decide) ?_
              have hp : litP (lgt σ) lo hi lv c := ⟨hin, by omega⟩
              exact ih (c + 1) _ _ (by omega) (by rw [cnt_t hp]; omega) (by omega) (by omega)
          · subst hz5
            refine j_if_eq_t C (tgt := 50) dX0_lit_33 (by decide) (by omega) (by decide) ?_
            refine j_iconst C dX0_lit_50 ?_
            refine j_iadd C dX0_lit_51 ?_
            refine j_istore C [1, 2, 3, 4, 0, 5] (L' := [(0, _), (1, _), (2, _), (3, _), (4, _), (5, _)]) dX0_lit_52 (by decide) rfl ?_
            refine j_iinc C 5 [1, 2, 3, 4, 5, 0] (L' := [(0, _), (1, _), (2, _), (3, _), (4, _), (5, _)]) dX0_lit_54 rfl (by decide) rfl ?_
            refine j_goto C (tgt := 16) dX0_lit_57 (by decide) ?_
            have hp : ¬ litP (lgt σ) lo hi lv c := fun g => hin g.1
            exact ih (c + 1) _ _ (by omega) (by rw [cnt_f hp]; omega) (by omega) (by omega)
    refine j_iconst C dX0_lit_10 ?_
    refine j_istore C [1, 2, 3, 4, 0] (L' := [(0, _), (1, _), (2, _), (3, _), (4, _)]) dX0_lit_11 (by decide) rfl ?_
    refine j_iconst C dX0_lit_13 ?_
    refine j_istore C [1, 2, 3, 4, 5, 0] (L' := [(0, _), (1, _), (2, _), (3, _), (4, _), (5, _)]) dX0_lit_14 (by decide) rfl ?_
    exact K16 217 0 _ _ (by omega) (by rfl) (by omega) (by omega)
  refine j_iload_n C 1 dX0_lit_0 rfl rfl ?_
  refine j_iload_n C 2 dX0_lit_1 rfl rfl ?_
  refine x_callS C X (m_isBox _ lo hlo hi hhi) 2 rfl (lw_S q100 q101 q19 q102) (by decide +kernel) (by decide) dX0_lit_2 rfl (Nat.le_of_ble_eq_true rfl) (fun r hp => ?_)
  rcases hp with ⟨rfl, hp⟩ | ⟨rfl, hp⟩
  · refine j_if_ne_t C (tgt := 10) dX0_lit_5 (by decide) (by omega) (by decide) ?_
    exact KK hp
  · refine j_if_ne_f C dX0_lit_5 (by omega) (tgt := 10) (by decide) (by decide) ?_
    refine j_iconst C dX0_lit_8 ?_
    exact x_iret C X Rt (rfl) (Or.inl ⟨hp, rfl, rfl⟩) dX0_lit_9
theorem m_lit (l : Launch) (O : XO) (σ : St) (lo hi lv : Int) (hlo : -2147483648 ≤ lo ∧ lo < 2147483648) (hhi : -2147483648 ≤ hi ∧ hi < 2147483648) (hlv : -2147483648 ≤ lv ∧ lv < 2147483648) : XMi l O yX0_lit cX0_lit 6 .int 2 41 [.int (iI lo), .int (iI hi), .int (iI lv)] σ (fun r σ' => bpost lo hi (r = iI (-1) ∧ σ' = σ) (r = iI ((cnt (litP (lgt σ) lo hi lv) 216 : Nat) : Int) ∧ σ' = σ)) := by
  refine XMi.of (by decide) rfl (Nat.le_of_ble_eq_true rfl) ?_
  intro κ A H0 hκ C X Rt hb
  exact w_lit (O := (oD O, A, H0, O.2.2.2)) lo hi lv hlo hhi hlv C X Rt hb
set_option maxHeartbeats 4000000 in
theorem w_dim {κ : Kx} {O : XO} {σ : St} (lv : Int) (hlv : -2147483648 ≤ lv ∧ lv < 2147483648) (C : CB κ cX0_dim 4 RX0 1 22) (X : XC κ O) (Rt : XRI κ O .int (fun r σ' => (¬ (0 ≤ lv ∧ lv ≤ 12) ∧ r = iI (-1) ∧ σ' = σ) ∨ ((0 ≤ lv ∧ lv ≤ 12) ∧ r = iI ((cnt (dimP (σ 0) (lgt σ) lv) 216 : Nat) : Int) ∧ σ' = σ))) (hb : bnd σ) : J κ 4 (xW O σ) 0 [(0, .ref (oh O)), (1, .int (iI lv))] [] := by
  have K16 : (0 ≤ lv ∧ lv ≤ 12) → ∀ (n c : Nat) (z4 z5 : Int), z5 = (c : Int) → z4 = ((cnt (dimP (σ 0) (lgt σ) lv) c : Nat) : Int) → 216 < c + n → c ≤ 216 → J κ 4 (xW O σ) 16 [(0, .ref (oh O)), (1, .int (iI lv)), (2, .int (iI z4)), (3, .int (iI z5))] [] := by
    intro hv n
    induction n with
    | zero => intros; omega
    | succ n ih =>
      intro c z4 z5 hz5 hz4 hn hc
      refine j_iload_n C 3 dX0_dim_16 rfl rfl ?_
      refine j_sipush C dX0_dim_17 (by decide) ?_
      refine j_icmp_ge C (tgt := 55) dX0_dim_20 (by decide) (by omega) (by omega) (fun hc20 => ?_) (fun hc20 => ?_)
      · refine j_iload_n C 2 dX0_dim_55 rfl rfl ?_
        exact x_iret C X Rt (rfl) (Or.inr ⟨hv, by rw [hz4, show c = 216 by omega], rfl⟩) dX0_dim_56
      · refine j_iload_n C 2 dX0_dim_23 rfl rfl ?_
        refine j_aload_n C 0 dX0_dim_24 rfl rfl ?_
        refine x_get C X 0 (by decide) q29 rfl dX0_dim_25 ?_
        refine j_iload_n C 3 dX0_dim_28 rfl rfl ?_
        refine x_zld C X 0 216 (c) rfl rfl (by decide) (by omega) (by omega) dX0_dim_29 (fun hb29 => ?_)
        refine j_if_ne C (tgt := 46) dX0_dim_30 (by decide) (by omega) (fun hc30 => ?_) (fun hc30 => ?_)
        · refine j_iconst C dX0_dim_46 ?_
          refine j_iadd C dX0_dim_47 ?_
          refine j_istore_n C [1, 2, 0, 3] (L' := [(0, _), (1, _), (2, _), (3, _)]) dX0_dim_48 rfl (by decide) rfl ?_
          refine j_iinc C 3 [1, 2, 3, 0] (L' := [(0, _), (1, _), (2, _), (3, _)]) dX0_dim_49 rfl (by decide) rfl ?_
          refine j_goto C (tgt := 16) dX0_dim_52 (by decide) ?_
          have hp : ¬ dimP (σ 0) (lgt σ) lv c := fun g => absurd g.1 (by omega)
          exact ih (c + 1) _ _ (by omega) (by rw [cnt_f hp]; omega) (by omega) (by omega)
        · refine j_aload_n C 0 dX0_dim_33 rfl rfl ?_
          refine j_iload_n C 3 dX0_dim_34 rfl rfl ?_
          refine x_calli C X (m_light _ O σ c _ (by omega) (by omega)) 1 rfl (lw_V q137 q139 qs7 q19 q140) (by decide +kernel) (by decide) dX0_dim_35 rfl (Nat.le_of_ble_eq_true rfl) (fun r σ1 hl => ?_)
          obtain ⟨rfl, hσ⟩ := hl
          rw [hσ]
          have hlg := lgt_le hb c
          refine j_iload_n C 1 dX0_dim_38 rfl rfl ?_
          refine j_icmp_ne C (tgt := 46) dX0_dim_39 (by decide) (by omega) (by omega) (fun hc39 => ?_) (fun hc39 => ?_)
          · refine j_iconst C dX0_dim_46 ?_
            refine j_iadd C dX0_dim_47 ?_
            refine j_istore_n C [1, 2, 0, 3] (L' := [(0, _), (1, _), (2, _), (3, _)]) dX0_dim_48 rfl (by decide) rfl ?_
            refine j_iinc C 3 [1, 2, 3, 0] (L' := [(0, _), (1, _), (2, _), (3, _)]) dX0_dim_49 rfl (by decide) rfl ?_
            refine j_goto C (tgt := 16) dX0_dim_52 (by decide) ?_
            have hp : ¬ dimP (σ 0) (lgt σ) lv c := fun g => absurd g.2 (by omega)
            exact ih (c + 1) _ _ (by omega) (by rw [cnt_f hp]; omega) (by omega) (by omega)
          · refine j_iconst C dX0_dim_42 ?_
            refine j_goto C (tgt := 47) dX0_dim_43 (by decide) ?_
            refine j_iadd C dX0_dim_47 ?_
            refine j_istore_n C [1, 2, 0, 3] (L' := [(0, _), (1, _), (2, _), (3, _)]) dX0_dim_48 rfl (by decide) rfl ?_
            refine j_iinc C 3 [1, 2, 3, 0] (L' := [(0, _), (1, _), (2, _), (3, _)]) dX0_dim_49 rfl (by decide) rfl ?_
            refine j_goto C (tgt := 16) dX0_dim_52 (by decide) ?_
            have hp : dimP (σ 0) (lgt σ) lv c := ⟨by omega, by omega⟩
            exact ih (c + 1) _ _ (by omega) (by rw [cnt_t hp]; omega) (by omega) (by omega)
  refine j_iload_n C 1 dX0_dim_0 rfl rfl ?_
  refine j_if_lt C (tgt := 10) dX0_dim_1 (by decide) (by omega) (fun hc1 => ?_) (fun hc1 => ?_)
  · refine j_iconst C dX0_dim_10 ?_
    exact x_iret C X Rt (rfl) (Or.inl ⟨by omega, rfl, rfl⟩) dX0_dim_11
  · refine j_iload_n C 1 dX0_dim_4 rfl rfl ?_
    refine j_bipush C dX0_dim_5 (by decide) ?_
    refine j_icmp_le C (tgt := 12) dX0_dim_7 (by decide) (by omega) (by omega) (fun hc7 => ?_) (fun hc7 => ?_)
    · refine j_iconst C dX0_dim_12 ?_
      refine j_istore_n C [1, 2, 0] (L' := [(0, _), (1, _), (2, _)]) dX0_dim_13 rfl (by decide) rfl ?_
      refine j_iconst C dX0_dim_14 ?_
      refine j_istore_n C [1, 2, 3, 0] (L' := [(0, _), (1, _), (2, _), (3, _)]) dX0_dim_15 rfl (by decide) rfl ?_
      exact K16 (by omega) 217 0 _ _ (by omega) (by rfl) (by omega) (by omega)
    · refine j_iconst C dX0_dim_10 ?_
      exact x_iret C X Rt (rfl) (Or.inl ⟨by omega, rfl, rfl⟩) dX0_dim_11
theorem m_dim (l : Launch) (O : XO) (σ : St) (lv : Int) (hlv : -2147483648 ≤ lv ∧ lv < 2147483648) : XMi l O yX0_dim cX0_dim 4 .int 1 22 [.int (iI lv)] σ (fun r σ' => (¬ (0 ≤ lv ∧ lv ≤ 12) ∧ r = iI (-1) ∧ σ' = σ) ∨ ((0 ≤ lv ∧ lv ≤ 12) ∧ r = iI ((cnt (dimP (σ 0) (lgt σ) lv) 216 : Nat) : Int) ∧ σ' = σ)) := by
  refine XMi.of (by decide) rfl (Nat.le_of_ble_eq_true rfl) ?_
  intro κ A H0 hκ C X Rt hb
  exact w_dim (O := (oD O, A, H0, O.2.2.2)) lv hlv C X Rt hb
set_option maxHeartbeats 4000000 in
theorem w_darkest {κ : Kx} {O : XO} {σ : St}  (C : CB κ cX0_darkest 3 RX0 1 22) (X : XC κ O) (Rt : XRI κ O .int (fun r σ' => r = iI (dk (σ 0) (lgt σ) 216) ∧ σ' = σ)) (hb : bnd σ) : J κ 3 (xW O σ) 0 [(0, .ref (oh O))] [] := by
  have K4 : ∀ (n c : Nat) (z1 z2 : Int), z2 = (c : Int) → z1 = dk (σ 0) (lgt σ) c → 216 < c + n → c ≤ 216 → J κ 3 (xW O σ) 4 [(0, .ref (oh O)), (1, .int (iI z1)), (2, .int (iI z2))] [] := by
    intro n
    induction n with
    | zero => intros; omega
    | succ n ih =>
      intro c z1 z2 hz2 hz1 hn hc
      have hdk := dk_rg (σ 0) (lgt σ) c
      refine j_iload_n C 2 dX0_darkest_4 rfl rfl ?_
      refine j_sipush C dX0_darkest_5 (by decide) ?_
      refine j_icmp_ge C (tgt := 46) dX0_darkest_8 (by decide) (by omega) (by omega) (fun hc8 => ?_) (fun hc8 => ?_)
      · refine j_iload_n C 1 dX0_darkest_46 rfl rfl ?_
        exact x_iret C X Rt (rfl) (⟨by rw [hz1, show c = 216 by omega], rfl⟩) dX0_darkest_47
      · refine j_aload_n C 0 dX0_darkest_11 rfl rfl ?_
        refine x_get C X 0 (by decide) q29 rfl dX0_darkest_12 ?_
        refine j_iload_n C 2 dX0_darkest_15 rfl rfl ?_
        refine x_zld C X 0 216 (c) rfl rfl (by decide) (by omega) (by omega) dX0_darkest_16 (fun hb16 => ?_)
        refine j_if_ne C (tgt := 40) dX0_darkest_17 (by decide) (by omega) (fun hc17 => ?_) (fun hc17 => ?_)
        · refine j_iinc C 2 [1, 2, 0] (L' := [(0, _), (1, _), (2, _)]) dX0_darkest_40 rfl (by decide) rfl ?_
          refine j_goto C (tgt := 4) dX0_darkest_43 (by decide) ?_
          exact ih (c + 1) _ _ (by omega) (by rw [dk_f (w := σ 0) (L := lgt σ) (n := c) (fun g => absurd g.1 (by omega))]; exact hz1) (by omega) (by omega)
        · refine j_iload_n C 1 dX0_darkest_20 rfl rfl ?_
          refine j_iconst C dX0_darkest_21 ?_
          refine j_icmp_eq C (tgt := 38) dX0_darkest_22 (by decide) (by omega) (by omega) (fun hc22 => ?_) (fun hc22 => ?_)
          · refine j_iload_n C 2 dX0_darkest_38 rfl rfl ?_
            refine j_istore_n C [1, 0, 2] (L' := [(0, _), (1, _), (2, _)]) dX0_darkest_39 rfl (by decide) rfl ?_
            refine j_iinc C 2 [1, 2, 0] (L' := [(0, _), (1, _), (2, _)]) dX0_darkest_40 rfl (by decide) rfl ?_
            refine j_goto C (tgt := 4) dX0_darkest_43 (by decide) ?_
            exact ih (c + 1) _ _ (by omega) (by rw [dk_t (w := σ 0) (L := lgt σ) (n := c) ⟨by omega, Or.inl (by omega)⟩]; exact hz2) (by omega) (by omega)
          · refine j_aload_n C 0 dX0_darkest_25 rfl rfl ?_
            refine j_iload_n C 2 dX0_darkest_26 rfl rfl ?_
            refine x_calli C X (m_light _ O σ c _ (by omega) (by omega)) 1 rfl (lw_V q137 q139 qs7 q19 q140) (by decide +kernel) (by decide) dX0_darkest_27 rfl (Nat.le_of_ble_eq_true rfl) (fun r σ1 hl => ?_)
            obtain ⟨rfl, hσ⟩ := hl
            rw [hσ]
            have hlg := lgt_le hb c
            refine j_aload_n C 0 dX0_darkest_30 rfl rfl ?_
            refine j_iload_n C 1 dX0_darkest_31 rfl rfl ?_
            refine x_calli C X (m_light _ O σ (dk (σ 0) (lgt σ) c).toNat _ (by omega) (by omega)) 1 rfl (lw_V q137 q139 qs7 q19 q140) (by decide +kernel) (by decide) dX0_darkest_32 rfl (Nat.le_of_ble_eq_true rfl) (fun r σ1 hl => ?_)
            obtain ⟨rfl, hσ⟩ := hl
            rw [hσ]
            have hlg2 := lgt_le hb (dk (σ 0) (lgt σ) c).toNat
            refine j_icmp_ge C (tgt := 40) dX0_darkest_35 (by decide) (by omega) (by omega) (fun hc35 => ?_) (fun hc35 => ?_)
            · refine j_iinc C 2 [1, 2, 0] (L' := [(0, _), (1, _), (2, _)]) dX0_darkest_40 rfl (by decide) rfl ?_
              refine j_goto C (tgt := 4) dX0_darkest_43 (by decide) ?_
              exact ih (c + 1) _ _ (by omega) (by rw [dk_f (w := σ 0) (L := lgt σ) (n := c) (fun g => by have := g.2; omega)]; exact hz1) (by omega) (by omega)
            · refine j_iload_n C 2 dX0_darkest_38 rfl rfl ?_
              refine j_istore_n C [1, 0, 2] (L' := [(0, _), (1, _), (2, _)]) dX0_darkest_39 rfl (by decide) rfl ?_
              refine j_iinc C 2 [1, 2, 0] (L' := [(0, _), (1, _), (2, _)]) dX0_darkest_40 rfl (by decide) rfl ?_
              refine j_goto C (tgt := 4) dX0_darkest_43 (by decide) ?_
              exact ih (c + 1) _ _ (by omega) (by rw [dk_t (w := σ 0) (L := lgt σ) (n := c) ⟨by omega, Or.inr (by omega)⟩]; exact hz2) (by omega) (by omega)
  refine j_iconst C dX0_darkest_0 ?_
  refine j_istore_n C [1, 0] (L' := [(0, _), (1, _)]) dX0_darkest_1 rfl (by decide) rfl ?_
  refine j_iconst C dX0_darkest_2 ?_
  refine j_istore_n C [1, 2, 0] (L' := [(0, _), (1, _), (2, _)]) dX0_darkest_3 rfl (by decide) rfl ?_
  exact K4 217 0 _ _ (by omega) (by rfl) (by omega) (by omega)
theorem m_darkest (l : Launch) (O : XO) (σ : St)  : XMi l O yX0_darkest cX0_darkest 3 .int 1 22 [] σ (fun r σ' => r = iI (dk (σ 0) (lgt σ) 216) ∧ σ' = σ) := by
  refine XMi.of (by decide) rfl (Nat.le_of_ble_eq_true rfl) ?_
  intro κ A H0 hκ C X Rt hb
  exact w_darkest (O := (oD O, A, H0, O.2.2.2))  C X Rt hb
set_option maxHeartbeats 4000000 in
theorem w_faces {κ : Kx} {O : XO} {σ : St}  (C : CB κ cX0_faces 5 RX0 1 23) (X : XC κ O) (Rt : XRI κ O .int (fun r σ' => r = iI ((cnt (fcP nbr (σ 0)) 1296 : Nat) : Int) ∧ σ' = σ)) (hb : bnd σ) : J κ 5 (xW O σ) 0 [(0, .ref (oh O))] [] := by
  have K4 : ∀ (n c : Nat) (z1 z2 : Int), z2 = (c : Int) → z1 = ((cnt (fcP nbr (σ 0)) (6 * c) : Nat) : Int) → 216 < c + n → c ≤ 216 → J κ 5 (xW O σ) 4 [(0, .ref (oh O)), (1, .int (iI z1)), (2, .int (iI z2))] [] := by
    intro n
    induction n with
    | zero => intros; omega
    | succ n ih =>
      intro c z1 z2 hz2 hz1 hn hc
      have K13 : c < 216 → ∀ (k w : Nat) (z1 z3 : Int), z3 = (w : Int) → z1 = ((cnt (fcP nbr (σ 0)) (6 * c + w) : Nat) : Int) → 6 < w + k → w ≤ 6 → J κ 5 (xW O σ) 13 [(0, .ref (oh O)), (1, .int (iI z1)), (2, .int (iI z2)), (3, .int (iI z3))] [] := by
        intro hc2 k
        induction k with
        | zero => intros; omega
        | succ k ih2 =>
          intro w z1 z3 hz3 hz1 hk hw
          have d1 : (6 * c + w) / 6 = c ∨ w = 6 := by omega
          have d2 : (6 * c + w) % 6 = w ∨ w = 6 := by omega
          refine j_iload_n C 3 dX0_faces_13 rfl rfl ?_
          refine j_bipush C dX0_faces_14 (by decide) ?_
          refine j_icmp_ge C (tgt := 65) dX0_faces_16 (by decide) (by omega) (by omega) (fun hc16 => ?_) (fun hc16 => ?_)
          · refine j_iinc C 2 [1, 2, 0, 3] (L' := [(0, _), (1, _), (2, _), (3, _)]) dX0_faces_65 rfl (by decide) rfl ?_
            refine j_goto C (tgt := 4) dX0_faces_68 (by decide) ?_
            refine j_sub [0, 1, 2] (L' := [(0, _), (1, _), (2, _)]) rfl ?_
            exact ih (c + 1) _ _ (by omega) (by rw [hz1, show 6 * (c + 1) = 6 * c + w by omega]) (by omega) (by omega)
          · refine j_aload_n C 0 dX0_faces_19 rfl rfl ?_
            refine x_get C X 0 (by decide) q29 rfl dX0_faces_20 ?_
            refine j_iload_n C 2 dX0_faces_23 rfl rfl ?_
            refine x_zld C X 0 216 (c) rfl rfl (by decide) (by omega) (by omega) dX0_faces_24 (fun hb24 => ?_)
            refine j_if_eq C (tgt := 65) dX0_faces_25 (by decide) (by omega) (fun hc25 => ?_) (fun hc25 => ?_)
            · refine j_iinc C 2 [1, 2, 0, 3] (L' := [(0, _), (1, _), (2, _), (3, _)]) dX0_faces_65 rfl (by decide) rfl ?_
              refine j_goto C (tgt := 4) dX0_faces_68 (by decide) ?_
              refine j_sub [0, 1, 2] (L' := [(0, _), (1, _), (2, _)]) rfl ?_
              have e8 := cnt_const (P := fcP nbr (σ 0)) (a := 6 * c + w) (b := 6 * (c + 1)) (by omega) (fun k a b g => g.1 (by rw [show k / 6 = c by omega]; omega))
              exact ih (c + 1) _ _ (by omega) (by rw [hz1, e8]) (by omega) (by omega)
            · refine j_iload_n C 2 dX0_faces_28 rfl rfl ?_
              refine j_iload_n C 3 dX0_faces_29 rfl rfl ?_
              refine x_callS C X (m_nb _ c w _ _ (by omega) (by omega) (by omega) (by omega)) 2 rfl (lw_S q81 q82 q19 q83) (by decide +kernel) (by decide) dX0_faces_30 rfl (Nat.le_of_ble_eq_true rfl) (fun r hp2 => ?_)
              subst hp2
              have e5 : (6 * c + w) / 6 = c := by omega
              have e6 : (6 * c + w) % 6 = w := by omega
              rcases nbr_rg hc2 (show w < 6 by omega) with e | ⟨d, hd, e, e2⟩
              · rw [e]
                refine j_istore C [1, 2, 3, 4, 0] (L' := [(0, _), (1, _), (2, _), (3, _), (4, _)]) dX0_faces_33 (by decide) rfl ?_
                refine j_iload_n C 1 dX0_faces_35 rfl rfl ?_
                refine j_iload C 4 dX0_faces_36 rfl ?_
                refine j_iconst C dX0_faces_38 ?_
                refine j_icmp_eq_t C (tgt := 52) dX0_faces_39 (by decide) (by omega) (by omega) (by omega) ?_
                refine j_iconst C dX0_faces_52 ?_
                refine j_goto C (tgt := 57) dX0_faces_53 (by decide) ?_
                refine j_iadd C dX0_faces_57 ?_
                refine j_istore_n C [1, 0, 2, 3, 4] (L' := [(0, _), (1, _), (2, _), (3, _), (4, _)]) dX0_faces_58 rfl (by decide) rfl ?_
                refine j_iinc C 3 [1, 2, 3, 0, 4] (L' := [(0, _), (1, _), (2, _), (3, _), (4, _)]) dX0_faces_59 rfl (by decide) rfl ?_
                refine j_goto C (tgt := 13) dX0_faces_62 (by decide) ?_
                refine j_sub [0, 1, 2, 3] (L' := [(0, _), (1, _), (2, _), (3, _)]) rfl ?_
                have hq : fcP nbr (σ 0) (6 * c + w) := by
                  unfold fcP
                  rw [e5, e6]
                  exact ⟨by omega, Or.inl e⟩
                exact ih2 (w + 1) _ _ (by omega) (by rw [show 6 * c + (w + 1) = 6 * c + w + 1 by omega, cnt_t hq]; omega) (by omega) (by omega)
              · rw [e]
                refine j_istore C [1, 2, 3, 4, 0] (L' := [(0, _), (1, _), (2, _), (3, _), (4, _)]) dX0_faces_33 (by decide) rfl ?_
                refine j_iload_n C 1 dX0_faces_35 rfl rfl ?_
                refine j_iload C 4 dX0_faces_36 rfl ?_
                refine j_iconst C dX0_faces_38 ?_
                refine j_icmp_eq_f C dX0_faces_39 (by omega) (by omega) (tgt := 52) (by decide) (by omega) ?_
                refine j_aload_n C 0 dX0_faces_42 rfl rfl ?_
                refine x_get C X 0 (by decide) q29 rfl dX0_faces_43 ?_
                refine j_iload C 4 dX0_faces_46 rfl ?_
                refine x_zld C X 0 216 (d) rfl rfl (by decide) (by omega) (by omega) dX0_faces_48 (fun hb48 => ?_)
                refine j_if_ne C (tgt := 56) dX0_faces_49 (by decide) (by omega) (fun hc49 => ?_) (fun hc49 => ?_)
                · refine j_iconst C dX0_faces_56 ?_
                  refine j_iadd C dX0_faces_57 ?_
                  refine j_istore_n C [1, 0, 2, 3, 4] (L' := [(0, _), (1, _), (2, _), (3, _), (4, _)]) dX0_faces_58 rfl (by decide) rfl ?_
                  refine j_iinc C 3 [1, 2, 3, 0, 4] (L' := [(0, _), (1, _), (2, _), (3, _), (4, _)]) dX0_faces_59 rfl (by decide) rfl ?_
                  refine j_goto C (tgt := 13) dX0_faces_62 (by decide) ?_
                  refine j_sub [0, 1, 2, 3] (L' := [(0, _), (1, _), (2, _), (3, _)]) rfl ?_
                  have hq : ¬ fcP nbr (σ 0) (6 * c + w) := by
                    unfold fcP
                    rw [e5, e6]
                    exact fun g => by rw [e] at g; have := g.2; simp only [Int.toNat_natCast] at this; omega
                  exact ih2 (w + 1) _ _ (by omega) (by rw [show 6 * c + (w + 1) = 6 * c + w + 1 by omega, cnt_f hq]; omega) (by omega) (by omega)
                · refine j_iconst C dX0_faces_52 ?_
                  refine j_goto C (tgt := 57) dX0_faces_53 (by decide) ?_
                  refine j_iadd C dX0_faces_57 ?_
                  refine j_istore_n C [1, 0, 2, 3, 4] (L' := [(0, _), (1, _), (2, _), (3, _), (4, _)]) dX0_faces_58 rfl (by decide) rfl ?_
                  refine j_iinc C 3 [1, 2, 3, 0, 4] (L' := [(0, _), (1, _), (2, _), (3, _), (4, _)]) dX0_faces_59 rfl (by decide) rfl ?_
                  refine j_goto C (tgt := 13) dX0_faces_62 (by decide) ?_
                  refine j_sub [0, 1, 2, 3] (L' := [(0, _), (1, _), (2, _), (3, _)]) rfl ?_
                  have hq : fcP nbr (σ 0) (6 * c + w) := by
                    unfold fcP
                    rw [e5, e6]
                    exact ⟨by omega, Or.inr (by rw [e]; simp only [Int.toNat_natCast]; omega)⟩
                  exact ih2 (w + 1) _ _ (by omega) (by rw [show 6 * c + (w + 1) = 6 * c + w + 1 by omega, cnt_t hq]; omega) (by omega) (by omega)
      refine j_iload_n C 2 dX0_faces_4 rfl rfl ?_
      refine j_sipush C dX0_faces_5 (by decide) ?_
      refine j_icmp_ge C (tgt := 71) dX0_faces_8 (by decide) (by omega) (by omega) (fun hc8 => ?_) (fun hc8 => ?_)
      · refine j_iload_n C 1 dX0_faces_71 rfl rfl ?_
        exact x_iret C X Rt (rfl) (⟨by rw [hz1, show 6 * c = 1296 by omega], rfl⟩) dX0_faces_72
      · refine j_iconst C dX0_faces_11 ?_
        refine j_istore_n C [1, 2, 3, 0] (L' := [(0, _), (1, _), (2, _), (3, _)]) dX0_faces_12 rfl (by decide) rfl ?_
        exact K13 (by omega) 7 0 _ _ (by omega) (by rw [hz1]; rfl) (by omega) (by omega)
  refine j_iconst C dX0_faces_0 ?_
  refine j_istore_n C [1, 0] (L' := [(0, _), (1, _)]) dX0_faces_1 rfl (by decide) rfl ?_
  refine j_iconst C dX0_faces_2 ?_
  refine j_istore_n C [1, 2, 0] (L' := [(0, _), (1, _), (2, _)]) dX0_faces_3 rfl (by decide) rfl ?_
  exact K4 217 0 _ _ (by omega) (by rfl) (by omega) (by omega)
theorem m_faces (l : Launch) (O : XO) (σ : St)  : XMi l O yX0_faces cX0_faces 5 .int 1 23 [] σ (fun r σ' => r = iI ((cnt (fcP nbr (σ 0)) 1296 : Nat) : Int) ∧ σ' = σ) := by
  refine XMi.of (by decide) rfl (Nat.le_of_ble_eq_true rfl) ?_
  intro κ A H0 hκ C X Rt hb
  exact w_faces (O := (oD O, A, H0, O.2.2.2))  C X Rt hb
set_option maxHeartbeats 4000000 in
theorem w_shady {κ : Kx} {O : XO} {σ : St} (lv : Int) (hlv : -2147483648 ≤ lv ∧ lv < 2147483648) (C : CB κ cX0_shady 4 RX0 1 22) (X : XC κ O) (Rt : XRI κ O .int (fun r σ' => r = iI ((cnt (shaP (σ 0) (lgt σ) lv) 216 : Nat) : Int) ∧ σ' = σ)) (hb : bnd σ) : J κ 4 (xW O σ) 0 [(0, .ref (oh O)), (1, .int (iI lv))] [] := by
  have K5 : ∀ (n c : Nat) (z2 z3 : Int), z3 = (c : Int) → z2 = ((cnt (shaP (σ 0) (lgt σ) lv) c : Nat) : Int) → 216 < c + n → c ≤ 216 → 36 ≤ c → J κ 4 (xW O σ) 5 [(0, .ref (oh O)), (1, .int (iI lv)), (2, .int (iI z2)), (3, .int (iI z3))] [] := by
    intro n
    induction n with
    | zero => intros; omega
    | succ n ih =>
      intro c z2 z3 hz3 hz2 hn hc h36
      refine j_iload_n C 3 dX0_shady_5 rfl rfl ?_
      refine j_sipush C dX0_shady_6 (by decide) ?_
      refine j_icmp_ge C (tgt := 56) dX0_shady_9 (by decide) (by omega) (by omega) (fun hc9 => ?_) (fun hc9 => ?_)
      · refine j_iload_n C 2 dX0_shady_56 rfl rfl ?_
        exact x_iret C X Rt (rfl) (⟨by rw [hz2, show c = 216 by omega], rfl⟩) dX0_shady_57
      · refine j_iload_n C 2 dX0_shady_12 rfl rfl ?_
        refine j_aload_n C 0 dX0_shady_13 rfl rfl ?_
        refine x_get C X 0 (by decide) q29 rfl dX0_shady_14 ?_
        refine j_iload_n C 3 dX0_shady_17 rfl rfl ?_
        refine x_zld C X 0 216 (c) rfl rfl (by decide) (by omega) (by omega) dX0_shady_18 (fun hb18 => ?_)
        refine j_if_ne C (tgt := 47) dX0_shady_19 (by decide) (by omega) (fun hc19 => ?_) (fun hc19 => ?_)
        · refine j_iconst C dX0_shady_47 ?_
          refine j_iadd C dX0_shady_48 ?_
          refine j_istore_n C [1, 2, 0, 3] (L' := [(0, _), (1, _), (2, _), (3, _)]) dX0_shady_49 rfl (by decide) rfl ?_
          refine j_iinc C 3 [1, 2, 3, 0] (L' := [(0, _), (1, _), (2, _), (3, _)]) dX0_shady_50 rfl (by decide) rfl ?_
          refine j_goto C (tgt := 5) dX0_shady_53 (by decide) ?_
          have hp : ¬ shaP (σ 0) (lgt σ) lv c := fun g => absurd g.2.1 (by omega)
          exact ih (c + 1) _ _ (by omega) (by rw [cnt_f hp]; omega) (by omega) (by omega) (by omega)
        · refine j_aload_n C 0 dX0_shady_22 rfl rfl ?_
          refine x_get C X 0 (by decide) q29 rfl dX0_shady_23 ?_
          refine j_iload_n C 3 dX0_shady_26 rfl rfl ?_
          refine j_bipush C dX0_shady_27 (by decide) ?_
          refine j_isub C dX0_shady_29 ?_
          refine x_zld C X 0 216 (c - 36) rfl rfl (by decide) (by omega) (by omega) dX0_shady_30 (fun hb30 => ?_)
          refine j_if_eq C (tgt := 47) dX0_shady_31 (by decide) (by omega) (fun hc31 => ?_) (fun hc31 => ?_)
          · refine j_iconst C dX0_shady_47 ?_
            refine j_iadd C dX0_shady_48 ?_
            refine j_istore_n C [1, 2, 0, 3] (L' := [(0, _), (1, _), (2, _), (3, _)]) dX0_shady_49 rfl (by decide) rfl ?_
            refine j_iinc C 3 [1, 2, 3, 0] (L' := [(0, _), (1, _), (2, _), (3, _)]) dX0_shady_50 rfl (by decide) rfl ?_
            refine j_goto C (tgt := 5) dX0_shady_53 (by decide) ?_
            have hp : ¬ shaP (σ 0) (lgt σ) lv c := fun g => absurd g.2.2.1 (by omega)
            exact ih (c + 1) _ _ (by omega) (by rw [cnt_f hp]; omega) (by omega) (by omega) (by omega)
          · refine j_aload_n C 0 dX0_shady_34 rfl rfl ?_
            refine j_iload_n C 3 dX0_shady_35 rfl rfl ?_
            refine x_calli C X (m_light _ O σ c _ (by omega) (by omega)) 1 rfl (lw_V q137 q139 qs7 q19 q140) (by decide +kernel) (by decide) dX0_shady_36 rfl (Nat.le_of_ble_eq_true rfl) (fun r σ1 hl => ?_)
            obtain ⟨rfl, hσ⟩ := hl
            rw [hσ]
            have hlg := lgt_le hb c
            refine j_iload_n C 1 dX0_shady_39 rfl rfl ?_
            refine j_icmp_gt C (tgt := 47) dX0_shady_40 (by decide) (by omega) (by omega) (fun hc40 => ?_) (fun hc40 => ?_)
            · refine j_iconst C dX0_shady_47 ?_
              refine j_iadd C dX0_shady_48 ?_
              refine j_istore_n C [1, 2, 0, 3] (L' := [(0, _), (1, _), (2, _), (3, _)]) dX0_shady_49 rfl (by decide) rfl ?_
              refine j_iinc C 3 [1, 2, 3, 0] (L' := [(0, _), (1, _), (2, _), (3, _)]) dX0_shady_50 rfl (by decide) rfl ?_
              refine j_goto C (tgt := 5) dX0_shady_53 (by decide) ?_
              have hp : ¬ shaP (σ 0) (lgt σ) lv c := fun g => absurd g.2.2.2 (by omega)
              exact ih (c + 1) _ _ (by omega) (by rw [cnt_f hp]; omega) (by omega) (by omega) (by omega)
            · refine j_iconst C dX0_shady_43 ?_
              refine j_goto C (tgt := 48) dX0_shady_44 (by decide) ?_
              refine j_iadd C dX0_shady_48 ?_
              refine j_istore_n C [1, 2, 0, 3] (L' := [(0, _), (1, _), (2, _), (3, _)]) dX0_shady_49 rfl (by decide) rfl ?_
              refine j_iinc C 3 [1, 2, 3, 0] (L' := [(0, _), (1, _), (2, _), (3, _)]) dX0_shady_50 rfl (by decide) rfl ?_
              refine j_goto C (tgt := 5) dX0_shady_53 (by decide) ?_
              have hp : shaP (σ 0) (lgt σ) lv c := ⟨h36, by omega, by omega, by omega⟩
              exact ih (c + 1) _ _ (by omega) (by rw [cnt_t hp]; omega) (by omega) (by omega) (by omega)
  have e36 := cnt_const (P := shaP (σ 0) (lgt σ) lv) (a := 0) (b := 36) (by omega) (fun k a b g => absurd g.1 (by omega))
  refine j_iconst C dX0_shady_0 ?_
  refine j_istore_n C [1, 2, 0] (L' := [(0, _), (1, _), (2, _)]) dX0_shady_1 rfl (by decide) rfl ?_
  refine j_bipush C dX0_shady_2 (by decide) ?_
  refine j_istore_n C [1, 2, 3, 0] (L' := [(0, _), (1, _), (2, _), (3, _)]) dX0_shady_4 rfl (by decide) rfl ?_
  exact K5 217 36 _ _ (by omega) (by rw [e36]; rfl) (by omega) (by omega) (by omega)
theorem m_shady (l : Launch) (O : XO) (σ : St) (lv : Int) (hlv : -2147483648 ≤ lv ∧ lv < 2147483648) : XMi l O yX0_shady cX0_shady 4 .int 1 22 [.int (iI lv)] σ (fun r σ' => r = iI ((cnt (shaP (σ 0) (lgt σ) lv) 216 : Nat) : Int) ∧ σ' = σ) := by
  refine XMi.of (by decide) rfl (Nat.le_of_ble_eq_true rfl) ?_
  intro κ A H0 hκ C X Rt hb
  exact w_shady (O := (oD O, A, H0, O.2.2.2)) lv hlv C X Rt hb
set_option maxHeartbeats 4000000 in
theorem w_open {κ : Kx} {O : XO} {σ : St}  (C : CB κ cX0_open 3 RX0 0 0) (X : XC κ O) (Rt : XRI κ O .int (fun r σ' => r = iI ((cnt (opnP (σ 2)) 216 : Nat) : Int) ∧ σ' = σ)) (hb : bnd σ) : J κ 3 (xW O σ) 0 [(0, .ref (oh O))] [] := by
  have K4 : ∀ (n c : Nat) (z1 z2 : Int), z2 = (c : Int) → z1 = ((cnt (opnP (σ 2)) c : Nat) : Int) → 216 < c + n → c ≤ 216 → J κ 3 (xW O σ) 4 [(0, .ref (oh O)), (1, .int (iI z1)), (2, .int (iI z2))] [] := by
    intro n
    induction n with
    | zero => intros; omega
    | succ n ih =>
      intro c z1 z2 hz2 hz1 hn hc
      refine j_iload_n C 2 dX0_open_4 rfl rfl ?_
      refine j_sipush C dX0_open_5 (by decide) ?_
      refine j_icmp_ge C (tgt := 34) dX0_open_8 (by decide) (by omega) (by omega) (fun hc8 => ?_) (fun hc8 => ?_)
      · refine j_iload_n C 1 dX0_open_34 rfl rfl ?_
        exact x_iret C X Rt (rfl) (⟨by rw [hz1, show c = 216 by omega], rfl⟩) dX0_open_35
      · refine j_iload_n C 1 dX0_open_11 rfl rfl ?_
        refine j_aload_n C 0 dX0_open_12 rfl rfl ?_
        refine x_get C X 2 (by decide) q31 rfl dX0_open_13 ?_
        refine j_iload_n C 2 dX0_open_16 rfl rfl ?_
        refine x_zld C X 2 216 (c) rfl rfl (by decide) (by omega) (by omega) dX0_open_17 (fun hb17 => ?_)
        refine j_if_eq C (tgt := 25) dX0_open_18 (by decide) (by omega) (fun hc18 => ?_) (fun hc18 => ?_)
        · refine j_iconst C dX0_open_25 ?_
          refine j_iadd C dX0_open_26 ?_
          refine j_istore_n C [1, 0, 2] (L' := [(0, _), (1, _), (2, _)]) dX0_open_27 rfl (by decide) rfl ?_
          refine j_iinc C 2 [1, 2, 0] (L' := [(0, _), (1, _), (2, _)]) dX0_open_28 rfl (by decide) rfl ?_
          refine j_goto C (tgt := 4) dX0_open_31 (by decide) ?_
          have hp : ¬ opnP (σ 2) c := fun g => g (by omega)
          exact ih (c + 1) _ _ (by omega) (by rw [cnt_f hp]; omega) (by omega) (by omega)
        · refine j_iconst C dX0_open_21 ?_
          refine j_goto C (tgt := 26) dX0_open_22 (by decide) ?_
          refine j_iadd C dX0_open_26 ?_
          refine j_istore_n C [1, 0, 2] (L' := [(0, _), (1, _), (2, _)]) dX0_open_27 rfl (by decide) rfl ?_
          refine j_iinc C 2 [1, 2, 0] (L' := [(0, _), (1, _), (2, _)]) dX0_open_28 rfl (by decide) rfl ?_
          refine j_goto C (tgt := 4) dX0_open_31 (by decide) ?_
          have hp : opnP (σ 2) c := fun g => by omega
          exact ih (c + 1) _ _ (by omega) (by rw [cnt_t hp]; omega) (by omega) (by omega)
  refine j_iconst C dX0_open_0 ?_
  refine j_istore_n C [1, 0] (L' := [(0, _), (1, _)]) dX0_open_1 rfl (by decide) rfl ?_
  refine j_iconst C dX0_open_2 ?_
  refine j_istore_n C [1, 2, 0] (L' := [(0, _), (1, _), (2, _)]) dX0_open_3 rfl (by decide) rfl ?_
  exact K4 217 0 _ _ (by omega) (by rfl) (by omega) (by omega)
theorem m_open (l : Launch) (O : XO) (σ : St)  : XMi l O yX0_open cX0_open 3 .int 0 0 [] σ (fun r σ' => r = iI ((cnt (opnP (σ 2)) 216 : Nat) : Int) ∧ σ' = σ) := by
  refine XMi.of (by decide) rfl (Nat.le_of_ble_eq_true rfl) ?_
  intro κ A H0 hκ C X Rt hb
  exact w_open (O := (oD O, A, H0, O.2.2.2))  C X Rt hb
set_option maxHeartbeats 4000000 in
theorem w_serves {κ : Kx} {O : XO} {σ : St} (z : Int) (hz : -2147483648 ≤ z ∧ z < 2147483648) (hG : GI σ) (C : CB κ cX0_serves 5 RX0 4 92) (X : XC κ O) (Rt : XRI κ O .int (fun r σ' => vpost z (r = iI (-1) ∧ σ' = σ) (fun c => ∃ σ2 : St, GL (σ 0) (s2 σ 1 c 0 1) (σ2 3) ∧ GL (σ 0) (fun x => 8 * σ 2 x) (fun x => σ2 3 (216 + x)) ∧ r = iI ((cnt (srvP (lgt σ) (lgt σ2)) 216 : Nat) : Int) ∧ GI σ' ∧ σ' 0 = σ 0 ∧ σ' 1 = σ 1))) (hb : bnd σ) : J κ 5 (xW O σ) 0 [(0, .ref (oh O)), (1, .int (iI z))] [] := by
  have K53 : ∀ (c : Nat) (σ2 : St), c < 216 → z = (c : Int) → GI σ2 → σ2 0 = σ 0 → σ2 1 = s2 σ 1 c 0 1 → σ2 2 = σ 2 → (∀ x, x < 216 → σ2 7 x = lgt σ x) → bnd σ2 → ∀ (n k : Nat) (z3 z4 zs : Int), z4 = (k : Int) → zs = ((σ 1 c : Nat) : Int) → z3 = ((cnt (srvP (lgt σ) (lgt σ2)) k : Nat) : Int) → 216 < k + n → k ≤ 216 → (∀ r σ', r = iI ((cnt (srvP (lgt σ) (lgt σ2)) 216 : Nat) : Int) → LPO σ2 σ' c (σ 1 c) → vpost z (r = iI (-1) ∧ σ' = σ) (fun c => ∃ σ2 : St, GL (σ 0) (s2 σ 1 c 0 1) (σ2 3) ∧ GL (σ 0) (fun x => 8 * σ 2 x) (fun x => σ2 3 (216 + x)) ∧ r = iI ((cnt (srvP (lgt σ) (lgt σ2)) 216 : Nat) : Int) ∧ GI σ' ∧ σ' 0 = σ 0 ∧ σ' 1 = σ 1)) → J κ 5 (xW O σ2) 53 [(0, .ref (oh O)), (1, .int (iI z)), (2, .int (iI zs)), (3, .int (iI z3)), (4, .int (iI z4))] [] := by
    intro c σ2 hc hzc hG2 e0 e1 e2 e7 hb2 n
    induction n with
    | zero => intros; omega
    | succ n ih =>
      intro k z3 z4 zs hz4 hzs hz3 hn hk hpost
      have h112 := (hG.1 c hc).2
      refine j_iload C 4 dX0_serves_53 rfl ?_
      refine j_sipush C dX0_serves_55 (by decide) ?_
      refine j_icmp_ge C (tgt := 91) dX0_serves_58 (by decide) (by omega) (by omega) (fun hc58 => ?_) (fun hc58 => ?_)
      · refine j_aload_n C 0 dX0_serves_91 rfl rfl ?_
        refine j_iload_n C 1 dX0_serves_92 rfl rfl ?_
        refine j_iload_n C 2 dX0_serves_93 rfl rfl ?_
        refine x_callv C X (m_setLamp _ O σ2 c (σ 1 c) _ _ (by omega) (by omega) hc h112 hG2) 2 rfl (lw_V q117 q119 qs6 q19 q120) (by decide +kernel) (by decide) dX0_serves_94 rfl (Nat.le_of_ble_eq_true rfl) (fun σ3 hC => ?_)
        refine j_iload_n C 3 dX0_serves_97 rfl rfl ?_
        exact x_iret C X Rt (rfl) (hpost _ _ (by rw [hz3, show k = 216 by omega]) hC) dX0_serves_98
      · refine j_iload_n C 3 dX0_serves_61 rfl rfl ?_
        refine j_aload_n C 0 dX0_serves_62 rfl rfl ?_
        refine j_iload C 4 dX0_serves_63 rfl ?_
        refine x_calli C X (m_light _ O σ2 k _ (by omega) (by omega)) 1 rfl (lw_V q137 q139 qs7 q19 q140) (by decide +kernel) (by decide) dX0_serves_65 rfl (Nat.le_of_ble_eq_true rfl) (fun r σ1 hl => ?_)
        obtain ⟨rfl, hσ⟩ := hl
        rw [hσ]
        have hlg := lgt_le hb2 k
        have hlg2 := lgt_le hb k
        have e7k := e7 k (by omega)
        refine j_aload_n C 0 dX0_serves_68 rfl rfl ?_
        refine x_get C X 7 (by decide) q36 rfl dX0_serves_69 ?_
        refine j_iload C 4 dX0_serves_72 rfl ?_
        refine x_ild C X 7 216 (k) rfl rfl (by decide) (by omega) (by omega) dX0_serves_74 (fun hb74 => ?_)
        refine j_icmp_ge C (tgt := 82) dX0_serves_75 (by decide) (by omega) (by omega) (fun hc75 => ?_) (fun hc75 => ?_)
        · refine j_iconst C dX0_serves_82 ?_
          refine j_iadd C dX0_serves_83 ?_
          refine j_istore_n C [1, 2, 3, 0, 4] (L' := [(0, _), (1, _), (2, _), (3, _), (4, _)]) dX0_serves_84 rfl (by decide) rfl ?_
          refine j_iinc C 4 [1, 2, 3, 4, 0] (L' := [(0, _), (1, _), (2, _), (3, _), (4, _)]) dX0_serves_85 rfl (by decide) rfl ?_
          refine j_goto C (tgt := 53) dX0_serves_88 (by decide) ?_
          have hp : ¬ srvP (lgt σ) (lgt σ2) k := fun g => by unfold srvP at g; omega
          exact ih (k + 1) _ _ _ (by omega) hzs (by rw [cnt_f hp]; omega) (by omega) (by omega) hpost
        · refine j_iconst C dX0_serves_78 ?_
          refine j_goto C (tgt := 83) dX0_serves_79 (by decide) ?_
          refine j_iadd C dX0_serves_83 ?_
          refine j_istore_n C [1, 2, 3, 0, 4] (L' := [(0, _), (1, _), (2, _), (3, _), (4, _)]) dX0_serves_84 rfl (by decide) rfl ?_
          refine j_iinc C 4 [1, 2, 3, 4, 0] (L' := [(0, _), (1, _), (2, _), (3, _), (4, _)]) dX0_serves_85 rfl (by decide) rfl ?_
          refine j_goto C (tgt := 53) dX0_serves_88 (by decide) ?_
          have hp : srvP (lgt σ) (lgt σ2) k := by unfold srvP; omega
          exact ih (k + 1) _ _ _ (by omega) hzs (by rw [cnt_t hp]; omega) (by omega) (by omega) hpost
  have K11 : ∀ (c : Nat), c < 216 → z = (c : Int) → (∀ r σ2 σ', GI σ2 → σ2 0 = σ 0 → σ2 1 = s2 σ 1 c 0 1 → σ2 2 = σ 2 → r = iI ((cnt (srvP (lgt σ) (lgt σ2)) 216 : Nat) : Int) → LPO σ2 σ' c (σ 1 c) → vpost z (r = iI (-1) ∧ σ' = σ) (fun c => ∃ σ2 : St, GL (σ 0) (s2 σ 1 c 0 1) (σ2 3) ∧ GL (σ 0) (fun x => 8 * σ 2 x) (fun x => σ2 3 (216 + x)) ∧ r = iI ((cnt (srvP (lgt σ) (lgt σ2)) 216 : Nat) : Int) ∧ GI σ' ∧ σ' 0 = σ 0 ∧ σ' 1 = σ 1)) → ∀ (n k : Nat) (σ1 : St) (z2 : Int), z2 = (k : Int) → 216 < k + n → k ≤ 216 → (∀ j, j ≠ 7 → σ1 j = σ j) → (∀ x, x < k → σ1 7 x = lgt σ x) → J κ 5 (xW O σ1) 11 [(0, .ref (oh O)), (1, .int (iI z)), (2, .int (iI z2))] [] := by
    intro c hc hzc hpost n
    induction n with
    | zero => intros; omega
    | succ n ih =>
      intro k σ1 z2 hz2 hn hk hf h7
      have eL : lgt σ1 = lgt σ := by
        funext x
        unfold lgt
        rw [hf 3 (by decide)]
      have hlg := lgt_le hb k
      have h1c : σ1 1 c = σ 1 c := by rw [hf 1 (by decide)]
      have hG1 : GI σ1 := gi_congr (fun j hj => hf j (by omega)) hG
      refine j_iload_n C 2 dX0_serves_11 rfl rfl ?_
      refine j_sipush C dX0_serves_12 (by decide) ?_
      refine j_icmp_ge C (tgt := 35) dX0_serves_15 (by decide) (by omega) (by omega) (fun hc15 => ?_) (fun hc15 => ?_)
      · refine j_aload_n C 0 dX0_serves_35 rfl rfl ?_
        refine x_get C X 1 (by decide) q30 rfl dX0_serves_36 ?_
        refine j_iload_n C 1 dX0_serves_39 rfl rfl ?_
        refine x_ild C X 1 216 (c) rfl rfl (by decide) (by omega) (by omega) dX0_serves_40 (fun hb40 => ?_)
        refine j_istore_n C [1, 2, 0] (L' := [(0, _), (1, _), (2, _)]) dX0_serves_41 rfl (by decide) rfl ?_
        refine j_aload_n C 0 dX0_serves_42 rfl rfl ?_
        refine j_iload_n C 1 dX0_serves_43 rfl rfl ?_
        refine j_iconst C dX0_serves_44 ?_
        refine x_callv C X (m_setLamp _ O σ1 c 0 _ _ (by omega) (by omega) hc (by omega) hG1) 2 rfl (lw_V q117 q119 qs6 q19 q120) (by decide +kernel) (by decide) dX0_serves_45 rfl (Nat.le_of_ble_eq_true rfl) (fun σ2 hC => ?_)
        refine j_bnd (fun hb2 => ?_)
        obtain ⟨g1, g2, g3, g4, g5, g6⟩ := hC
        have e0 : σ2 0 = σ 0 := by rw [g2, hf 0 (by decide)]
        have e1 : σ2 1 = s2 σ 1 c 0 1 := by rw [g3]; funext x; rw [s2_eq, s2_eq, hf 1 (by decide)]
        have e2 : σ2 2 = σ 2 := by rw [g4, hf 2 (by decide)]
        refine j_iconst C dX0_serves_48 ?_
        refine j_istore_n C [1, 2, 3, 0] (L' := [(0, _), (1, _), (2, _), (3, _)]) dX0_serves_49 rfl (by decide) rfl ?_
        refine j_iconst C dX0_serves_50 ?_
        refine j_istore C [1, 2, 3, 4, 0] (L' := [(0, _), (1, _), (2, _), (3, _), (4, _)]) dX0_serves_51 (by decide) rfl ?_
        exact K53 c σ2 hc hzc g1 e0 e1 e2 (fun x hx => by rw [g5]; exact h7 x (by omega)) hb2 217 0 _ _ _ (by omega) (by omega) (by rfl) (by omega) (by omega) (fun r σ' h1 h2 => hpost r σ2 σ' g1 e0 e1 e2 h1 h2)
      · refine j_aload_n C 0 dX0_serves_18 rfl rfl ?_
        refine x_get C X 7 (by decide) q36 rfl dX0_serves_19 ?_
        refine j_iload_n C 2 dX0_serves_22 rfl rfl ?_
        refine j_aload_n C 0 dX0_serves_23 rfl rfl ?_
        refine j_iload_n C 2 dX0_serves_24 rfl rfl ?_
        refine x_calli C X (m_light _ O σ1 k _ (by omega) (by omega)) 1 rfl (lw_V q137 q139 qs7 q19 q140) (by decide +kernel) (by decide) dX0_serves_25 rfl (Nat.le_of_ble_eq_true rfl) (fun r σ4 hl => ?_)
        obtain ⟨rfl, hσ⟩ := hl
        rw [hσ, eL]
        refine x_ist C X 7 216 (k) (lgt σ k) rfl rfl xset_7 (by decide) (by omega) (by omega) (by omega) (by omega) dX0_serves_28 ?_
        refine j_iinc C 2 [1, 2, 0] (L' := [(0, _), (1, _), (2, _)]) dX0_serves_29 rfl (by decide) rfl ?_
        refine j_goto C (tgt := 11) dX0_serves_32 (by decide) ?_
        exact ih (k + 1) _ _ (by omega) (by omega) (by omega) (fun j hj => by rw [s2_ne hj]; exact hf j hj) (fun x hx => by
          rw [s2_eq]
          split
          · rename_i h; rw [h]
          · exact h7 x (by omega))
  refine j_iload_n C 1 dX0_serves_0 rfl rfl ?_
  refine x_callS C X (m_isCell _ z hz) 1 rfl (lw_S q66 q67 q19 q68) (by decide +kernel) (by decide) dX0_serves_1 rfl (Nat.le_of_ble_eq_true rfl) (fun r hp => ?_)
  rcases hp with ⟨rfl, hp⟩ | ⟨rfl, hp⟩
  · obtain ⟨c, hzc⟩ : ∃ c : Nat, z = (c : Int) := ⟨z.toNat, by omega⟩
    have hc : c < 216 := by omega
    refine j_if_ne_t C (tgt := 9) dX0_serves_4 (by decide) (by omega) (by decide) ?_
    refine j_iconst C dX0_serves_9 ?_
    refine j_istore_n C [1, 2, 0] (L' := [(0, _), (1, _), (2, _)]) dX0_serves_10 rfl (by decide) rfl ?_
    exact K11 c hc hzc (fun r σ2 σ' g1 e0 e1 e2 hr hL => Or.inr ⟨c, hc, hzc, σ2, by rw [← e0, ← e1]; exact gi_lo g1, by rw [← e0, ← e2]; exact gi_hi g1, hr, hL.1, by rw [hL.2.1, e0], by rw [hL.2.2.1]; funext x; rw [s2_eq, e1, s2_eq]; (repeat' split) <;> first | rfl | (rename_i h; rw [h])⟩) 217 0 σ _ (by omega) (by omega) (by omega) (fun _ _ => rfl) (fun x hx => absurd hx (Nat.not_lt_zero _))
  · refine j_if_ne_f C dX0_serves_4 (by omega) (tgt := 9) (by decide) (by decide) ?_
    refine j_iconst C dX0_serves_7 ?_
    exact x_iret C X Rt (rfl) (Or.inl ⟨hp, rfl, rfl⟩) dX0_serves_8
theorem m_serves (l : Launch) (O : XO) (σ : St) (z : Int) (hz : -2147483648 ≤ z ∧ z < 2147483648) (hG : GI σ) : XMi l O yX0_serves cX0_serves 5 .int 4 92 [.int (iI z)] σ (fun r σ' => vpost z (r = iI (-1) ∧ σ' = σ) (fun c => ∃ σ2 : St, GL (σ 0) (s2 σ 1 c 0 1) (σ2 3) ∧ GL (σ 0) (fun x => 8 * σ 2 x) (fun x => σ2 3 (216 + x)) ∧ r = iI ((cnt (srvP (lgt σ) (lgt σ2)) 216 : Nat) : Int) ∧ GI σ' ∧ σ' 0 = σ 0 ∧ σ' 1 = σ 1)) := by
  refine XMi.of (by decide) rfl (Nat.le_of_ble_eq_true rfl) ?_
  intro κ A H0 hκ C X Rt hb
  exact w_serves (O := (oD O, A, H0, O.2.2.2)) z hz hG C X Rt hb
end
section
/-! rooms -/
def conn (w : Nat → Nat) (c d : Nat) : Prop := ∀ S : Nat → Prop, S c → (∀ x y, S x → x < 216 → y < 216 → adj x y → w y = 0 → S y) → S d
theorem conn_refl (w : Nat → Nat) (c : Nat) : conn w c c := fun _ h _ => h
theorem conn_step {w : Nat → Nat} {c x y : Nat} (h : conn w c x) (hx : x < 216) (hy : y < 216) (ha : adj x y) (ho : w y = 0) : conn w c y := fun S h0 hs => hs x y (h S h0 hs) hx hy ha ho
theorem conn_trans {w : Nat → Nat} {c x y : Nat} (h : conn w c x) (h2 : conn w x y) : conn w c y := h2 (conn w c) h (fun _ _ a b d e f => conn_step a b d e f)
theorem conn_lt {w : Nat → Nat} {c d : Nat} (hc : c < 216) (h : conn w c d) : d < 216 := h (fun x => x < 216) hc (fun _ _ _ _ b _ _ => b)
theorem conn_open {w : Nat → Nat} {c d : Nat} (hc : w c = 0) (h : conn w c d) : w d = 0 := h (fun x => w x = 0) hc (fun _ _ _ _ _ _ b => b)
theorem conn_symm {w : Nat → Nat} {c d : Nat} (hc : c < 216) (ho : w c = 0) (h : conn w c d) : conn w d c := by
  have g := h (fun x => w x = 0 ∧ x < 216 ∧ conn w x c) ⟨ho, hc, conn_refl w c⟩ (fun x y a hx hy e f => ⟨f, hy, conn_trans (conn_step (conn_refl w y) hy hx (adj_symm hx e) a.1) a.2.2⟩)
  exact g.2.2
def isMin (w : Nat → Nat) (c : Nat) : Prop := w c = 0 ∧ ∀ r, r < c → w r = 0 → ¬ conn w r c
def DW (σ σ1 : St) (s W : Nat) (E : Nat → Nat → Prop) : Prop :=
  (∀ k, k ≠ 5 → k ≠ 8 → k ≠ 9 → σ1 k = σ k) ∧ (∀ x, x < 216 → σ 8 x ≠ 0 → σ1 8 x ≠ 0) ∧ (∀ x, x < 216 → σ1 8 x ≠ 0 → σ 8 x ≠ 0 ∨ conn (σ 0) s x) ∧
  (∀ x, x < 216 → σ1 8 x ≠ 0 → σ 8 x = 0 → (∃ i, i < W ∧ σ1 5 i = x) ∨ ∀ y, y < 216 → adj x y → E x y ∨ σ1 8 y ≠ 0) ∧
  (∀ i, i < W → σ1 5 i < 216 ∧ conn (σ 0) s (σ1 5 i)) ∧ σ1 8 s ≠ 0
noncomputable def sc (σ : St) : Nat := cnt (fun x => σ 8 x ≠ 0) 216
theorem sc_le (σ : St) : sc σ ≤ 216 := cnt_le _ _
def dw0 (σ : St) (s : Nat) : St := s2 (s2 (s2 σ 9 0 1) 5 0 s) 8 s 1
def pushS (σ : St) (d : Nat) : St := s2 (s2 (s2 σ 8 d 1) 5 (σ 9 0) d) 9 0 (σ 9 0 + 1)
theorem pushS_8 (σ : St) (d x : Nat) : pushS σ d 8 x = if x = d then 1 else σ 8 x := by simp [pushS, s2]
theorem pushS_5 (σ : St) (d x : Nat) : pushS σ d 5 x = if x = σ 9 0 then d else σ 5 x := by simp [pushS, s2]
theorem pushS_9 (σ : St) (d : Nat) : pushS σ d 9 0 = σ 9 0 + 1 := by simp [pushS, s2]
theorem pushS_k (σ : St) (d k : Nat) (h5 : k ≠ 5) (h8 : k ≠ 8) (h9 : k ≠ 9) : pushS σ d k = σ k := by
  funext j
  simp [pushS, s2, h5, h8, h9]
theorem dw_0 {σ : St} {s : Nat} (hs : s < 216) : DW σ (dw0 σ s) s 1 (fun _ _ => False) := by
  have e8 : ∀ x, dw0 σ s 8 x = if x = s then 1 else σ 8 x := fun x => by simp [dw0, s2]
  have e5 : dw0 σ s 5 0 = s := by simp [dw0, s2]
  refine ⟨fun k a b c => ?_, fun x hx h => ?_, fun x hx h => ?_, fun x hx h1 h2 => ?_, fun i hi => ?_, ?_⟩
  · funext j
    simp [dw0, s2, a, b, c]
  · rw [e8]
    split
    · omega
    · exact h
  · rw [e8] at h
    by_cases e : x = s
    · subst e
      exact Or.inr (conn_refl _ _)
    · rw [if_neg e] at h
      exact Or.inl h
  · rw [e8] at h1
    by_cases e : x = s
    · exact Or.inl ⟨0, by omega, by rw [e5, e]⟩
    · rw [if_neg e] at h1
      exact absurd h2 h1
  · have : i = 0 := by omega
    subst this
    rw [e5]
    exact ⟨hs, conn_refl _ _⟩
  · rw [e8, if_pos rfl]
    omega
def Ex (a w : Nat) : Nat → Nat → Prop := fun x y => x = a ∧ ∃ w', w ≤ w' ∧ w' < 6 ∧ nbr a w' = (y : Int)
theorem dw_weaken {σ σ1 : St} {s W : Nat} {E E' : Nat → Nat → Prop} (h : DW σ σ1 s W E) (hE : ∀ x y, x < 216 → y < 216 → E x y → E' x y ∨ σ1 8 y ≠ 0) : DW σ σ1 s W E' := by
  obtain ⟨h1, h2, h3, h4, h5, h6⟩ := h
  refine ⟨h1, h2, h3, fun x hx a b => ?_, h5, h6⟩
  rcases h4 x hx a b with g | g
  · exact Or.inl g
  · refine Or.inr (fun y hy hxy => ?_)
    rcases g y hy hxy with k | k
    · exact hE x y hx hy k
    · exact Or.inr k
theorem dw_pop {σ σ1 : St} {s W : Nat} (h : DW σ σ1 s (W + 1) (fun _ _ => False)) : DW σ (s2 σ1 9 0 W) s W (Ex (σ1 5 W) 0) := by
  obtain ⟨h1, h2, h3, h4, h5, h6⟩ := h
  have e8 : s2 σ1 9 0 W 8 = σ1 8 := s2_ne (by decide)
  have e5 : s2 σ1 9 0 W 5 = σ1 5 := s2_ne (by decide)
  refine ⟨fun k a b c => by rw [s2_ne c]; exact h1 k a b c, by rw [e8]; exact h2, by rw [e8]; exact h3, fun x hx a b => ?_, fun i hi => by rw [e5]; exact h5 i (by omega), by rw [e8]; exact h6⟩
  rw [e8] at a
  rw [e8, e5]
  rcases h4 x hx a b with ⟨i, hi, g⟩ | g
  · by_cases e : i = W
    · refine Or.inr (fun y hy hxy => Or.inl ?_)
      subst e
      rw [g]
      obtain ⟨w, hw, e⟩ := hxy
      exact ⟨rfl, w, Nat.zero_le _, hw, e⟩
    · exact Or.inl ⟨i, by omega, g⟩
  · refine Or.inr (fun y hy hxy => ?_)
    rcases g y hy hxy with k | k
    · exact k.elim
    · exact Or.inr k
theorem dw_way {σ σ1 : St} {s W a w : Nat} (h : DW σ σ1 s W (Ex a w)) (hq : ∀ q : Nat, q < 216 → nbr a w = (q : Int) → σ1 8 q ≠ 0) : DW σ σ1 s W (Ex a (w + 1)) := by
  refine dw_weaken h (fun x y hx hy e => ?_)
  obtain ⟨rfl, w', h1, h2, h3⟩ := e
  by_cases e : w' = w
  · subst e
    exact Or.inr (hq y hy h3)
  · exact Or.inl ⟨rfl, w', by omega, h2, h3⟩
theorem dw_done {σ σ1 : St} {s W a : Nat} (h : DW σ σ1 s W (Ex a 6)) : DW σ σ1 s W (fun _ _ => False) := by
  refine dw_weaken h (fun x y hx hy e => ?_)
  obtain ⟨rfl, w', h1, h2, h3⟩ := e
  omega
theorem dw_push {σ σ1 : St} {s W d : Nat} {E : Nat → Nat → Prop} (h : DW σ σ1 s W E) (hW : σ1 9 0 = W) (hd : d < 216) (hc : conn (σ 0) s d) : DW σ (pushS σ1 d) s (W + 1) E := by
  obtain ⟨h1, h2, h3, h4, h5, h6⟩ := h
  have up : ∀ x, σ1 8 x ≠ 0 → pushS σ1 d 8 x ≠ 0 := fun x hx => by
    rw [pushS_8]
    split
    · omega
    · exact hx
  refine ⟨fun k a b c => by rw [pushS_k σ1 d k a b c]; exact h1 k a b c, fun x hx g => up x (h2 x hx g), fun x hx g => ?_, fun x hx a b => ?_, fun i hi => ?_, up s h6⟩
  · rw [pushS_8] at g
    by_cases e : x = d
    · subst e
      exact Or.inr hc
    · rw [if_neg e] at g
      exact h3 x hx g
  · rw [pushS_8] at a
    by_cases e : x = d
    · exact Or.inl ⟨W, Nat.lt_succ_self _, by rw [pushS_5, hW, if_pos rfl, e]⟩
    · rw [if_neg e] at a
      rcases h4 x hx a b with ⟨i, hi, g⟩ | g
      · exact Or.inl ⟨i, by omega, by rw [pushS_5, hW, if_neg (by omega)]; exact g⟩
      · refine Or.inr (fun y hy hxy => ?_)
        rcases g y hy hxy with k | k
        · exact Or.inl k
        · exact Or.inr (up y k)
  · rw [pushS_5, hW]
    by_cases e : i = W
    · rw [if_pos e]
      exact ⟨hd, hc⟩
    · rw [if_neg e]
      exact h5 i (by omega)
theorem sc_push {σ : St} {d : Nat} (hd : d < 216) (hz : σ 8 d = 0) : sc (pushS σ d) = sc σ + 1 := by
  unfold sc
  refine cnt_ins hd (fun g => g hz) (by rw [pushS_8, if_pos rfl]; omega) (fun k _ hk => ?_)
  rw [pushS_8, if_neg hk]
theorem sc_w (σ : St) (v : Nat) : sc (s2 σ 9 0 v) = sc σ := by
  unfold sc
  rw [s2_ne (by decide)]
theorem sc_0 {σ : St} {s : Nat} (hs : s < 216) : 1 ≤ sc (dw0 σ s) := cnt_pos hs (by simp [dw0, s2])
def WKO (σ σ1 : St) (s : Nat) : Prop := (∀ k, k ≠ 5 → k ≠ 8 → k ≠ 9 → σ1 k = σ k) ∧ ∀ x, x < 216 → (σ1 8 x ≠ 0 ↔ σ 8 x ≠ 0 ∨ conn (σ 0) s x)
def WKP (σ : St) : Prop := (∀ x, x < 216 → σ 0 x ≠ 0 → σ 8 x ≠ 0) ∧ ∀ x y, x < 216 → y < 216 → adj x y → σ 0 x = 0 → σ 0 y = 0 → σ 8 x ≠ 0 → σ 8 y ≠ 0
theorem dw_fin {σ σ1 : St} {s : Nat} (hs : s < 216) (h0 : σ 8 s = 0) (hp : WKP σ) (h : DW σ σ1 s 0 (fun _ _ => False)) : WKO σ σ1 s := by
  obtain ⟨h1, h2, h3, h4, h5, h6⟩ := h
  refine ⟨h1, fun x hx => ⟨h3 x hx, fun g => ?_⟩⟩
  rcases g with g | g
  · exact h2 x hx g
  · have k := g (fun x => σ1 8 x ≠ 0 ∧ σ 8 x = 0) ⟨h6, h0⟩ (fun x y a hx hy hxy ho => by
      have e : σ1 8 y ≠ 0 := by
        rcases h4 x hx a.1 a.2 with ⟨i, hi, _⟩ | k
        · omega
        · rcases k y hy hxy with k | k
          · exact k.elim
          · exact k
      refine ⟨e, Classical.byContradiction (fun z => ?_)⟩
      have hx0 : σ 0 x = 0 := Classical.byContradiction (fun q => hp.1 x hx q a.2)
      exact hp.2 y x hy hx (adj_symm hx hxy) ho hx0 z a.2)
    exact k.1
def RM (σ σ1 : St) (c : Nat) : Prop := (∀ k, k ≠ 5 → k ≠ 8 → k ≠ 9 → σ1 k = σ k) ∧ ∀ x, x < 216 → (σ1 8 x ≠ 0 ↔ σ 0 x ≠ 0 ∨ ∃ r, r < c ∧ σ 0 r = 0 ∧ conn (σ 0) r x)
theorem rm_0 {σ σ1 : St} (h : ∀ k, k ≠ 8 → σ1 k = σ k) (h8 : ∀ x, x < 216 → σ1 8 x = σ 0 x) : RM σ σ1 0 := by
  refine ⟨fun k _ a _ => h k a, fun x hx => ?_⟩
  rw [h8 x hx]
  exact ⟨fun g => Or.inl g, fun g => g.elim (fun k => k) (fun ⟨r, hr, _⟩ => absurd hr (Nat.not_lt_zero _))⟩
theorem rm_seen {σ σ1 : St} {c : Nat} (h : RM σ σ1 c) (hc : c < 216) (h8 : σ1 8 c ≠ 0) : RM σ σ1 (c + 1) ∧ ¬ isMin (σ 0) c := by
  have g := (h.2 c hc).mp h8
  refine ⟨⟨h.1, fun x hx => (h.2 x hx).trans ⟨fun k => ?_, fun k => ?_⟩⟩, fun k => ?_⟩
  · rcases k with k | ⟨r, a, b⟩
    · exact Or.inl k
    · exact Or.inr ⟨r, by omega, b⟩
  · rcases k with k | ⟨r, a, b, d⟩
    · exact Or.inl k
    · by_cases e : r = c
      · subst e
        rcases g with g | ⟨r2, a2, b2, d2⟩
        · exact absurd b g
        · exact Or.inr ⟨r2, a2, b2, conn_trans d2 d⟩
      · exact Or.inr ⟨r, by omega, b, d⟩
  · rcases g with g | ⟨r2, a2, b2, d2⟩
    · exact g k.1
    · exact k.2 r2 a2 b2 d2
theorem rm_wkp {σ σ1 : St} {c : Nat} (h : RM σ σ1 c) : WKP σ1 := by
  have e0 : σ1 0 = σ 0 := h.1 0 (by decide) (by decide) (by decide)
  refine ⟨fun x hx g => ?_, fun x y hx hy hxy a b g => ?_⟩
  · rw [e0] at g
    exact (h.2 x hx).mpr (Or.inl g)
  · rw [e0] at a b
    rcases (h.2 x hx).mp g with k | ⟨r, p, q, t⟩
    · exact absurd a k
    · exact (h.2 y hy).mpr (Or.inr ⟨r, p, q, conn_step t hx hy hxy b⟩)
theorem rm_new {σ σ1 σ2 : St} {c : Nat} (h : RM σ σ1 c) (hc : c < 216) (h8 : σ1 8 c = 0) (hw : WKO σ1 σ2 c) : RM σ σ2 (c + 1) ∧ isMin (σ 0) c := by
  have e0 : σ1 0 = σ 0 := h.1 0 (by decide) (by decide) (by decide)
  have ho : σ 0 c = 0 := Classical.byContradiction (fun z => (h.2 c hc).mpr (Or.inl z) h8)
  refine ⟨⟨fun k a b d => by rw [hw.1 k a b d, h.1 k a b d], fun x hx => ?_⟩, ho, fun r hr hr0 hcn => (h.2 c hc).mpr (Or.inr ⟨r, hr, hr0, hcn⟩) h8⟩
  rw [hw.2 x hx, h.2 x hx, e0]
  constructor
  · rintro ((k | ⟨r, a, b⟩) | k)
    · exact Or.inl k
    · exact Or.inr ⟨r, by omega, b⟩
    · exact Or.inr ⟨c, Nat.lt_succ_self _, ho, k⟩
  · rintro (k | ⟨r, a, b, d⟩)
    · exact Or.inl (Or.inl k)
    · by_cases e : r = c
      · subst e
        exact Or.inr d
      · exact Or.inl (Or.inr ⟨r, by omega, b, d⟩)
end
section
set_option maxHeartbeats 4000000 in
theorem w_walk {κ : Kx} {O : XO} {σ : St} (s : Nat) (zs : Int) (hzs : zs = (s : Int)) (hs : s < 216) (h0 : σ 8 s = 0) (hP : WKP σ) (C : CB κ cX0_walk 6 RX0 1 23) (X : XC κ O) (Rt : XRV κ O (fun σ' => WKO σ σ' s)) (hb : bnd σ) : J κ 6 (xW O σ) 0 [(0, .ref (oh O)), (1, .int (iI zs))] [] := by
  have K21 : ∀ (n step W : Nat) (σ1 : St) (z : Int), z = (step : Int) → 216 < step + n → DW σ σ1 s W (fun _ _ => False) → σ1 9 0 = W → step + W ≤ sc σ1 → J κ 6 (xW O σ1) 21 [(0, .ref (oh O)), (1, .int (iI zs)), (2, .int (iI z))] [] := by
    intro n
    induction n with
    | zero =>
      intro step W σ1 z hz hn hT hW hs1
      exact absurd hs1 (by have := sc_le σ1; omega)
    | succ n ih =>
      intro step W σ1 z hz hn hT hW hs1
      have hsc := sc_le σ1
      have K58 : ∀ (k w W2 : Nat) (σ2 : St) (z4 : Int) (a : Nat) (za : Int), z4 = (w : Int) → za = (a : Int) → 6 < w + k → w ≤ 6 → a < 216 → conn (σ 0) s a → DW σ σ2 s W2 (Ex a w) → σ2 9 0 = W2 → step + 1 + W2 ≤ sc σ2 → J κ 6 (xW O σ2) 58 [(0, .ref (oh O)), (1, .int (iI zs)), (2, .int (iI z)), (3, .int (iI za)), (4, .int (iI z4))] [] := by
        intro k
        induction k with
        | zero => intros; omega
        | succ k ih2 =>
          intro w W2 σ2 z4 a za hz4 hza hk hw6 ha hca hT2 hW2 hs2
          have hsc2 := sc_le σ2
          refine j_iload C 4 dX0_walk_58 rfl ?_
          refine j_bipush C dX0_walk_60 (by decide) ?_
          refine j_icmp_ge C (tgt := 124) dX0_walk_62 (by decide) (by omega) (by omega) (fun hc62 => ?_) (fun hc62 => ?_)
          · refine j_iinc C 2 [1, 2, 0, 3, 4] (L' := [(0, _), (1, _), (2, _), (3, _), (4, _)]) dX0_walk_124 rfl (by decide) rfl ?_
            refine j_goto C (tgt := 21) dX0_walk_127 (by decide) ?_
            refine j_sub [0, 1, 2] (L' := [(0, _), (1, _), (2, _)]) rfl ?_
            have e6 : w = 6 := by omega
            subst e6
            exact ih (step + 1) W2 σ2 _ (by omega) (by omega) (dw_done hT2) hW2 (by omega)
          · refine j_iload_n C 3 dX0_walk_65 rfl rfl ?_
            refine j_iload C 4 dX0_walk_66 rfl ?_
            refine x_callS C X (m_nb _ a w _ _ (by omega) (by omega) (by omega) (by omega)) 2 rfl (lw_S q81 q82 q19 q83) (by decide +kernel) (by decide) dX0_walk_68 rfl (Nat.le_of_ble_eq_true rfl) (fun r hp => ?_)
            subst hp
            rcases nbr_rg ha (show w < 6 by omega) with e | ⟨d, hd, e, e2⟩
            · rw [e]
              refine j_istore C [1, 2, 3, 4, 5, 0] (L' := [(0, _), (1, _), (2, _), (3, _), (4, _), (5, _)]) dX0_walk_71 (by decide) rfl ?_
              refine j_iload C 5 dX0_walk_73 rfl ?_
              refine j_iconst C dX0_walk_75 ?_
              refine j_icmp_eq_t C (tgt := 118) dX0_walk_76 (by decide) (by omega) (by omega) (by omega) ?_
              refine j_iinc C 4 [1, 2, 3, 4, 0, 5] (L' := [(0, _), (1, _), (2, _), (3, _), (4, _), (5, _)]) dX0_walk_118 rfl (by decide) rfl ?_
              refine j_goto C (tgt := 58) dX0_walk_121 (by decide) ?_
              refine j_sub [0, 1, 2, 3, 4] (L' := [(0, _), (1, _), (2, _), (3, _), (4, _)]) rfl ?_
              exact ih2 (w + 1) W2 σ2 _ a _ (by omega) hza (by omega) (by omega) ha hca (dw_way hT2 (fun q _ e => absurd e (by omega))) hW2 hs2
            · rw [e]
              refine j_istore C [1, 2, 3, 4, 5, 0] (L' := [(0, _), (1, _), (2, _), (3, _), (4, _), (5, _)]) dX0_walk_71 (by decide) rfl ?_
              refine j_iload C 5 dX0_walk_73 rfl ?_
              refine j_iconst C dX0_walk_75 ?_
              refine j_icmp_eq_f C dX0_walk_76 (by omega) (by omega) (tgt := 118) (by decide) (by omega) ?_
              refine j_aload_n C 0 dX0_walk_79 rfl rfl ?_
              refine x_get C X 8 (by decide) q37 rfl dX0_walk_80 ?_
              refine j_iload C 5 dX0_walk_83 rfl ?_
              refine x_zld C X 8 216 (d) rfl rfl (by decide) (by omega) (by omega) dX0_walk_85 (fun hb85 => ?_)
              refine j_if_ne C (tgt := 118) dX0_walk_86 (by decide) (by omega) (fun hc86 => ?_) (fun hc86 => ?_)
              · refine j_iinc C 4 [1, 2, 3, 4, 0, 5] (L' := [(0, _), (1, _), (2, _), (3, _), (4, _), (5, _)]) dX0_walk_118 rfl (by decide) rfl ?_
                refine j_goto C (tgt := 58) dX0_walk_121 (by decide) ?_
                refine j_sub [0, 1, 2, 3, 4] (L' := [(0, _), (1, _), (2, _), (3, _), (4, _)]) rfl ?_
                exact ih2 (w + 1) W2 σ2 _ a _ (by omega) hza (by omega) (by omega) ha hca (dw_way hT2 (fun q _ e => by
                  have eq : q = d := by omega
                  subst eq
                  omega)) hW2 hs2
              · have hd0 : σ 8 d = 0 := Classical.byContradiction (fun q => absurd (hT2.2.1 d hd q) (by omega))
                have hdo : σ 0 d = 0 := Classical.byContradiction (fun q => hP.1 d hd q hd0)
                have hcd : conn (σ 0) s d := conn_step hca ha hd ⟨w, by omega, e⟩ hdo
                have e9 : s2 σ2 8 d 1 9 0 = W2 := by rw [s2_ne (by decide)]; exact hW2
                have e10 : s2 (s2 σ2 8 d 1) 5 W2 d 9 0 = W2 := by rw [s2_ne (by decide), s2_ne (by decide)]; exact hW2
                refine j_aload_n C 0 dX0_walk_89 rfl rfl ?_
                refine x_get C X 8 (by decide) q37 rfl dX0_walk_90 ?_
                refine j_iload C 5 dX0_walk_93 rfl ?_
                refine j_iconst C dX0_walk_95 ?_
                refine x_zst C X 8 216 (d) (1) rfl rfl xset_8 (by decide) (by omega) (by omega) (by omega) (by omega) dX0_walk_96 ?_
                refine j_aload_n C 0 dX0_walk_97 rfl rfl ?_
                refine x_get C X 5 (by decide) q34 rfl dX0_walk_98 ?_
                refine j_aload_n C 0 dX0_walk_101 rfl rfl ?_
                refine x_get C X 9 (by decide) q38 rfl dX0_walk_102 ?_
                refine j_iload C 5 dX0_walk_105 rfl ?_
                refine x_ist C X 5 432 (W2) (d) rfl rfl xset_5 (by decide) (by omega) (by omega) (by omega) (by omega) dX0_walk_107 ?_
                refine j_aload_n C 0 dX0_walk_108 rfl rfl ?_
                refine j_dup C dX0_walk_109 ?_
                refine x_get C X 9 (by decide) q38 rfl dX0_walk_110 ?_
                refine j_iconst C dX0_walk_113 ?_
                refine j_iadd C dX0_walk_114 ?_
                refine x_put C X (W2 + 1) (by omega) (by omega) q38 dX0_walk_115 ?_
                refine j_iinc C 4 [1, 2, 3, 4, 0, 5] (L' := [(0, _), (1, _), (2, _), (3, _), (4, _), (5, _)]) dX0_walk_118 rfl (by decide) rfl ?_
                refine j_goto C (tgt := 58) dX0_walk_121 (by decide) ?_
                refine j_sub [0, 1, 2, 3, 4] (L' := [(0, _), (1, _), (2, _), (3, _), (4, _)]) rfl ?_
                have eP : s2 (s2 (s2 σ2 8 d 1) 5 W2 d) 9 0 (W2 + 1) = pushS σ2 d := by unfold pushS; rw [hW2]
                rw [eP]
                exact ih2 (w + 1) (W2 + 1) _ _ a _ (by omega) hza (by omega) (by omega) ha hca (dw_way (dw_push hT2 hW2 hd hcd) (fun q _ e => by
                  have eq : q = d := by omega
                  subst eq
                  rw [pushS_8, if_pos rfl]
                  omega)) (by rw [pushS_9, hW2]) (by rw [sc_push hd (by omega)]; omega)
      refine j_iload_n C 2 dX0_walk_21 rfl rfl ?_
      refine j_sipush C dX0_walk_22 (by decide) ?_
      refine j_icmp_ge C (tgt := 130) dX0_walk_25 (by decide) (by omega) (by omega) (fun hc25 => ?_) (fun hc25 => ?_)
      · exact x_vret C X Rt (by have eW : W = 0 := (by omega); subst eW; exact dw_fin hs h0 hP hT) dX0_walk_130
      · refine j_aload_n C 0 dX0_walk_28 rfl rfl ?_
        refine x_get C X 9 (by decide) q38 rfl dX0_walk_29 ?_
        refine j_if_le C (tgt := 130) dX0_walk_32 (by decide) (by omega) (fun hc32 => ?_) (fun hc32 => ?_)
        · exact x_vret C X Rt (by have eW : W = 0 := (by omega); subst eW; exact dw_fin hs h0 hP hT) dX0_walk_130
        · obtain ⟨W1, rfl⟩ : ∃ W1, W = W1 + 1 := ⟨W - 1, by omega⟩
          refine j_aload_n C 0 dX0_walk_35 rfl rfl ?_
          refine j_dup C dX0_walk_36 ?_
          refine x_get C X 9 (by decide) q38 rfl dX0_walk_37 ?_
          refine j_iconst C dX0_walk_40 ?_
          refine j_isub C dX0_walk_41 ?_
          refine x_put C X (W1) (by omega) (by omega) q38 dX0_walk_42 ?_
          have hT2 := dw_pop hT
          have hat := hT.2.2.2.2.1 W1 (Nat.lt_succ_self _)
          have h52 : (s2 σ1 9 0 W1) 5 = σ1 5 := s2_ne (by decide)
          have hz2 : step + 1 + W1 ≤ sc (s2 σ1 9 0 W1) := by rw [sc_w]; omega
          have h92 : s2 σ1 9 0 W1 9 0 = W1 := s2_at
          generalize s2 σ1 9 0 W1 = σ2 at hT2 h52 hz2 h92 ⊢
          have ea : σ2 5 W1 = σ1 5 W1 := by rw [h52]
          refine j_aload_n C 0 dX0_walk_45 rfl rfl ?_
          refine x_get C X 5 (by decide) q34 rfl dX0_walk_46 ?_
          refine j_aload_n C 0 dX0_walk_49 rfl rfl ?_
          refine x_get C X 9 (by decide) q38 rfl dX0_walk_50 ?_
          refine x_ild C X 5 432 (W1) rfl rfl (by decide) (by omega) (by omega) dX0_walk_53 (fun hb53 => ?_)
          refine j_istore_n C [1, 2, 3, 0] (L' := [(0, _), (1, _), (2, _), (3, _)]) dX0_walk_54 rfl (by decide) rfl ?_
          refine j_iconst C dX0_walk_55 ?_
          refine j_istore C [1, 2, 3, 4, 0] (L' := [(0, _), (1, _), (2, _), (3, _), (4, _)]) dX0_walk_56 (by decide) rfl ?_
          exact K58 7 0 W1 σ2 _ (σ1 5 W1) _ (by omega) (by omega) (by omega) (by omega) hat.1 hat.2 hT2 h92 hz2
  refine j_aload_n C 0 dX0_walk_0 rfl rfl ?_
  refine j_iconst C dX0_walk_1 ?_
  refine x_put C X (1) (by omega) (by omega) q38 dX0_walk_2 ?_
  refine j_aload_n C 0 dX0_walk_5 rfl rfl ?_
  refine x_get C X 5 (by decide) q34 rfl dX0_walk_6 ?_
  refine j_iconst C dX0_walk_9 ?_
  refine j_iload_n C 1 dX0_walk_10 rfl rfl ?_
  refine x_ist C X 5 432 (0) (s) rfl rfl xset_5 (by decide) (by omega) (by omega) (by omega) (by omega) dX0_walk_11 ?_
  refine j_aload_n C 0 dX0_walk_12 rfl rfl ?_
  refine x_get C X 8 (by decide) q37 rfl dX0_walk_13 ?_
  refine j_iload_n C 1 dX0_walk_16 rfl rfl ?_
  refine j_iconst C dX0_walk_17 ?_
  refine x_zst C X 8 216 (s) (1) rfl rfl xset_8 (by decide) (by omega) (by omega) (by omega) (by omega) dX0_walk_18 ?_
  refine j_iconst C dX0_walk_19 ?_
  refine j_istore_n C [1, 2, 0] (L' := [(0, _), (1, _), (2, _)]) dX0_walk_20 rfl (by decide) rfl ?_
  refine (?_ : J κ 6 (xW O (dw0 σ s)) 21 _ _)
  exact K21 217 0 1 _ _ rfl (by omega) (dw_0 hs) (by simp [dw0, s2]) (by have := sc_0 (σ := σ) hs; omega)
theorem m_walk (l : Launch) (O : XO) (σ : St) (s : Nat) (zs : Int) (hzs : zs = (s : Int)) (hs : s < 216) (h0 : σ 8 s = 0) (hP : WKP σ) : XMv l O yX0_walk cX0_walk 6 1 23 [.int (iI zs)] σ (fun σ' => WKO σ σ' s) := by
  refine XMv.of (by decide) rfl (Nat.le_of_ble_eq_true rfl) ?_
  intro κ A H0 hκ C X Rt hb
  exact w_walk (O := (oD O, A, H0, O.2.2.2)) s zs hzs hs h0 hP C X Rt hb
set_option maxHeartbeats 4000000 in
theorem w_rooms {κ : Kx} {O : XO} {σ : St} (hG : GI σ) (C : CB κ cX0_rooms 3 RX0 2 48) (X : XC κ O) (Rt : XRI κ O .int (fun r σ' => r = iI ((cnt (isMin (σ 0)) 216 : Nat) : Int) ∧ ∀ k, k ≤ 4 → σ' k = σ k)) (hb : bnd σ) : J κ 3 (xW O σ) 0 [(0, .ref (oh O))] [] := by
  have K31 : ∀ (n c : Nat) (σ1 : St) (z1 z2 : Int), z2 = (c : Int) → z1 = ((cnt (isMin (σ 0)) c : Nat) : Int) → 216 < c + n → c ≤ 216 → RM σ σ1 c → J κ 3 (xW O σ1) 31 [(0, .ref (oh O)), (1, .int (iI z1)), (2, .int (iI z2))] [] := by
    intro n
    induction n with
    | zero => intros; omega
    | succ n ih =>
      intro c σ1 z1 z2 hz2 hz1 hn hc hR
      refine j_iload_n C 2 dX0_rooms_31 rfl rfl ?_
      refine j_sipush C dX0_rooms_32 (by decide) ?_
      refine j_icmp_ge C (tgt := 61) dX0_rooms_35 (by decide) (by omega) (by omega) (fun hc35 => ?_) (fun hc35 => ?_)
      · refine j_iload_n C 1 dX0_rooms_61 rfl rfl ?_
        exact x_iret C X Rt (rfl) (⟨by rw [hz1, show c = 216 by omega], fun k hk => hR.1 k (by omega) (by omega) (by omega)⟩) dX0_rooms_62
      · refine j_aload_n C 0 dX0_rooms_38 rfl rfl ?_
        refine x_get C X 8 (by decide) q37 rfl dX0_rooms_39 ?_
        refine j_iload_n C 2 dX0_rooms_42 rfl rfl ?_
        refine x_zld C X 8 216 (c) rfl rfl (by decide) (by omega) (by omega) dX0_rooms_43 (fun hb43 => ?_)
        refine j_if_ne C (tgt := 55) dX0_rooms_44 (by decide) (by omega) (fun hc44 => ?_) (fun hc44 => ?_)
        · refine j_iinc C 2 [1, 2, 0] (L' := [(0, _), (1, _), (2, _)]) dX0_rooms_55 rfl (by decide) rfl ?_
          refine j_goto C (tgt := 31) dX0_rooms_58 (by decide) ?_
          obtain ⟨g1, g2⟩ := rm_seen hR (by omega) (by omega)
          exact ih (c + 1) σ1 _ _ (by omega) (by rw [cnt_f g2]; exact hz1) (by omega) (by omega) g1
        · refine j_iinc C 1 [1, 0, 2] (L' := [(0, _), (1, _), (2, _)]) dX0_rooms_47 rfl (by decide) rfl ?_
          refine j_aload_n C 0 dX0_rooms_50 rfl rfl ?_
          refine j_iload_n C 2 dX0_rooms_51 rfl rfl ?_
          refine x_callv C X (m_walk _ O σ1 c _ (by omega) (by omega) (by omega) (rm_wkp hR)) 1 rfl (lw_V q169 q171 qs8 q19 q172) (by decide +kernel) (by decide) dX0_rooms_52 rfl (Nat.le_of_ble_eq_true rfl) (fun σ2 hw => ?_)
          refine j_iinc C 2 [1, 2, 0] (L' := [(0, _), (1, _), (2, _)]) dX0_rooms_55 rfl (by decide) rfl ?_
          refine j_goto C (tgt := 31) dX0_rooms_58 (by decide) ?_
          obtain ⟨g1, g2⟩ := rm_new hR (by omega) (by omega) hw
          exact ih (c + 1) σ2 _ _ (by omega) (by rw [cnt_t g2]; omega) (by omega) (by omega) g1
  have K2 : ∀ (n c : Nat) (σ1 : St) (z1 : Int), z1 = (c : Int) → 216 < c + n → c ≤ 216 → (∀ k, k ≠ 8 → σ1 k = σ k) → (∀ x, x < c → σ1 8 x = σ 0 x) → J κ 3 (xW O σ1) 2 [(0, .ref (oh O)), (1, .int (iI z1))] [] := by
    intro n
    induction n with
    | zero => intros; omega
    | succ n ih =>
      intro c σ1 z1 hz1 hn hc hf h8
      have e0 : σ1 0 c = σ 0 c := by rw [hf 0 (by decide)]
      have h01 : c < 216 → σ 0 c ≤ 1 := fun h => (hG.1 c h).1
      refine j_iload_n C 1 dX0_rooms_2 rfl rfl ?_
      refine j_sipush C dX0_rooms_3 (by decide) ?_
      refine j_icmp_ge C (tgt := 27) dX0_rooms_6 (by decide) (by omega) (by omega) (fun hc6 => ?_) (fun hc6 => ?_)
      · refine j_iconst C dX0_rooms_27 ?_
        refine j_istore_n C [1, 0] (L' := [(0, _), (1, _)]) dX0_rooms_28 rfl (by decide) rfl ?_
        refine j_iconst C dX0_rooms_29 ?_
        refine j_istore_n C [1, 2, 0] (L' := [(0, _), (1, _), (2, _)]) dX0_rooms_30 rfl (by decide) rfl ?_
        exact K31 217 0 σ1 _ _ (by omega) (by rfl) (by omega) (by omega) (rm_0 hf (fun x hx => h8 x (by omega)))
      · refine j_aload_n C 0 dX0_rooms_9 rfl rfl ?_
        refine x_get C X 8 (by decide) q37 rfl dX0_rooms_10 ?_
        refine j_iload_n C 1 dX0_rooms_13 rfl rfl ?_
        refine j_aload_n C 0 dX0_rooms_14 rfl rfl ?_
        refine x_get C X 0 (by decide) q29 rfl dX0_rooms_15 ?_
        refine j_iload_n C 1 dX0_rooms_18 rfl rfl ?_
        refine x_zld C X 0 216 (c) rfl rfl (by decide) (by omega) (by omega) dX0_rooms_19 (fun hb19 => ?_)
        refine x_zst C X 8 216 (c) (σ 0 c) rfl rfl xset_8 (by decide) (by omega) (by omega) (by omega) (by omega) dX0_rooms_20 ?_
        refine j_iinc C 1 [1, 0] (L' := [(0, _), (1, _)]) dX0_rooms_21 rfl (by decide) rfl ?_
        refine j_goto C (tgt := 2) dX0_rooms_24 (by decide) ?_
        exact ih (c + 1) _ _ (by omega) (by omega) (by omega) (fun k hk => by rw [s2_ne hk]; exact hf k hk) (fun x hx => by
          rw [s2_eq]
          split
          · rename_i h; rw [h]
          · exact h8 x (by omega))
  refine j_iconst C dX0_rooms_0 ?_
  refine j_istore_n C [1, 0] (L' := [(0, _), (1, _)]) dX0_rooms_1 rfl (by decide) rfl ?_
  exact K2 217 0 σ _ (by omega) (by omega) (by omega) (fun _ _ => rfl) (fun x hx => absurd hx (Nat.not_lt_zero _))
theorem m_rooms (l : Launch) (O : XO) (σ : St) (hG : GI σ) : XMi l O yX0_rooms cX0_rooms 3 .int 2 48 [] σ (fun r σ' => r = iI ((cnt (isMin (σ 0)) 216 : Nat) : Int) ∧ ∀ k, k ≤ 4 → σ' k = σ k) := by
  refine XMi.of (by decide) rfl (Nat.le_of_ble_eq_true rfl) ?_
  intro κ A H0 hκ C X Rt hb
  exact w_rooms (O := (oD O, A, H0, O.2.2.2)) hG C X Rt hb
end
section
/-! the reference: light by rounds -/
theorem bes_rg {c w : Nat} (hc : c < 216) (hw : w < 6) : bes c w = -1 ∨ ∃ d : Nat, d < 216 ∧ bes c w = (d : Int) ∧ adj c d := by
  rw [bes_all c hc w hw]
  rcases nbr_rg hc (flip1_lt hw) with h | ⟨d, h1, h2, h3⟩
  · exact Or.inl h
  · exact Or.inr ⟨d, h1, h2, flip1 w, flip1_lt hw, h2⟩
theorem adj_bes {c d : Nat} (hc : c < 216) (h : adj c d) : ∃ w, w < 6 ∧ bes c w = (d : Int) := by
  obtain ⟨w, hw, e⟩ := h
  exact ⟨flip1 w, flip1_lt hw, by rw [bes_all c hc _ (flip1_lt hw), flip1_2]; exact e⟩
/-- one kind of light in a round: array a of the state, edges ahead of n are done -/
def ME (w : Nat → Nat) (L L1 : Nat → Nat) (F : Nat → Nat) (n : Nat) : Prop := (∀ c, c < 216 → L c ≤ L1 c ∧ L1 c ≤ F c) ∧ ∀ e, e < n → ∀ d : Nat, d < 216 → bes (e / 6) (e % 6) = (d : Int) → w (e / 6) = 0 → L d ≤ L1 (e / 6) + 1
theorem me_0 {w L F : Nat → Nat} (h : ∀ c, c < 216 → L c ≤ F c) : ME w L L F 0 := ⟨fun c hc => ⟨Nat.le_refl _, h c hc⟩, fun e he => absurd he (Nat.not_lt_zero _)⟩
theorem me_skip {w L L1 F : Nat → Nat} {n : Nat} (h : ME w L L1 F n) (hs : ∀ d : Nat, d < 216 → bes (n / 6) (n % 6) = (d : Int) → w (n / 6) = 0 → L1 d ≤ L1 (n / 6) + 1) : ME w L L1 F (n + 1) := by
  refine ⟨h.1, fun e he d hd hb hw => ?_⟩
  by_cases eq : e = n
  · subst eq
    have := (h.1 d hd).1
    have := hs d hd hb hw
    omega
  · exact h.2 e (by omega) d hd hb hw
theorem me_set {w L F : Nat → Nat} {σ : St} {a n c d : Nat} (h : ME w L (σ a) F n) (hn : n / 6 = c) (hc : c < 216) (hd : d < 216) (hb : bes (n / 6) (n % 6) = (d : Int)) (ha : adj c d) (hw : w c = 0) (hl : σ a c + 1 < σ a d) (hF : ∀ c d, c < 216 → d < 216 → adj c d → w c = 0 → F d ≤ F c + 1) : ME w L (s2 σ a c (σ a d - 1) a) F (n + 1) := by
  have up : ∀ x, σ a x ≤ s2 σ a c (σ a d - 1) a x := fun x => by
    rw [s2_eq]
    split
    · rename_i e; rw [e]; omega
    · exact Nat.le_refl _
  refine ⟨fun x hx => ⟨Nat.le_trans (h.1 x hx).1 (up x), ?_⟩, fun e he d2 hd2 hb2 hw2 => ?_⟩
  · rw [s2_eq]
    split
    · rename_i e
      rw [e]
      have := hF c d hc hd ha hw
      have := (h.1 d hd).2
      omega
    · exact (h.1 x hx).2
  · by_cases eq : e = n
    · subst eq
      have : d2 = d := by omega
      subst this
      rw [hn, s2_at]
      have := (h.1 d2 hd2).1
      omega
    · have g1 := h.2 e (by omega) d2 hd2 hb2 hw2
      have g2 := up (e / 6)
      omega
/-- after a whole round: relaxed against the start of the round -/
theorem me_fin {w L L1 F : Nat → Nat} (h : ME w L L1 F 1296) {c d : Nat} (hc : c < 216) (hd : d < 216) (ha : adj c d) (hw : w c = 0) : L d ≤ L1 c + 1 := by
  obtain ⟨v, hv, e⟩ := adj_bes hc ha
  have g := h.2 (6 * c + v) (by omega) d hd (by rw [show (6 * c + v) / 6 = c by omega, show (6 * c + v) % 6 = v by omega]; exact e) (by rw [show (6 * c + v) / 6 = c by omega]; exact hw)
  rw [show (6 * c + v) / 6 = c by omega] at g
  exact g
/-- k rounds are done: what is bright is right -/
def RR (F L : Nat → Nat) (k : Nat) : Prop := ∀ c, c < 216 → 13 ≤ F c + k → L c = F c
theorem rr_next {w src F L L1 : Nat → Nat} {k : Nat} (hG : GL w src F) (hs : ∀ c, c < 216 → src c ≤ L c) (h : ME w L L1 F 1296) (hR : RR F L k) : RR F L1 (k + 1) := by
  intro c hc hk
  have b := h.1 c hc
  have s := hs c hc
  rcases hG.2.2.2 c hc with g | g | ⟨g, d, hd, ha, hl⟩
  · omega
  · omega
  · have e := hR d hd (by omega)
    have r := me_fin h hc hd ha g
    omega
/-- relaxed, and between the sources and the fixed point: it is the fixed point -/
theorem gl_eq {w src F L : Nat → Nat} (hG : GL w src F) (hs : ∀ c, c < 216 → src c ≤ L c) (hr : ∀ c d, c < 216 → d < 216 → adj c d → w c = 0 → L d ≤ L c + 1) : ∀ c, c < 216 → F c ≤ L c := by
  have key : ∀ n c, c < 216 → 12 ≤ F c + n → F c ≤ L c := by
    intro n
    induction n with
    | zero =>
      intro c hc hn
      rcases hG.2.2.2 c hc with g | g | ⟨g, d, hd, ha, hl⟩
      · omega
      · exact Nat.le_trans g (hs c hc)
      · have := hG.1 d hd
        omega
    | succ n ih =>
      intro c hc hn
      rcases hG.2.2.2 c hc with g | g | ⟨g, d, hd, ha, hl⟩
      · omega
      · exact Nat.le_trans g (hs c hc)
      · have e := ih d hd (by omega)
        have r := hr c d hc hd ha g
        omega
  exact fun c hc => key 12 c hc (by omega)
theorem gl_uniq {w src F F' : Nat → Nat} (h : GL w src F) (h' : GL w src F') : ∀ c, c < 216 → F c = F' c := fun c hc => Nat.le_antisymm (gl_eq h h'.2.1 h'.2.2.1 c hc) (gl_eq h' h.2.1 h.2.2.1 c hc)
/-- a round of both kinds -/
def MF (τ τ1 : St) (F1 F2 : Nat → Nat) (a b more : Nat) : Prop := (∀ j, j ≠ 2 → j ≠ 3 → τ1 j = τ j) ∧ ME (τ 0) (τ 2) (τ1 2) F1 a ∧ ME (τ 0) (τ 3) (τ1 3) F2 b ∧ more ≤ 1 ∧ (more = 0 → τ1 2 = τ 2 ∧ τ1 3 = τ 3)
def MG (τ : St) (se F1 F2 : Nat → Nat) : Prop := (∀ c, c < 216 → τ 0 c ≤ 1 ∧ τ 1 c ≤ 12) ∧ SEr (τ 0) se ∧ GL (τ 0) (τ 1) F1 ∧ GL (τ 0) (fun c => 8 * se c) F2
/-- in shine: k rounds are done -/
def SH (τ τ1 : St) (se F1 F2 : Nat → Nat) (k more : Nat) : Prop := (∀ j, j ≠ 2 → j ≠ 3 → τ1 j = τ j) ∧ (∀ c, c < 216 → τ 1 c ≤ τ1 2 c ∧ τ1 2 c ≤ F1 c ∧ 8 * se c ≤ τ1 3 c ∧ τ1 3 c ≤ F2 c) ∧ RR F1 (τ1 2) k ∧ RR F2 (τ1 3) k ∧ more ≤ 1 ∧ (more = 0 → ∀ c d, c < 216 → d < 216 → adj c d → τ 0 c = 0 → τ1 2 d ≤ τ1 2 c + 1 ∧ τ1 3 d ≤ τ1 3 c + 1)
def SHO (τ τ1 : St) (F1 F2 : Nat → Nat) : Prop := (∀ j, j ≠ 2 → j ≠ 3 → τ1 j = τ j) ∧ ∀ c, c < 216 → τ1 2 c = F1 c ∧ τ1 3 c = F2 c
theorem sh_0 {τ τ1 : St} {se F1 F2 : Nat → Nat} (hM : MG τ se F1 F2) (h : ∀ j, j ≠ 2 → j ≠ 3 → τ1 j = τ j) (h2 : ∀ x, x < 216 → τ1 2 x = τ 1 x ∧ τ1 3 x = 8 * se x) : SH τ τ1 se F1 F2 0 1 := by
  obtain ⟨m1, m2, m3, m4⟩ := hM
  refine ⟨h, fun c hc => ?_, fun c hc hk => ?_, fun c hc hk => ?_, Nat.le_refl _, fun e => absurd e (by decide)⟩
  · have g := h2 c hc
    have g1 := m3.2.1 c hc
    have g2 : 8 * se c ≤ F2 c := m4.2.1 c hc
    omega
  · have := m3.1 c hc
    omega
  · have := m4.1 c hc
    omega
theorem sh_next {τ τ1 τ2 : St} {se F1 F2 : Nat → Nat} {k more m2 : Nat} (hM : MG τ se F1 F2) (h : SH τ τ1 se F1 F2 k more) (hf : MF τ1 τ2 F1 F2 1296 1296 m2) : SH τ τ2 se F1 F2 (k + 1) m2 := by
  obtain ⟨h1, h2, h3, h4, h5, h6⟩ := h
  obtain ⟨f1, f2, f3, f4, f5⟩ := hf
  have e0 : τ1 0 = τ 0 := h1 0 (by decide) (by decide)
  rw [e0] at f2 f3
  refine ⟨fun j a b => by rw [f1 j a b, h1 j a b], fun c hc => ?_, rr_next hM.2.2.1 (fun c hc => (h2 c hc).1) f2 h3, rr_next hM.2.2.2 (fun c hc => (h2 c hc).2.2.1) f3 h4, f4, fun e c d hc hd ha hw => ?_⟩
  · have g := h2 c hc
    have g2 := f2.1 c hc
    have g3 := f3.1 c hc
    omega
  · obtain ⟨e2, e3⟩ := f5 e
    have g2 := me_fin f2 hc hd ha hw
    have g3 := me_fin f3 hc hd ha hw
    rw [e2] at g2 ⊢
    rw [e3] at g3 ⊢
    exact ⟨g2, g3⟩
theorem sh_fin {τ τ1 : St} {se F1 F2 : Nat → Nat} {k more : Nat} (hM : MG τ se F1 F2) (h : SH τ τ1 se F1 F2 k more) (he : 216 ≤ k ∨ more = 0) : SHO τ τ1 F1 F2 := by
  obtain ⟨h1, h2, h3, h4, h5, h6⟩ := h
  refine ⟨h1, fun c hc => ?_⟩
  rcases he with e | e
  · exact ⟨h3 c hc (by omega), h4 c hc (by omega)⟩
  · have r := h6 e
    have g1 := gl_eq hM.2.2.1 (fun c hc => (h2 c hc).1) (fun c d a b x y => (r c d a b x y).1) c hc
    have g2 := gl_eq hM.2.2.2 (fun c hc => (h2 c hc).2.2.1) (fun c d a b x y => (r c d a b x y).2) c hc
    have g3 := h2 c hc
    omega
theorem mf_0 {τ : St} {F1 F2 : Nat → Nat} (h : ∀ c, c < 216 → τ 2 c ≤ F1 c ∧ τ 3 c ≤ F2 c) : MF τ τ F1 F2 0 0 0 := ⟨fun _ _ _ => rfl, me_0 (fun c hc => (h c hc).1), me_0 (fun c hc => (h c hc).2), by omega, fun _ => ⟨rfl, rfl⟩⟩
theorem mf_lskip {τ τ1 : St} {F1 F2 : Nat → Nat} {n b more : Nat} (h : MF τ τ1 F1 F2 n b more) (hs : ∀ d : Nat, d < 216 → bes (n / 6) (n % 6) = (d : Int) → τ 0 (n / 6) = 0 → τ1 2 d ≤ τ1 2 (n / 6) + 1) : MF τ τ1 F1 F2 (n + 1) b more := ⟨h.1, me_skip h.2.1 hs, h.2.2⟩
theorem mf_sskip {τ τ1 : St} {F1 F2 : Nat → Nat} {n a more : Nat} (h : MF τ τ1 F1 F2 a n more) (hs : ∀ d : Nat, d < 216 → bes (n / 6) (n % 6) = (d : Int) → τ 0 (n / 6) = 0 → τ1 3 d ≤ τ1 3 (n / 6) + 1) : MF τ τ1 F1 F2 a (n + 1) more := ⟨h.1, h.2.1, me_skip h.2.2.1 hs, h.2.2.2⟩
theorem mf_lset {τ τ1 : St} {F1 F2 : Nat → Nat} {n b c d more : Nat} (h : MF τ τ1 F1 F2 n b more) (hn : n / 6 = c) (hc : c < 216) (hd : d < 216) (hb : bes (n / 6) (n % 6) = (d : Int)) (ha : adj c d) (hw : τ 0 c = 0) (hl : τ1 2 c + 1 < τ1 2 d) (hF : ∀ c d, c < 216 → d < 216 → adj c d → τ 0 c = 0 → F1 d ≤ F1 c + 1) : MF τ (s2 τ1 2 c (τ1 2 d - 1)) F1 F2 (n + 1) b 1 :=
  ⟨fun j a e => by rw [s2_ne a]; exact h.1 j a e, me_set h.2.1 hn hc hd hb ha hw hl hF, by rw [s2_ne (by decide)]; exact h.2.2.1, Nat.le_refl _, fun e => absurd e (by decide)⟩
theorem mf_sset {τ τ1 : St} {F1 F2 : Nat → Nat} {n a c d more : Nat} (h : MF τ τ1 F1 F2 a n more) (hn : n / 6 = c) (hc : c < 216) (hd : d < 216) (hb : bes (n / 6) (n % 6) = (d : Int)) (ha : adj c d) (hw : τ 0 c = 0) (hl : τ1 3 c + 1 < τ1 3 d) (hF : ∀ c d, c < 216 → d < 216 → adj c d → τ 0 c = 0 → F2 d ≤ F2 c + 1) : MF τ (s2 τ1 3 c (τ1 3 d - 1)) F1 F2 a (n + 1) 1 :=
  ⟨fun j x e => by rw [s2_ne e]; exact h.1 j x e, by rw [s2_ne (by decide)]; exact h.2.1, me_set h.2.2.1 hn hc hd hb ha hw hl hF, Nat.le_refl _, fun e => absurd e (by decide)⟩
def MK (τ τ1 : St) : Prop := τ1 0 = τ 0 ∧ τ1 1 = τ 1
def LM (F1 F2 : Nat → Nat) (x : Nat) : Nat := mx (F1 x) (F2 x)
end
section
/-! the reference: rooms by labels -/
theorem cnt_lt {P P' : Nat → Prop} {n q : Nat} (h : ∀ k, k < n → P k → P' k) (hq : q < n) (h1 : ¬ P q) (h2 : P' q) : cnt P n + 1 ≤ cnt P' n := by
  have e : cnt (fun k => P k ∨ k = q) n = cnt P n + 1 := cnt_ins hq h1 (Or.inr rfl) (fun k _ hk => ⟨fun g => Or.inl g, fun g => g.elim (fun x => x) (fun x => absurd x hk)⟩)
  rw [← e]
  exact cnt_mono (fun k hk g => g.elim (fun x => h k hk x) (fun x => by rw [x]; exact h2))
def reach (w : Nat → Nat) (m : Nat) : Nat → Nat → Prop
  | 0, x => x = m
  | r + 1, x => reach w m r x ∨ ∃ y, y < 216 ∧ reach w m r y ∧ adj x y ∧ w x = 0 ∧ w y = 0
theorem reach_up {w : Nat → Nat} {m r x : Nat} (h : reach w m r x) : reach w m (r + 1) x := Or.inl h
theorem reach_le {w : Nat → Nat} {m r r2 x : Nat} (hr : r ≤ r2) (h : reach w m r x) : reach w m r2 x := by
  induction r2 with
  | zero => rw [show r = 0 by omega] at h; exact h
  | succ r2 ih =>
    by_cases e : r = r2 + 1
    · rw [← e]; exact h
    · exact reach_up (ih (by omega))
theorem reach_sat {w : Nat → Nat} {m : Nat} (hm : m < 216) : ∀ r, (∃ r0, r0 ≤ r ∧ ∀ x, x < 216 → reach w m (r0 + 1) x → reach w m r0 x) ∨ r + 1 ≤ cnt (reach w m r) 216 := by
  intro r
  induction r with
  | zero => exact Or.inr (cnt_pos hm rfl)
  | succ r ih =>
    rcases ih with ⟨r0, h1, h2⟩ | h
    · exact Or.inl ⟨r0, by omega, h2⟩
    · by_cases e : ∀ x, x < 216 → reach w m (r + 1) x → reach w m r x
      · exact Or.inl ⟨r, by omega, e⟩
      · obtain ⟨x, hx⟩ := Classical.not_forall.mp e
        have hx1 : x < 216 := Classical.byContradiction (fun z => hx (fun q => absurd q z))
        have hx2 : reach w m (r + 1) x := Classical.byContradiction (fun z => hx (fun _ q => absurd q z))
        have hx3 : ¬ reach w m r x := fun z => hx (fun _ _ => z)
        have := cnt_lt (P := reach w m r) (P' := reach w m (r + 1)) (fun k _ g => reach_up g) hx1 hx3 hx2
        exact Or.inr (by omega)
theorem reach_conn {w : Nat → Nat} {m x : Nat} (hm : m < 216) (ho : w m = 0) (h : conn w m x) : reach w m 216 x := by
  rcases reach_sat (w := w) hm 216 with ⟨r0, h1, h2⟩ | g
  · have k := h (fun x => x < 216 ∧ w x = 0 ∧ reach w m r0 x) ⟨hm, ho, reach_le (Nat.zero_le _) rfl⟩ (fun a b g ha hb hab hw => ⟨hb, hw, h2 b hb (Or.inr ⟨a, ha, g.2.2, adj_symm ha hab, hw, g.2.1⟩)⟩)
    exact reach_le h1 k.2.2
  · have := cnt_le (reach w m 216) 216
    omega
/-- in a round: edges ahead of n are done -/
def LB (τ τ1 : St) (n more : Nat) : Prop := (∀ j, j ≠ 4 → τ1 j = τ j) ∧ (∀ c, c < 216 → τ1 4 c ≤ τ 4 c) ∧ (∀ e, e < n → ∀ d : Nat, d < 216 → bes (e / 6) (e % 6) = (d : Int) → τ 0 (e / 6) = 0 → τ 0 d = 0 → τ1 4 (e / 6) ≤ τ 4 d) ∧ (∀ c, c < 216 → τ 0 c = 0 → τ1 4 c < 216 ∧ τ 0 (τ1 4 c) = 0 ∧ conn (τ 0) (τ1 4 c) c) ∧ more ≤ 1 ∧ (more = 0 → τ1 4 = τ 4)
theorem lb_0 {τ : St} (h : ∀ c, c < 216 → τ 0 c = 0 → τ 4 c < 216 ∧ τ 0 (τ 4 c) = 0 ∧ conn (τ 0) (τ 4 c) c) : LB τ τ 0 0 := ⟨fun _ _ => rfl, fun _ _ => Nat.le_refl _, fun e he => absurd he (Nat.not_lt_zero _), h, by omega, fun _ => rfl⟩
theorem lb_skip {τ τ1 : St} {n more : Nat} (h : LB τ τ1 n more) (hs : ∀ d : Nat, d < 216 → bes (n / 6) (n % 6) = (d : Int) → τ 0 (n / 6) = 0 → τ 0 d = 0 → τ1 4 (n / 6) ≤ τ1 4 d) : LB τ τ1 (n + 1) more := by
  obtain ⟨h1, h2, h3, h4, h5, h6⟩ := h
  refine ⟨h1, h2, fun e he d hd hb hw hw2 => ?_, h4, h5, h6⟩
  by_cases eq : e = n
  · subst eq
    exact Nat.le_trans (hs d hd hb hw hw2) (h2 d hd)
  · exact h3 e (by omega) d hd hb hw hw2
theorem lb_set {τ τ1 : St} {n more c d : Nat} (h : LB τ τ1 n more) (hn : n / 6 = c) (hc : c < 216) (hd : d < 216) (hb : bes (n / 6) (n % 6) = (d : Int)) (ha : adj c d) (hw : τ 0 c = 0) (hw2 : τ 0 d = 0) (hl : τ1 4 d < τ1 4 c) : LB τ (s2 τ1 4 c (τ1 4 d)) (n + 1) 1 := by
  obtain ⟨h1, h2, h3, h4, h5, h6⟩ := h
  have dn : ∀ x, s2 τ1 4 c (τ1 4 d) 4 x ≤ τ1 4 x := fun x => by
    rw [s2_eq]
    split
    · rename_i e; rw [e]; omega
    · exact Nat.le_refl _
  refine ⟨fun j a => by rw [s2_ne a]; exact h1 j a, fun x hx => Nat.le_trans (dn x) (h2 x hx), fun e he d2 hd2 hb2 hw3 hw4 => ?_, fun x hx ho => ?_, Nat.le_refl _, fun e => absurd e (by decide)⟩
  · by_cases eq : e = n
    · subst eq
      have : d2 = d := by omega
      subst this
      rw [hn, s2_at]
      exact h2 d2 hd2
    · exact Nat.le_trans (dn _) (h3 e (by omega) d2 hd2 hb2 hw3 hw4)
  · rw [s2_eq]
    by_cases e : x = c
    · rw [if_pos e]
      have g := h4 d hd hw2
      rw [e]
      exact ⟨g.1, g.2.1, conn_step g.2.2 hd hc (adj_symm hc ha) hw⟩
    · rw [if_neg e]
      exact h4 x hx ho
theorem lb_fin {τ τ1 : St} {more : Nat} (h : LB τ τ1 1296 more) {c d : Nat} (hc : c < 216) (hd : d < 216) (ha : adj c d) (hw : τ 0 c = 0) (hw2 : τ 0 d = 0) : τ1 4 c ≤ τ 4 d := by
  obtain ⟨v, hv, e⟩ := adj_bes hc ha
  have g := h.2.2.1 (6 * c + v) (by omega) d hd (by rw [show (6 * c + v) / 6 = c by omega, show (6 * c + v) % 6 = v by omega]; exact e) (by rw [show (6 * c + v) / 6 = c by omega]; exact hw) hw2
  rw [show (6 * c + v) / 6 = c by omega] at g
  exact g
/-- k rounds are done -/
def LR (τ τ1 : St) (k more : Nat) : Prop := (∀ j, j ≠ 4 → τ1 j = τ j) ∧ (∀ c, c < 216 → τ 0 c = 0 → τ1 4 c < 216 ∧ τ 0 (τ1 4 c) = 0 ∧ conn (τ 0) (τ1 4 c) c ∧ τ1 4 c ≤ c) ∧ (∀ m x, m < 216 → x < 216 → τ 0 m = 0 → reach (τ 0) m k x → τ1 4 x ≤ m) ∧ more ≤ 1 ∧ (more = 0 → ∀ c d, c < 216 → d < 216 → adj c d → τ 0 c = 0 → τ 0 d = 0 → τ1 4 c ≤ τ1 4 d)
theorem lr_0 {τ τ1 : St} (h : ∀ j, j ≠ 4 → τ1 j = τ j) (h4 : ∀ x, x < 216 → τ1 4 x = x) : LR τ τ1 0 1 := by
  refine ⟨h, fun c hc ho => ?_, fun m x hm hx ho hr => ?_, Nat.le_refl _, fun e => absurd e (by decide)⟩
  · rw [h4 c hc]
    exact ⟨hc, ho, conn_refl _ _, Nat.le_refl _⟩
  · rw [h4 x hx]
    have : x = m := hr
    omega
theorem lr_next {τ τ1 τ2 : St} {k more m2 : Nat} (h : LR τ τ1 k more) (hf : LB τ1 τ2 1296 m2) : LR τ τ2 (k + 1) m2 := by
  obtain ⟨h1, h2, h3, h4, h5⟩ := h
  have e0 : τ1 0 = τ 0 := h1 0 (by decide)
  have fin := @lb_fin τ1 τ2 m2 hf
  obtain ⟨f1, f2, f3, f4, f5, f6⟩ := hf
  rw [e0] at f4 fin
  refine ⟨fun j a => by rw [f1 j a, h1 j a], fun c hc ho => ?_, fun m x hm hx ho hr => ?_, f5, fun e c d hc hd ha hw hw2 => ?_⟩
  · have g := f4 c hc ho
    have g2 := f2 c hc
    have g3 := (h2 c hc ho).2.2.2
    exact ⟨g.1, g.2.1, g.2.2, by omega⟩
  · rcases hr with g | ⟨y, hy, g, ha, hw, hw2⟩
    · exact Nat.le_trans (f2 x hx) (h3 m x hm hx ho g)
    · exact Nat.le_trans (fin hx hy ha hw hw2) (h3 m y hm hy ho g)
  · have g := fin hc hd ha hw hw2
    rw [f6 e] at g ⊢
    exact g
theorem lr_fin {τ τ1 : St} {k more : Nat} (h : LR τ τ1 k more) (he : 216 ≤ k ∨ more = 0) {c : Nat} (hc : c < 216) : (τ 0 c = 0 ∧ τ1 4 c = c) ↔ isMin (τ 0) c := by
  obtain ⟨h1, h2, h3, h4, h5⟩ := h
  have low : ∀ m x, m < 216 → x < 216 → τ 0 m = 0 → conn (τ 0) m x → τ1 4 x ≤ m := by
    intro m x hm hx ho hcn
    rcases he with e | e
    · exact h3 m x hm hx ho (reach_le e (reach_conn hm ho hcn))
    · have g := hcn (fun y => y < 216 ∧ τ 0 y = 0 ∧ τ1 4 y ≤ m) ⟨hm, ho, (h2 m hm ho).2.2.2⟩ (fun a b k ha hb hab hw => ⟨hb, hw, Nat.le_trans (h5 e b a hb ha (adj_symm ha hab) hw k.2.1) k.2.2⟩)
      exact g.2.2
  constructor
  · rintro ⟨a, b⟩
    refine ⟨a, fun r hr hr0 hcn => ?_⟩
    have := low r c (by omega) hc hr0 hcn
    omega
  · rintro ⟨a, b⟩
    refine ⟨a, ?_⟩
    have g := h2 c hc a
    by_cases e : τ1 4 c = c
    · exact e
    · exact absurd g.2.2.1 (b _ (by omega) g.2.1)
end
section
theorem nbz {z : Int} {v : Nat} (h : z = (v : Int)) (hv : v ≤ 1) : narrow .boolean (.int (iI z)) = .int (iI z) := by
  subst h
  rcases (show v = 0 ∨ v = 1 by omega) with rfl | rfl
  · exact nb0
  · exact nb1
set_option maxHeartbeats 4000000 in
theorem w_Mbad {κ : Kx} {O : XO} {σ : St} (z : Int) (hz : -2147483648 ≤ z ∧ z < 2147483648) (C : CB κ cX1_bad 2 RX1 0 0) (X : MC κ O) (Rt : MRI κ O .boolean (fun r σ' => ynP r (¬ (0 ≤ z ∧ z < 216)) ∧ σ' = σ)) (hb : bnd σ) : J κ 2 (mW O σ) 0 [(0, .ref (oh O)), (1, .int (iI z))] [] := by
  refine j_iload_n C 1 dX1_bad_0 rfl rfl ?_
  refine j_if_lt C (tgt := 11) dX1_bad_1 (by decide) (by omega) (fun hc1 => ?_) (fun hc1 => ?_)
  · refine j_iconst C dX1_bad_11 ?_
    refine j_goto C (tgt := 16) dX1_bad_12 (by decide) ?_
    exact m_iret C X Rt (by first | exact nb1 | exact nb0) (by first | exact ⟨ynY (by omega), rfl⟩ | exact ⟨ynN (by omega), rfl⟩) dX1_bad_16
  · refine j_iload_n C 1 dX1_bad_4 rfl rfl ?_
    refine j_sipush C dX1_bad_5 (by decide) ?_
    refine j_icmp_le C (tgt := 15) dX1_bad_8 (by decide) (by omega) (by omega) (fun hc8 => ?_) (fun hc8 => ?_)
    · refine j_iconst C dX1_bad_15 ?_
      exact m_iret C X Rt (by first | exact nb1 | exact nb0) (by first | exact ⟨ynY (by omega), rfl⟩ | exact ⟨ynN (by omega), rfl⟩) dX1_bad_16
    · refine j_iconst C dX1_bad_11 ?_
      refine j_goto C (tgt := 16) dX1_bad_12 (by decide) ?_
      exact m_iret C X Rt (by first | exact nb1 | exact nb0) (by first | exact ⟨ynY (by omega), rfl⟩ | exact ⟨ynN (by omega), rfl⟩) dX1_bad_16
theorem m_Mbad (l : Launch) (O : XO) (σ : St) (z : Int) (hz : -2147483648 ≤ z ∧ z < 2147483648) : MMi l O yX1_bad cX1_bad 2 .boolean 0 0 [.int (iI z)] σ (fun r σ' => ynP r (¬ (0 ≤ z ∧ z < 216)) ∧ σ' = σ) := by
  refine MMi.of (by decide) rfl (Nat.le_of_ble_eq_true rfl) ?_
  intro κ A H0 hκ C X Rt hb
  exact w_Mbad (O := (oD O, A, H0, O.2.2.2)) z hz C X Rt hb
set_option maxHeartbeats 4000000 in
theorem w_MbadBox {κ : Kx} {O : XO} {σ : St} (lo hi : Int) (hlo : -2147483648 ≤ lo ∧ lo < 2147483648) (hhi : -2147483648 ≤ hi ∧ hi < 2147483648) (C : CB κ cX1_badBox 3 RX1 1 21) (X : MC κ O) (Rt : MRI κ O .boolean (fun r σ' => ynP r (¬ boxP lo hi) ∧ σ' = σ)) (hb : bnd σ) : J κ 3 (mW O σ) 0 [(0, .ref (oh O)), (1, .int (iI lo)), (2, .int (iI hi))] [] := by
  refine j_aload_n C 0 dX1_badBox_0 rfl rfl ?_
  refine j_iload_n C 1 dX1_badBox_1 rfl rfl ?_
  refine m_calli C X (m_Mbad _ O σ lo hlo) 1 rfl (lw_V q202 q204 qs9 q20 q205) (by decide +kernel) (by decide) dX1_badBox_2 rfl (Nat.le_of_ble_eq_true rfl) (fun r σ1 hplo => ?_)
  obtain ⟨hplo, hσ⟩ := hplo
  rw [hσ]
  rcases hplo with ⟨rfl, hplo⟩ | ⟨rfl, hplo⟩
  · refine j_if_ne_t C (tgt := 16) dX1_badBox_5 (by decide) (by omega) (by decide) ?_
    refine j_iconst C dX1_badBox_16 ?_
    exact m_iret C X Rt (by first | exact nb1 | exact nb0) (by first | exact ⟨ynY (by unfold boxP; omega), rfl⟩ | exact ⟨ynN (by unfold boxP; omega), rfl⟩) dX1_badBox_17
  · refine j_if_ne_f C dX1_badBox_5 (by omega) (tgt := 16) (by decide) (by decide) ?_
    refine j_aload_n C 0 dX1_badBox_8 rfl rfl ?_
    refine j_iload_n C 2 dX1_badBox_9 rfl rfl ?_
    refine m_calli C X (m_Mbad _ O σ hi hhi) 1 rfl (lw_V q202 q204 qs9 q20 q205) (by decide +kernel) (by decide) dX1_badBox_10 rfl (Nat.le_of_ble_eq_true rfl) (fun r σ1 hphi => ?_)
    obtain ⟨hphi, hσ⟩ := hphi
    rw [hσ]
    rcases hphi with ⟨rfl, hphi⟩ | ⟨rfl, hphi⟩
    · refine j_if_eq_f C dX1_badBox_13 (by omega) (tgt := 18) (by decide) (by decide) ?_
      refine j_iconst C dX1_badBox_16 ?_
      exact m_iret C X Rt (by first | exact nb1 | exact nb0) (by first | exact ⟨ynY (by unfold boxP; omega), rfl⟩ | exact ⟨ynN (by unfold boxP; omega), rfl⟩) dX1_badBox_17
    · refine j_if_eq_t C (tgt := 18) dX1_badBox_13 (by decide) (by omega) (by decide) ?_
      refine j_iload_n C 1 dX1_badBox_18 rfl rfl ?_
      refine j_bipush C dX1_badBox_19 (by decide) ?_
      refine j_irem C dX1_badBox_21 (by omega) (by omega) ?_
      refine j_iload_n C 2 dX1_badBox_22 rfl rfl ?_
      refine j_bipush C dX1_badBox_23 (by decide) ?_
      refine j_irem C dX1_badBox_25 (by omega) (by omega) ?_
      refine j_icmp_gt C (tgt := 57) dX1_badBox_26 (by decide) (by omega) (by omega) (fun hc26 => ?_) (fun hc26 => ?_)
      · refine j_iconst C dX1_badBox_57 ?_
        refine j_goto C (tgt := 62) dX1_badBox_58 (by decide) ?_
        exact m_iret C X Rt (by first | exact nb1 | exact nb0) (by first | exact ⟨ynY (by unfold boxP; omega), rfl⟩ | exact ⟨ynN (by unfold boxP; omega), rfl⟩) dX1_badBox_62
      · refine j_iload_n C 1 dX1_badBox_29 rfl rfl ?_
        refine j_bipush C dX1_badBox_30 (by decide) ?_
        refine j_idiv C dX1_badBox_32 (by omega) (by omega) ?_
        refine j_bipush C dX1_badBox_33 (by decide) ?_
        refine j_irem C dX1_badBox_35 (by omega) (by omega) ?_
        refine j_iload_n C 2 dX1_badBox_36 rfl rfl ?_
        refine j_bipush C dX1_badBox_37 (by decide) ?_
        refine j_idiv C dX1_badBox_39 (by omega) (by omega) ?_
        refine j_bipush C dX1_badBox_40 (by decide) ?_
        refine j_irem C dX1_badBox_42 (by omega) (by omega) ?_
        refine j_icmp_gt C (tgt := 57) dX1_badBox_43 (by decide) (by omega) (by omega) (fun hc43 => ?_) (fun hc43 => ?_)
        · refine j_iconst C dX1_badBox_57 ?_
          refine j_goto C (tgt := 62) dX1_badBox_58 (by decide) ?_
          exact m_iret C X Rt (by first | exact nb1 | exact nb0) (by first | exact ⟨ynY (by unfold boxP; omega), rfl⟩ | exact ⟨ynN (by unfold boxP; omega), rfl⟩) dX1_badBox_62
        · refine j_iload_n C 1 dX1_badBox_46 rfl rfl ?_
          refine j_bipush C dX1_badBox_47 (by decide) ?_
          refine j_idiv C dX1_badBox_49 (by omega) (by omega) ?_
          refine j_iload_n C 2 dX1_badBox_50 rfl rfl ?_
          refine j_bipush C dX1_badBox_51 (by decide) ?_
          refine j_idiv C dX1_badBox_53 (by omega) (by omega) ?_
          refine j_icmp_le C (tgt := 61) dX1_badBox_54 (by decide) (by omega) (by omega) (fun hc54 => ?_) (fun hc54 => ?_)
          · refine j_iconst C dX1_badBox_61 ?_
            exact m_iret C X Rt (by first | exact nb1 | exact nb0) (by first | exact ⟨ynY (by unfold boxP; omega), rfl⟩ | exact ⟨ynN (by unfold boxP; omega), rfl⟩) dX1_badBox_62
          · refine j_iconst C dX1_badBox_57 ?_
            refine j_goto C (tgt := 62) dX1_badBox_58 (by decide) ?_
            exact m_iret C X Rt (by first | exact nb1 | exact nb0) (by first | exact ⟨ynY (by unfold boxP; omega), rfl⟩ | exact ⟨ynN (by unfold boxP; omega), rfl⟩) dX1_badBox_62
theorem m_MbadBox (l : Launch) (O : XO) (σ : St) (lo hi : Int) (hlo : -2147483648 ≤ lo ∧ lo < 2147483648) (hhi : -2147483648 ≤ hi ∧ hi < 2147483648) : MMi l O yX1_badBox cX1_badBox 3 .boolean 1 21 [.int (iI lo), .int (iI hi)] σ (fun r σ' => ynP r (¬ boxP lo hi) ∧ σ' = σ) := by
  refine MMi.of (by decide) rfl (Nat.le_of_ble_eq_true rfl) ?_
  intro κ A H0 hκ C X Rt hb
  exact w_MbadBox (O := (oD O, A, H0, O.2.2.2)) lo hi hlo hhi C X Rt hb
set_option maxHeartbeats 4000000 in
theorem w_MinBox {κ : Kx} {O : XO} {σ : St} (c : Int) (hc : 0 ≤ c ∧ c < 216) (lo : Int) (hlo : 0 ≤ lo ∧ lo < 216) (hi : Int) (hhi : 0 ≤ hi ∧ hi < 216) (C : CB κ cX1_inBox 6 RX1 0 0) (X : MC κ O) (Rt : MRI κ O .boolean (fun r σ' => ynP r (inP c lo hi) ∧ σ' = σ)) (hb : bnd σ) : J κ 6 (mW O σ) 0 [(0, .ref (oh O)), (1, .int (iI c)), (2, .int (iI lo)), (3, .int (iI hi))] [] := by
  have K2 : ∀ (x y : Int), (x = 1 ∧ (lo % 6 ≤ c % 6 ∧ c % 6 ≤ hi % 6)) ∨ (x = 0 ∧ ¬ (lo % 6 ≤ c % 6 ∧ c % 6 ≤ hi % 6)) → (y = 1 ∧ (lo / 6 % 6 ≤ c / 6 % 6 ∧ c / 6 % 6 ≤ hi / 6 % 6)) ∨ (y = 0 ∧ ¬ (lo / 6 % 6 ≤ c / 6 % 6 ∧ c / 6 % 6 ≤ hi / 6 % 6)) → J κ 6 (mW O σ) 68 [(0, .ref (oh O)), (1, .int (iI c)), (2, .int (iI lo)), (3, .int (iI hi)), (4, .int (iI x))] [.int (iI y)] := by
    intro x y hx hy
    refine j_istore C [1, 2, 3, 4, 5, 0] (L' := [(0, _), (1, _), (2, _), (3, _), (4, _), (5, _)]) dX1_inBox_68 (by decide) rfl ?_
    refine j_iload C 4 dX1_inBox_70 rfl ?_
    refine j_if_eq C (tgt := 106) dX1_inBox_72 (by decide) (by omega) (fun hc72 => ?_) (fun hc72 => ?_)
    · refine j_iconst C dX1_inBox_106 ?_
      exact m_iret C X Rt (by first | exact nb1 | exact nb0) (by first | exact ⟨ynY (by unfold inP; omega), rfl⟩ | exact ⟨ynN (by unfold inP; omega), rfl⟩) dX1_inBox_107
    · refine j_iload C 5 dX1_inBox_75 rfl ?_
      refine j_if_eq C (tgt := 106) dX1_inBox_77 (by decide) (by omega) (fun hc77 => ?_) (fun hc77 => ?_)
      · refine j_iconst C dX1_inBox_106 ?_
        exact m_iret C X Rt (by first | exact nb1 | exact nb0) (by first | exact ⟨ynY (by unfold inP; omega), rfl⟩ | exact ⟨ynN (by unfold inP; omega), rfl⟩) dX1_inBox_107
      · refine j_iload_n C 1 dX1_inBox_80 rfl rfl ?_
        refine j_bipush C dX1_inBox_81 (by decide) ?_
        refine j_idiv C dX1_inBox_83 (by omega) (by omega) ?_
        refine j_iload_n C 2 dX1_inBox_84 rfl rfl ?_
        refine j_bipush C dX1_inBox_85 (by decide) ?_
        refine j_idiv C dX1_inBox_87 (by omega) (by omega) ?_
        refine j_icmp_lt C (tgt := 106) dX1_inBox_88 (by decide) (by omega) (by omega) (fun hc88 => ?_) (fun hc88 => ?_)
        · refine j_iconst C dX1_inBox_106 ?_
          exact m_iret C X Rt (by first | exact nb1 | exact nb0) (by first | exact ⟨ynY (by unfold inP; omega), rfl⟩ | exact ⟨ynN (by unfold inP; omega), rfl⟩) dX1_inBox_107
        · refine j_iload_n C 1 dX1_inBox_91 rfl rfl ?_
          refine j_bipush C dX1_inBox_92 (by decide) ?_
          refine j_idiv C dX1_inBox_94 (by omega) (by omega) ?_
          refine j_iload_n C 3 dX1_inBox_95 rfl rfl ?_
          refine j_bipush C dX1_inBox_96 (by decide) ?_
          refine j_idiv C dX1_inBox_98 (by omega) (by omega) ?_
          refine j_icmp_gt C (tgt := 106) dX1_inBox_99 (by decide) (by omega) (by omega) (fun hc99 => ?_) (fun hc99 => ?_)
          · refine j_iconst C dX1_inBox_106 ?_
            exact m_iret C X Rt (by first | exact nb1 | exact nb0) (by first | exact ⟨ynY (by unfold inP; omega), rfl⟩ | exact ⟨ynN (by unfold inP; omega), rfl⟩) dX1_inBox_107
          · refine j_iconst C dX1_inBox_102 ?_
            refine j_goto C (tgt := 107) dX1_inBox_103 (by decide) ?_
            exact m_iret C X Rt (by first | exact nb1 | exact nb0) (by first | exact ⟨ynY (by unfold inP; omega), rfl⟩ | exact ⟨ynN (by unfold inP; omega), rfl⟩) dX1_inBox_107
  have K1 : ∀ (x : Int), (x = 1 ∧ (lo % 6 ≤ c % 6 ∧ c % 6 ≤ hi % 6)) ∨ (x = 0 ∧ ¬ (lo % 6 ≤ c % 6 ∧ c % 6 ≤ hi % 6)) → J κ 6 (mW O σ) 27 [(0, .ref (oh O)), (1, .int (iI c)), (2, .int (iI lo)), (3, .int (iI hi))] [.int (iI x)] := by
    intro x hx
    refine j_istore C [1, 2, 3, 4, 0] (L' := [(0, _), (1, _), (2, _), (3, _), (4, _)]) dX1_inBox_27 (by decide) rfl ?_
    refine j_iload_n C 1 dX1_inBox_29 rfl rfl ?_
    refine j_bipush C dX1_inBox_30 (by decide) ?_
    refine j_idiv C dX1_inBox_32 (by omega) (by omega) ?_
    refine j_bipush C dX1_inBox_33 (by decide) ?_
    refine j_irem C dX1_inBox_35 (by omega) (by omega) ?_
    refine j_iload_n C 2 dX1_inBox_36 rfl rfl ?_
    refine j_bipush C dX1_inBox_37 (by decide) ?_
    refine j_idiv C dX1_inBox_39 (by omega) (by omega) ?_
    refine j_bipush C dX1_inBox_40 (by decide) ?_
    refine j_irem C dX1_inBox_42 (by omega) (by omega) ?_
    refine j_icmp_lt C (tgt := 67) dX1_inBox_43 (by decide) (by omega) (by omega) (fun hc43 => ?_) (fun hc43 => ?_)
    · refine j_iconst C dX1_inBox_67 ?_
      exact K2 _ _ hx (by omega)
    · refine j_iload_n C 1 dX1_inBox_46 rfl rfl ?_
      refine j_bipush C dX1_inBox_47 (by decide) ?_
      refine j_idiv C dX1_inBox_49 (by omega) (by omega) ?_
      refine j_bipush C dX1_inBox_50 (by decide) ?_
      refine j_irem C dX1_inBox_52 (by omega) (by omega) ?_
      refine j_iload_n C 3 dX1_inBox_53 rfl rfl ?_
      refine j_bipush C dX1_inBox_54 (by decide) ?_
      refine j_idiv C dX1_inBox_56 (by omega) (by omega) ?_
      refine j_bipush C dX1_inBox_57 (by decide) ?_
      refine j_irem C dX1_inBox_59 (by omega) (by omega) ?_
      refine j_icmp_gt C (tgt := 67) dX1_inBox_60 (by decide) (by omega) (by omega) (fun hc60 => ?_) (fun hc60 => ?_)
      · refine j_iconst C dX1_inBox_67 ?_
        exact K2 _ _ hx (by omega)
      · refine j_iconst C dX1_inBox_63 ?_
        refine j_goto C (tgt := 68) dX1_inBox_64 (by decide) ?_
        exact K2 _ _ hx (by omega)
  refine j_iload_n C 1 dX1_inBox_0 rfl rfl ?_
  refine j_bipush C dX1_inBox_1 (by decide) ?_
  refine j_irem C dX1_inBox_3 (by omega) (by omega) ?_
  refine j_iload_n C 2 dX1_inBox_4 rfl rfl ?_
  refine j_bipush C dX1_inBox_5 (by decide) ?_
  refine j_irem C dX1_inBox_7 (by omega) (by omega) ?_
  refine j_icmp_lt C (tgt := 26) dX1_inBox_8 (by decide) (by omega) (by omega) (fun hc8 => ?_) (fun hc8 => ?_)
  · refine j_iconst C dX1_inBox_26 ?_
    exact K1 _ (by omega)
  · refine j_iload_n C 1 dX1_inBox_11 rfl rfl ?_
    refine j_bipush C dX1_inBox_12 (by decide) ?_
    refine j_irem C dX1_inBox_14 (by omega) (by omega) ?_
    refine j_iload_n C 3 dX1_inBox_15 rfl rfl ?_
    refine j_bipush C dX1_inBox_16 (by decide) ?_
    refine j_irem C dX1_inBox_18 (by omega) (by omega) ?_
    refine j_icmp_gt C (tgt := 26) dX1_inBox_19 (by decide) (by omega) (by omega) (fun hc19 => ?_) (fun hc19 => ?_)
    · refine j_iconst C dX1_inBox_26 ?_
      exact K1 _ (by omega)
    · refine j_iconst C dX1_inBox_22 ?_
      refine j_goto C (tgt := 27) dX1_inBox_23 (by decide) ?_
      exact K1 _ (by omega)
theorem m_MinBox (l : Launch) (O : XO) (σ : St) (c : Int) (hc : 0 ≤ c ∧ c < 216) (lo : Int) (hlo : 0 ≤ lo ∧ lo < 216) (hi : Int) (hhi : 0 ≤ hi ∧ hi < 216) : MMi l O yX1_inBox cX1_inBox 6 .boolean 0 0 [.int (iI c), .int (iI lo), .int (iI hi)] σ (fun r σ' => ynP r (inP c lo hi) ∧ σ' = σ) := by
  refine MMi.of (by decide) rfl (Nat.le_of_ble_eq_true rfl) ?_
  intro κ A H0 hκ C X Rt hb
  exact w_MinBox (O := (oD O, A, H0, O.2.2.2)) c hc lo hlo hi hhi C X Rt hb
set_option maxHeartbeats 4000000 in
theorem w_Mbeside {κ : Kx} {O : XO} {σ : St} (c w : Nat) (zc zw : Int) (h1 : zc = (c : Int)) (h2 : zw = (w : Int)) (hc : c < 216) (hw : w < 6) (C : CB κ cX1_beside 3 RX1 0 0) (X : MC κ O) (Rt : MRI κ O .int (fun r σ' => r = iI (bes c w) ∧ σ' = σ)) (hb : bnd σ) : J κ 3 (mW O σ) 0 [(0, .ref (oh O)), (1, .int (iI zc)), (2, .int (iI zw))] [] := by
  refine j_iload_n C 2 dX1_beside_0 rfl rfl ?_
  refine j_if_ne C (tgt := 20) dX1_beside_1 (by decide) (by omega) (fun hc1 => ?_) (fun hc1 => ?_)
  · refine j_iload_n C 2 dX1_beside_20 rfl rfl ?_
    refine j_iconst C dX1_beside_21 ?_
    refine j_icmp_ne C (tgt := 40) dX1_beside_22 (by decide) (by omega) (by omega) (fun hc22 => ?_) (fun hc22 => ?_)
    · refine j_iload_n C 2 dX1_beside_40 rfl rfl ?_
      refine j_iconst C dX1_beside_41 ?_
      refine j_icmp_ne C (tgt := 65) dX1_beside_42 (by decide) (by omega) (by omega) (fun hc42 => ?_) (fun hc42 => ?_)
      · refine j_iload_n C 2 dX1_beside_65 rfl rfl ?_
        refine j_iconst C dX1_beside_66 ?_
        refine j_icmp_ne C (tgt := 89) dX1_beside_67 (by decide) (by omega) (by omega) (fun hc67 => ?_) (fun hc67 => ?_)
        · refine j_iload_n C 2 dX1_beside_89 rfl rfl ?_
          refine j_iconst C dX1_beside_90 ?_
          refine j_icmp_ne C (tgt := 111) dX1_beside_91 (by decide) (by omega) (by omega) (fun hc91 => ?_) (fun hc91 => ?_)
          · refine j_iload_n C 1 dX1_beside_111 rfl rfl ?_
            refine j_bipush C dX1_beside_112 (by decide) ?_
            refine j_idiv C dX1_beside_114 (by omega) (by omega) ?_
            refine j_if_le C (tgt := 125) dX1_beside_115 (by decide) (by omega) (fun hc115 => ?_) (fun hc115 => ?_)
            · refine j_iconst C dX1_beside_125 ?_
              exact m_iret C X Rt (rfl) (⟨by unfold bes; congr 1; (repeat' split) <;> omega, rfl⟩) dX1_beside_126
            · refine j_iload_n C 1 dX1_beside_118 rfl rfl ?_
              refine j_bipush C dX1_beside_119 (by decide) ?_
              refine j_isub C dX1_beside_121 ?_
              refine j_goto C (tgt := 126) dX1_beside_122 (by decide) ?_
              exact m_iret C X Rt (rfl) (⟨by unfold bes; congr 1; (repeat' split) <;> omega, rfl⟩) dX1_beside_126
          · refine j_iload_n C 1 dX1_beside_94 rfl rfl ?_
            refine j_bipush C dX1_beside_95 (by decide) ?_
            refine j_idiv C dX1_beside_97 (by omega) (by omega) ?_
            refine j_iconst C dX1_beside_98 ?_
            refine j_icmp_ge C (tgt := 109) dX1_beside_99 (by decide) (by omega) (by omega) (fun hc99 => ?_) (fun hc99 => ?_)
            · refine j_iconst C dX1_beside_109 ?_
              exact m_iret C X Rt (rfl) (⟨by unfold bes; congr 1; (repeat' split) <;> omega, rfl⟩) dX1_beside_110
            · refine j_iload_n C 1 dX1_beside_102 rfl rfl ?_
              refine j_bipush C dX1_beside_103 (by decide) ?_
              refine j_iadd C dX1_beside_105 ?_
              refine j_goto C (tgt := 110) dX1_beside_106 (by decide) ?_
              exact m_iret C X Rt (rfl) (⟨by unfold bes; congr 1; (repeat' split) <;> omega, rfl⟩) dX1_beside_110
        · refine j_iload_n C 1 dX1_beside_70 rfl rfl ?_
          refine j_bipush C dX1_beside_71 (by decide) ?_
          refine j_idiv C dX1_beside_73 (by omega) (by omega) ?_
          refine j_bipush C dX1_beside_74 (by decide) ?_
          refine j_irem C dX1_beside_76 (by omega) (by omega) ?_
          refine j_if_le C (tgt := 87) dX1_beside_77 (by decide) (by omega) (fun hc77 => ?_) (fun hc77 => ?_)
          · refine j_iconst C dX1_beside_87 ?_
            exact m_iret C X Rt (rfl) (⟨by unfold bes; congr 1; (repeat' split) <;> omega, rfl⟩) dX1_beside_88
          · refine j_iload_n C 1 dX1_beside_80 rfl rfl ?_
            refine j_bipush C dX1_beside_81 (by decide) ?_
            refine j_isub C dX1_beside_83 ?_
            refine j_goto C (tgt := 88) dX1_beside_84 (by decide) ?_
            exact m_iret C X Rt (rfl) (⟨by unfold bes; congr 1; (repeat' split) <;> omega, rfl⟩) dX1_beside_88
      · refine j_iload_n C 1 dX1_beside_45 rfl rfl ?_
        refine j_bipush C dX1_beside_46 (by decide) ?_
        refine j_idiv C dX1_beside_48 (by omega) (by omega) ?_
        refine j_bipush C dX1_beside_49 (by decide) ?_
        refine j_irem C dX1_beside_51 (by omega) (by omega) ?_
        refine j_iconst C dX1_beside_52 ?_
        refine j_icmp_ge C (tgt := 63) dX1_beside_53 (by decide) (by omega) (by omega) (fun hc53 => ?_) (fun hc53 => ?_)
        · refine j_iconst C dX1_beside_63 ?_
          exact m_iret C X Rt (rfl) (⟨by unfold bes; congr 1; (repeat' split) <;> omega, rfl⟩) dX1_beside_64
        · refine j_iload_n C 1 dX1_beside_56 rfl rfl ?_
          refine j_bipush C dX1_beside_57 (by decide) ?_
          refine j_iadd C dX1_beside_59 ?_
          refine j_goto C (tgt := 64) dX1_beside_60 (by decide) ?_
          exact m_iret C X Rt (rfl) (⟨by unfold bes; congr 1; (repeat' split) <;> omega, rfl⟩) dX1_beside_64
    · refine j_iload_n C 1 dX1_beside_25 rfl rfl ?_
      refine j_bipush C dX1_beside_26 (by decide) ?_
      refine j_irem C dX1_beside_28 (by omega) (by omega) ?_
      refine j_if_le C (tgt := 38) dX1_beside_29 (by decide) (by omega) (fun hc29 => ?_) (fun hc29 => ?_)
      · refine j_iconst C dX1_beside_38 ?_
        exact m_iret C X Rt (rfl) (⟨by unfold bes; congr 1; (repeat' split) <;> omega, rfl⟩) dX1_beside_39
      · refine j_iload_n C 1 dX1_beside_32 rfl rfl ?_
        refine j_iconst C dX1_beside_33 ?_
        refine j_isub C dX1_beside_34 ?_
        refine j_goto C (tgt := 39) dX1_beside_35 (by decide) ?_
        exact m_iret C X Rt (rfl) (⟨by unfold bes; congr 1; (repeat' split) <;> omega, rfl⟩) dX1_beside_39
  · refine j_iload_n C 1 dX1_beside_4 rfl rfl ?_
    refine j_bipush C dX1_beside_5 (by decide) ?_
    refine j_irem C dX1_beside_7 (by omega) (by omega) ?_
    refine j_iconst C dX1_beside_8 ?_
    refine j_icmp_ge C (tgt := 18) dX1_beside_9 (by decide) (by omega) (by omega) (fun hc9 => ?_) (fun hc9 => ?_)
    · refine j_iconst C dX1_beside_18 ?_
      exact m_iret C X Rt (rfl) (⟨by unfold bes; congr 1; (repeat' split) <;> omega, rfl⟩) dX1_beside_19
    · refine j_iload_n C 1 dX1_beside_12 rfl rfl ?_
      refine j_iconst C dX1_beside_13 ?_
      refine j_iadd C dX1_beside_14 ?_
      refine j_goto C (tgt := 19) dX1_beside_15 (by decide) ?_
      exact m_iret C X Rt (rfl) (⟨by unfold bes; congr 1; (repeat' split) <;> omega, rfl⟩) dX1_beside_19
theorem m_Mbeside (l : Launch) (O : XO) (σ : St) (c w : Nat) (zc zw : Int) (h1 : zc = (c : Int)) (h2 : zw = (w : Int)) (hc : c < 216) (hw : w < 6) : MMi l O yX1_beside cX1_beside 3 .int 0 0 [.int (iI zc), .int (iI zw)] σ (fun r σ' => r = iI (bes c w) ∧ σ' = σ) := by
  refine MMi.of (by decide) rfl (Nat.le_of_ble_eq_true rfl) ?_
  intro κ A H0 hκ C X Rt hb
  exact w_Mbeside (O := (oD O, A, H0, O.2.2.2)) c w zc zw h1 h2 hc hw C X Rt hb
set_option maxHeartbeats 4000000 in
theorem w_Mlight {κ : Kx} {O : XO} {σ : St} (c : Nat) (z : Int) (hz : z = (c : Int)) (hc : c < 216) (C : CB κ cX1_light 2 RX1 0 0) (X : MC κ O) (Rt : MRI κ O .int (fun r σ' => r = iI ((mx (σ 2 c) (σ 3 c) : Nat) : Int) ∧ σ' = σ)) (hb : bnd σ) : J κ 2 (mW O σ) 0 [(0, .ref (oh O)), (1, .int (iI z))] [] := by
  refine j_aload_n C 0 dX1_light_0 rfl rfl ?_
  refine m_get C X 2 (by decide) q181 rfl dX1_light_1 ?_
  refine j_iload_n C 1 dX1_light_4 rfl rfl ?_
  refine m_ild C X 2 216 (c) rfl rfl (by decide) (by omega) (by omega) dX1_light_5 (fun hb5 => ?_)
  refine j_aload_n C 0 dX1_light_6 rfl rfl ?_
  refine m_get C X 3 (by decide) q182 rfl dX1_light_7 ?_
  refine j_iload_n C 1 dX1_light_10 rfl rfl ?_
  refine m_ild C X 3 216 (c) rfl rfl (by decide) (by omega) (by omega) dX1_light_11 (fun hb11 => ?_)
  refine j_icmp_le C (tgt := 24) dX1_light_12 (by decide) (by omega) (by omega) (fun hc12 => ?_) (fun hc12 => ?_)
  · refine j_aload_n C 0 dX1_light_24 rfl rfl ?_
    refine m_get C X 3 (by decide) q182 rfl dX1_light_25 ?_
    refine j_iload_n C 1 dX1_light_28 rfl rfl ?_
    refine m_ild C X 3 216 (c) rfl rfl (by decide) (by omega) (by omega) dX1_light_29 (fun hb29 => ?_)
    exact m_iret C X Rt (rfl) (⟨by unfold mx; congr 2; split <;> omega, rfl⟩) dX1_light_30
  · refine j_aload_n C 0 dX1_light_15 rfl rfl ?_
    refine m_get C X 2 (by decide) q181 rfl dX1_light_16 ?_
    refine j_iload_n C 1 dX1_light_19 rfl rfl ?_
    refine m_ild C X 2 216 (c) rfl rfl (by decide) (by omega) (by omega) dX1_light_20 (fun hb20 => ?_)
    refine j_goto C (tgt := 30) dX1_light_21 (by decide) ?_
    exact m_iret C X Rt (rfl) (⟨by unfold mx; congr 2; split <;> omega, rfl⟩) dX1_light_30
theorem m_Mlight (l : Launch) (O : XO) (σ : St) (c : Nat) (z : Int) (hz : z = (c : Int)) (hc : c < 216) : MMi l O yX1_light cX1_light 2 .int 0 0 [.int (iI z)] σ (fun r σ' => r = iI ((mx (σ 2 c) (σ 3 c) : Nat) : Int) ∧ σ' = σ) := by
  refine MMi.of (by decide) rfl (Nat.le_of_ble_eq_true rfl) ?_
  intro κ A H0 hκ C X Rt hb
  exact w_Mlight (O := (oD O, A, H0, O.2.2.2)) c z hz hc C X Rt hb
set_option maxHeartbeats 4000000 in
theorem w_Msees {κ : Kx} {O : XO} {σ : St} (c : Nat) (z : Int) (se : Nat → Nat) (hz : z = (c : Int)) (hc : c < 216) (hS : SEr (σ 0) se) (C : CB κ cX1_sees 3 RX1 0 0) (X : MC κ O) (Rt : MRI κ O .boolean (fun r σ' => r = iI ((se c : Nat) : Int) ∧ σ' = σ)) (hb : bnd σ) : J κ 3 (mW O σ) 0 [(0, .ref (oh O)), (1, .int (iI z))] [] := by
  have K2 : ∀ (n d : Nat) (z2 : Int), z2 = (d : Int) → 252 < d + n → d < 252 → (d < 216 → (se d = 1 ↔ se c = 1)) → (216 ≤ d → se c = 1) → J κ 3 (mW O σ) 2 [(0, .ref (oh O)), (1, .int (iI z)), (2, .int (iI z2))] [] := by
    intro n
    induction n with
    | zero => intros; omega
    | succ n ih =>
      intro d z2 hz2 hn hd h1 h2
      have hc1 := (hS c hc).1
      refine j_iload_n C 2 dX1_sees_2 rfl rfl ?_
      refine j_sipush C dX1_sees_3 (by decide) ?_
      refine j_icmp_ge C (tgt := 28) dX1_sees_6 (by decide) (by omega) (by omega) (fun hc6 => ?_) (fun hc6 => ?_)
      · refine j_iconst C dX1_sees_28 ?_
        exact m_iret C X Rt (by first | exact nb1 | exact nb0) (⟨by have := h2 (by omega); congr 1; omega, rfl⟩) dX1_sees_29
      · have hd2 : d < 216 := by omega
        have hS2 := (hS d hd2).2
        have h12 := h1 hd2
        refine j_aload_n C 0 dX1_sees_9 rfl rfl ?_
        refine m_get C X 0 (by decide) q179 rfl dX1_sees_10 ?_
        refine j_iload_n C 2 dX1_sees_13 rfl rfl ?_
        refine m_zld C X 0 216 (d) rfl rfl (by decide) (by omega) (by omega) dX1_sees_14 (fun hb14 => ?_)
        refine j_if_eq C (tgt := 20) dX1_sees_15 (by decide) (by omega) (fun hc15 => ?_) (fun hc15 => ?_)
        · refine j_iload_n C 2 dX1_sees_20 rfl rfl ?_
          refine j_bipush C dX1_sees_21 (by decide) ?_
          refine j_iadd C dX1_sees_23 ?_
          refine j_istore_n C [1, 2, 0] (L' := [(0, _), (1, _), (2, _)]) dX1_sees_24 rfl (by decide) rfl ?_
          refine j_goto C (tgt := 2) dX1_sees_25 (by decide) ?_
          exact ih (d + 36) _ (by omega) (by omega) (by omega) (fun g => ⟨fun k => h12.mp (hS2.mpr ⟨by omega, fun _ => k⟩), fun k => (hS2.mp (h12.mpr k)).2 g⟩) (fun g => h12.mp (hS2.mpr ⟨by omega, fun k => absurd k (by omega)⟩))
        · have hn1 : se c ≠ 1 := fun g => by
            have := hS2.mp (h12.mpr g)
            omega
          refine j_iconst C dX1_sees_18 ?_
          exact m_iret C X Rt (by first | exact nb1 | exact nb0) (⟨by congr 1; omega, rfl⟩) dX1_sees_19
  refine j_iload_n C 1 dX1_sees_0 rfl rfl ?_
  refine j_istore_n C [1, 2, 0] (L' := [(0, _), (1, _), (2, _)]) dX1_sees_1 rfl (by decide) rfl ?_
  exact K2 253 c _ hz (by omega) (by omega) (fun _ => Iff.rfl) (fun g => absurd g (by omega))
theorem m_Msees (l : Launch) (O : XO) (σ : St) (c : Nat) (z : Int) (se : Nat → Nat) (hz : z = (c : Int)) (hc : c < 216) (hS : SEr (σ 0) se) : MMi l O yX1_sees cX1_sees 3 .boolean 0 0 [.int (iI z)] σ (fun r σ' => r = iI ((se c : Nat) : Int) ∧ σ' = σ) := by
  refine MMi.of (by decide) rfl (Nat.le_of_ble_eq_true rfl) ?_
  intro κ A H0 hκ C X Rt hb
  exact w_Msees (O := (oD O, A, H0, O.2.2.2)) c z se hz hc hS C X Rt hb
set_option maxHeartbeats 4000000 in
theorem w_Mflow {κ : Kx} {O : XO} {σ : St} (F1 F2 : Nat → Nat) (hG1 : ∀ c d, c < 216 → d < 216 → adj c d → σ 0 c = 0 → F1 d ≤ F1 c + 1) (hG2 : ∀ c d, c < 216 → d < 216 → adj c d → σ 0 c = 0 → F2 d ≤ F2 c + 1) (h0 : ∀ c, c < 216 → σ 2 c ≤ F1 c ∧ σ 3 c ≤ F2 c) (C : CB κ cX1_flow 5 RX1 1 22) (X : MC κ O) (Rt : MRI κ O .boolean (fun r σ' => ∃ more : Nat, r = iI (more : Int) ∧ MF σ σ' F1 F2 1296 1296 more)) (hb : bnd σ) : J κ 5 (mW O σ) 0 [(0, .ref (oh O))] [] := by
  have K4 : ∀ (n k : Nat) (τ1 : St) (more : Nat) (z1 z2 : Int), z2 = (k : Int) → z1 = (more : Int) → 1296 < k + n → k ≤ 1296 → MF σ τ1 F1 F2 k k more → J κ 5 (mW O τ1) 4 [(0, .ref (oh O)), (1, .int (iI z1)), (2, .int (iI z2))] [] := by
    intro n
    induction n with
    | zero => intros; omega
    | succ n ih =>
      intro k τ1 more z1 z2 hz2 hz1 hn hk hF
      have K79 : k < 1296 → ∀ (d : Nat), d < 216 → bes (k / 6) (k % 6) = (d : Int) → adj (k / 6) d → σ 0 (k / 6) = 0 → ∀ (τ2 : St) (more : Nat) (z1 : Int), z1 = (more : Int) → MF σ τ2 F1 F2 (k + 1) k more → J κ 5 (mW O τ2) 79 [(0, .ref (oh O)), (1, .int (iI z1)), (2, .int (iI z2)), (3, .int (iI (z2 / 6))), (4, .int (iI (d : Int)))] [] := by
        intro hk2 d hd hb2 ha hw0 τ2 more z1 hz1 hF
        refine j_aload_n C 0 dX1_flow_79 rfl rfl ?_
        refine m_get C X 3 (by decide) q182 rfl dX1_flow_80 ?_
        refine j_iload C 4 dX1_flow_83 rfl ?_
        refine m_ild C X 3 216 (d) rfl rfl (by decide) (by omega) (by omega) dX1_flow_85 (fun hb85 => ?_)
        refine j_iconst C dX1_flow_86 ?_
        refine j_isub C dX1_flow_87 ?_
        refine j_aload_n C 0 dX1_flow_88 rfl rfl ?_
        refine m_get C X 3 (by decide) q182 rfl dX1_flow_89 ?_
        refine j_iload_n C 3 dX1_flow_92 rfl rfl ?_
        refine m_ild C X 3 216 (k / 6) rfl rfl (by decide) (by omega) (by omega) dX1_flow_93 (fun hb93 => ?_)
        refine j_icmp_le C (tgt := 114) dX1_flow_94 (by decide) (by omega) (by omega) (fun hc94 => ?_) (fun hc94 => ?_)
        · refine j_iinc C 2 [1, 2, 0, 3, 4] (L' := [(0, _), (1, _), (2, _), (3, _), (4, _)]) dX1_flow_114 rfl (by decide) rfl ?_
          refine j_goto C (tgt := 4) dX1_flow_117 (by decide) ?_
          refine j_sub [0, 1, 2] (L' := [(0, _), (1, _), (2, _)]) rfl ?_
          exact ih (k + 1) τ2 more _ _ (by omega) hz1 (by omega) (by omega) (mf_sskip hF (fun q hq e _ => by
            have eq : q = d := by omega
            subst eq
            omega))
        · refine j_aload_n C 0 dX1_flow_97 rfl rfl ?_
          refine m_get C X 3 (by decide) q182 rfl dX1_flow_98 ?_
          refine j_iload_n C 3 dX1_flow_101 rfl rfl ?_
          refine j_aload_n C 0 dX1_flow_102 rfl rfl ?_
          refine m_get C X 3 (by decide) q182 rfl dX1_flow_103 ?_
          refine j_iload C 4 dX1_flow_106 rfl ?_
          refine m_ild C X 3 216 (d) rfl rfl (by decide) (by omega) (by omega) dX1_flow_108 (fun hb108 => ?_)
          refine j_iconst C dX1_flow_109 ?_
          refine j_isub C dX1_flow_110 ?_
          refine m_ist C X 3 216 (k / 6) (τ2 3 d - 1) rfl rfl mset_3 (by decide) (by omega) (by omega) (by omega) (by omega) dX1_flow_111 ?_
          refine j_iconst C dX1_flow_112 ?_
          refine j_istore_n C [1, 0, 2, 3, 4] (L' := [(0, _), (1, _), (2, _), (3, _), (4, _)]) dX1_flow_113 rfl (by decide) rfl ?_
          refine j_iinc C 2 [1, 2, 0, 3, 4] (L' := [(0, _), (1, _), (2, _), (3, _), (4, _)]) dX1_flow_114 rfl (by decide) rfl ?_
          refine j_goto C (tgt := 4) dX1_flow_117 (by decide) ?_
          refine j_sub [0, 1, 2] (L' := [(0, _), (1, _), (2, _)]) rfl ?_
          exact ih (k + 1) _ 1 _ _ (by omega) (by omega) (by omega) (by omega) (mf_sset hF rfl (by omega) hd hb2 ha hw0 (by omega) hG2)
      refine j_iload_n C 2 dX1_flow_4 rfl rfl ?_
      refine j_sipush C dX1_flow_5 (by decide) ?_
      refine j_icmp_ge C (tgt := 120) dX1_flow_8 (by decide) (by omega) (by omega) (fun hc8 => ?_) (fun hc8 => ?_)
      · refine j_iload_n C 1 dX1_flow_120 rfl rfl ?_
        exact m_iret C X Rt (nbz hz1 hF.2.2.2.1) (⟨more, by rw [hz1], by rw [show k = 1296 by omega] at hF; exact hF⟩) dX1_flow_121
      · refine j_iload_n C 2 dX1_flow_11 rfl rfl ?_
        refine j_bipush C dX1_flow_12 (by decide) ?_
        refine j_idiv C dX1_flow_14 (by omega) (by omega) ?_
        refine j_istore_n C [1, 2, 3, 0] (L' := [(0, _), (1, _), (2, _), (3, _)]) dX1_flow_15 rfl (by decide) rfl ?_
        refine j_aload_n C 0 dX1_flow_16 rfl rfl ?_
        refine j_iload_n C 3 dX1_flow_17 rfl rfl ?_
        refine j_iload_n C 2 dX1_flow_18 rfl rfl ?_
        refine j_bipush C dX1_flow_19 (by decide) ?_
        refine j_irem C dX1_flow_21 (by omega) (by omega) ?_
        refine m_calli C X (m_Mbeside _ O τ1 (k / 6) (k % 6) _ _ (by omega) (by omega) (by omega) (by omega)) 2 rfl (lw_V q246 q248 qs15 q20 q249) (by decide +kernel) (by decide) dX1_flow_22 rfl (Nat.le_of_ble_eq_true rfl) (fun r σ1 hp => ?_)
        obtain ⟨rfl, hσ⟩ := hp
        rw [hσ]
        rcases bes_rg (show k / 6 < 216 by omega) (show k % 6 < 6 by omega) with e | ⟨d, hd, e, ha⟩
        · rw [e]
          refine j_istore C [1, 2, 3, 4, 0] (L' := [(0, _), (1, _), (2, _), (3, _), (4, _)]) dX1_flow_25 (by decide) rfl ?_
          refine j_iload C 4 dX1_flow_27 rfl ?_
          refine j_if_lt_t C (tgt := 114) dX1_flow_29 (by decide) (by omega) (by omega) ?_
          refine j_iinc C 2 [1, 2, 0, 3, 4] (L' := [(0, _), (1, _), (2, _), (3, _), (4, _)]) dX1_flow_114 rfl (by decide) rfl ?_
          refine j_goto C (tgt := 4) dX1_flow_117 (by decide) ?_
          refine j_sub [0, 1, 2] (L' := [(0, _), (1, _), (2, _)]) rfl ?_
          exact ih (k + 1) τ1 more _ _ (by omega) hz1 (by omega) (by omega) (mf_sskip (mf_lskip hF (fun q hq e2 hw => absurd e2 (by omega))) (fun q hq e2 hw => absurd e2 (by omega)))
        · rw [e]
          have e0 : τ1 0 (k / 6) = σ 0 (k / 6) := by rw [hF.1 0 (by decide) (by decide)]
          refine j_istore C [1, 2, 3, 4, 0] (L' := [(0, _), (1, _), (2, _), (3, _), (4, _)]) dX1_flow_25 (by decide) rfl ?_
          refine j_iload C 4 dX1_flow_27 rfl ?_
          refine j_if_lt_f C dX1_flow_29 (by omega) (tgt := 114) (by decide) (by omega) ?_
          refine j_aload_n C 0 dX1_flow_32 rfl rfl ?_
          refine m_get C X 0 (by decide) q179 rfl dX1_flow_33 ?_
          refine j_iload_n C 3 dX1_flow_36 rfl rfl ?_
          refine m_zld C X 0 216 (k / 6) rfl rfl (by decide) (by omega) (by omega) dX1_flow_37 (fun hb37 => ?_)
          refine j_if_eq C (tgt := 44) dX1_flow_38 (by decide) (by omega) (fun hc38 => ?_) (fun hc38 => ?_)
          · refine j_aload_n C 0 dX1_flow_44 rfl rfl ?_
            refine m_get C X 2 (by decide) q181 rfl dX1_flow_45 ?_
            refine j_iload C 4 dX1_flow_48 rfl ?_
            refine m_ild C X 2 216 (d) rfl rfl (by decide) (by omega) (by omega) dX1_flow_50 (fun hb50 => ?_)
            refine j_iconst C dX1_flow_51 ?_
            refine j_isub C dX1_flow_52 ?_
            refine j_aload_n C 0 dX1_flow_53 rfl rfl ?_
            refine m_get C X 2 (by decide) q181 rfl dX1_flow_54 ?_
            refine j_iload_n C 3 dX1_flow_57 rfl rfl ?_
            refine m_ild C X 2 216 (k / 6) rfl rfl (by decide) (by omega) (by omega) dX1_flow_58 (fun hb58 => ?_)
            refine j_icmp_le C (tgt := 79) dX1_flow_59 (by decide) (by omega) (by omega) (fun hc59 => ?_) (fun hc59 => ?_)
            · exact K79 (by omega) d hd e ha (by omega) τ1 more _ hz1 (mf_lskip hF (fun q hq e2 hw => by
                have eq : q = d := by omega
                subst eq
                omega))
            · refine j_aload_n C 0 dX1_flow_62 rfl rfl ?_
              refine m_get C X 2 (by decide) q181 rfl dX1_flow_63 ?_
              refine j_iload_n C 3 dX1_flow_66 rfl rfl ?_
              refine j_aload_n C 0 dX1_flow_67 rfl rfl ?_
              refine m_get C X 2 (by decide) q181 rfl dX1_flow_68 ?_
              refine j_iload C 4 dX1_flow_71 rfl ?_
              refine m_ild C X 2 216 (d) rfl rfl (by decide) (by omega) (by omega) dX1_flow_73 (fun hb73 => ?_)
              refine j_iconst C dX1_flow_74 ?_
              refine j_isub C dX1_flow_75 ?_
              refine m_ist C X 2 216 (k / 6) (τ1 2 d - 1) rfl rfl mset_2 (by decide) (by omega) (by omega) (by omega) (by omega) dX1_flow_76 ?_
              refine j_iconst C dX1_flow_77 ?_
              refine j_istore_n C [1, 0, 2, 3, 4] (L' := [(0, _), (1, _), (2, _), (3, _), (4, _)]) dX1_flow_78 rfl (by decide) rfl ?_
              exact K79 (by omega) d hd e ha (by omega) _ 1 _ (by omega) (mf_lset hF rfl (by omega) hd e ha (by omega) (by omega) hG1)
          · refine j_goto C (tgt := 114) dX1_flow_41 (by decide) ?_
            refine j_iinc C 2 [1, 2, 0, 3, 4] (L' := [(0, _), (1, _), (2, _), (3, _), (4, _)]) dX1_flow_114 rfl (by decide) rfl ?_
            refine j_goto C (tgt := 4) dX1_flow_117 (by decide) ?_
            refine j_sub [0, 1, 2] (L' := [(0, _), (1, _), (2, _)]) rfl ?_
            exact ih (k + 1) τ1 more _ _ (by omega) hz1 (by omega) (by omega) (mf_sskip (mf_lskip hF (fun q hq e2 hw => absurd hw (by omega))) (fun q hq e2 hw => absurd hw (by omega)))
  refine j_iconst C dX1_flow_0 ?_
  refine j_istore_n C [1, 0] (L' := [(0, _), (1, _)]) dX1_flow_1 rfl (by decide) rfl ?_
  refine j_iconst C dX1_flow_2 ?_
  refine j_istore_n C [1, 2, 0] (L' := [(0, _), (1, _), (2, _)]) dX1_flow_3 rfl (by decide) rfl ?_
  exact K4 1297 0 σ 0 _ _ (by omega) (by omega) (by omega) (by omega) (mf_0 h0)
theorem m_Mflow (l : Launch) (O : XO) (σ : St) (F1 F2 : Nat → Nat) (hG1 : ∀ c d, c < 216 → d < 216 → adj c d → σ 0 c = 0 → F1 d ≤ F1 c + 1) (hG2 : ∀ c d, c < 216 → d < 216 → adj c d → σ 0 c = 0 → F2 d ≤ F2 c + 1) (h0 : ∀ c, c < 216 → σ 2 c ≤ F1 c ∧ σ 3 c ≤ F2 c) : MMi l O yX1_flow cX1_flow 5 .boolean 1 22 [] σ (fun r σ' => ∃ more : Nat, r = iI (more : Int) ∧ MF σ σ' F1 F2 1296 1296 more) := by
  refine MMi.of (by decide) rfl (Nat.le_of_ble_eq_true rfl) ?_
  intro κ A H0 hκ C X Rt hb
  exact w_Mflow (O := (oD O, A, H0, O.2.2.2)) F1 F2 hG1 hG2 h0 C X Rt hb
set_option maxHeartbeats 4000000 in
theorem w_Mshine {κ : Kx} {O : XO} {σ : St} (se F1 F2 : Nat → Nat) (hM : MG σ se F1 F2) (C : CB κ cX1_shine 3 RX1 2 46) (X : MC κ O) (Rt : MRV κ O (fun σ' => SHO σ σ' F1 F2)) (hb : bnd σ) : J κ 3 (mW O σ) 0 [(0, .ref (oh O))] [] := by
  have K51 : ∀ (n k : Nat) (τ1 : St) (more : Nat) (z1 z2 : Int), z2 = (k : Int) → z1 = (more : Int) → 216 < k + n → k ≤ 216 → SH σ τ1 se F1 F2 k more → J κ 3 (mW O τ1) 51 [(0, .ref (oh O)), (1, .int (iI z1)), (2, .int (iI z2))] [] := by
    intro n
    induction n with
    | zero => intros; omega
    | succ n ih =>
      intro k τ1 more z1 z2 hz2 hz1 hn hk hF
      have e0 : τ1 0 = σ 0 := hF.1 0 (by decide) (by decide)
      have hm1 := hF.2.2.2.2.1
      refine j_iload_n C 2 dX1_shine_51 rfl rfl ?_
      refine j_sipush C dX1_shine_52 (by decide) ?_
      refine j_icmp_ge C (tgt := 73) dX1_shine_55 (by decide) (by omega) (by omega) (fun hc55 => ?_) (fun hc55 => ?_)
      · exact m_vret C X Rt (sh_fin hM hF (Or.inl (by omega))) dX1_shine_73
      · refine j_iload_n C 1 dX1_shine_58 rfl rfl ?_
        refine j_if_eq C (tgt := 73) dX1_shine_59 (by decide) (by omega) (fun hc59 => ?_) (fun hc59 => ?_)
        · exact m_vret C X Rt (sh_fin hM hF (Or.inr (by omega))) dX1_shine_73
        · refine j_aload_n C 0 dX1_shine_62 rfl rfl ?_
          refine m_calli C X (m_Mflow _ O τ1 F1 F2 (by rw [e0]; exact hM.2.2.1.2.2.1) (by rw [e0]; exact hM.2.2.2.2.2.1) (fun c hc => ⟨(hF.2.1 c hc).2.1, (hF.2.1 c hc).2.2.2⟩)) 0 rfl (lw_V q242 q244 qs14 q20 q245) (by decide +kernel) (by decide) dX1_shine_63 rfl (Nat.le_of_ble_eq_true rfl) (fun r τ2 hp => ?_)
          obtain ⟨m2, rfl, hf⟩ := hp
          refine j_istore_n C [1, 0, 2] (L' := [(0, _), (1, _), (2, _)]) dX1_shine_66 rfl (by decide) rfl ?_
          refine j_iinc C 2 [1, 2, 0] (L' := [(0, _), (1, _), (2, _)]) dX1_shine_67 rfl (by decide) rfl ?_
          refine j_goto C (tgt := 51) dX1_shine_70 (by decide) ?_
          exact ih (k + 1) τ2 m2 _ _ (by omega) rfl (by omega) (by omega) (sh_next hM hF hf)
  have K2 : ∀ (n c : Nat) (τ1 : St) (z1 : Int), z1 = (c : Int) → 216 < c + n → c ≤ 216 → (∀ j, j ≠ 2 → j ≠ 3 → τ1 j = σ j) → (∀ x, x < c → τ1 2 x = σ 1 x ∧ τ1 3 x = 8 * se x) → J κ 3 (mW O τ1) 2 [(0, .ref (oh O)), (1, .int (iI z1))] [] := by
    intro n
    induction n with
    | zero => intros; omega
    | succ n ih =>
      intro c τ1 z1 hz1 hn hc hf h2
      have e1 : τ1 1 c = σ 1 c := by rw [hf 1 (by decide) (by decide)]
      have hS : SEr (s2 τ1 2 c (σ 1 c) 0) se := by
        rw [s2_ne (by decide), hf 0 (by decide) (by decide)]
        exact hM.2.1
      have h12 : c < 216 → σ 1 c ≤ 12 ∧ se c ≤ 1 := fun h => ⟨(hM.1 c h).2, (hM.2.1 c h).1⟩
      refine j_iload_n C 1 dX1_shine_2 rfl rfl ?_
      refine j_sipush C dX1_shine_3 (by decide) ?_
      refine j_icmp_ge C (tgt := 47) dX1_shine_6 (by decide) (by omega) (by omega) (fun hc6 => ?_) (fun hc6 => ?_)
      · refine j_iconst C dX1_shine_47 ?_
        refine j_istore_n C [1, 0] (L' := [(0, _), (1, _)]) dX1_shine_48 rfl (by decide) rfl ?_
        refine j_iconst C dX1_shine_49 ?_
        refine j_istore_n C [1, 2, 0] (L' := [(0, _), (1, _), (2, _)]) dX1_shine_50 rfl (by decide) rfl ?_
        exact K51 217 0 τ1 1 _ _ (by omega) (by omega) (by omega) (by omega) (sh_0 hM hf (fun x hx => h2 x (by omega)))
      · have h12c := h12 (by omega)
        refine j_aload_n C 0 dX1_shine_9 rfl rfl ?_
        refine m_get C X 2 (by decide) q181 rfl dX1_shine_10 ?_
        refine j_iload_n C 1 dX1_shine_13 rfl rfl ?_
        refine j_aload_n C 0 dX1_shine_14 rfl rfl ?_
        refine m_get C X 1 (by decide) q180 rfl dX1_shine_15 ?_
        refine j_iload_n C 1 dX1_shine_18 rfl rfl ?_
        refine m_ild C X 1 216 (c) rfl rfl (by decide) (by omega) (by omega) dX1_shine_19 (fun hb19 => ?_)
        refine m_ist C X 2 216 (c) (σ 1 c) rfl rfl mset_2 (by decide) (by omega) (by omega) (by omega) (by omega) dX1_shine_20 ?_
        refine j_aload_n C 0 dX1_shine_21 rfl rfl ?_
        refine m_get C X 3 (by decide) q182 rfl dX1_shine_22 ?_
        refine j_iload_n C 1 dX1_shine_25 rfl rfl ?_
        refine j_aload_n C 0 dX1_shine_26 rfl rfl ?_
        refine j_iload_n C 1 dX1_shine_27 rfl rfl ?_
        refine m_calli C X (m_Msees _ O (s2 τ1 2 c (σ 1 c)) c _ se (by omega) (by omega) hS) 1 rfl (lw_V q238 q240 qs13 q20 q241) (by decide +kernel) (by decide) dX1_shine_28 rfl (Nat.le_of_ble_eq_true rfl) (fun r σ1 hp => ?_)
        obtain ⟨rfl, hσ⟩ := hp
        rw [hσ]
        refine j_if_eq C (tgt := 39) dX1_shine_31 (by decide) (by omega) (fun hc31 => ?_) (fun hc31 => ?_)
        · refine j_iconst C dX1_shine_39 ?_
          refine m_ist C X 3 216 (c) (0) rfl rfl mset_3 (by decide) (by omega) (by omega) (by omega) (by omega) dX1_shine_40 ?_
          refine j_iinc C 1 [1, 0] (L' := [(0, _), (1, _)]) dX1_shine_41 rfl (by decide) rfl ?_
          refine j_goto C (tgt := 2) dX1_shine_44 (by decide) ?_
          exact ih (c + 1) _ _ (by omega) (by omega) (by omega) (fun j a b => by rw [s2_ne b, s2_ne a]; exact hf j a b) (fun x hx => by
            rw [s2_ne (k := 3) (k' := 2) (by decide), s2_eq, s2_eq, s2_ne (k := 2) (k' := 3) (by decide)]
            by_cases e : x = c
            · rw [if_pos e, if_pos e, e]
              have := h12 (by omega)
              exact ⟨rfl, by omega⟩
            · rw [if_neg e, if_neg e]
              exact h2 x (by omega))
        · refine j_bipush C dX1_shine_34 (by decide) ?_
          refine j_goto C (tgt := 40) dX1_shine_36 (by decide) ?_
          refine m_ist C X 3 216 (c) (8) rfl rfl mset_3 (by decide) (by omega) (by omega) (by omega) (by omega) dX1_shine_40 ?_
          refine j_iinc C 1 [1, 0] (L' := [(0, _), (1, _)]) dX1_shine_41 rfl (by decide) rfl ?_
          refine j_goto C (tgt := 2) dX1_shine_44 (by decide) ?_
          exact ih (c + 1) _ _ (by omega) (by omega) (by omega) (fun j a b => by rw [s2_ne b, s2_ne a]; exact hf j a b) (fun x hx => by
            rw [s2_ne (k := 3) (k' := 2) (by decide), s2_eq, s2_eq, s2_ne (k := 2) (k' := 3) (by decide)]
            by_cases e : x = c
            · rw [if_pos e, if_pos e, e]
              have := h12 (by omega)
              exact ⟨rfl, by omega⟩
            · rw [if_neg e, if_neg e]
              exact h2 x (by omega))
  refine j_iconst C dX1_shine_0 ?_
  refine j_istore_n C [1, 0] (L' := [(0, _), (1, _)]) dX1_shine_1 rfl (by decide) rfl ?_
  exact K2 217 0 σ _ (by omega) (by omega) (by omega) (fun _ _ _ => rfl) (fun x hx => absurd hx (Nat.not_lt_zero _))
theorem m_Mshine (l : Launch) (O : XO) (σ : St) (se F1 F2 : Nat → Nat) (hM : MG σ se F1 F2) : MMv l O yX1_shine cX1_shine 3 2 46 [] σ (fun σ' => SHO σ σ' F1 F2) := by
  refine MMv.of (by decide) rfl (Nat.le_of_ble_eq_true rfl) ?_
  intro κ A H0 hκ C X Rt hb
  exact w_Mshine (O := (oD O, A, H0, O.2.2.2)) se F1 F2 hM C X Rt hb
end
section
def FM (σ σ1 : St) (P : Nat → Prop) (v c ch : Nat) : Prop := (∀ j, j ≠ 0 → σ1 j = σ j) ∧ (∀ x, x < 216 → (x < c ∧ P x → σ1 0 x = v) ∧ (¬ (x < c ∧ P x) → σ1 0 x = σ 0 x)) ∧ ch = cnt (fun x => P x ∧ σ 0 x ≠ v) c
theorem fm_0 {σ : St} {P : Nat → Prop} {v : Nat} : FM σ σ P v 0 0 := ⟨fun _ _ => rfl, fun x _ => ⟨fun h => absurd h.1 (Nat.not_lt_zero _), fun _ => rfl⟩, rfl⟩
theorem fm_at {σ σ1 : St} {P : Nat → Prop} {v c ch : Nat} (h : FM σ σ1 P v c ch) (hc : c < 216) : σ1 0 c = σ 0 c := (h.2.1 c hc).2 (fun g => Nat.lt_irrefl _ g.1)
theorem fm_skip {σ σ1 : St} {P : Nat → Prop} {v c ch : Nat} (h : FM σ σ1 P v c ch) (hc : c < 216) (hn : ¬ (P c ∧ σ 0 c ≠ v)) : FM σ σ1 P v (c + 1) ch := by
  have e := fm_at h hc
  obtain ⟨h1, h3, h4⟩ := h
  refine ⟨h1, fun x hx => ?_, by rw [h4, cnt_f hn]⟩
  by_cases eq : x = c
  · subst eq
    refine ⟨fun g => ?_, fun _ => e⟩
    rw [e]
    exact Classical.byContradiction (fun z => hn ⟨g.2, z⟩)
  · have g := h3 x hx
    exact ⟨fun k => g.1 ⟨by omega, k.2⟩, fun k => g.2 (fun l => k ⟨by omega, l.2⟩)⟩
theorem fm_set {σ σ1 : St} {P : Nat → Prop} {v c ch : Nat} (h : FM σ σ1 P v c ch) (hc : c < 216) (hP : P c) (hv : σ 0 c ≠ v) : FM σ (s2 σ1 0 c v) P v (c + 1) (ch + 1) := by
  obtain ⟨h1, h3, h4⟩ := h
  refine ⟨fun j hj => by rw [s2_ne hj]; exact h1 j hj, fun x hx => ?_, by rw [h4, cnt_t ⟨hP, hv⟩]⟩
  rw [s2_eq]
  by_cases eq : x = c
  · subst eq
    simp only [if_true]
    exact ⟨fun _ => trivial, fun k => absurd ⟨Nat.lt_succ_self _, hP⟩ k⟩
  · simp only [eq, if_false]
    have g := h3 x hx
    exact ⟨fun k => g.1 ⟨by omega, k.2⟩, fun k => g.2 (fun l => k ⟨by omega, l.2⟩)⟩
theorem lm_le {σ : St} {se F1 F2 : Nat → Nat} (hM : MG σ se F1 F2) {c : Nat} (hc : c < 216) : LM F1 F2 c ≤ 12 := by
  have h1 := hM.2.2.1.1 c hc
  have h2 := hM.2.2.2.1 c hc
  unfold LM mx
  split <;> omega
theorem sho_lm {σ τ : St} {F1 F2 : Nat → Nat} (h : SHO σ τ F1 F2) {c : Nat} (hc : c < 216) : mx (τ 2 c) (τ 3 c) = LM F1 F2 c := by
  unfold LM
  rw [(h.2 c hc).1, (h.2 c hc).2]
theorem sho_mk {σ τ : St} {F1 F2 : Nat → Nat} (h : SHO σ τ F1 F2) : MK σ τ := ⟨h.1 0 (by decide) (by decide), h.1 1 (by decide) (by decide)⟩
theorem mg_congr {σ τ : St} {se F1 F2 : Nat → Nat} (h0 : τ 0 = σ 0) (h1 : τ 1 = σ 1) (h : MG σ se F1 F2) : MG τ se F1 F2 := by
  unfold MG at h ⊢
  rw [h0, h1]
  exact h
set_option maxHeartbeats 4000000 in
theorem w_Msolid {κ : Kx} {O : XO} {σ : St} (z f : Int) (hz : -2147483648 ≤ z ∧ z < 2147483648) (hf : -2147483648 ≤ f ∧ f < 2147483648) (hW : ∀ c, c < 216 → σ 0 c ≤ 1 ∧ σ 1 c ≤ 12) (C : CB κ cX1_solid 4 RX1 3 68) (X : MC κ O) (Rt : MRI κ O .int (fun r σ' => vpost z (r = iI (-1) ∧ σ' = σ) (fun c => r = iI ((σ 0 c : Nat) : Int) ∧ σ' = s2 σ 0 c (fl f)))) (hb : bnd σ) : J κ 4 (mW O σ) 0 [(0, .ref (oh O)), (1, .int (iI z)), (2, .int (iI f))] [] := by
  refine j_aload_n C 0 dX1_solid_0 rfl rfl ?_
  refine j_iload_n C 1 dX1_solid_1 rfl rfl ?_
  refine m_calli C X (m_Mbad _ O σ z hz) 1 rfl (lw_V q202 q204 qs9 q20 q205) (by decide +kernel) (by decide) dX1_solid_2 rfl (Nat.le_of_ble_eq_true rfl) (fun r σ1 hp => ?_)
  obtain ⟨hp, hσ⟩ := hp
  rw [hσ]
  rcases hp with ⟨rfl, hp⟩ | ⟨rfl, hp⟩
  · refine j_if_eq_f C dX1_solid_5 (by omega) (tgt := 10) (by decide) (by decide) ?_
    refine j_iconst C dX1_solid_8 ?_
    exact m_iret C X Rt (rfl) (Or.inl ⟨hp, rfl, rfl⟩) dX1_solid_9
  · obtain ⟨c, hzc⟩ : ∃ c : Nat, z = (c : Int) := ⟨z.toNat, by omega⟩
    have hc : c < 216 := by omega
    have h01 := (hW c hc).1
    refine j_if_eq_t C (tgt := 10) dX1_solid_5 (by decide) (by omega) (by decide) ?_
    refine j_aload_n C 0 dX1_solid_10 rfl rfl ?_
    refine m_get C X 0 (by decide) q179 rfl dX1_solid_11 ?_
    refine j_iload_n C 1 dX1_solid_14 rfl rfl ?_
    refine m_zld C X 0 216 (c) rfl rfl (by decide) (by omega) (by omega) dX1_solid_15 (fun hb15 => ?_)
    refine j_if_eq C (tgt := 23) dX1_solid_16 (by decide) (by omega) (fun hc16 => ?_) (fun hc16 => ?_)
    · refine j_iconst C dX1_solid_23 ?_
      refine j_istore_n C [1, 2, 3, 0] (L' := [(0, _), (1, _), (2, _), (3, _)]) dX1_solid_24 rfl (by decide) rfl ?_
      refine j_aload_n C 0 dX1_solid_25 rfl rfl ?_
      refine m_get C X 0 (by decide) q179 rfl dX1_solid_26 ?_
      refine j_iload_n C 1 dX1_solid_29 rfl rfl ?_
      refine j_iload_n C 2 dX1_solid_30 rfl rfl ?_
      refine j_if_eq C (tgt := 38) dX1_solid_31 (by decide) (by omega) (fun hc31 => ?_) (fun hc31 => ?_)
      · refine j_iconst C dX1_solid_38 ?_
        refine m_zst C X 0 216 (c) (0) rfl rfl mset_0 (by decide) (by omega) (by omega) (by omega) (by omega) dX1_solid_39 ?_
        refine j_iload_n C 3 dX1_solid_40 rfl rfl ?_
        exact m_iret C X Rt (rfl) (Or.inr ⟨c, hc, hzc, by congr 1; omega, by rw [fl_0 hc31]⟩) dX1_solid_41
      · refine j_iconst C dX1_solid_34 ?_
        refine j_goto C (tgt := 39) dX1_solid_35 (by decide) ?_
        refine m_zst C X 0 216 (c) (1) rfl rfl mset_0 (by decide) (by omega) (by omega) (by omega) (by omega) dX1_solid_39 ?_
        refine j_iload_n C 3 dX1_solid_40 rfl rfl ?_
        exact m_iret C X Rt (rfl) (Or.inr ⟨c, hc, hzc, by congr 1; omega, by rw [fl_1 hc31]⟩) dX1_solid_41
    · refine j_iconst C dX1_solid_19 ?_
      refine j_goto C (tgt := 24) dX1_solid_20 (by decide) ?_
      refine j_istore_n C [1, 2, 3, 0] (L' := [(0, _), (1, _), (2, _), (3, _)]) dX1_solid_24 rfl (by decide) rfl ?_
      refine j_aload_n C 0 dX1_solid_25 rfl rfl ?_
      refine m_get C X 0 (by decide) q179 rfl dX1_solid_26 ?_
      refine j_iload_n C 1 dX1_solid_29 rfl rfl ?_
      refine j_iload_n C 2 dX1_solid_30 rfl rfl ?_
      refine j_if_eq C (tgt := 38) dX1_solid_31 (by decide) (by omega) (fun hc31 => ?_) (fun hc31 => ?_)
      · refine j_iconst C dX1_solid_38 ?_
        refine m_zst C X 0 216 (c) (0) rfl rfl mset_0 (by decide) (by omega) (by omega) (by omega) (by omega) dX1_solid_39 ?_
        refine j_iload_n C 3 dX1_solid_40 rfl rfl ?_
        exact m_iret C X Rt (rfl) (Or.inr ⟨c, hc, hzc, by congr 1; omega, by rw [fl_0 hc31]⟩) dX1_solid_41
      · refine j_iconst C dX1_solid_34 ?_
        refine j_goto C (tgt := 39) dX1_solid_35 (by decide) ?_
        refine m_zst C X 0 216 (c) (1) rfl rfl mset_0 (by decide) (by omega) (by omega) (by omega) (by omega) dX1_solid_39 ?_
        refine j_iload_n C 3 dX1_solid_40 rfl rfl ?_
        exact m_iret C X Rt (rfl) (Or.inr ⟨c, hc, hzc, by congr 1; omega, by rw [fl_1 hc31]⟩) dX1_solid_41
theorem m_Msolid (l : Launch) (O : XO) (σ : St) (z f : Int) (hz : -2147483648 ≤ z ∧ z < 2147483648) (hf : -2147483648 ≤ f ∧ f < 2147483648) (hW : ∀ c, c < 216 → σ 0 c ≤ 1 ∧ σ 1 c ≤ 12) : MMi l O yX1_solid cX1_solid 4 .int 3 68 [.int (iI z), .int (iI f)] σ (fun r σ' => vpost z (r = iI (-1) ∧ σ' = σ) (fun c => r = iI ((σ 0 c : Nat) : Int) ∧ σ' = s2 σ 0 c (fl f))) := by
  refine MMi.of (by decide) rfl (Nat.le_of_ble_eq_true rfl) ?_
  intro κ A H0 hκ C X Rt hb
  exact w_Msolid (O := (oD O, A, H0, O.2.2.2)) z f hz hf hW C X Rt hb
set_option maxHeartbeats 4000000 in
theorem w_MisSolid {κ : Kx} {O : XO} {σ : St} (z : Int) (hz : -2147483648 ≤ z ∧ z < 2147483648) (hW : ∀ c, c < 216 → σ 0 c ≤ 1 ∧ σ 1 c ≤ 12) (C : CB κ cX1_isSolid 2 RX1 3 68) (X : MC κ O) (Rt : MRI κ O .int (fun r σ' => vpost z (r = iI (-1) ∧ σ' = σ) (fun c => r = iI ((σ 0 c : Nat) : Int) ∧ σ' = σ))) (hb : bnd σ) : J κ 2 (mW O σ) 0 [(0, .ref (oh O)), (1, .int (iI z))] [] := by
  refine j_aload_n C 0 dX1_isSolid_0 rfl rfl ?_
  refine j_iload_n C 1 dX1_isSolid_1 rfl rfl ?_
  refine m_calli C X (m_Mbad _ O σ z hz) 1 rfl (lw_V q202 q204 qs9 q20 q205) (by decide +kernel) (by decide) dX1_isSolid_2 rfl (Nat.le_of_ble_eq_true rfl) (fun r σ1 hp => ?_)
  obtain ⟨hp, hσ⟩ := hp
  rw [hσ]
  rcases hp with ⟨rfl, hp⟩ | ⟨rfl, hp⟩
  · refine j_if_eq_f C dX1_isSolid_5 (by omega) (tgt := 10) (by decide) (by decide) ?_
    refine j_iconst C dX1_isSolid_8 ?_
    exact m_iret C X Rt (rfl) (Or.inl ⟨hp, rfl, rfl⟩) dX1_isSolid_9
  · obtain ⟨c, hzc⟩ : ∃ c : Nat, z = (c : Int) := ⟨z.toNat, by omega⟩
    have hc : c < 216 := by omega
    have h01 := (hW c hc).1
    refine j_if_eq_t C (tgt := 10) dX1_isSolid_5 (by decide) (by omega) (by decide) ?_
    refine j_aload_n C 0 dX1_isSolid_10 rfl rfl ?_
    refine m_get C X 0 (by decide) q179 rfl dX1_isSolid_11 ?_
    refine j_iload_n C 1 dX1_isSolid_14 rfl rfl ?_
    refine m_zld C X 0 216 (c) rfl rfl (by decide) (by omega) (by omega) dX1_isSolid_15 (fun hb15 => ?_)
    refine j_if_eq C (tgt := 23) dX1_isSolid_16 (by decide) (by omega) (fun hc16 => ?_) (fun hc16 => ?_)
    · refine j_iconst C dX1_isSolid_23 ?_
      exact m_iret C X Rt (rfl) (Or.inr ⟨c, hc, hzc, by congr 1; omega, rfl⟩) dX1_isSolid_24
    · refine j_iconst C dX1_isSolid_19 ?_
      refine j_goto C (tgt := 24) dX1_isSolid_20 (by decide) ?_
      exact m_iret C X Rt (rfl) (Or.inr ⟨c, hc, hzc, by congr 1; omega, rfl⟩) dX1_isSolid_24
theorem m_MisSolid (l : Launch) (O : XO) (σ : St) (z : Int) (hz : -2147483648 ≤ z ∧ z < 2147483648) (hW : ∀ c, c < 216 → σ 0 c ≤ 1 ∧ σ 1 c ≤ 12) : MMi l O yX1_isSolid cX1_isSolid 2 .int 3 68 [.int (iI z)] σ (fun r σ' => vpost z (r = iI (-1) ∧ σ' = σ) (fun c => r = iI ((σ 0 c : Nat) : Int) ∧ σ' = σ)) := by
  refine MMi.of (by decide) rfl (Nat.le_of_ble_eq_true rfl) ?_
  intro κ A H0 hκ C X Rt hb
  exact w_MisSolid (O := (oD O, A, H0, O.2.2.2)) z hz hW C X Rt hb
set_option maxHeartbeats 4000000 in
theorem w_Mlamp {κ : Kx} {O : XO} {σ : St} (z f : Int) (hz : -2147483648 ≤ z ∧ z < 2147483648) (hf : -2147483648 ≤ f ∧ f < 2147483648) (C : CB κ cX1_lamp 4 RX1 3 68) (X : MC κ O) (Rt : MRI κ O .int (fun r σ' => vpost z (r = iI (-1) ∧ σ' = σ) (fun c => (¬ (0 ≤ f ∧ f ≤ 12) ∧ r = iI (-2) ∧ σ' = σ) ∨ ((0 ≤ f ∧ f ≤ 12) ∧ r = iI ((σ 1 c : Nat) : Int) ∧ σ' = s2 σ 1 c f.toNat)))) (hb : bnd σ) : J κ 4 (mW O σ) 0 [(0, .ref (oh O)), (1, .int (iI z)), (2, .int (iI f))] [] := by
  refine j_aload_n C 0 dX1_lamp_0 rfl rfl ?_
  refine j_iload_n C 1 dX1_lamp_1 rfl rfl ?_
  refine m_calli C X (m_Mbad _ O σ z hz) 1 rfl (lw_V q202 q204 qs9 q20 q205) (by decide +kernel) (by decide) dX1_lamp_2 rfl (Nat.le_of_ble_eq_true rfl) (fun r σ1 hp => ?_)
  obtain ⟨hp, hσ⟩ := hp
  rw [hσ]
  rcases hp with ⟨rfl, hp⟩ | ⟨rfl, hp⟩
  · refine j_if_eq_f C dX1_lamp_5 (by omega) (tgt := 10) (by decide) (by decide) ?_
    refine j_iconst C dX1_lamp_8 ?_
    exact m_iret C X Rt (rfl) (Or.inl ⟨hp, rfl, rfl⟩) dX1_lamp_9
  · obtain ⟨c, hzc⟩ : ∃ c : Nat, z = (c : Int) := ⟨z.toNat, by omega⟩
    have hc : c < 216 := by omega
    refine j_if_eq_t C (tgt := 10) dX1_lamp_5 (by decide) (by omega) (by decide) ?_
    refine j_iload_n C 2 dX1_lamp_10 rfl rfl ?_
    refine j_if_lt C (tgt := 20) dX1_lamp_11 (by decide) (by omega) (fun hc11 => ?_) (fun hc11 => ?_)
    · refine j_bipush C dX1_lamp_20 (by decide) ?_
      exact m_iret C X Rt (rfl) (Or.inr ⟨c, hc, hzc, Or.inl ⟨by omega, rfl, rfl⟩⟩) dX1_lamp_22
    · refine j_iload_n C 2 dX1_lamp_14 rfl rfl ?_
      refine j_bipush C dX1_lamp_15 (by decide) ?_
      refine j_icmp_le C (tgt := 23) dX1_lamp_17 (by decide) (by omega) (by omega) (fun hc17 => ?_) (fun hc17 => ?_)
      · refine j_aload_n C 0 dX1_lamp_23 rfl rfl ?_
        refine m_get C X 1 (by decide) q180 rfl dX1_lamp_24 ?_
        refine j_iload_n C 1 dX1_lamp_27 rfl rfl ?_
        refine m_ild C X 1 216 (c) rfl rfl (by decide) (by omega) (by omega) dX1_lamp_28 (fun hb28 => ?_)
        refine j_istore_n C [1, 2, 3, 0] (L' := [(0, _), (1, _), (2, _), (3, _)]) dX1_lamp_29 rfl (by decide) rfl ?_
        refine j_aload_n C 0 dX1_lamp_30 rfl rfl ?_
        refine m_get C X 1 (by decide) q180 rfl dX1_lamp_31 ?_
        refine j_iload_n C 1 dX1_lamp_34 rfl rfl ?_
        refine j_iload_n C 2 dX1_lamp_35 rfl rfl ?_
        refine m_ist C X 1 216 (c) (f.toNat) rfl rfl mset_1 (by decide) (by omega) (by omega) (by omega) (by omega) dX1_lamp_36 ?_
        refine j_iload_n C 3 dX1_lamp_37 rfl rfl ?_
        exact m_iret C X Rt (rfl) (Or.inr ⟨c, hc, hzc, Or.inr ⟨by omega, rfl, rfl⟩⟩) dX1_lamp_38
      · refine j_bipush C dX1_lamp_20 (by decide) ?_
        exact m_iret C X Rt (rfl) (Or.inr ⟨c, hc, hzc, Or.inl ⟨by omega, rfl, rfl⟩⟩) dX1_lamp_22
theorem m_Mlamp (l : Launch) (O : XO) (σ : St) (z f : Int) (hz : -2147483648 ≤ z ∧ z < 2147483648) (hf : -2147483648 ≤ f ∧ f < 2147483648) : MMi l O yX1_lamp cX1_lamp 4 .int 3 68 [.int (iI z), .int (iI f)] σ (fun r σ' => vpost z (r = iI (-1) ∧ σ' = σ) (fun c => (¬ (0 ≤ f ∧ f ≤ 12) ∧ r = iI (-2) ∧ σ' = σ) ∨ ((0 ≤ f ∧ f ≤ 12) ∧ r = iI ((σ 1 c : Nat) : Int) ∧ σ' = s2 σ 1 c f.toNat))) := by
  refine MMi.of (by decide) rfl (Nat.le_of_ble_eq_true rfl) ?_
  intro κ A H0 hκ C X Rt hb
  exact w_Mlamp (O := (oD O, A, H0, O.2.2.2)) z f hz hf C X Rt hb
set_option maxHeartbeats 4000000 in
theorem w_Mfill {κ : Kx} {O : XO} {σ : St} (lo hi f : Int) (hlo : -2147483648 ≤ lo ∧ lo < 2147483648) (hhi : -2147483648 ≤ hi ∧ hi < 2147483648) (hf : -2147483648 ≤ f ∧ f < 2147483648) (C : CB κ cX1_fill 6 RX1 3 68) (X : MC κ O) (Rt : MRI κ O .int (fun r σ' => bpost lo hi (r = iI (-1) ∧ σ' = σ) (r = iI ((cnt (fun x => inP (x : Int) lo hi ∧ σ 0 x ≠ fl f) 216 : Nat) : Int) ∧ (∀ j, j ≠ 0 → σ' j = σ j) ∧ ∀ x : Nat, x < 216 → (inP (x : Int) lo hi → σ' 0 x = fl f) ∧ (¬ inP (x : Int) lo hi → σ' 0 x = σ 0 x)))) (hb : bnd σ) : J κ 6 (mW O σ) 0 [(0, .ref (oh O)), (1, .int (iI lo)), (2, .int (iI hi)), (3, .int (iI f))] [] := by
  have KK : boxP lo hi → J κ 6 (mW O σ) 11 [(0, .ref (oh O)), (1, .int (iI lo)), (2, .int (iI hi)), (3, .int (iI f))] [] := by
    intro hB
    by_cases hf : f = 0
    · have K17 : ∀ (n c : Nat) (σ1 : St) (ch : Nat) (z4 z5 : Int), z5 = (c : Int) → z4 = (ch : Int) → 216 < c + n → c ≤ 216 → FM σ σ1 (fun x => inP (x : Int) lo hi) 0 c ch → J κ 6 (mW O σ1) 17 [(0, .ref (oh O)), (1, .int (iI lo)), (2, .int (iI hi)), (3, .int (iI f)), (4, .int (iI z4)), (5, .int (iI z5))] [] := by
        intro n
        induction n with
        | zero => intros; omega
        | succ n ih =>
          intro c σ1 ch z4 z5 hz5 hz4 hn hc hF
          have h0 : c < 216 → σ1 0 c = σ 0 c := fun h => fm_at hF h
          refine j_iload C 5 dX1_fill_17 rfl ?_
          refine j_sipush C dX1_fill_19 (by decide) ?_
          refine j_icmp_ge C (tgt := 83) dX1_fill_22 (by decide) (by omega) (by omega) (fun hc22 => ?_) (fun hc22 => ?_)
          · refine j_iload C 4 dX1_fill_83 rfl ?_
            exact m_iret C X Rt (rfl) (Or.inr ⟨hB, by rw [hz4, hF.2.2, show c = 216 by omega]; simp only [fl_0 hf], hF.1, fun x hx => by rw [fl_0 hf]; exact ⟨fun g => (hF.2.1 x hx).1 ⟨by omega, g⟩, fun g => (hF.2.1 x hx).2 (fun k => g k.2)⟩⟩) dX1_fill_85
          · refine j_aload_n C 0 dX1_fill_25 rfl rfl ?_
            refine j_iload C 5 dX1_fill_26 rfl ?_
            refine j_iload_n C 1 dX1_fill_28 rfl rfl ?_
            refine j_iload_n C 2 dX1_fill_29 rfl rfl ?_
            refine m_calli C X (m_MinBox _ O σ1 _ (by omega) lo (by have := hB.1; omega) hi (by have := hB.2.1; omega)) 3 rfl (lw_V q214 q216 qs11 q20 q217) (by decide +kernel) (by decide) dX1_fill_30 rfl (Nat.le_of_ble_eq_true rfl) (fun r σ3 hin => ?_)
            obtain ⟨hin, hσ⟩ := hin
            rw [hσ]
            rcases hin with ⟨rfl, hin⟩ | ⟨rfl, hin⟩
            · subst hz5
              refine j_if_eq_f C dX1_fill_33 (by omega) (tgt := 77) (by decide) (by decide) ?_
              refine j_aload_n C 0 dX1_fill_36 rfl rfl ?_
              refine m_get C X 0 (by decide) q179 rfl dX1_fill_37 ?_
              refine j_iload C 5 dX1_fill_40 rfl ?_
              refine m_zld C X 0 216 (c) rfl rfl (by decide) (by omega) (by omega) dX1_fill_42 (fun hb42 => ?_)
              refine j_iload_n C 3 dX1_fill_43 rfl rfl ?_
              refine j_if_eq_t C (tgt := 51) dX1_fill_44 (by decide) (by omega) (hf) ?_
              refine j_iconst C dX1_fill_51 ?_
              refine j_icmp_ne C (tgt := 58) dX1_fill_52 (by decide) (by omega) (by omega) (fun hc52 => ?_) (fun hc52 => ?_)
              · refine j_aload_n C 0 dX1_fill_58 rfl rfl ?_
                refine m_get C X 0 (by decide) q179 rfl dX1_fill_59 ?_
                refine j_iload C 5 dX1_fill_62 rfl ?_
                refine j_iload_n C 3 dX1_fill_64 rfl rfl ?_
                refine j_if_eq_t C (tgt := 72) dX1_fill_65 (by decide) (by omega) (hf) ?_
                refine j_iconst C dX1_fill_72 ?_
                refine m_zst C X 0 216 (c) (0) rfl rfl mset_0 (by decide) (by omega) (by omega) (by omega) (by omega) dX1_fill_73 ?_
                refine j_iinc C 4 [1, 2, 3, 4, 0, 5] (L' := [(0, _), (1, _), (2, _), (3, _), (4, _), (5, _)]) dX1_fill_74 rfl (by decide) rfl ?_
                refine j_iinc C 5 [1, 2, 3, 4, 5, 0] (L' := [(0, _), (1, _), (2, _), (3, _), (4, _), (5, _)]) dX1_fill_77 rfl (by decide) rfl ?_
                refine j_goto C (tgt := 17) dX1_fill_80 (by decide) ?_
                exact ih (c + 1) _ (ch + 1) _ _ (by omega) (by omega) (by omega) (by omega) (fm_set hF (by omega) hin (by omega))
              · refine j_goto C (tgt := 77) dX1_fill_55 (by decide) ?_
                refine j_iinc C 5 [1, 2, 3, 4, 5, 0] (L' := [(0, _), (1, _), (2, _), (3, _), (4, _), (5, _)]) dX1_fill_77 rfl (by decide) rfl ?_
                refine j_goto C (tgt := 17) dX1_fill_80 (by decide) ?_
                exact ih (c + 1) σ1 ch _ _ (by omega) hz4 (by omega) (by omega) (fm_skip hF (by omega) (fun g => g.2 (by omega)))
            · subst hz5
              refine j_if_eq_t C (tgt := 77) dX1_fill_33 (by decide) (by omega) (by decide) ?_
              refine j_iinc C 5 [1, 2, 3, 4, 5, 0] (L' := [(0, _), (1, _), (2, _), (3, _), (4, _), (5, _)]) dX1_fill_77 rfl (by decide) rfl ?_
              refine j_goto C (tgt := 17) dX1_fill_80 (by decide) ?_
              exact ih (c + 1) σ1 ch _ _ (by omega) hz4 (by omega) (by omega) (fm_skip hF (by omega) (fun g => hin g.1))
      refine j_iconst C dX1_fill_11 ?_
      refine j_istore C [1, 2, 3, 4, 0] (L' := [(0, _), (1, _), (2, _), (3, _), (4, _)]) dX1_fill_12 (by decide) rfl ?_
      refine j_iconst C dX1_fill_14 ?_
      refine j_istore C [1, 2, 3, 4, 5, 0] (L' := [(0, _), (1, _), (2, _), (3, _), (4, _), (5, _)]) dX1_fill_15 (by decide) rfl ?_
      exact K17 217 0 σ 0 _ _ (by omega) (by omega) (by omega) (by omega) fm_0
    · have K17 : ∀ (n c : Nat) (σ1 : St) (ch : Nat) (z4 z5 : Int), z5 = (c : Int) → z4 = (ch : Int) → 216 < c + n → c ≤ 216 → FM σ σ1 (fun x => inP (x : Int) lo hi) 1 c ch → J κ 6 (mW O σ1) 17 [(0, .ref (oh O)), (1, .int (iI lo)), (2, .int (iI hi)), (3, .int (iI f)), (4, .int (iI z4)), (5, .int (iI z5))] [] := by
        intro n
        induction n with
        | zero => intros; omega
        | succ n ih =>
          intro c σ1 ch z4 z5 hz5 hz4 hn hc hF
          have h0 : c < 216 → σ1 0 c = σ 0 c := fun h => fm_at hF h
          refine j_iload C 5 dX1_fill_17 rfl ?_
          refine j_sipush C dX1_fill_19 (by decide) ?_
          refine j_icmp_ge C (tgt := 83) dX1_fill_22 (by decide) (by omega) (by omega) (fun hc22 => ?_) (fun hc22 => ?_)
          · refine j_iload C 4 dX1_fill_83 rfl ?_
            exact m_iret C X Rt (rfl) (Or.inr ⟨hB, by rw [hz4, hF.2.2, show c = 216 by omega]; simp only [fl_1 hf], hF.1, fun x hx => by rw [fl_1 hf]; exact ⟨fun g => (hF.2.1 x hx).1 ⟨by omega, g⟩, fun g => (hF.2.1 x hx).2 (fun k => g k.2)⟩⟩) dX1_fill_85
          · refine j_aload_n C 0 dX1_fill_25 rfl rfl ?_
            refine j_iload C 5 dX1_fill_26 rfl ?_
            refine j_iload_n C 1 dX1_fill_28 rfl rfl ?_
            refine j_iload_n C 2 dX1_fill_29 rfl rfl ?_
            refine m_calli C X (m_MinBox _ O σ1 _ (by omega) lo (by have := hB.1; omega) hi (by have := hB.2.1; omega)) 3 rfl (lw_V q214 q216 qs11 q20 q217) (by decide +kernel) (by decide) dX1_fill_30 rfl (Nat.le_of_ble_eq_true rfl) (fun r σ3 hin => ?_)
            obtain ⟨hin, hσ⟩ := hin
            rw [hσ]
            rcases hin with ⟨rfl, hin⟩ | ⟨rfl, hin⟩
            · subst hz5
              refine j_if_eq_f C dX1_fill_33 (by omega) (tgt := 77) (by decide) (by decide) ?_
              refine j_aload_n C 0 dX1_fill_36 rfl rfl ?_
              refine m_get C X 0 (by decide) q179 rfl dX1_fill_37 ?_
              refine j_iload C 5 dX1_fill_40 rfl ?_
              refine m_zld C X 0 216 (c) rfl rfl (by decide) (by omega) (by omega) dX1_fill_42 (fun hb42 => ?_)
              refine j_iload_n C 3 dX1_fill_43 rfl rfl ?_
              refine j_if_eq_f C dX1_fill_44 (by omega) (tgt := 51) (by decide) (hf) ?_
              refine j_iconst C dX1_fill_47 ?_
              refine j_goto C (tgt := 52) dX1_fill_48 (by decide) ?_
              refine j_icmp_ne C (tgt := 58) dX1_fill_52 (by decide) (by omega) (by omega) (fun hc52 => ?_) (fun hc52 => ?_)
              · refine j_aload_n C 0 dX1_fill_58 rfl rfl ?_
                refine m_get C X 0 (by decide) q179 rfl dX1_fill_59 ?_
                refine j_iload C 5 dX1_fill_62 rfl ?_
                refine j_iload_n C 3 dX1_fill_64 rfl rfl ?_
                refine j_if_eq_f C dX1_fill_65 (by omega) (tgt := 72) (by decide) (hf) ?_
                refine j_iconst C dX1_fill_68 ?_
                refine j_goto C (tgt := 73) dX1_fill_69 (by decide) ?_
                refine m_zst C X 0 216 (c) (1) rfl rfl mset_0 (by decide) (by omega) (by omega) (by omega) (by omega) dX1_fill_73 ?_
                refine j_iinc C 4 [1, 2, 3, 4, 0, 5] (L' := [(0, _), (1, _), (2, _), (3, _), (4, _), (5, _)]) dX1_fill_74 rfl (by decide) rfl ?_
                refine j_iinc C 5 [1, 2, 3, 4, 5, 0] (L' := [(0, _), (1, _), (2, _), (3, _), (4, _), (5, _)]) dX1_fill_77 rfl (by decide) rfl ?_
                refine j_goto C (tgt := 17) dX1_fill_80 (by decide) ?_
                exact ih (c + 1) _ (ch + 1) _ _ (by omega) (by omega) (by omega) (by omega) (fm_set hF (by omega) hin (by omega))
              · refine j_goto C (tgt := 77) dX1_fill_55 (by decide) ?_
                refine j_iinc C 5 [1, 2, 3, 4, 5, 0] (L' := [(0, _), (1, _), (2, _), (3, _), (4, _), (5, _)]) dX1_fill_77 rfl (by decide) rfl ?_
                refine j_goto C (tgt := 17) dX1_fill_80 (by decide) ?_
                exact ih (c + 1) σ1 ch _ _ (by omega) hz4 (by omega) (by omega) (fm_skip hF (by omega) (fun g => g.2 (by omega)))
            · subst hz5
              refine j_if_eq_t C (tgt := 77) dX1_fill_33 (by decide) (by omega) (by decide) ?_
              refine j_iinc C 5 [1, 2, 3, 4, 5, 0] (L' := [(0, _), (1, _), (2, _), (3, _), (4, _), (5, _)]) dX1_fill_77 rfl (by decide) rfl ?_
              refine j_goto C (tgt := 17) dX1_fill_80 (by decide) ?_
              exact ih (c + 1) σ1 ch _ _ (by omega) hz4 (by omega) (by omega) (fm_skip hF (by omega) (fun g => hin g.1))
      refine j_iconst C dX1_fill_11 ?_
      refine j_istore C [1, 2, 3, 4, 0] (L' := [(0, _), (1, _), (2, _), (3, _), (4, _)]) dX1_fill_12 (by decide) rfl ?_
      refine j_iconst C dX1_fill_14 ?_
      refine j_istore C [1, 2, 3, 4, 5, 0] (L' := [(0, _), (1, _), (2, _), (3, _), (4, _), (5, _)]) dX1_fill_15 (by decide) rfl ?_
      exact K17 217 0 σ 0 _ _ (by omega) (by omega) (by omega) (by omega) fm_0
  refine j_aload_n C 0 dX1_fill_0 rfl rfl ?_
  refine j_iload_n C 1 dX1_fill_1 rfl rfl ?_
  refine j_iload_n C 2 dX1_fill_2 rfl rfl ?_
  refine m_calli C X (m_MbadBox _ O σ lo hi hlo hhi) 2 rfl (lw_V q210 q212 qs10 q20 q213) (by decide +kernel) (by decide) dX1_fill_3 rfl (Nat.le_of_ble_eq_true rfl) (fun r σ1 hp => ?_)
  obtain ⟨hp, hσ⟩ := hp
  rw [hσ]
  rcases hp with ⟨rfl, hp⟩ | ⟨rfl, hp⟩
  · refine j_if_eq_f C dX1_fill_6 (by omega) (tgt := 11) (by decide) (by decide) ?_
    refine j_iconst C dX1_fill_9 ?_
    exact m_iret C X Rt (rfl) (Or.inl ⟨hp, rfl, rfl⟩) dX1_fill_10
  · refine j_if_eq_t C (tgt := 11) dX1_fill_6 (by decide) (by omega) (by decide) ?_
    exact KK (Classical.not_not.mp hp)
theorem m_Mfill (l : Launch) (O : XO) (σ : St) (lo hi f : Int) (hlo : -2147483648 ≤ lo ∧ lo < 2147483648) (hhi : -2147483648 ≤ hi ∧ hi < 2147483648) (hf : -2147483648 ≤ f ∧ f < 2147483648) : MMi l O yX1_fill cX1_fill 6 .int 3 68 [.int (iI lo), .int (iI hi), .int (iI f)] σ (fun r σ' => bpost lo hi (r = iI (-1) ∧ σ' = σ) (r = iI ((cnt (fun x => inP (x : Int) lo hi ∧ σ 0 x ≠ fl f) 216 : Nat) : Int) ∧ (∀ j, j ≠ 0 → σ' j = σ j) ∧ ∀ x : Nat, x < 216 → (inP (x : Int) lo hi → σ' 0 x = fl f) ∧ (¬ inP (x : Int) lo hi → σ' 0 x = σ 0 x))) := by
  refine MMi.of (by decide) rfl (Nat.le_of_ble_eq_true rfl) ?_
  intro κ A H0 hκ C X Rt hb
  exact w_Mfill (O := (oD O, A, H0, O.2.2.2)) lo hi f hlo hhi hf C X Rt hb
set_option maxHeartbeats 4000000 in
theorem w_Mshell {κ : Kx} {O : XO} {σ : St} (lo hi : Int) (hlo : -2147483648 ≤ lo ∧ lo < 2147483648) (hhi : -2147483648 ≤ hi ∧ hi < 2147483648) (hW : ∀ c, c < 216 → σ 0 c ≤ 1 ∧ σ 1 c ≤ 12) (C : CB κ cX1_shell 8 RX1 3 68) (X : MC κ O) (Rt : MRI κ O .int (fun r σ' => bpost lo hi (r = iI (-1) ∧ σ' = σ) (r = iI ((cnt (fun x => (inP (x : Int) lo hi ∧ onP (x : Int) lo hi) ∧ σ 0 x ≠ 1) 216 : Nat) : Int) ∧ (∀ j, j ≠ 0 → σ' j = σ j) ∧ ∀ x : Nat, x < 216 → (inP (x : Int) lo hi ∧ onP (x : Int) lo hi → σ' 0 x = 1) ∧ (¬ (inP (x : Int) lo hi ∧ onP (x : Int) lo hi) → σ' 0 x = σ 0 x)))) (hb : bnd σ) : J κ 8 (mW O σ) 0 [(0, .ref (oh O)), (1, .int (iI lo)), (2, .int (iI hi))] [] := by
  have KK : boxP lo hi → J κ 8 (mW O σ) 11 [(0, .ref (oh O)), (1, .int (iI lo)), (2, .int (iI hi))] [] := by
    intro hB
    have K16 : ∀ (n c : Nat) (σ1 : St) (ch : Nat) (z4 z5 : Int), z5 = (c : Int) → z4 = (ch : Int) → 216 < c + n → c ≤ 216 → FM σ σ1 (fun x => inP (x : Int) lo hi ∧ onP (x : Int) lo hi) 1 c ch → J κ 8 (mW O σ1) 16 [(0, .ref (oh O)), (1, .int (iI lo)), (2, .int (iI hi)), (3, .int (iI z4)), (4, .int (iI z5))] [] := by
      intro n
      induction n with
      | zero => intros; omega
      | succ n ih =>
        intro c σ1 ch z4 z5 hz5 hz4 hn hc hF
        have h0 : c < 216 → σ1 0 c = σ 0 c := fun h => fm_at hF h
        have hB1 := hB.1
        have hB2 := hB.2.1
        have K127 : c < 216 → ∀ (x y w : Int), ((x = 1 ∧ (z5 % 6 = lo % 6 ∨ z5 % 6 = hi % 6)) ∨ (x = 0 ∧ ¬ (z5 % 6 = lo % 6 ∨ z5 % 6 = hi % 6))) → ((y = 1 ∧ (z5 / 6 % 6 = lo / 6 % 6 ∨ z5 / 6 % 6 = hi / 6 % 6)) ∨ (y = 0 ∧ ¬ (z5 / 6 % 6 = lo / 6 % 6 ∨ z5 / 6 % 6 = hi / 6 % 6))) → ((w = 1 ∧ (z5 / 36 = lo / 36 ∨ z5 / 36 = hi / 36)) ∨ (w = 0 ∧ ¬ (z5 / 36 = lo / 36 ∨ z5 / 36 = hi / 36))) → J κ 8 (mW O σ1) 127 [(0, .ref (oh O)), (1, .int (iI lo)), (2, .int (iI hi)), (3, .int (iI z4)), (4, .int (iI z5)), (5, .int (iI x)), (6, .int (iI y))] [.int (iI w)] := by
          intro hc2 x y w hx hy hw
          have h1 := (hW c hc2).1
          refine j_istore C [1, 2, 3, 4, 5, 6, 7, 0] (L' := [(0, _), (1, _), (2, _), (3, _), (4, _), (5, _), (6, _), (7, _)]) dX1_shell_127 (by decide) rfl ?_
          refine j_aload_n C 0 dX1_shell_129 rfl rfl ?_
          refine j_iload C 4 dX1_shell_130 rfl ?_
          refine j_iload_n C 1 dX1_shell_132 rfl rfl ?_
          refine j_iload_n C 2 dX1_shell_133 rfl rfl ?_
          refine m_calli C X (m_MinBox _ O σ1 _ (by omega) lo (by have := hB.1; omega) hi (by have := hB.2.1; omega)) 3 rfl (lw_V q214 q216 qs11 q20 q217) (by decide +kernel) (by decide) dX1_shell_134 rfl (Nat.le_of_ble_eq_true rfl) (fun r σ3 hin => ?_)
          obtain ⟨hin, hσ⟩ := hin
          rw [hσ]
          rcases hin with ⟨rfl, hin⟩ | ⟨rfl, hin⟩
          · subst hz5
            refine j_if_eq_f C dX1_shell_137 (by omega) (tgt := 179) (by decide) (by decide) ?_
            refine j_aload_n C 0 dX1_shell_140 rfl rfl ?_
            refine m_get C X 0 (by decide) q179 rfl dX1_shell_141 ?_
            refine j_iload C 4 dX1_shell_144 rfl ?_
            refine m_zld C X 0 216 (c) rfl rfl (by decide) (by omega) (by omega) dX1_shell_146 (fun hb146 => ?_)
            refine j_if_ne C (tgt := 179) dX1_shell_147 (by decide) (by omega) (fun hc147 => ?_) (fun hc147 => ?_)
            · refine j_iinc C 4 [1, 2, 3, 4, 0, 5, 6, 7] (L' := [(0, _), (1, _), (2, _), (3, _), (4, _), (5, _), (6, _), (7, _)]) dX1_shell_179 rfl (by decide) rfl ?_
              refine j_goto C (tgt := 16) dX1_shell_182 (by decide) ?_
              refine j_sub [0, 1, 2, 3, 4] (L' := [(0, _), (1, _), (2, _), (3, _), (4, _)]) rfl ?_
              exact ih (c + 1) σ1 ch _ _ (by omega) hz4 (by omega) (by omega) (fm_skip hF (by omega) (fun g => g.2 (by omega)))
            · refine j_iload C 5 dX1_shell_150 rfl ?_
              refine j_if_ne C (tgt := 168) dX1_shell_152 (by decide) (by omega) (fun hc152 => ?_) (fun hc152 => ?_)
              · refine j_aload_n C 0 dX1_shell_168 rfl rfl ?_
                refine m_get C X 0 (by decide) q179 rfl dX1_shell_169 ?_
                refine j_iload C 4 dX1_shell_172 rfl ?_
                refine j_iconst C dX1_shell_174 ?_
                refine m_zst C X 0 216 (c) (1) rfl rfl mset_0 (by decide) (by omega) (by omega) (by omega) (by omega) dX1_shell_175 ?_
                refine j_iinc C 3 [1, 2, 3, 0, 4, 5, 6, 7] (L' := [(0, _), (1, _), (2, _), (3, _), (4, _), (5, _), (6, _), (7, _)]) dX1_shell_176 rfl (by decide) rfl ?_
                refine j_iinc C 4 [1, 2, 3, 4, 0, 5, 6, 7] (L' := [(0, _), (1, _), (2, _), (3, _), (4, _), (5, _), (6, _), (7, _)]) dX1_shell_179 rfl (by decide) rfl ?_
                refine j_goto C (tgt := 16) dX1_shell_182 (by decide) ?_
                refine j_sub [0, 1, 2, 3, 4] (L' := [(0, _), (1, _), (2, _), (3, _), (4, _)]) rfl ?_
                exact ih (c + 1) _ (ch + 1) _ _ (by omega) (by omega) (by omega) (by omega) (fm_set hF (by omega) ⟨hin, by unfold onP; omega⟩ (by omega))
              · refine j_iload C 6 dX1_shell_155 rfl ?_
                refine j_if_ne C (tgt := 168) dX1_shell_157 (by decide) (by omega) (fun hc157 => ?_) (fun hc157 => ?_)
                · refine j_aload_n C 0 dX1_shell_168 rfl rfl ?_
                  refine m_get C X 0 (by decide) q179 rfl dX1_shell_169 ?_
                  refine j_iload C 4 dX1_shell_172 rfl ?_
                  refine j_iconst C dX1_shell_174 ?_
                  refine m_zst C X 0 216 (c) (1) rfl rfl mset_0 (by decide) (by omega) (by omega) (by omega) (by omega) dX1_shell_175 ?_
                  refine j_iinc C 3 [1, 2, 3, 0, 4, 5, 6, 7] (L' := [(0, _), (1, _), (2, _), (3, _), (4, _), (5, _), (6, _), (7, _)]) dX1_shell_176 rfl (by decide) rfl ?_
                  refine j_iinc C 4 [1, 2, 3, 4, 0, 5, 6, 7] (L' := [(0, _), (1, _), (2, _), (3, _), (4, _), (5, _), (6, _), (7, _)]) dX1_shell_179 rfl (by decide) rfl ?_
                  refine j_goto C (tgt := 16) dX1_shell_182 (by decide) ?_
                  refine j_sub [0, 1, 2, 3, 4] (L' := [(0, _), (1, _), (2, _), (3, _), (4, _)]) rfl ?_
                  exact ih (c + 1) _ (ch + 1) _ _ (by omega) (by omega) (by omega) (by omega) (fm_set hF (by omega) ⟨hin, by unfold onP; omega⟩ (by omega))
                · refine j_iload C 7 dX1_shell_160 rfl ?_
                  refine j_if_ne C (tgt := 168) dX1_shell_162 (by decide) (by omega) (fun hc162 => ?_) (fun hc162 => ?_)
                  · refine j_aload_n C 0 dX1_shell_168 rfl rfl ?_
                    refine m_get C X 0 (by decide) q179 rfl dX1_shell_169 ?_
                    refine j_iload C 4 dX1_shell_172 rfl ?_
                    refine j_iconst C dX1_shell_174 ?_
                    refine m_zst C X 0 216 (c) (1) rfl rfl mset_0 (by decide) (by omega) (by omega) (by omega) (by omega) dX1_shell_175 ?_
                    refine j_iinc C 3 [1, 2, 3, 0, 4, 5, 6, 7] (L' := [(0, _), (1, _), (2, _), (3, _), (4, _), (5, _), (6, _), (7, _)]) dX1_shell_176 rfl (by decide) rfl ?_
                    refine j_iinc C 4 [1, 2, 3, 4, 0, 5, 6, 7] (L' := [(0, _), (1, _), (2, _), (3, _), (4, _), (5, _), (6, _), (7, _)]) dX1_shell_179 rfl (by decide) rfl ?_
                    refine j_goto C (tgt := 16) dX1_shell_182 (by decide) ?_
                    refine j_sub [0, 1, 2, 3, 4] (L' := [(0, _), (1, _), (2, _), (3, _), (4, _)]) rfl ?_
                    exact ih (c + 1) _ (ch + 1) _ _ (by omega) (by omega) (by omega) (by omega) (fm_set hF (by omega) ⟨hin, by unfold onP; omega⟩ (by omega))
                  · refine j_goto C (tgt := 179) dX1_shell_165 (by decide) ?_
                    refine j_iinc C 4 [1, 2, 3, 4, 0, 5, 6, 7] (L' := [(0, _), (1, _), (2, _), (3, _), (4, _), (5, _), (6, _), (7, _)]) dX1_shell_179 rfl (by decide) rfl ?_
                    refine j_goto C (tgt := 16) dX1_shell_182 (by decide) ?_
                    refine j_sub [0, 1, 2, 3, 4] (L' := [(0, _), (1, _), (2, _), (3, _), (4, _)]) rfl ?_
                    exact ih (c + 1) σ1 ch _ _ (by omega) hz4 (by omega) (by omega) (fm_skip hF (by omega) (fun g => by have g2 := g.1.2; unfold onP at g2; omega))
          · subst hz5
            refine j_if_eq_t C (tgt := 179) dX1_shell_137 (by decide) (by omega) (by decide) ?_
            refine j_iinc C 4 [1, 2, 3, 4, 0, 5, 6, 7] (L' := [(0, _), (1, _), (2, _), (3, _), (4, _), (5, _), (6, _), (7, _)]) dX1_shell_179 rfl (by decide) rfl ?_
            refine j_goto C (tgt := 16) dX1_shell_182 (by decide) ?_
            refine j_sub [0, 1, 2, 3, 4] (L' := [(0, _), (1, _), (2, _), (3, _), (4, _)]) rfl ?_
            exact ih (c + 1) σ1 ch _ _ (by omega) hz4 (by omega) (by omega) (fm_skip hF (by omega) (fun g => hin g.1.1))
        have K96 : c < 216 → ∀ (x y : Int), ((x = 1 ∧ (z5 % 6 = lo % 6 ∨ z5 % 6 = hi % 6)) ∨ (x = 0 ∧ ¬ (z5 % 6 = lo % 6 ∨ z5 % 6 = hi % 6))) → ((y = 1 ∧ (z5 / 6 % 6 = lo / 6 % 6 ∨ z5 / 6 % 6 = hi / 6 % 6)) ∨ (y = 0 ∧ ¬ (z5 / 6 % 6 = lo / 6 % 6 ∨ z5 / 6 % 6 = hi / 6 % 6))) → J κ 8 (mW O σ1) 96 [(0, .ref (oh O)), (1, .int (iI lo)), (2, .int (iI hi)), (3, .int (iI z4)), (4, .int (iI z5)), (5, .int (iI x))] [.int (iI y)] := by
          intro hc2 x y hx hy
          refine j_istore C [1, 2, 3, 4, 5, 6, 0] (L' := [(0, _), (1, _), (2, _), (3, _), (4, _), (5, _), (6, _)]) dX1_shell_96 (by decide) rfl ?_
          refine j_iload C 4 dX1_shell_98 rfl ?_
          refine j_bipush C dX1_shell_100 (by decide) ?_
          refine j_idiv C dX1_shell_102 (by omega) (by omega) ?_
          refine j_iload_n C 1 dX1_shell_103 rfl rfl ?_
          refine j_bipush C dX1_shell_104 (by decide) ?_
          refine j_idiv C dX1_shell_106 (by omega) (by omega) ?_
          refine j_icmp_eq C (tgt := 122) dX1_shell_107 (by decide) (by omega) (by omega) (fun hc107 => ?_) (fun hc107 => ?_)
          · refine j_iconst C dX1_shell_122 ?_
            refine j_goto C (tgt := 127) dX1_shell_123 (by decide) ?_
            exact K127 hc2 x y _ hx hy (by omega)
          · refine j_iload C 4 dX1_shell_110 rfl ?_
            refine j_bipush C dX1_shell_112 (by decide) ?_
            refine j_idiv C dX1_shell_114 (by omega) (by omega) ?_
            refine j_iload_n C 2 dX1_shell_115 rfl rfl ?_
            refine j_bipush C dX1_shell_116 (by decide) ?_
            refine j_idiv C dX1_shell_118 (by omega) (by omega) ?_
            refine j_icmp_ne C (tgt := 126) dX1_shell_119 (by decide) (by omega) (by omega) (fun hc119 => ?_) (fun hc119 => ?_)
            · refine j_iconst C dX1_shell_126 ?_
              exact K127 hc2 x y _ hx hy (by omega)
            · refine j_iconst C dX1_shell_122 ?_
              refine j_goto C (tgt := 127) dX1_shell_123 (by decide) ?_
              exact K127 hc2 x y _ hx hy (by omega)
        have K53 : c < 216 → ∀ (x : Int), ((x = 1 ∧ (z5 % 6 = lo % 6 ∨ z5 % 6 = hi % 6)) ∨ (x = 0 ∧ ¬ (z5 % 6 = lo % 6 ∨ z5 % 6 = hi % 6))) → J κ 8 (mW O σ1) 53 [(0, .ref (oh O)), (1, .int (iI lo)), (2, .int (iI hi)), (3, .int (iI z4)), (4, .int (iI z5))] [.int (iI x)] := by
          intro hc2 x hx
          refine j_istore C [1, 2, 3, 4, 5, 0] (L' := [(0, _), (1, _), (2, _), (3, _), (4, _), (5, _)]) dX1_shell_53 (by decide) rfl ?_
          refine j_iload C 4 dX1_shell_55 rfl ?_
          refine j_bipush C dX1_shell_57 (by decide) ?_
          refine j_idiv C dX1_shell_59 (by omega) (by omega) ?_
          refine j_bipush C dX1_shell_60 (by decide) ?_
          refine j_irem C dX1_shell_62 (by omega) (by omega) ?_
          refine j_iload_n C 1 dX1_shell_63 rfl rfl ?_
          refine j_bipush C dX1_shell_64 (by decide) ?_
          refine j_idiv C dX1_shell_66 (by omega) (by omega) ?_
          refine j_bipush C dX1_shell_67 (by decide) ?_
          refine j_irem C dX1_shell_69 (by omega) (by omega) ?_
          refine j_icmp_eq C (tgt := 91) dX1_shell_70 (by decide) (by omega) (by omega) (fun hc70 => ?_) (fun hc70 => ?_)
          · refine j_iconst C dX1_shell_91 ?_
            refine j_goto C (tgt := 96) dX1_shell_92 (by decide) ?_
            exact K96 hc2 x _ hx (by omega)
          · refine j_iload C 4 dX1_shell_73 rfl ?_
            refine j_bipush C dX1_shell_75 (by decide) ?_
            refine j_idiv C dX1_shell_77 (by omega) (by omega) ?_
            refine j_bipush C dX1_shell_78 (by decide) ?_
            refine j_irem C dX1_shell_80 (by omega) (by omega) ?_
            refine j_iload_n C 2 dX1_shell_81 rfl rfl ?_
            refine j_bipush C dX1_shell_82 (by decide) ?_
            refine j_idiv C dX1_shell_84 (by omega) (by omega) ?_
            refine j_bipush C dX1_shell_85 (by decide) ?_
            refine j_irem C dX1_shell_87 (by omega) (by omega) ?_
            refine j_icmp_ne C (tgt := 95) dX1_shell_88 (by decide) (by omega) (by omega) (fun hc88 => ?_) (fun hc88 => ?_)
            · refine j_iconst C dX1_shell_95 ?_
              exact K96 hc2 x _ hx (by omega)
            · refine j_iconst C dX1_shell_91 ?_
              refine j_goto C (tgt := 96) dX1_shell_92 (by decide) ?_
              exact K96 hc2 x _ hx (by omega)
        refine j_iload C 4 dX1_shell_16 rfl ?_
        refine j_sipush C dX1_shell_18 (by decide) ?_
        refine j_icmp_ge C (tgt := 185) dX1_shell_21 (by decide) (by omega) (by omega) (fun hc21 => ?_) (fun hc21 => ?_)
        · refine j_iload_n C 3 dX1_shell_185 rfl rfl ?_
          exact m_iret C X Rt (rfl) (Or.inr ⟨hB, by rw [hz4, hF.2.2, show c = 216 by omega], hF.1, fun x hx => ⟨fun g => (hF.2.1 x hx).1 ⟨by omega, g⟩, fun g => (hF.2.1 x hx).2 (fun k => g k.2)⟩⟩) dX1_shell_186
        · refine j_iload C 4 dX1_shell_24 rfl ?_
          refine j_bipush C dX1_shell_26 (by decide) ?_
          refine j_irem C dX1_shell_28 (by omega) (by omega) ?_
          refine j_iload_n C 1 dX1_shell_29 rfl rfl ?_
          refine j_bipush C dX1_shell_30 (by decide) ?_
          refine j_irem C dX1_shell_32 (by omega) (by omega) ?_
          refine j_icmp_eq C (tgt := 48) dX1_shell_33 (by decide) (by omega) (by omega) (fun hc33 => ?_) (fun hc33 => ?_)
          · refine j_iconst C dX1_shell_48 ?_
            refine j_goto C (tgt := 53) dX1_shell_49 (by decide) ?_
            exact K53 (by omega) _ (by omega)
          · refine j_iload C 4 dX1_shell_36 rfl ?_
            refine j_bipush C dX1_shell_38 (by decide) ?_
            refine j_irem C dX1_shell_40 (by omega) (by omega) ?_
            refine j_iload_n C 2 dX1_shell_41 rfl rfl ?_
            refine j_bipush C dX1_shell_42 (by decide) ?_
            refine j_irem C dX1_shell_44 (by omega) (by omega) ?_
            refine j_icmp_ne C (tgt := 52) dX1_shell_45 (by decide) (by omega) (by omega) (fun hc45 => ?_) (fun hc45 => ?_)
            · refine j_iconst C dX1_shell_52 ?_
              exact K53 (by omega) _ (by omega)
            · refine j_iconst C dX1_shell_48 ?_
              refine j_goto C (tgt := 53) dX1_shell_49 (by decide) ?_
              exact K53 (by omega) _ (by omega)
    refine j_iconst C dX1_shell_11 ?_
    refine j_istore_n C [1, 2, 3, 0] (L' := [(0, _), (1, _), (2, _), (3, _)]) dX1_shell_12 rfl (by decide) rfl ?_
    refine j_iconst C dX1_shell_13 ?_
    refine j_istore C [1, 2, 3, 4, 0] (L' := [(0, _), (1, _), (2, _), (3, _), (4, _)]) dX1_shell_14 (by decide) rfl ?_
    exact K16 217 0 σ 0 _ _ (by omega) (by omega) (by omega) (by omega) fm_0
  refine j_aload_n C 0 dX1_shell_0 rfl rfl ?_
  refine j_iload_n C 1 dX1_shell_1 rfl rfl ?_
  refine j_iload_n C 2 dX1_shell_2 rfl rfl ?_
  refine m_calli C X (m_MbadBox _ O σ lo hi hlo hhi) 2 rfl (lw_V q210 q212 qs10 q20 q213) (by decide +kernel) (by decide) dX1_shell_3 rfl (Nat.le_of_ble_eq_true rfl) (fun r σ1 hp => ?_)
  obtain ⟨hp, hσ⟩ := hp
  rw [hσ]
  rcases hp with ⟨rfl, hp⟩ | ⟨rfl, hp⟩
  · refine j_if_eq_f C dX1_shell_6 (by omega) (tgt := 11) (by decide) (by decide) ?_
    refine j_iconst C dX1_shell_9 ?_
    exact m_iret C X Rt (rfl) (Or.inl ⟨hp, rfl, rfl⟩) dX1_shell_10
  · refine j_if_eq_t C (tgt := 11) dX1_shell_6 (by decide) (by omega) (by decide) ?_
    exact KK (Classical.not_not.mp hp)
theorem m_Mshell (l : Launch) (O : XO) (σ : St) (lo hi : Int) (hlo : -2147483648 ≤ lo ∧ lo < 2147483648) (hhi : -2147483648 ≤ hi ∧ hi < 2147483648) (hW : ∀ c, c < 216 → σ 0 c ≤ 1 ∧ σ 1 c ≤ 12) : MMi l O yX1_shell cX1_shell 8 .int 3 68 [.int (iI lo), .int (iI hi)] σ (fun r σ' => bpost lo hi (r = iI (-1) ∧ σ' = σ) (r = iI ((cnt (fun x => (inP (x : Int) lo hi ∧ onP (x : Int) lo hi) ∧ σ 0 x ≠ 1) 216 : Nat) : Int) ∧ (∀ j, j ≠ 0 → σ' j = σ j) ∧ ∀ x : Nat, x < 216 → (inP (x : Int) lo hi ∧ onP (x : Int) lo hi → σ' 0 x = 1) ∧ (¬ (inP (x : Int) lo hi ∧ onP (x : Int) lo hi) → σ' 0 x = σ 0 x))) := by
  refine MMi.of (by decide) rfl (Nat.le_of_ble_eq_true rfl) ?_
  intro κ A H0 hκ C X Rt hb
  exact w_Mshell (O := (oD O, A, H0, O.2.2.2)) lo hi hlo hhi hW C X Rt hb
end
section
set_option maxHeartbeats 4000000 in
theorem w_Mlamplight {κ : Kx} {O : XO} {σ : St} (z : Int) (hz : -2147483648 ≤ z ∧ z < 2147483648) (se F1 F2 : Nat → Nat) (hM : MG σ se F1 F2) (C : CB κ cX1_lamplight 2 RX1 3 68) (X : MC κ O) (Rt : MRI κ O .int (fun r σ' => vpost z (r = iI (-1) ∧ σ' = σ) (fun c => r = iI ((F1 c : Nat) : Int) ∧ MK σ σ'))) (hb : bnd σ) : J κ 2 (mW O σ) 0 [(0, .ref (oh O)), (1, .int (iI z))] [] := by
  refine j_aload_n C 0 dX1_lamplight_0 rfl rfl ?_
  refine j_iload_n C 1 dX1_lamplight_1 rfl rfl ?_
  refine m_calli C X (m_Mbad _ O σ z hz) 1 rfl (lw_V q202 q204 qs9 q20 q205) (by decide +kernel) (by decide) dX1_lamplight_2 rfl (Nat.le_of_ble_eq_true rfl) (fun r σ1 hp => ?_)
  obtain ⟨hp, hσ⟩ := hp
  rw [hσ]
  rcases hp with ⟨rfl, hp⟩ | ⟨rfl, hp⟩
  · refine j_if_eq_f C dX1_lamplight_5 (by omega) (tgt := 10) (by decide) (by decide) ?_
    refine j_iconst C dX1_lamplight_8 ?_
    exact m_iret C X Rt (rfl) (Or.inl ⟨hp, rfl, rfl⟩) dX1_lamplight_9
  · obtain ⟨c, hzc⟩ : ∃ c : Nat, z = (c : Int) := ⟨z.toNat, by omega⟩
    have hc : c < 216 := by omega
    refine j_if_eq_t C (tgt := 10) dX1_lamplight_5 (by decide) (by omega) (by decide) ?_
    refine j_aload_n C 0 dX1_lamplight_10 rfl rfl ?_
    refine m_callv C X (m_Mshine _ O σ se F1 F2 hM) 0 rfl (lw_V q234 q236 qs12 q20 q237) (by decide +kernel) (by decide) dX1_lamplight_11 rfl (Nat.le_of_ble_eq_true rfl) (fun τ hs => ?_)
    refine j_aload_n C 0 dX1_lamplight_14 rfl rfl ?_
    refine m_get C X 2 (by decide) q181 rfl dX1_lamplight_15 ?_
    refine j_iload_n C 1 dX1_lamplight_18 rfl rfl ?_
    refine m_ild C X 2 216 (c) rfl rfl (by decide) (by omega) (by omega) dX1_lamplight_19 (fun hb19 => ?_)
    exact m_iret C X Rt (rfl) (Or.inr ⟨c, hc, hzc, by rw [(hs.2 c hc).1], sho_mk hs⟩) dX1_lamplight_20
theorem m_Mlamplight (l : Launch) (O : XO) (σ : St) (z : Int) (hz : -2147483648 ≤ z ∧ z < 2147483648) (se F1 F2 : Nat → Nat) (hM : MG σ se F1 F2) : MMi l O yX1_lamplight cX1_lamplight 2 .int 3 68 [.int (iI z)] σ (fun r σ' => vpost z (r = iI (-1) ∧ σ' = σ) (fun c => r = iI ((F1 c : Nat) : Int) ∧ MK σ σ')) := by
  refine MMi.of (by decide) rfl (Nat.le_of_ble_eq_true rfl) ?_
  intro κ A H0 hκ C X Rt hb
  exact w_Mlamplight (O := (oD O, A, H0, O.2.2.2)) z hz se F1 F2 hM C X Rt hb
set_option maxHeartbeats 4000000 in
theorem w_Mskylight {κ : Kx} {O : XO} {σ : St} (z : Int) (hz : -2147483648 ≤ z ∧ z < 2147483648) (se F1 F2 : Nat → Nat) (hM : MG σ se F1 F2) (C : CB κ cX1_skylight 2 RX1 3 68) (X : MC κ O) (Rt : MRI κ O .int (fun r σ' => vpost z (r = iI (-1) ∧ σ' = σ) (fun c => r = iI ((F2 c : Nat) : Int) ∧ MK σ σ'))) (hb : bnd σ) : J κ 2 (mW O σ) 0 [(0, .ref (oh O)), (1, .int (iI z))] [] := by
  refine j_aload_n C 0 dX1_skylight_0 rfl rfl ?_
  refine j_iload_n C 1 dX1_skylight_1 rfl rfl ?_
  refine m_calli C X (m_Mbad _ O σ z hz) 1 rfl (lw_V q202 q204 qs9 q20 q205) (by decide +kernel) (by decide) dX1_skylight_2 rfl (Nat.le_of_ble_eq_true rfl) (fun r σ1 hp => ?_)
  obtain ⟨hp, hσ⟩ := hp
  rw [hσ]
  rcases hp with ⟨rfl, hp⟩ | ⟨rfl, hp⟩
  · refine j_if_eq_f C dX1_skylight_5 (by omega) (tgt := 10) (by decide) (by decide) ?_
    refine j_iconst C dX1_skylight_8 ?_
    exact m_iret C X Rt (rfl) (Or.inl ⟨hp, rfl, rfl⟩) dX1_skylight_9
  · obtain ⟨c, hzc⟩ : ∃ c : Nat, z = (c : Int) := ⟨z.toNat, by omega⟩
    have hc : c < 216 := by omega
    refine j_if_eq_t C (tgt := 10) dX1_skylight_5 (by decide) (by omega) (by decide) ?_
    refine j_aload_n C 0 dX1_skylight_10 rfl rfl ?_
    refine m_callv C X (m_Mshine _ O σ se F1 F2 hM) 0 rfl (lw_V q234 q236 qs12 q20 q237) (by decide +kernel) (by decide) dX1_skylight_11 rfl (Nat.le_of_ble_eq_true rfl) (fun τ hs => ?_)
    refine j_aload_n C 0 dX1_skylight_14 rfl rfl ?_
    refine m_get C X 3 (by decide) q182 rfl dX1_skylight_15 ?_
    refine j_iload_n C 1 dX1_skylight_18 rfl rfl ?_
    refine m_ild C X 3 216 (c) rfl rfl (by decide) (by omega) (by omega) dX1_skylight_19 (fun hb19 => ?_)
    exact m_iret C X Rt (rfl) (Or.inr ⟨c, hc, hzc, by rw [(hs.2 c hc).2], sho_mk hs⟩) dX1_skylight_20
theorem m_Mskylight (l : Launch) (O : XO) (σ : St) (z : Int) (hz : -2147483648 ≤ z ∧ z < 2147483648) (se F1 F2 : Nat → Nat) (hM : MG σ se F1 F2) : MMi l O yX1_skylight cX1_skylight 2 .int 3 68 [.int (iI z)] σ (fun r σ' => vpost z (r = iI (-1) ∧ σ' = σ) (fun c => r = iI ((F2 c : Nat) : Int) ∧ MK σ σ')) := by
  refine MMi.of (by decide) rfl (Nat.le_of_ble_eq_true rfl) ?_
  intro κ A H0 hκ C X Rt hb
  exact w_Mskylight (O := (oD O, A, H0, O.2.2.2)) z hz se F1 F2 hM C X Rt hb
set_option maxHeartbeats 4000000 in
theorem w_Mlit {κ : Kx} {O : XO} {σ : St} (lo hi lv : Int) (hlo : -2147483648 ≤ lo ∧ lo < 2147483648) (hhi : -2147483648 ≤ hi ∧ hi < 2147483648) (hlv : -2147483648 ≤ lv ∧ lv < 2147483648) (se F1 F2 : Nat → Nat) (hM : MG σ se F1 F2) (C : CB κ cX1_lit 6 RX1 3 68) (X : MC κ O) (Rt : MRI κ O .int (fun r σ' => bpost lo hi (r = iI (-1) ∧ σ' = σ) (r = iI ((cnt (litP (LM F1 F2) lo hi lv) 216 : Nat) : Int) ∧ MK σ σ'))) (hb : bnd σ) : J κ 6 (mW O σ) 0 [(0, .ref (oh O)), (1, .int (iI lo)), (2, .int (iI hi)), (3, .int (iI lv))] [] := by
  have K21 : boxP lo hi → ∀ (τ : St), SHO σ τ F1 F2 → ∀ (n c : Nat) (z4 z5 : Int), z5 = (c : Int) → z4 = ((cnt (litP (LM F1 F2) lo hi lv) c : Nat) : Int) → 216 < c + n → c ≤ 216 → J κ 6 (mW O τ) 21 [(0, .ref (oh O)), (1, .int (iI lo)), (2, .int (iI hi)), (3, .int (iI lv)), (4, .int (iI z4)), (5, .int (iI z5))] [] := by
    intro hB τ hs n
    induction n with
    | zero => intros; omega
    | succ n ih =>
      intro c z4 z5 hz5 hz4 hn hc
      refine j_iload C 5 dX1_lit_21 rfl ?_
      refine j_sipush C dX1_lit_23 (by decide) ?_
      refine j_icmp_ge C (tgt := 59) dX1_lit_26 (by decide) (by omega) (by omega) (fun hc26 => ?_) (fun hc26 => ?_)
      · refine j_iload C 4 dX1_lit_59 rfl ?_
        exact m_iret C X Rt (rfl) (Or.inr ⟨hB, by rw [hz4, show c = 216 by omega], sho_mk hs⟩) dX1_lit_61
      · refine j_aload_n C 0 dX1_lit_29 rfl rfl ?_
        refine j_iload C 5 dX1_lit_30 rfl ?_
        refine j_iload_n C 1 dX1_lit_32 rfl rfl ?_
        refine j_iload_n C 2 dX1_lit_33 rfl rfl ?_
        refine m_calli C X (m_MinBox _ O τ _ (by omega) lo (by have := hB.1; omega) hi (by have := hB.2.1; omega)) 3 rfl (lw_V q214 q216 qs11 q20 q217) (by decide +kernel) (by decide) dX1_lit_34 rfl (Nat.le_of_ble_eq_true rfl) (fun r σ1 hin => ?_)
        obtain ⟨hin, hσ⟩ := hin
        rw [hσ]
        rcases hin with ⟨rfl, hin⟩ | ⟨rfl, hin⟩
        · subst hz5
          refine j_if_eq_f C dX1_lit_37 (by omega) (tgt := 53) (by decide) (by decide) ?_
          refine j_aload_n C 0 dX1_lit_40 rfl rfl ?_
          refine j_iload C 5 dX1_lit_41 rfl ?_
          refine m_calli C X (m_Mlight _ O τ c _ (by omega) (by omega)) 1 rfl (lw_V q258 q260 qs16 q20 q261) (by decide +kernel) (by decide) dX1_lit_43 rfl (Nat.le_of_ble_eq_true rfl) (fun r σ1 hl => ?_)
          obtain ⟨rfl, hσ⟩ := hl
          rw [hσ, sho_lm hs (show c < 216 by omega)]
          have hlg := lm_le hM (show c < 216 by omega)
          refine j_iload_n C 3 dX1_lit_46 rfl rfl ?_
          refine j_icmp_lt C (tgt := 53) dX1_lit_47 (by decide) (by omega) (by omega) (fun hc47 => ?_) (fun hc47 => ?_)
          · refine j_iinc C 5 [1, 2, 3, 4, 5, 0] (L' := [(0, _), (1, _), (2, _), (3, _), (4, _), (5, _)]) dX1_lit_53 rfl (by decide) rfl ?_
            refine j_goto C (tgt := 21) dX1_lit_56 (by decide) ?_
            have hp : ¬ litP (LM F1 F2) lo hi lv c := fun g => absurd g.2 (by omega)
            exact ih (c + 1) _ _ (by omega) (by rw [cnt_f hp]; omega) (by omega) (by omega)
          · refine j_iinc C 4 [1, 2, 3, 4, 0, 5] (L' := [(0, _), (1, _), (2, _), (3, _), (4, _), (5, _)]) dX1_lit_50 rfl (by decide) rfl ?_
            refine j_iinc C 5 [1, 2, 3, 4, 5, 0] (L' := [(0, _), (1, _), (2, _), (3, _), (4, _), (5, _)]) dX1_lit_53 rfl (by decide) rfl ?_
            refine j_goto C (tgt := 21) dX1_lit_56 (by decide) ?_
            have hp : litP (LM F1 F2) lo hi lv c := ⟨hin, by omega⟩
            exact ih (c + 1) _ _ (by omega) (by rw [cnt_t hp]; omega) (by omega) (by omega)
        · subst hz5
          refine j_if_eq_t C (tgt := 53) dX1_lit_37 (by decide) (by omega) (by decide) ?_
          refine j_iinc C 5 [1, 2, 3, 4, 5, 0] (L' := [(0, _), (1, _), (2, _), (3, _), (4, _), (5, _)]) dX1_lit_53 rfl (by decide) rfl ?_
          refine j_goto C (tgt := 21) dX1_lit_56 (by decide) ?_
          have hp : ¬ litP (LM F1 F2) lo hi lv c := fun g => hin g.1
          exact ih (c + 1) _ _ (by omega) (by rw [cnt_f hp]; omega) (by omega) (by omega)
  refine j_aload_n C 0 dX1_lit_0 rfl rfl ?_
  refine j_iload_n C 1 dX1_lit_1 rfl rfl ?_
  refine j_iload_n C 2 dX1_lit_2 rfl rfl ?_
  refine m_calli C X (m_MbadBox _ O σ lo hi hlo hhi) 2 rfl (lw_V q210 q212 qs10 q20 q213) (by decide +kernel) (by decide) dX1_lit_3 rfl (Nat.le_of_ble_eq_true rfl) (fun r σ1 hp => ?_)
  obtain ⟨hp, hσ⟩ := hp
  rw [hσ]
  rcases hp with ⟨rfl, hp⟩ | ⟨rfl, hp⟩
  · refine j_if_eq_f C dX1_lit_6 (by omega) (tgt := 11) (by decide) (by decide) ?_
    refine j_iconst C dX1_lit_9 ?_
    exact m_iret C X Rt (rfl) (Or.inl ⟨hp, rfl, rfl⟩) dX1_lit_10
  · refine j_if_eq_t C (tgt := 11) dX1_lit_6 (by decide) (by omega) (by decide) ?_
    refine j_aload_n C 0 dX1_lit_11 rfl rfl ?_
    refine m_callv C X (m_Mshine _ O σ se F1 F2 hM) 0 rfl (lw_V q234 q236 qs12 q20 q237) (by decide +kernel) (by decide) dX1_lit_12 rfl (Nat.le_of_ble_eq_true rfl) (fun τ hs => ?_)
    refine j_iconst C dX1_lit_15 ?_
    refine j_istore C [1, 2, 3, 4, 0] (L' := [(0, _), (1, _), (2, _), (3, _), (4, _)]) dX1_lit_16 (by decide) rfl ?_
    refine j_iconst C dX1_lit_18 ?_
    refine j_istore C [1, 2, 3, 4, 5, 0] (L' := [(0, _), (1, _), (2, _), (3, _), (4, _), (5, _)]) dX1_lit_19 (by decide) rfl ?_
    exact K21 (Classical.not_not.mp hp) τ hs 217 0 _ _ (by omega) (by rfl) (by omega) (by omega)
theorem m_Mlit (l : Launch) (O : XO) (σ : St) (lo hi lv : Int) (hlo : -2147483648 ≤ lo ∧ lo < 2147483648) (hhi : -2147483648 ≤ hi ∧ hi < 2147483648) (hlv : -2147483648 ≤ lv ∧ lv < 2147483648) (se F1 F2 : Nat → Nat) (hM : MG σ se F1 F2) : MMi l O yX1_lit cX1_lit 6 .int 3 68 [.int (iI lo), .int (iI hi), .int (iI lv)] σ (fun r σ' => bpost lo hi (r = iI (-1) ∧ σ' = σ) (r = iI ((cnt (litP (LM F1 F2) lo hi lv) 216 : Nat) : Int) ∧ MK σ σ')) := by
  refine MMi.of (by decide) rfl (Nat.le_of_ble_eq_true rfl) ?_
  intro κ A H0 hκ C X Rt hb
  exact w_Mlit (O := (oD O, A, H0, O.2.2.2)) lo hi lv hlo hhi hlv se F1 F2 hM C X Rt hb
set_option maxHeartbeats 4000000 in
theorem w_Mdim {κ : Kx} {O : XO} {σ : St} (lv : Int) (hlv : -2147483648 ≤ lv ∧ lv < 2147483648) (se F1 F2 : Nat → Nat) (hM : MG σ se F1 F2) (C : CB κ cX1_dim 4 RX1 3 68) (X : MC κ O) (Rt : MRI κ O .int (fun r σ' => (¬ (0 ≤ lv ∧ lv ≤ 12) ∧ r = iI (-1) ∧ σ' = σ) ∨ ((0 ≤ lv ∧ lv ≤ 12) ∧ r = iI ((cnt (dimP (σ 0) (LM F1 F2) lv) 216 : Nat) : Int) ∧ MK σ σ'))) (hb : bnd σ) : J κ 4 (mW O σ) 0 [(0, .ref (oh O)), (1, .int (iI lv))] [] := by
  have K20 : (0 ≤ lv ∧ lv ≤ 12) → ∀ (τ : St), SHO σ τ F1 F2 → ∀ (n c : Nat) (z4 z5 : Int), z5 = (c : Int) → z4 = ((cnt (dimP (σ 0) (LM F1 F2) lv) c : Nat) : Int) → 216 < c + n → c ≤ 216 → J κ 4 (mW O τ) 20 [(0, .ref (oh O)), (1, .int (iI lv)), (2, .int (iI z4)), (3, .int (iI z5))] [] := by
    intro hv τ hs n
    induction n with
    | zero => intros; omega
    | succ n ih =>
      intro c z4 z5 hz5 hz4 hn hc
      have e0 : τ 0 c = σ 0 c := by rw [(sho_mk hs).1]
      refine j_iload_n C 3 dX1_dim_20 rfl rfl ?_
      refine j_sipush C dX1_dim_21 (by decide) ?_
      refine j_icmp_ge C (tgt := 54) dX1_dim_24 (by decide) (by omega) (by omega) (fun hc24 => ?_) (fun hc24 => ?_)
      · refine j_iload_n C 2 dX1_dim_54 rfl rfl ?_
        exact m_iret C X Rt (rfl) (Or.inr ⟨hv, by rw [hz4, show c = 216 by omega], sho_mk hs⟩) dX1_dim_55
      · refine j_aload_n C 0 dX1_dim_27 rfl rfl ?_
        refine m_get C X 0 (by decide) q179 rfl dX1_dim_28 ?_
        refine j_iload_n C 3 dX1_dim_31 rfl rfl ?_
        refine m_zld C X 0 216 (c) rfl rfl (by decide) (by omega) (by omega) dX1_dim_32 (fun hb32 => ?_)
        refine j_if_ne C (tgt := 48) dX1_dim_33 (by decide) (by omega) (fun hc33 => ?_) (fun hc33 => ?_)
        · refine j_iinc C 3 [1, 2, 3, 0] (L' := [(0, _), (1, _), (2, _), (3, _)]) dX1_dim_48 rfl (by decide) rfl ?_
          refine j_goto C (tgt := 20) dX1_dim_51 (by decide) ?_
          have hp : ¬ dimP (σ 0) (LM F1 F2) lv c := fun g => absurd g.1 (by omega)
          exact ih (c + 1) _ _ (by omega) (by rw [cnt_f hp]; omega) (by omega) (by omega)
        · refine j_aload_n C 0 dX1_dim_36 rfl rfl ?_
          refine j_iload_n C 3 dX1_dim_37 rfl rfl ?_
          refine m_calli C X (m_Mlight _ O τ c _ (by omega) (by omega)) 1 rfl (lw_V q258 q260 qs16 q20 q261) (by decide +kernel) (by decide) dX1_dim_38 rfl (Nat.le_of_ble_eq_true rfl) (fun r σ1 hl => ?_)
          obtain ⟨rfl, hσ⟩ := hl
          rw [hσ, sho_lm hs (show c < 216 by omega)]
          have hlg := lm_le hM (show c < 216 by omega)
          refine j_iload_n C 1 dX1_dim_41 rfl rfl ?_
          refine j_icmp_ne C (tgt := 48) dX1_dim_42 (by decide) (by omega) (by omega) (fun hc42 => ?_) (fun hc42 => ?_)
          · refine j_iinc C 3 [1, 2, 3, 0] (L' := [(0, _), (1, _), (2, _), (3, _)]) dX1_dim_48 rfl (by decide) rfl ?_
            refine j_goto C (tgt := 20) dX1_dim_51 (by decide) ?_
            have hp : ¬ dimP (σ 0) (LM F1 F2) lv c := fun g => absurd g.2 (by omega)
            exact ih (c + 1) _ _ (by omega) (by rw [cnt_f hp]; omega) (by omega) (by omega)
          · refine j_iinc C 2 [1, 2, 0, 3] (L' := [(0, _), (1, _), (2, _), (3, _)]) dX1_dim_45 rfl (by decide) rfl ?_
            refine j_iinc C 3 [1, 2, 3, 0] (L' := [(0, _), (1, _), (2, _), (3, _)]) dX1_dim_48 rfl (by decide) rfl ?_
            refine j_goto C (tgt := 20) dX1_dim_51 (by decide) ?_
            have hp : dimP (σ 0) (LM F1 F2) lv c := ⟨by omega, by omega⟩
            exact ih (c + 1) _ _ (by omega) (by rw [cnt_t hp]; omega) (by omega) (by omega)
  refine j_iload_n C 1 dX1_dim_0 rfl rfl ?_
  refine j_if_lt C (tgt := 10) dX1_dim_1 (by decide) (by omega) (fun hc1 => ?_) (fun hc1 => ?_)
  · refine j_iconst C dX1_dim_10 ?_
    exact m_iret C X Rt (rfl) (Or.inl ⟨by omega, rfl, rfl⟩) dX1_dim_11
  · refine j_iload_n C 1 dX1_dim_4 rfl rfl ?_
    refine j_bipush C dX1_dim_5 (by decide) ?_
    refine j_icmp_le C (tgt := 12) dX1_dim_7 (by decide) (by omega) (by omega) (fun hc7 => ?_) (fun hc7 => ?_)
    · refine j_aload_n C 0 dX1_dim_12 rfl rfl ?_
      refine m_callv C X (m_Mshine _ O σ se F1 F2 hM) 0 rfl (lw_V q234 q236 qs12 q20 q237) (by decide +kernel) (by decide) dX1_dim_13 rfl (Nat.le_of_ble_eq_true rfl) (fun τ hs => ?_)
      refine j_iconst C dX1_dim_16 ?_
      refine j_istore_n C [1, 2, 0] (L' := [(0, _), (1, _), (2, _)]) dX1_dim_17 rfl (by decide) rfl ?_
      refine j_iconst C dX1_dim_18 ?_
      refine j_istore_n C [1, 2, 3, 0] (L' := [(0, _), (1, _), (2, _), (3, _)]) dX1_dim_19 rfl (by decide) rfl ?_
      exact K20 (by omega) τ hs 217 0 _ _ (by omega) (by rfl) (by omega) (by omega)
    · refine j_iconst C dX1_dim_10 ?_
      exact m_iret C X Rt (rfl) (Or.inl ⟨by omega, rfl, rfl⟩) dX1_dim_11
theorem m_Mdim (l : Launch) (O : XO) (σ : St) (lv : Int) (hlv : -2147483648 ≤ lv ∧ lv < 2147483648) (se F1 F2 : Nat → Nat) (hM : MG σ se F1 F2) : MMi l O yX1_dim cX1_dim 4 .int 3 68 [.int (iI lv)] σ (fun r σ' => (¬ (0 ≤ lv ∧ lv ≤ 12) ∧ r = iI (-1) ∧ σ' = σ) ∨ ((0 ≤ lv ∧ lv ≤ 12) ∧ r = iI ((cnt (dimP (σ 0) (LM F1 F2) lv) 216 : Nat) : Int) ∧ MK σ σ')) := by
  refine MMi.of (by decide) rfl (Nat.le_of_ble_eq_true rfl) ?_
  intro κ A H0 hκ C X Rt hb
  exact w_Mdim (O := (oD O, A, H0, O.2.2.2)) lv hlv se F1 F2 hM C X Rt hb
set_option maxHeartbeats 4000000 in
theorem w_Mdarkest {κ : Kx} {O : XO} {σ : St} (se F1 F2 : Nat → Nat) (hM : MG σ se F1 F2) (C : CB κ cX1_darkest 3 RX1 3 68) (X : MC κ O) (Rt : MRI κ O .int (fun r σ' => r = iI (dk (σ 0) (LM F1 F2) 216) ∧ MK σ σ')) (hb : bnd σ) : J κ 3 (mW O σ) 0 [(0, .ref (oh O))] [] := by
  have K8 : ∀ (τ : St), SHO σ τ F1 F2 → ∀ (n c : Nat) (z1 z2 : Int), z2 = (c : Int) → z1 = dk (σ 0) (LM F1 F2) c → 216 < c + n → c ≤ 216 → J κ 3 (mW O τ) 8 [(0, .ref (oh O)), (1, .int (iI z1)), (2, .int (iI z2))] [] := by
    intro τ hs n
    induction n with
    | zero => intros; omega
    | succ n ih =>
      intro c z1 z2 hz2 hz1 hn hc
      have hdk := dk_rg (σ 0) (LM F1 F2) c
      have e0 : τ 0 c = σ 0 c := by rw [(sho_mk hs).1]
      refine j_iload_n C 2 dX1_darkest_8 rfl rfl ?_
      refine j_sipush C dX1_darkest_9 (by decide) ?_
      refine j_icmp_ge C (tgt := 49) dX1_darkest_12 (by decide) (by omega) (by omega) (fun hc12 => ?_) (fun hc12 => ?_)
      · refine j_iload_n C 1 dX1_darkest_49 rfl rfl ?_
        exact m_iret C X Rt (rfl) (⟨by rw [hz1, show c = 216 by omega], sho_mk hs⟩) dX1_darkest_50
      · refine j_aload_n C 0 dX1_darkest_15 rfl rfl ?_
        refine m_get C X 0 (by decide) q179 rfl dX1_darkest_16 ?_
        refine j_iload_n C 2 dX1_darkest_19 rfl rfl ?_
        refine m_zld C X 0 216 (c) rfl rfl (by decide) (by omega) (by omega) dX1_darkest_20 (fun hb20 => ?_)
        refine j_if_ne C (tgt := 43) dX1_darkest_21 (by decide) (by omega) (fun hc21 => ?_) (fun hc21 => ?_)
        · refine j_iinc C 2 [1, 2, 0] (L' := [(0, _), (1, _), (2, _)]) dX1_darkest_43 rfl (by decide) rfl ?_
          refine j_goto C (tgt := 8) dX1_darkest_46 (by decide) ?_
          exact ih (c + 1) _ _ (by omega) (by rw [dk_f (w := σ 0) (L := LM F1 F2) (n := c) (fun g => absurd g.1 (by omega))]; exact hz1) (by omega) (by omega)
        · refine j_iload_n C 1 dX1_darkest_24 rfl rfl ?_
          refine j_if_lt C (tgt := 41) dX1_darkest_25 (by decide) (by omega) (fun hc25 => ?_) (fun hc25 => ?_)
          · refine j_iload_n C 2 dX1_darkest_41 rfl rfl ?_
            refine j_istore_n C [1, 0, 2] (L' := [(0, _), (1, _), (2, _)]) dX1_darkest_42 rfl (by decide) rfl ?_
            refine j_iinc C 2 [1, 2, 0] (L' := [(0, _), (1, _), (2, _)]) dX1_darkest_43 rfl (by decide) rfl ?_
            refine j_goto C (tgt := 8) dX1_darkest_46 (by decide) ?_
            exact ih (c + 1) _ _ (by omega) (by rw [dk_t (w := σ 0) (L := LM F1 F2) (n := c) ⟨by omega, Or.inl (by omega)⟩]; exact hz2) (by omega) (by omega)
          · refine j_aload_n C 0 dX1_darkest_28 rfl rfl ?_
            refine j_iload_n C 2 dX1_darkest_29 rfl rfl ?_
            refine m_calli C X (m_Mlight _ O τ c _ (by omega) (by omega)) 1 rfl (lw_V q258 q260 qs16 q20 q261) (by decide +kernel) (by decide) dX1_darkest_30 rfl (Nat.le_of_ble_eq_true rfl) (fun r σ1 hl => ?_)
            obtain ⟨rfl, hσ⟩ := hl
            rw [hσ, sho_lm hs (show c < 216 by omega)]
            have hlg := lm_le hM (show c < 216 by omega)
            refine j_aload_n C 0 dX1_darkest_33 rfl rfl ?_
            refine j_iload_n C 1 dX1_darkest_34 rfl rfl ?_
            refine m_calli C X (m_Mlight _ O τ (dk (σ 0) (LM F1 F2) c).toNat _ (by omega) (by omega)) 1 rfl (lw_V q258 q260 qs16 q20 q261) (by decide +kernel) (by decide) dX1_darkest_35 rfl (Nat.le_of_ble_eq_true rfl) (fun r σ1 hl => ?_)
            obtain ⟨rfl, hσ⟩ := hl
            rw [hσ, sho_lm hs (show (dk (σ 0) (LM F1 F2) c).toNat < 216 by omega)]
            have hlg2 := lm_le hM (show (dk (σ 0) (LM F1 F2) c).toNat < 216 by omega)
            refine j_icmp_ge C (tgt := 43) dX1_darkest_38 (by decide) (by omega) (by omega) (fun hc38 => ?_) (fun hc38 => ?_)
            · refine j_iinc C 2 [1, 2, 0] (L' := [(0, _), (1, _), (2, _)]) dX1_darkest_43 rfl (by decide) rfl ?_
              refine j_goto C (tgt := 8) dX1_darkest_46 (by decide) ?_
              exact ih (c + 1) _ _ (by omega) (by rw [dk_f (w := σ 0) (L := LM F1 F2) (n := c) (fun g => by have := g.2; omega)]; exact hz1) (by omega) (by omega)
            · refine j_iload_n C 2 dX1_darkest_41 rfl rfl ?_
              refine j_istore_n C [1, 0, 2] (L' := [(0, _), (1, _), (2, _)]) dX1_darkest_42 rfl (by decide) rfl ?_
              refine j_iinc C 2 [1, 2, 0] (L' := [(0, _), (1, _), (2, _)]) dX1_darkest_43 rfl (by decide) rfl ?_
              refine j_goto C (tgt := 8) dX1_darkest_46 (by decide) ?_
              exact ih (c + 1) _ _ (by omega) (by rw [dk_t (w := σ 0) (L := LM F1 F2) (n := c) ⟨by omega, Or.inr (by omega)⟩]; exact hz2) (by omega) (by omega)
  refine j_aload_n C 0 dX1_darkest_0 rfl rfl ?_
  refine m_callv C X (m_Mshine _ O σ se F1 F2 hM) 0 rfl (lw_V q234 q236 qs12 q20 q237) (by decide +kernel) (by decide) dX1_darkest_1 rfl (Nat.le_of_ble_eq_true rfl) (fun τ hs => ?_)
  refine j_iconst C dX1_darkest_4 ?_
  refine j_istore_n C [1, 0] (L' := [(0, _), (1, _)]) dX1_darkest_5 rfl (by decide) rfl ?_
  refine j_iconst C dX1_darkest_6 ?_
  refine j_istore_n C [1, 2, 0] (L' := [(0, _), (1, _), (2, _)]) dX1_darkest_7 rfl (by decide) rfl ?_
  exact K8 τ hs 217 0 _ _ (by omega) (by rfl) (by omega) (by omega)
theorem m_Mdarkest (l : Launch) (O : XO) (σ : St) (se F1 F2 : Nat → Nat) (hM : MG σ se F1 F2) : MMi l O yX1_darkest cX1_darkest 3 .int 3 68 [] σ (fun r σ' => r = iI (dk (σ 0) (LM F1 F2) 216) ∧ MK σ σ') := by
  refine MMi.of (by decide) rfl (Nat.le_of_ble_eq_true rfl) ?_
  intro κ A H0 hκ C X Rt hb
  exact w_Mdarkest (O := (oD O, A, H0, O.2.2.2)) se F1 F2 hM C X Rt hb
set_option maxHeartbeats 4000000 in
theorem w_Mfaces {κ : Kx} {O : XO} {σ : St}  (C : CB κ cX1_faces 4 RX1 3 68) (X : MC κ O) (Rt : MRI κ O .int (fun r σ' => r = iI ((cnt (fcP bes (σ 0)) 1296 : Nat) : Int) ∧ σ' = σ)) (hb : bnd σ) : J κ 4 (mW O σ) 0 [(0, .ref (oh O))] [] := by
  have K4 : ∀ (n k : Nat) (z1 z2 : Int), z2 = (k : Int) → z1 = ((cnt (fcP bes (σ 0)) k : Nat) : Int) → 1296 < k + n → k ≤ 1296 → J κ 4 (mW O σ) 4 [(0, .ref (oh O)), (1, .int (iI z1)), (2, .int (iI z2))] [] := by
    intro n
    induction n with
    | zero => intros; omega
    | succ n ih =>
      intro k z1 z2 hz2 hz1 hn hk
      refine j_iload_n C 2 dX1_faces_4 rfl rfl ?_
      refine j_sipush C dX1_faces_5 (by decide) ?_
      refine j_icmp_ge C (tgt := 58) dX1_faces_8 (by decide) (by omega) (by omega) (fun hc8 => ?_) (fun hc8 => ?_)
      · refine j_iload_n C 1 dX1_faces_58 rfl rfl ?_
        exact m_iret C X Rt (rfl) (⟨by rw [hz1, show k = 1296 by omega], rfl⟩) dX1_faces_59
      · refine j_aload_n C 0 dX1_faces_11 rfl rfl ?_
        refine j_iload_n C 2 dX1_faces_12 rfl rfl ?_
        refine j_bipush C dX1_faces_13 (by decide) ?_
        refine j_idiv C dX1_faces_15 (by omega) (by omega) ?_
        refine j_iload_n C 2 dX1_faces_16 rfl rfl ?_
        refine j_bipush C dX1_faces_17 (by decide) ?_
        refine j_irem C dX1_faces_19 (by omega) (by omega) ?_
        refine m_calli C X (m_Mbeside _ O σ (k / 6) (k % 6) _ _ (by omega) (by omega) (by omega) (by omega)) 2 rfl (lw_V q246 q248 qs15 q20 q249) (by decide +kernel) (by decide) dX1_faces_20 rfl (Nat.le_of_ble_eq_true rfl) (fun r σ1 hp => ?_)
        obtain ⟨rfl, hσ⟩ := hp
        rw [hσ]
        rcases bes_rg (show k / 6 < 216 by omega) (show k % 6 < 6 by omega) with e | ⟨d, hd, e, ha⟩
        · rw [e]
          refine j_istore_n C [1, 2, 3, 0] (L' := [(0, _), (1, _), (2, _), (3, _)]) dX1_faces_23 rfl (by decide) rfl ?_
          refine j_aload_n C 0 dX1_faces_24 rfl rfl ?_
          refine m_get C X 0 (by decide) q179 rfl dX1_faces_25 ?_
          refine j_iload_n C 2 dX1_faces_28 rfl rfl ?_
          refine j_bipush C dX1_faces_29 (by decide) ?_
          refine j_idiv C dX1_faces_31 (by omega) (by omega) ?_
          refine m_zld C X 0 216 (k / 6) rfl rfl (by decide) (by omega) (by omega) dX1_faces_32 (fun hb32 => ?_)
          refine j_if_eq C (tgt := 52) dX1_faces_33 (by decide) (by omega) (fun hc33 => ?_) (fun hc33 => ?_)
          · refine j_iinc C 2 [1, 2, 0, 3] (L' := [(0, _), (1, _), (2, _), (3, _)]) dX1_faces_52 rfl (by decide) rfl ?_
            refine j_goto C (tgt := 4) dX1_faces_55 (by decide) ?_
            refine j_sub [0, 1, 2] (L' := [(0, _), (1, _), (2, _)]) rfl ?_
            have hq : ¬ fcP bes (σ 0) k := fun g => g.1 (by omega)
            exact ih (k + 1) _ _ (by omega) (by rw [cnt_f hq]; omega) (by omega) (by omega)
          · refine j_iload_n C 3 dX1_faces_36 rfl rfl ?_
            refine j_if_lt_t C (tgt := 49) dX1_faces_37 (by decide) (by omega) (by omega) ?_
            refine j_iinc C 1 [1, 0, 2, 3] (L' := [(0, _), (1, _), (2, _), (3, _)]) dX1_faces_49 rfl (by decide) rfl ?_
            refine j_iinc C 2 [1, 2, 0, 3] (L' := [(0, _), (1, _), (2, _), (3, _)]) dX1_faces_52 rfl (by decide) rfl ?_
            refine j_goto C (tgt := 4) dX1_faces_55 (by decide) ?_
            refine j_sub [0, 1, 2] (L' := [(0, _), (1, _), (2, _)]) rfl ?_
            have hq : fcP bes (σ 0) k := ⟨by omega, Or.inl e⟩
            exact ih (k + 1) _ _ (by omega) (by rw [cnt_t hq]; omega) (by omega) (by omega)
        · rw [e]
          refine j_istore_n C [1, 2, 3, 0] (L' := [(0, _), (1, _), (2, _), (3, _)]) dX1_faces_23 rfl (by decide) rfl ?_
          refine j_aload_n C 0 dX1_faces_24 rfl rfl ?_
          refine m_get C X 0 (by decide) q179 rfl dX1_faces_25 ?_
          refine j_iload_n C 2 dX1_faces_28 rfl rfl ?_
          refine j_bipush C dX1_faces_29 (by decide) ?_
          refine j_idiv C dX1_faces_31 (by omega) (by omega) ?_
          refine m_zld C X 0 216 (k / 6) rfl rfl (by decide) (by omega) (by omega) dX1_faces_32 (fun hb32 => ?_)
          refine j_if_eq C (tgt := 52) dX1_faces_33 (by decide) (by omega) (fun hc33 => ?_) (fun hc33 => ?_)
          · refine j_iinc C 2 [1, 2, 0, 3] (L' := [(0, _), (1, _), (2, _), (3, _)]) dX1_faces_52 rfl (by decide) rfl ?_
            refine j_goto C (tgt := 4) dX1_faces_55 (by decide) ?_
            refine j_sub [0, 1, 2] (L' := [(0, _), (1, _), (2, _)]) rfl ?_
            have hq : ¬ fcP bes (σ 0) k := fun g => g.1 (by omega)
            exact ih (k + 1) _ _ (by omega) (by rw [cnt_f hq]; omega) (by omega) (by omega)
          · refine j_iload_n C 3 dX1_faces_36 rfl rfl ?_
            refine j_if_lt_f C dX1_faces_37 (by omega) (tgt := 49) (by decide) (by omega) ?_
            refine j_aload_n C 0 dX1_faces_40 rfl rfl ?_
            refine m_get C X 0 (by decide) q179 rfl dX1_faces_41 ?_
            refine j_iload_n C 3 dX1_faces_44 rfl rfl ?_
            refine m_zld C X 0 216 (d) rfl rfl (by decide) (by omega) (by omega) dX1_faces_45 (fun hb45 => ?_)
            refine j_if_ne C (tgt := 52) dX1_faces_46 (by decide) (by omega) (fun hc46 => ?_) (fun hc46 => ?_)
            · refine j_iinc C 2 [1, 2, 0, 3] (L' := [(0, _), (1, _), (2, _), (3, _)]) dX1_faces_52 rfl (by decide) rfl ?_
              refine j_goto C (tgt := 4) dX1_faces_55 (by decide) ?_
              refine j_sub [0, 1, 2] (L' := [(0, _), (1, _), (2, _)]) rfl ?_
              have hq : ¬ fcP bes (σ 0) k := fun g => by have g2 := g.2; rw [e] at g2; simp only [Int.toNat_natCast] at g2; omega
              exact ih (k + 1) _ _ (by omega) (by rw [cnt_f hq]; omega) (by omega) (by omega)
            · refine j_iinc C 1 [1, 0, 2, 3] (L' := [(0, _), (1, _), (2, _), (3, _)]) dX1_faces_49 rfl (by decide) rfl ?_
              refine j_iinc C 2 [1, 2, 0, 3] (L' := [(0, _), (1, _), (2, _), (3, _)]) dX1_faces_52 rfl (by decide) rfl ?_
              refine j_goto C (tgt := 4) dX1_faces_55 (by decide) ?_
              refine j_sub [0, 1, 2] (L' := [(0, _), (1, _), (2, _)]) rfl ?_
              have hq : fcP bes (σ 0) k := ⟨by omega, Or.inr (by rw [e]; simp only [Int.toNat_natCast]; omega)⟩
              exact ih (k + 1) _ _ (by omega) (by rw [cnt_t hq]; omega) (by omega) (by omega)
  refine j_iconst C dX1_faces_0 ?_
  refine j_istore_n C [1, 0] (L' := [(0, _), (1, _)]) dX1_faces_1 rfl (by decide) rfl ?_
  refine j_iconst C dX1_faces_2 ?_
  refine j_istore_n C [1, 2, 0] (L' := [(0, _), (1, _), (2, _)]) dX1_faces_3 rfl (by decide) rfl ?_
  exact K4 1297 0 _ _ (by omega) (by rfl) (by omega) (by omega)
theorem m_Mfaces (l : Launch) (O : XO) (σ : St)  : MMi l O yX1_faces cX1_faces 4 .int 3 68 [] σ (fun r σ' => r = iI ((cnt (fcP bes (σ 0)) 1296 : Nat) : Int) ∧ σ' = σ) := by
  refine MMi.of (by decide) rfl (Nat.le_of_ble_eq_true rfl) ?_
  intro κ A H0 hκ C X Rt hb
  exact w_Mfaces (O := (oD O, A, H0, O.2.2.2))  C X Rt hb
set_option maxHeartbeats 4000000 in
theorem w_Mshady {κ : Kx} {O : XO} {σ : St} (lv : Int) (hlv : -2147483648 ≤ lv ∧ lv < 2147483648) (se F1 F2 : Nat → Nat) (hM : MG σ se F1 F2) (C : CB κ cX1_shady 4 RX1 3 68) (X : MC κ O) (Rt : MRI κ O .int (fun r σ' => r = iI ((cnt (shaP (σ 0) (LM F1 F2) lv) 216 : Nat) : Int) ∧ MK σ σ')) (hb : bnd σ) : J κ 4 (mW O σ) 0 [(0, .ref (oh O)), (1, .int (iI lv))] [] := by
  have K9 : ∀ (τ : St), SHO σ τ F1 F2 → ∀ (n c : Nat) (z2 z3 : Int), z3 = (c : Int) → z2 = ((cnt (shaP (σ 0) (LM F1 F2) lv) c : Nat) : Int) → 216 < c + n → c ≤ 216 → 36 ≤ c → J κ 4 (mW O τ) 9 [(0, .ref (oh O)), (1, .int (iI lv)), (2, .int (iI z2)), (3, .int (iI z3))] [] := by
    intro τ hs n
    induction n with
    | zero => intros; omega
    | succ n ih =>
      intro c z2 z3 hz3 hz2 hn hc h36
      have e0 : τ 0 c = σ 0 c := by rw [(sho_mk hs).1]
      have e36 : τ 0 (c - 36) = σ 0 (c - 36) := by rw [(sho_mk hs).1]
      refine j_iload_n C 3 dX1_shady_9 rfl rfl ?_
      refine j_sipush C dX1_shady_10 (by decide) ?_
      refine j_icmp_ge C (tgt := 55) dX1_shady_13 (by decide) (by omega) (by omega) (fun hc13 => ?_) (fun hc13 => ?_)
      · refine j_iload_n C 2 dX1_shady_55 rfl rfl ?_
        exact m_iret C X Rt (rfl) (⟨by rw [hz2, show c = 216 by omega], sho_mk hs⟩) dX1_shady_56
      · refine j_aload_n C 0 dX1_shady_16 rfl rfl ?_
        refine m_get C X 0 (by decide) q179 rfl dX1_shady_17 ?_
        refine j_iload_n C 3 dX1_shady_20 rfl rfl ?_
        refine m_zld C X 0 216 (c) rfl rfl (by decide) (by omega) (by omega) dX1_shady_21 (fun hb21 => ?_)
        refine j_if_ne C (tgt := 49) dX1_shady_22 (by decide) (by omega) (fun hc22 => ?_) (fun hc22 => ?_)
        · refine j_iinc C 3 [1, 2, 3, 0] (L' := [(0, _), (1, _), (2, _), (3, _)]) dX1_shady_49 rfl (by decide) rfl ?_
          refine j_goto C (tgt := 9) dX1_shady_52 (by decide) ?_
          have hp : ¬ shaP (σ 0) (LM F1 F2) lv c := fun g => absurd g.2.1 (by omega)
          exact ih (c + 1) _ _ (by omega) (by rw [cnt_f hp]; omega) (by omega) (by omega) (by omega)
        · refine j_aload_n C 0 dX1_shady_25 rfl rfl ?_
          refine m_get C X 0 (by decide) q179 rfl dX1_shady_26 ?_
          refine j_iload_n C 3 dX1_shady_29 rfl rfl ?_
          refine j_bipush C dX1_shady_30 (by decide) ?_
          refine j_isub C dX1_shady_32 ?_
          refine m_zld C X 0 216 (c - 36) rfl rfl (by decide) (by omega) (by omega) dX1_shady_33 (fun hb33 => ?_)
          refine j_if_eq C (tgt := 49) dX1_shady_34 (by decide) (by omega) (fun hc34 => ?_) (fun hc34 => ?_)
          · refine j_iinc C 3 [1, 2, 3, 0] (L' := [(0, _), (1, _), (2, _), (3, _)]) dX1_shady_49 rfl (by decide) rfl ?_
            refine j_goto C (tgt := 9) dX1_shady_52 (by decide) ?_
            have hp : ¬ shaP (σ 0) (LM F1 F2) lv c := fun g => absurd g.2.2.1 (by omega)
            exact ih (c + 1) _ _ (by omega) (by rw [cnt_f hp]; omega) (by omega) (by omega) (by omega)
          · refine j_aload_n C 0 dX1_shady_37 rfl rfl ?_
            refine j_iload_n C 3 dX1_shady_38 rfl rfl ?_
            refine m_calli C X (m_Mlight _ O τ c _ (by omega) (by omega)) 1 rfl (lw_V q258 q260 qs16 q20 q261) (by decide +kernel) (by decide) dX1_shady_39 rfl (Nat.le_of_ble_eq_true rfl) (fun r σ1 hl => ?_)
            obtain ⟨rfl, hσ⟩ := hl
            rw [hσ, sho_lm hs (show c < 216 by omega)]
            have hlg := lm_le hM (show c < 216 by omega)
            refine j_iload_n C 1 dX1_shady_42 rfl rfl ?_
            refine j_icmp_gt C (tgt := 49) dX1_shady_43 (by decide) (by omega) (by omega) (fun hc43 => ?_) (fun hc43 => ?_)
            · refine j_iinc C 3 [1, 2, 3, 0] (L' := [(0, _), (1, _), (2, _), (3, _)]) dX1_shady_49 rfl (by decide) rfl ?_
              refine j_goto C (tgt := 9) dX1_shady_52 (by decide) ?_
              have hp : ¬ shaP (σ 0) (LM F1 F2) lv c := fun g => absurd g.2.2.2 (by omega)
              exact ih (c + 1) _ _ (by omega) (by rw [cnt_f hp]; omega) (by omega) (by omega) (by omega)
            · refine j_iinc C 2 [1, 2, 0, 3] (L' := [(0, _), (1, _), (2, _), (3, _)]) dX1_shady_46 rfl (by decide) rfl ?_
              refine j_iinc C 3 [1, 2, 3, 0] (L' := [(0, _), (1, _), (2, _), (3, _)]) dX1_shady_49 rfl (by decide) rfl ?_
              refine j_goto C (tgt := 9) dX1_shady_52 (by decide) ?_
              have hp : shaP (σ 0) (LM F1 F2) lv c := ⟨h36, by omega, by omega, by omega⟩
              exact ih (c + 1) _ _ (by omega) (by rw [cnt_t hp]; omega) (by omega) (by omega) (by omega)
  have e36 := cnt_const (P := shaP (σ 0) (LM F1 F2) lv) (a := 0) (b := 36) (by omega) (fun k a b g => absurd g.1 (by omega))
  refine j_aload_n C 0 dX1_shady_0 rfl rfl ?_
  refine m_callv C X (m_Mshine _ O σ se F1 F2 hM) 0 rfl (lw_V q234 q236 qs12 q20 q237) (by decide +kernel) (by decide) dX1_shady_1 rfl (Nat.le_of_ble_eq_true rfl) (fun τ hs => ?_)
  refine j_iconst C dX1_shady_4 ?_
  refine j_istore_n C [1, 2, 0] (L' := [(0, _), (1, _), (2, _)]) dX1_shady_5 rfl (by decide) rfl ?_
  refine j_bipush C dX1_shady_6 (by decide) ?_
  refine j_istore_n C [1, 2, 3, 0] (L' := [(0, _), (1, _), (2, _), (3, _)]) dX1_shady_8 rfl (by decide) rfl ?_
  exact K9 τ hs 217 36 _ _ (by omega) (by rw [e36]; rfl) (by omega) (by omega) (by omega)
theorem m_Mshady (l : Launch) (O : XO) (σ : St) (lv : Int) (hlv : -2147483648 ≤ lv ∧ lv < 2147483648) (se F1 F2 : Nat → Nat) (hM : MG σ se F1 F2) : MMi l O yX1_shady cX1_shady 4 .int 3 68 [.int (iI lv)] σ (fun r σ' => r = iI ((cnt (shaP (σ 0) (LM F1 F2) lv) 216 : Nat) : Int) ∧ MK σ σ') := by
  refine MMi.of (by decide) rfl (Nat.le_of_ble_eq_true rfl) ?_
  intro κ A H0 hκ C X Rt hb
  exact w_Mshady (O := (oD O, A, H0, O.2.2.2)) lv hlv se F1 F2 hM C X Rt hb
set_option maxHeartbeats 4000000 in
theorem w_Mopen {κ : Kx} {O : XO} {σ : St} (se : Nat → Nat) (hS : SEr (σ 0) se) (C : CB κ cX1_open 3 RX1 3 68) (X : MC κ O) (Rt : MRI κ O .int (fun r σ' => r = iI ((cnt (opnP se) 216 : Nat) : Int) ∧ σ' = σ)) (hb : bnd σ) : J κ 3 (mW O σ) 0 [(0, .ref (oh O))] [] := by
  have K4 : ∀ (n c : Nat) (z1 z2 : Int), z2 = (c : Int) → z1 = ((cnt (opnP se) c : Nat) : Int) → 216 < c + n → c ≤ 216 → J κ 3 (mW O σ) 4 [(0, .ref (oh O)), (1, .int (iI z1)), (2, .int (iI z2))] [] := by
    intro n
    induction n with
    | zero => intros; omega
    | succ n ih =>
      intro c z1 z2 hz2 hz1 hn hc
      refine j_iload_n C 2 dX1_open_4 rfl rfl ?_
      refine j_sipush C dX1_open_5 (by decide) ?_
      refine j_icmp_ge C (tgt := 28) dX1_open_8 (by decide) (by omega) (by omega) (fun hc8 => ?_) (fun hc8 => ?_)
      · refine j_iload_n C 1 dX1_open_28 rfl rfl ?_
        exact m_iret C X Rt (rfl) (⟨by rw [hz1, show c = 216 by omega], rfl⟩) dX1_open_29
      · refine j_aload_n C 0 dX1_open_11 rfl rfl ?_
        refine j_iload_n C 2 dX1_open_12 rfl rfl ?_
        refine m_calli C X (m_Msees _ O σ c _ se (by omega) (by omega) hS) 1 rfl (lw_V q238 q240 qs13 q20 q241) (by decide +kernel) (by decide) dX1_open_13 rfl (Nat.le_of_ble_eq_true rfl) (fun r σ1 hp => ?_)
        obtain ⟨rfl, hσ⟩ := hp
        rw [hσ]
        have hs1 := (hS c (by omega)).1
        refine j_if_eq C (tgt := 22) dX1_open_16 (by decide) (by omega) (fun hc16 => ?_) (fun hc16 => ?_)
        · refine j_iinc C 2 [1, 2, 0] (L' := [(0, _), (1, _), (2, _)]) dX1_open_22 rfl (by decide) rfl ?_
          refine j_goto C (tgt := 4) dX1_open_25 (by decide) ?_
          have hp : ¬ opnP se c := fun g => g (by omega)
          exact ih (c + 1) _ _ (by omega) (by rw [cnt_f hp]; omega) (by omega) (by omega)
        · refine j_iinc C 1 [1, 0, 2] (L' := [(0, _), (1, _), (2, _)]) dX1_open_19 rfl (by decide) rfl ?_
          refine j_iinc C 2 [1, 2, 0] (L' := [(0, _), (1, _), (2, _)]) dX1_open_22 rfl (by decide) rfl ?_
          refine j_goto C (tgt := 4) dX1_open_25 (by decide) ?_
          have hp : opnP se c := fun g => by omega
          exact ih (c + 1) _ _ (by omega) (by rw [cnt_t hp]; omega) (by omega) (by omega)
  refine j_iconst C dX1_open_0 ?_
  refine j_istore_n C [1, 0] (L' := [(0, _), (1, _)]) dX1_open_1 rfl (by decide) rfl ?_
  refine j_iconst C dX1_open_2 ?_
  refine j_istore_n C [1, 2, 0] (L' := [(0, _), (1, _), (2, _)]) dX1_open_3 rfl (by decide) rfl ?_
  exact K4 217 0 _ _ (by omega) (by rfl) (by omega) (by omega)
theorem m_Mopen (l : Launch) (O : XO) (σ : St) (se : Nat → Nat) (hS : SEr (σ 0) se) : MMi l O yX1_open cX1_open 3 .int 3 68 [] σ (fun r σ' => r = iI ((cnt (opnP se) 216 : Nat) : Int) ∧ σ' = σ) := by
  refine MMi.of (by decide) rfl (Nat.le_of_ble_eq_true rfl) ?_
  intro κ A H0 hκ C X Rt hb
  exact w_Mopen (O := (oD O, A, H0, O.2.2.2)) se hS C X Rt hb
set_option maxHeartbeats 4000000 in
theorem w_Mserves {κ : Kx} {O : XO} {σ : St} (z : Int) (hz : -2147483648 ≤ z ∧ z < 2147483648) (se F1 F2 : Nat → Nat) (hM : MG σ se F1 F2) (G1 G2 : Nat → Nat) (hN : ∀ c : Nat, c < 216 → z = (c : Int) → MG (s2 σ 1 c 0) se G1 G2) (C : CB κ cX1_serves 5 RX1 3 68) (X : MC κ O) (Rt : MRI κ O .int (fun r σ' => vpost z (r = iI (-1) ∧ σ' = σ) (fun c => r = iI ((cnt (srvP (LM F1 F2) (LM G1 G2)) 216 : Nat) : Int) ∧ MK σ σ'))) (hb : bnd σ) : J κ 5 (mW O σ) 0 [(0, .ref (oh O)), (1, .int (iI z))] [] := by
  have K70 : ∀ (c : Nat), c < 216 → z = (c : Int) → MG (s2 σ 1 c 0) se G1 G2 → ∀ (τ : St), (∀ x, x < 216 → τ 2 x = G1 x ∧ τ 3 x = G2 x) → (∀ x, x < 216 → τ 5 x = LM F1 F2 x) → MK σ τ → ∀ (n k : Nat) (z3 z4 zs : Int), z4 = (k : Int) → z3 = ((cnt (srvP (LM F1 F2) (LM G1 G2)) k : Nat) : Int) → 216 < k + n → k ≤ 216 → J κ 5 (mW O τ) 70 [(0, .ref (oh O)), (1, .int (iI z)), (2, .int (iI zs)), (3, .int (iI z3)), (4, .int (iI z4))] [] := by
    intro c hc hzc hM2 τ h23 h5 hK n
    induction n with
    | zero => intros; omega
    | succ n ih =>
      intro k z3 z4 zs hz4 hz3 hn hk
      refine j_iload C 4 dX1_serves_70 rfl ?_
      refine j_sipush C dX1_serves_72 (by decide) ?_
      refine j_icmp_ge C (tgt := 103) dX1_serves_75 (by decide) (by omega) (by omega) (fun hc75 => ?_) (fun hc75 => ?_)
      · refine j_iload_n C 3 dX1_serves_103 rfl rfl ?_
        exact m_iret C X Rt (rfl) (Or.inr ⟨c, hc, hzc, by rw [hz3, show k = 216 by omega], hK⟩) dX1_serves_104
      · refine j_aload_n C 0 dX1_serves_78 rfl rfl ?_
        refine j_iload C 4 dX1_serves_79 rfl ?_
        refine m_calli C X (m_Mlight _ O τ k _ (by omega) (by omega)) 1 rfl (lw_V q258 q260 qs16 q20 q261) (by decide +kernel) (by decide) dX1_serves_81 rfl (Nat.le_of_ble_eq_true rfl) (fun r σ1 hl => ?_)
        obtain ⟨rfl, hσ⟩ := hl
        have eL : mx (τ 2 k) (τ 3 k) = LM G1 G2 k := by unfold LM; rw [(h23 k (by omega)).1, (h23 k (by omega)).2]
        rw [hσ, eL]
        have hlg := lm_le hM (show k < 216 by omega)
        have hlg2 := lm_le hM2 (show k < 216 by omega)
        have e5k := h5 k (by omega)
        refine j_aload_n C 0 dX1_serves_84 rfl rfl ?_
        refine m_get C X 5 (by decide) q184 rfl dX1_serves_85 ?_
        refine j_iload C 4 dX1_serves_88 rfl ?_
        refine m_ild C X 5 216 (k) rfl rfl (by decide) (by omega) (by omega) dX1_serves_90 (fun hb90 => ?_)
        refine j_icmp_ge C (tgt := 97) dX1_serves_91 (by decide) (by omega) (by omega) (fun hc91 => ?_) (fun hc91 => ?_)
        · refine j_iinc C 4 [1, 2, 3, 4, 0] (L' := [(0, _), (1, _), (2, _), (3, _), (4, _)]) dX1_serves_97 rfl (by decide) rfl ?_
          refine j_goto C (tgt := 70) dX1_serves_100 (by decide) ?_
          have hq : ¬ srvP (LM F1 F2) (LM G1 G2) k := fun g => by unfold srvP at g; omega
          exact ih (k + 1) _ _ _ (by omega) (by rw [cnt_f hq]; omega) (by omega) (by omega)
        · refine j_iinc C 3 [1, 2, 3, 0, 4] (L' := [(0, _), (1, _), (2, _), (3, _), (4, _)]) dX1_serves_94 rfl (by decide) rfl ?_
          refine j_iinc C 4 [1, 2, 3, 4, 0] (L' := [(0, _), (1, _), (2, _), (3, _), (4, _)]) dX1_serves_97 rfl (by decide) rfl ?_
          refine j_goto C (tgt := 70) dX1_serves_100 (by decide) ?_
          have hq : srvP (LM F1 F2) (LM G1 G2) k := by unfold srvP; omega
          exact ih (k + 1) _ _ _ (by omega) (by rw [cnt_t hq]; omega) (by omega) (by omega)
  have K16 : ∀ (c : Nat), c < 216 → z = (c : Int) → MG (s2 σ 1 c 0) se G1 G2 → ∀ (τ : St), SHO σ τ F1 F2 → ∀ (n k : Nat) (τ2 : St) (z2 : Int), z2 = (k : Int) → 216 < k + n → k ≤ 216 → (∀ j, j ≠ 5 → τ2 j = τ j) → (∀ x, x < k → τ2 5 x = LM F1 F2 x) → J κ 5 (mW O τ2) 16 [(0, .ref (oh O)), (1, .int (iI z)), (2, .int (iI z2))] [] := by
    intro c hc hzc hM2 τ hs n
    induction n with
    | zero => intros; omega
    | succ n ih =>
      intro k τ2 z2 hz2 hn hk hf h5
      have e1 : τ2 1 = σ 1 := by rw [hf 1 (by decide), (sho_mk hs).2]
      have e0 : τ2 0 = σ 0 := by rw [hf 0 (by decide), (sho_mk hs).1]
      have e1c : τ2 1 c = σ 1 c := by rw [e1]
      have h112 := (hM.1 c hc).2
      have hM3 : MG (s2 τ2 1 c 0) se G1 G2 := mg_congr (by rw [s2_ne (by decide), s2_ne (by decide), e0]) (by funext x; rw [s2_eq, s2_eq, e1]) hM2
      refine j_iload_n C 2 dX1_serves_16 rfl rfl ?_
      refine j_sipush C dX1_serves_17 (by decide) ?_
      refine j_icmp_ge C (tgt := 40) dX1_serves_20 (by decide) (by omega) (by omega) (fun hc20 => ?_) (fun hc20 => ?_)
      · refine j_aload_n C 0 dX1_serves_40 rfl rfl ?_
        refine m_get C X 1 (by decide) q180 rfl dX1_serves_41 ?_
        refine j_iload_n C 1 dX1_serves_44 rfl rfl ?_
        refine m_ild C X 1 216 (c) rfl rfl (by decide) (by omega) (by omega) dX1_serves_45 (fun hb45 => ?_)
        refine j_istore_n C [1, 2, 0] (L' := [(0, _), (1, _), (2, _)]) dX1_serves_46 rfl (by decide) rfl ?_
        refine j_aload_n C 0 dX1_serves_47 rfl rfl ?_
        refine m_get C X 1 (by decide) q180 rfl dX1_serves_48 ?_
        refine j_iload_n C 1 dX1_serves_51 rfl rfl ?_
        refine j_iconst C dX1_serves_52 ?_
        refine m_ist C X 1 216 (c) (0) rfl rfl mset_1 (by decide) (by omega) (by omega) (by omega) (by omega) dX1_serves_53 ?_
        refine j_aload_n C 0 dX1_serves_54 rfl rfl ?_
        refine m_callv C X (m_Mshine _ O (s2 τ2 1 c 0) se G1 G2 hM3) 0 rfl (lw_V q234 q236 qs12 q20 q237) (by decide +kernel) (by decide) dX1_serves_55 rfl (Nat.le_of_ble_eq_true rfl) (fun τ4 hs4 => ?_)
        refine j_aload_n C 0 dX1_serves_58 rfl rfl ?_
        refine m_get C X 1 (by decide) q180 rfl dX1_serves_59 ?_
        refine j_iload_n C 1 dX1_serves_62 rfl rfl ?_
        refine j_iload_n C 2 dX1_serves_63 rfl rfl ?_
        refine m_ist C X 1 216 (c) (σ 1 c) rfl rfl mset_1 (by decide) (by omega) (by omega) (by omega) (by omega) dX1_serves_64 ?_
        refine j_iconst C dX1_serves_65 ?_
        refine j_istore_n C [1, 2, 3, 0] (L' := [(0, _), (1, _), (2, _), (3, _)]) dX1_serves_66 rfl (by decide) rfl ?_
        refine j_iconst C dX1_serves_67 ?_
        refine j_istore C [1, 2, 3, 4, 0] (L' := [(0, _), (1, _), (2, _), (3, _), (4, _)]) dX1_serves_68 (by decide) rfl ?_
        exact K70 c hc hzc hM2 _ (fun x hx => by rw [s2_ne (k' := 2) (by decide), s2_ne (k' := 3) (by decide)]; exact hs4.2 x hx) (fun x hx => by rw [s2_ne (by decide), hs4.1 5 (by decide) (by decide), s2_ne (by decide)]; exact h5 x (by omega)) ⟨by rw [s2_ne (by decide), (sho_mk hs4).1, s2_ne (by decide), e0], by funext x; rw [s2_eq, (sho_mk hs4).2, s2_eq, e1]; (repeat' split) <;> first | rfl | (rename_i h; rw [h])⟩ 217 0 _ _ _ (by omega) (by rfl) (by omega) (by omega)
      · refine j_aload_n C 0 dX1_serves_23 rfl rfl ?_
        refine m_get C X 5 (by decide) q184 rfl dX1_serves_24 ?_
        refine j_iload_n C 2 dX1_serves_27 rfl rfl ?_
        refine j_aload_n C 0 dX1_serves_28 rfl rfl ?_
        refine j_iload_n C 2 dX1_serves_29 rfl rfl ?_
        refine m_calli C X (m_Mlight _ O τ2 k _ (by omega) (by omega)) 1 rfl (lw_V q258 q260 qs16 q20 q261) (by decide +kernel) (by decide) dX1_serves_30 rfl (Nat.le_of_ble_eq_true rfl) (fun r σ1 hl => ?_)
        obtain ⟨rfl, hσ⟩ := hl
        have eL : mx (τ2 2 k) (τ2 3 k) = LM F1 F2 k := by rw [hf 2 (by decide), hf 3 (by decide)]; exact sho_lm hs (by omega)
        rw [hσ, eL]
        have hlg := lm_le hM (show k < 216 by omega)
        refine m_ist C X 5 216 (k) (LM F1 F2 k) rfl rfl mset_5 (by decide) (by omega) (by omega) (by omega) (by omega) dX1_serves_33 ?_
        refine j_iinc C 2 [1, 2, 0] (L' := [(0, _), (1, _), (2, _)]) dX1_serves_34 rfl (by decide) rfl ?_
        refine j_goto C (tgt := 16) dX1_serves_37 (by decide) ?_
        exact ih (k + 1) _ _ (by omega) (by omega) (by omega) (fun j hj => by rw [s2_ne hj]; exact hf j hj) (fun x hx => by
          rw [s2_eq]
          split
          · rename_i h; rw [h]
          · exact h5 x (by omega))
  refine j_aload_n C 0 dX1_serves_0 rfl rfl ?_
  refine j_iload_n C 1 dX1_serves_1 rfl rfl ?_
  refine m_calli C X (m_Mbad _ O σ z hz) 1 rfl (lw_V q202 q204 qs9 q20 q205) (by decide +kernel) (by decide) dX1_serves_2 rfl (Nat.le_of_ble_eq_true rfl) (fun r σ1 hp => ?_)
  obtain ⟨hp, hσ⟩ := hp
  rw [hσ]
  rcases hp with ⟨rfl, hp⟩ | ⟨rfl, hp⟩
  · refine j_if_eq_f C dX1_serves_5 (by omega) (tgt := 10) (by decide) (by decide) ?_
    refine j_iconst C dX1_serves_8 ?_
    exact m_iret C X Rt (rfl) (Or.inl ⟨hp, rfl, rfl⟩) dX1_serves_9
  · obtain ⟨c, hzc⟩ : ∃ c : Nat, z = (c : Int) := ⟨z.toNat, by omega⟩
    have hc : c < 216 := by omega
    refine j_if_eq_t C (tgt := 10) dX1_serves_5 (by decide) (by omega) (by decide) ?_
    refine j_aload_n C 0 dX1_serves_10 rfl rfl ?_
    refine m_callv C X (m_Mshine _ O σ se F1 F2 hM) 0 rfl (lw_V q234 q236 qs12 q20 q237) (by decide +kernel) (by decide) dX1_serves_11 rfl (Nat.le_of_ble_eq_true rfl) (fun τ hs => ?_)
    refine j_iconst C dX1_serves_14 ?_
    refine j_istore_n C [1, 2, 0] (L' := [(0, _), (1, _), (2, _)]) dX1_serves_15 rfl (by decide) rfl ?_
    exact K16 c hc hzc (hN c hc hzc) τ hs 217 0 τ _ (by omega) (by omega) (by omega) (fun _ _ => rfl) (fun x hx => absurd hx (Nat.not_lt_zero _))
theorem m_Mserves (l : Launch) (O : XO) (σ : St) (z : Int) (hz : -2147483648 ≤ z ∧ z < 2147483648) (se F1 F2 : Nat → Nat) (hM : MG σ se F1 F2) (G1 G2 : Nat → Nat) (hN : ∀ c : Nat, c < 216 → z = (c : Int) → MG (s2 σ 1 c 0) se G1 G2) : MMi l O yX1_serves cX1_serves 5 .int 3 68 [.int (iI z)] σ (fun r σ' => vpost z (r = iI (-1) ∧ σ' = σ) (fun c => r = iI ((cnt (srvP (LM F1 F2) (LM G1 G2)) 216 : Nat) : Int) ∧ MK σ σ')) := by
  refine MMi.of (by decide) rfl (Nat.le_of_ble_eq_true rfl) ?_
  intro κ A H0 hκ C X Rt hb
  exact w_Mserves (O := (oD O, A, H0, O.2.2.2)) z hz se F1 F2 hM G1 G2 hN C X Rt hb
set_option maxHeartbeats 4000000 in
theorem w_Mlevel {κ : Kx} {O : XO} {σ : St} (h0 : ∀ c, c < 216 → σ 0 c = 0 → σ 4 c < 216 ∧ σ 0 (σ 4 c) = 0 ∧ conn (σ 0) (σ 4 c) c) (C : CB κ cX1_level 5 RX1 1 22) (X : MC κ O) (Rt : MRI κ O .boolean (fun r σ' => ∃ more : Nat, r = iI (more : Int) ∧ LB σ σ' 1296 more)) (hb : bnd σ) : J κ 5 (mW O σ) 0 [(0, .ref (oh O))] [] := by
  have K4 : ∀ (n k : Nat) (τ1 : St) (more : Nat) (z1 z2 : Int), z2 = (k : Int) → z1 = (more : Int) → 1296 < k + n → k ≤ 1296 → LB σ τ1 k more → J κ 5 (mW O τ1) 4 [(0, .ref (oh O)), (1, .int (iI z1)), (2, .int (iI z2))] [] := by
    intro n
    induction n with
    | zero => intros; omega
    | succ n ih =>
      intro k τ1 more z1 z2 hz2 hz1 hn hk hF
      refine j_iload_n C 2 dX1_level_4 rfl rfl ?_
      refine j_sipush C dX1_level_5 (by decide) ?_
      refine j_icmp_ge C (tgt := 91) dX1_level_8 (by decide) (by omega) (by omega) (fun hc8 => ?_) (fun hc8 => ?_)
      · refine j_iload_n C 1 dX1_level_91 rfl rfl ?_
        exact m_iret C X Rt (nbz hz1 hF.2.2.2.2.1) (⟨more, by rw [hz1], by rw [show k = 1296 by omega] at hF; exact hF⟩) dX1_level_92
      · refine j_iload_n C 2 dX1_level_11 rfl rfl ?_
        refine j_bipush C dX1_level_12 (by decide) ?_
        refine j_idiv C dX1_level_14 (by omega) (by omega) ?_
        refine j_istore_n C [1, 2, 3, 0] (L' := [(0, _), (1, _), (2, _), (3, _)]) dX1_level_15 rfl (by decide) rfl ?_
        refine j_aload_n C 0 dX1_level_16 rfl rfl ?_
        refine j_iload_n C 3 dX1_level_17 rfl rfl ?_
        refine j_iload_n C 2 dX1_level_18 rfl rfl ?_
        refine j_bipush C dX1_level_19 (by decide) ?_
        refine j_irem C dX1_level_21 (by omega) (by omega) ?_
        refine m_calli C X (m_Mbeside _ O τ1 (k / 6) (k % 6) _ _ (by omega) (by omega) (by omega) (by omega)) 2 rfl (lw_V q246 q248 qs15 q20 q249) (by decide +kernel) (by decide) dX1_level_22 rfl (Nat.le_of_ble_eq_true rfl) (fun r σ1 hp => ?_)
        obtain ⟨rfl, hσ⟩ := hp
        rw [hσ]
        rcases bes_rg (show k / 6 < 216 by omega) (show k % 6 < 6 by omega) with e | ⟨d, hd, e, ha⟩
        · rw [e]
          refine j_istore C [1, 2, 3, 4, 0] (L' := [(0, _), (1, _), (2, _), (3, _), (4, _)]) dX1_level_25 (by decide) rfl ?_
          refine j_iload C 4 dX1_level_27 rfl ?_
          refine j_if_lt_t C (tgt := 85) dX1_level_29 (by decide) (by omega) (by omega) ?_
          refine j_iinc C 2 [1, 2, 0, 3, 4] (L' := [(0, _), (1, _), (2, _), (3, _), (4, _)]) dX1_level_85 rfl (by decide) rfl ?_
          refine j_goto C (tgt := 4) dX1_level_88 (by decide) ?_
          refine j_sub [0, 1, 2] (L' := [(0, _), (1, _), (2, _)]) rfl ?_
          exact ih (k + 1) τ1 more _ _ (by omega) hz1 (by omega) (by omega) (lb_skip hF (fun q hq e2 hw hw2 => absurd e2 (by omega)))
        · rw [e]
          have e0 : τ1 0 (k / 6) = σ 0 (k / 6) := by rw [hF.1 0 (by decide)]
          have e0d : τ1 0 d = σ 0 d := by rw [hF.1 0 (by decide)]
          refine j_istore C [1, 2, 3, 4, 0] (L' := [(0, _), (1, _), (2, _), (3, _), (4, _)]) dX1_level_25 (by decide) rfl ?_
          refine j_iload C 4 dX1_level_27 rfl ?_
          refine j_if_lt_f C dX1_level_29 (by omega) (tgt := 85) (by decide) (by omega) ?_
          refine j_aload_n C 0 dX1_level_32 rfl rfl ?_
          refine m_get C X 0 (by decide) q179 rfl dX1_level_33 ?_
          refine j_iload_n C 3 dX1_level_36 rfl rfl ?_
          refine m_zld C X 0 216 (k / 6) rfl rfl (by decide) (by omega) (by omega) dX1_level_37 (fun hb37 => ?_)
          refine j_if_ne C (tgt := 85) dX1_level_38 (by decide) (by omega) (fun hc38 => ?_) (fun hc38 => ?_)
          · refine j_iinc C 2 [1, 2, 0, 3, 4] (L' := [(0, _), (1, _), (2, _), (3, _), (4, _)]) dX1_level_85 rfl (by decide) rfl ?_
            refine j_goto C (tgt := 4) dX1_level_88 (by decide) ?_
            refine j_sub [0, 1, 2] (L' := [(0, _), (1, _), (2, _)]) rfl ?_
            exact ih (k + 1) τ1 more _ _ (by omega) hz1 (by omega) (by omega) (lb_skip hF (fun q hq e2 hw hw2 => absurd hw (by omega)))
          · refine j_aload_n C 0 dX1_level_41 rfl rfl ?_
            refine m_get C X 0 (by decide) q179 rfl dX1_level_42 ?_
            refine j_iload C 4 dX1_level_45 rfl ?_
            refine m_zld C X 0 216 (d) rfl rfl (by decide) (by omega) (by omega) dX1_level_47 (fun hb47 => ?_)
            refine j_if_ne C (tgt := 85) dX1_level_48 (by decide) (by omega) (fun hc48 => ?_) (fun hc48 => ?_)
            · refine j_iinc C 2 [1, 2, 0, 3, 4] (L' := [(0, _), (1, _), (2, _), (3, _), (4, _)]) dX1_level_85 rfl (by decide) rfl ?_
              refine j_goto C (tgt := 4) dX1_level_88 (by decide) ?_
              refine j_sub [0, 1, 2] (L' := [(0, _), (1, _), (2, _)]) rfl ?_
              exact ih (k + 1) τ1 more _ _ (by omega) hz1 (by omega) (by omega) (lb_skip hF (fun q hq e2 hw hw2 => by
                have eq : q = d := by omega
                subst eq
                omega))
            · refine j_aload_n C 0 dX1_level_51 rfl rfl ?_
              refine m_get C X 4 (by decide) q183 rfl dX1_level_52 ?_
              refine j_iload C 4 dX1_level_55 rfl ?_
              refine m_ild C X 4 216 (d) rfl rfl (by decide) (by omega) (by omega) dX1_level_57 (fun hb57 => ?_)
              refine j_aload_n C 0 dX1_level_58 rfl rfl ?_
              refine m_get C X 4 (by decide) q183 rfl dX1_level_59 ?_
              refine j_iload_n C 3 dX1_level_62 rfl rfl ?_
              refine m_ild C X 4 216 (k / 6) rfl rfl (by decide) (by omega) (by omega) dX1_level_63 (fun hb63 => ?_)
              refine j_icmp_lt C (tgt := 70) dX1_level_64 (by decide) (by omega) (by omega) (fun hc64 => ?_) (fun hc64 => ?_)
              · refine j_aload_n C 0 dX1_level_70 rfl rfl ?_
                refine m_get C X 4 (by decide) q183 rfl dX1_level_71 ?_
                refine j_iload_n C 3 dX1_level_74 rfl rfl ?_
                refine j_aload_n C 0 dX1_level_75 rfl rfl ?_
                refine m_get C X 4 (by decide) q183 rfl dX1_level_76 ?_
                refine j_iload C 4 dX1_level_79 rfl ?_
                refine m_ild C X 4 216 (d) rfl rfl (by decide) (by omega) (by omega) dX1_level_81 (fun hb81 => ?_)
                refine m_ist C X 4 216 (k / 6) (τ1 4 d) rfl rfl mset_4 (by decide) (by omega) (by omega) (by omega) (by omega) dX1_level_82 ?_
                refine j_iconst C dX1_level_83 ?_
                refine j_istore_n C [1, 0, 2, 3, 4] (L' := [(0, _), (1, _), (2, _), (3, _), (4, _)]) dX1_level_84 rfl (by decide) rfl ?_
                refine j_iinc C 2 [1, 2, 0, 3, 4] (L' := [(0, _), (1, _), (2, _), (3, _), (4, _)]) dX1_level_85 rfl (by decide) rfl ?_
                refine j_goto C (tgt := 4) dX1_level_88 (by decide) ?_
                refine j_sub [0, 1, 2] (L' := [(0, _), (1, _), (2, _)]) rfl ?_
                exact ih (k + 1) _ 1 _ _ (by omega) (by omega) (by omega) (by omega) (lb_set hF rfl (by omega) hd e ha (by omega) (by omega) (by omega))
              · refine j_goto C (tgt := 85) dX1_level_67 (by decide) ?_
                refine j_iinc C 2 [1, 2, 0, 3, 4] (L' := [(0, _), (1, _), (2, _), (3, _), (4, _)]) dX1_level_85 rfl (by decide) rfl ?_
                refine j_goto C (tgt := 4) dX1_level_88 (by decide) ?_
                refine j_sub [0, 1, 2] (L' := [(0, _), (1, _), (2, _)]) rfl ?_
                exact ih (k + 1) τ1 more _ _ (by omega) hz1 (by omega) (by omega) (lb_skip hF (fun q hq e2 hw hw2 => by
                  have eq : q = d := by omega
                  subst eq
                  omega))
  refine j_iconst C dX1_level_0 ?_
  refine j_istore_n C [1, 0] (L' := [(0, _), (1, _)]) dX1_level_1 rfl (by decide) rfl ?_
  refine j_iconst C dX1_level_2 ?_
  refine j_istore_n C [1, 2, 0] (L' := [(0, _), (1, _), (2, _)]) dX1_level_3 rfl (by decide) rfl ?_
  exact K4 1297 0 σ 0 _ _ (by omega) (by omega) (by omega) (by omega) (lb_0 h0)
theorem m_Mlevel (l : Launch) (O : XO) (σ : St) (h0 : ∀ c, c < 216 → σ 0 c = 0 → σ 4 c < 216 ∧ σ 0 (σ 4 c) = 0 ∧ conn (σ 0) (σ 4 c) c) : MMi l O yX1_level cX1_level 5 .boolean 1 22 [] σ (fun r σ' => ∃ more : Nat, r = iI (more : Int) ∧ LB σ σ' 1296 more) := by
  refine MMi.of (by decide) rfl (Nat.le_of_ble_eq_true rfl) ?_
  intro κ A H0 hκ C X Rt hb
  exact w_Mlevel (O := (oD O, A, H0, O.2.2.2)) h0 C X Rt hb
set_option maxHeartbeats 4000000 in
theorem w_Mrooms {κ : Kx} {O : XO} {σ : St}  (C : CB κ cX1_rooms 4 RX1 3 68) (X : MC κ O) (Rt : MRI κ O .int (fun r σ' => r = iI ((cnt (isMin (σ 0)) 216 : Nat) : Int) ∧ MK σ σ')) (hb : bnd σ) : J κ 4 (mW O σ) 0 [(0, .ref (oh O))] [] := by
  have K52 : ∀ (τ1 : St) (k more : Nat), LR σ τ1 k more → (216 ≤ k ∨ more = 0) → ∀ (n c : Nat) (z1 z2 z3 : Int), z3 = (c : Int) → z2 = ((cnt (isMin (σ 0)) c : Nat) : Int) → 216 < c + n → c ≤ 216 → J κ 4 (mW O τ1) 52 [(0, .ref (oh O)), (1, .int (iI z1)), (2, .int (iI z2)), (3, .int (iI z3))] [] := by
    intro τ1 k more hR he n
    induction n with
    | zero => intros; omega
    | succ n ih =>
      intro c z1 z2 z3 hz3 hz2 hn hc
      have e0 : τ1 0 c = σ 0 c := by rw [hR.1 0 (by decide)]
      have hm : c < 216 → ((σ 0 c = 0 ∧ τ1 4 c = c) ↔ isMin (σ 0) c) := fun h => lr_fin hR he h
      refine j_iload_n C 3 dX1_rooms_52 rfl rfl ?_
      refine j_sipush C dX1_rooms_53 (by decide) ?_
      refine j_icmp_ge C (tgt := 87) dX1_rooms_56 (by decide) (by omega) (by omega) (fun hc56 => ?_) (fun hc56 => ?_)
      · refine j_iload_n C 2 dX1_rooms_87 rfl rfl ?_
        exact m_iret C X Rt (rfl) (⟨by rw [hz2, show c = 216 by omega], hR.1 0 (by decide), hR.1 1 (by decide)⟩) dX1_rooms_88
      · refine j_aload_n C 0 dX1_rooms_59 rfl rfl ?_
        refine m_get C X 0 (by decide) q179 rfl dX1_rooms_60 ?_
        refine j_iload_n C 3 dX1_rooms_63 rfl rfl ?_
        refine m_zld C X 0 216 (c) rfl rfl (by decide) (by omega) (by omega) dX1_rooms_64 (fun hb64 => ?_)
        refine j_if_ne C (tgt := 81) dX1_rooms_65 (by decide) (by omega) (fun hc65 => ?_) (fun hc65 => ?_)
        · refine j_iinc C 3 [1, 2, 3, 0] (L' := [(0, _), (1, _), (2, _), (3, _)]) dX1_rooms_81 rfl (by decide) rfl ?_
          refine j_goto C (tgt := 52) dX1_rooms_84 (by decide) ?_
          have hq : ¬ isMin (σ 0) c := fun g => by have := ((hm (by omega)).mpr g).1; omega
          exact ih (c + 1) _ _ _ (by omega) (by rw [cnt_f hq]; omega) (by omega) (by omega)
        · refine j_aload_n C 0 dX1_rooms_68 rfl rfl ?_
          refine m_get C X 4 (by decide) q183 rfl dX1_rooms_69 ?_
          refine j_iload_n C 3 dX1_rooms_72 rfl rfl ?_
          refine m_ild C X 4 216 (c) rfl rfl (by decide) (by omega) (by omega) dX1_rooms_73 (fun hb73 => ?_)
          refine j_iload_n C 3 dX1_rooms_74 rfl rfl ?_
          refine j_icmp_ne C (tgt := 81) dX1_rooms_75 (by decide) (by omega) (by omega) (fun hc75 => ?_) (fun hc75 => ?_)
          · refine j_iinc C 3 [1, 2, 3, 0] (L' := [(0, _), (1, _), (2, _), (3, _)]) dX1_rooms_81 rfl (by decide) rfl ?_
            refine j_goto C (tgt := 52) dX1_rooms_84 (by decide) ?_
            have hq : ¬ isMin (σ 0) c := fun g => by have := ((hm (by omega)).mpr g).2; omega
            exact ih (c + 1) _ _ _ (by omega) (by rw [cnt_f hq]; omega) (by omega) (by omega)
          · refine j_iinc C 2 [1, 2, 0, 3] (L' := [(0, _), (1, _), (2, _), (3, _)]) dX1_rooms_78 rfl (by decide) rfl ?_
            refine j_iinc C 3 [1, 2, 3, 0] (L' := [(0, _), (1, _), (2, _), (3, _)]) dX1_rooms_81 rfl (by decide) rfl ?_
            refine j_goto C (tgt := 52) dX1_rooms_84 (by decide) ?_
            have hq : isMin (σ 0) c := (hm (by omega)).mp ⟨by omega, by omega⟩
            exact ih (c + 1) _ _ _ (by omega) (by rw [cnt_t hq]; omega) (by omega) (by omega)
  have K26 : ∀ (n k : Nat) (τ1 : St) (more : Nat) (z1 z2 : Int), z2 = (k : Int) → z1 = (more : Int) → 216 < k + n → k ≤ 216 → LR σ τ1 k more → J κ 4 (mW O τ1) 26 [(0, .ref (oh O)), (1, .int (iI z1)), (2, .int (iI z2))] [] := by
    intro n
    induction n with
    | zero => intros; omega
    | succ n ih =>
      intro k τ1 more z1 z2 hz2 hz1 hn hk hR
      have e0 : τ1 0 = σ 0 := hR.1 0 (by decide)
      have hm1 := hR.2.2.2.1
      refine j_iload_n C 2 dX1_rooms_26 rfl rfl ?_
      refine j_sipush C dX1_rooms_27 (by decide) ?_
      refine j_icmp_ge C (tgt := 48) dX1_rooms_30 (by decide) (by omega) (by omega) (fun hc30 => ?_) (fun hc30 => ?_)
      · refine j_iconst C dX1_rooms_48 ?_
        refine j_istore_n C [1, 2, 0] (L' := [(0, _), (1, _), (2, _)]) dX1_rooms_49 rfl (by decide) rfl ?_
        refine j_iconst C dX1_rooms_50 ?_
        refine j_istore_n C [1, 2, 3, 0] (L' := [(0, _), (1, _), (2, _), (3, _)]) dX1_rooms_51 rfl (by decide) rfl ?_
        exact K52 τ1 k more hR (Or.inl (by omega)) 217 0 _ _ _ (by omega) (by rfl) (by omega) (by omega)
      · refine j_iload_n C 1 dX1_rooms_33 rfl rfl ?_
        refine j_if_eq C (tgt := 48) dX1_rooms_34 (by decide) (by omega) (fun hc34 => ?_) (fun hc34 => ?_)
        · refine j_iconst C dX1_rooms_48 ?_
          refine j_istore_n C [1, 2, 0] (L' := [(0, _), (1, _), (2, _)]) dX1_rooms_49 rfl (by decide) rfl ?_
          refine j_iconst C dX1_rooms_50 ?_
          refine j_istore_n C [1, 2, 3, 0] (L' := [(0, _), (1, _), (2, _), (3, _)]) dX1_rooms_51 rfl (by decide) rfl ?_
          exact K52 τ1 k more hR (Or.inr (by omega)) 217 0 _ _ _ (by omega) (by rfl) (by omega) (by omega)
        · refine j_aload_n C 0 dX1_rooms_37 rfl rfl ?_
          refine m_calli C X (m_Mlevel _ O τ1 (by rw [e0]; exact fun c hc ho => ⟨(hR.2.1 c hc ho).1, (hR.2.1 c hc ho).2.1, (hR.2.1 c hc ho).2.2.1⟩)) 0 rfl (lw_V q290 q292 qs17 q20 q293) (by decide +kernel) (by decide) dX1_rooms_38 rfl (Nat.le_of_ble_eq_true rfl) (fun r τ2 hp => ?_)
          obtain ⟨m2, rfl, hf⟩ := hp
          refine j_istore_n C [1, 0, 2] (L' := [(0, _), (1, _), (2, _)]) dX1_rooms_41 rfl (by decide) rfl ?_
          refine j_iinc C 2 [1, 2, 0] (L' := [(0, _), (1, _), (2, _)]) dX1_rooms_42 rfl (by decide) rfl ?_
          refine j_goto C (tgt := 26) dX1_rooms_45 (by decide) ?_
          exact ih (k + 1) τ2 m2 _ _ (by omega) rfl (by omega) (by omega) (lr_next hR hf)
  have K2 : ∀ (n c : Nat) (τ1 : St) (z1 : Int), z1 = (c : Int) → 216 < c + n → c ≤ 216 → (∀ j, j ≠ 4 → τ1 j = σ j) → (∀ x, x < c → τ1 4 x = x) → J κ 4 (mW O τ1) 2 [(0, .ref (oh O)), (1, .int (iI z1))] [] := by
    intro n
    induction n with
    | zero => intros; omega
    | succ n ih =>
      intro c τ1 z1 hz1 hn hc hf h4
      refine j_iload_n C 1 dX1_rooms_2 rfl rfl ?_
      refine j_sipush C dX1_rooms_3 (by decide) ?_
      refine j_icmp_ge C (tgt := 22) dX1_rooms_6 (by decide) (by omega) (by omega) (fun hc6 => ?_) (fun hc6 => ?_)
      · refine j_iconst C dX1_rooms_22 ?_
        refine j_istore_n C [1, 0] (L' := [(0, _), (1, _)]) dX1_rooms_23 rfl (by decide) rfl ?_
        refine j_iconst C dX1_rooms_24 ?_
        refine j_istore_n C [1, 2, 0] (L' := [(0, _), (1, _), (2, _)]) dX1_rooms_25 rfl (by decide) rfl ?_
        exact K26 217 0 τ1 1 _ _ (by omega) (by omega) (by omega) (by omega) (lr_0 hf (fun x hx => h4 x (by omega)))
      · refine j_aload_n C 0 dX1_rooms_9 rfl rfl ?_
        refine m_get C X 4 (by decide) q183 rfl dX1_rooms_10 ?_
        refine j_iload_n C 1 dX1_rooms_13 rfl rfl ?_
        refine j_iload_n C 1 dX1_rooms_14 rfl rfl ?_
        refine m_ist C X 4 216 (c) (c) rfl rfl mset_4 (by decide) (by omega) (by omega) (by omega) (by omega) dX1_rooms_15 ?_
        refine j_iinc C 1 [1, 0] (L' := [(0, _), (1, _)]) dX1_rooms_16 rfl (by decide) rfl ?_
        refine j_goto C (tgt := 2) dX1_rooms_19 (by decide) ?_
        exact ih (c + 1) _ _ (by omega) (by omega) (by omega) (fun j hj => by rw [s2_ne hj]; exact hf j hj) (fun x hx => by
          rw [s2_eq]
          split
          · rename_i h; rw [h]
          · exact h4 x (by omega))
  refine j_iconst C dX1_rooms_0 ?_
  refine j_istore_n C [1, 0] (L' := [(0, _), (1, _)]) dX1_rooms_1 rfl (by decide) rfl ?_
  exact K2 217 0 σ _ (by omega) (by omega) (by omega) (fun _ _ => rfl) (fun x hx => absurd hx (Nat.not_lt_zero _))
theorem m_Mrooms (l : Launch) (O : XO) (σ : St)  : MMi l O yX1_rooms cX1_rooms 4 .int 3 68 [] σ (fun r σ' => r = iI ((cnt (isMin (σ 0)) 216 : Nat) : Int) ∧ MK σ σ') := by
  refine MMi.of (by decide) rfl (Nat.le_of_ble_eq_true rfl) ?_
  intro κ A H0 hκ C X Rt hb
  exact w_Mrooms (O := (oD O, A, H0, O.2.2.2))  C X Rt hb
end
section
/-! the law's own theory: both sides answer alike -/
def LI (σ τ : St) : Prop := GI σ ∧ ∀ c, c < 216 → τ 0 c = σ 0 c ∧ τ 1 c = σ 1 c
theorem gl_congr {w w' src src' F : Nat → Nat} (hw : ∀ c, c < 216 → w' c = w c) (hs : ∀ c, c < 216 → src' c = src c) (h : GL w src F) : GL w' src' F := by
  refine ⟨h.1, fun c hc => by rw [hs c hc]; exact h.2.1 c hc, fun c d hc hd ha hz => h.2.2.1 c d hc hd ha (by rw [← hw c hc]; exact hz), fun c hc => ?_⟩
  rcases h.2.2.2 c hc with g | g | ⟨g, d, hd, ha, hl⟩
  · exact Or.inl g
  · exact Or.inr (Or.inl (by rw [hs c hc]; exact g))
  · exact Or.inr (Or.inr ⟨by rw [hw c hc]; exact g, d, hd, ha, hl⟩)
theorem ser_congr {w w' se : Nat → Nat} (hw : ∀ c, c < 216 → w' c = w c) (h : SEr w se) : SEr w' se := by
  intro c hc
  have g := h c hc
  rw [hw c hc]
  exact g
theorem li_mg {σ τ : St} (h : LI σ τ) : MG τ (σ 2) (σ 3) (fun c => σ 3 (216 + c)) := by
  refine ⟨fun c hc => ?_, ser_congr (fun c hc => (h.2 c hc).1) h.1.2.1, gl_congr (fun c hc => (h.2 c hc).1) (fun c hc => (h.2 c hc).2) (gi_lo h.1), gl_congr (fun c hc => (h.2 c hc).1) (fun _ _ => rfl) (gi_hi h.1)⟩
  have g := h.1.1 c hc
  rw [(h.2 c hc).1, (h.2 c hc).2]
  exact g
theorem li_w {σ τ : St} (h : LI σ τ) : ∀ c, c < 216 → τ 0 c ≤ 1 ∧ τ 1 c ≤ 12 := (li_mg h).1
theorem lm_lgt (σ : St) : LM (σ 3) (fun c => σ 3 (216 + c)) = lgt σ := by
  funext x
  rfl
theorem li_mk {σ τ τ' : St} (h : LI σ τ) (hk : MK τ τ') : LI σ τ' := by
  refine ⟨h.1, fun c hc => ?_⟩
  rw [hk.1, hk.2]
  exact h.2 c hc
theorem vpost2 {z : Int} {b1 b2 R : Prop} {g1 g2 : Nat → Prop} (h1 : vpost z b1 g1) (h2 : vpost z b2 g2) (hb : b1 → b2 → R) (hg : ∀ c : Nat, c < 216 → z = (c : Int) → g1 c → g2 c → R) : R := by
  rcases h1 with ⟨a, b⟩ | ⟨c, hc, e, g⟩
  · rcases h2 with ⟨a2, b2⟩ | ⟨c2, hc2, e2, k2⟩
    · exact hb b b2
    · exact (a ⟨by omega, by omega⟩).elim
  · rcases h2 with ⟨a2, b2⟩ | ⟨c2, hc2, e2, k2⟩
    · exact (a2 ⟨by omega, by omega⟩).elim
    · have eq : c2 = c := by omega
      subst eq
      exact hg c2 hc e g k2
theorem bpost2 {lo hi : Int} {b1 b2 g1 g2 R : Prop} (h1 : bpost lo hi b1 g1) (h2 : bpost lo hi b2 g2) (hb : b1 → b2 → R) (hg : g1 → g2 → R) : R := by
  rcases h1 with ⟨a, b⟩ | ⟨a, b⟩
  · rcases h2 with ⟨c, d⟩ | ⟨c, d⟩
    · exact hb b d
    · exact (a c).elim
  · rcases h2 with ⟨c, d⟩ | ⟨c, d⟩
    · exact (c a).elim
    · exact hg b d
theorem a_solid {z f : Int} {σ τ σ' τ' : St} {r1 r2 : Int32} (h : LI σ τ) (h1 : vpost z (r1 = iI (-1) ∧ σ' = σ) (fun c => r1 = iI ((σ 0 c : Nat) : Int) ∧ CHO σ σ' c (fl f))) (h2 : vpost z (r2 = iI (-1) ∧ τ' = τ) (fun c => r2 = iI ((τ 0 c : Nat) : Int) ∧ τ' = s2 τ 0 c (fl f))) : r1 = r2 ∧ LI σ' τ' := by
  refine vpost2 h1 h2 (fun a b => ⟨by rw [a.1, b.1], by rw [a.2, b.2]; exact h⟩) (fun c hc e a b => ⟨by rw [a.1, b.1, (h.2 c hc).1], a.2.1, fun x hx => ?_⟩)
  have e0 : τ' 0 x = if x = c then fl f else τ 0 x := by rw [b.2, s2_eq]
  have e1 : τ' 1 x = τ 1 x := by rw [b.2, s2_ne (by decide)]
  have f0 : σ' 0 x = if x = c then fl f else σ 0 x := by rw [a.2.2.1, s2_eq]
  have f1 : σ' 1 x = σ 1 x := by rw [a.2.2.2.1]
  rw [e0, e1, f0, f1, (h.2 x hx).1, (h.2 x hx).2]
  exact ⟨rfl, rfl⟩
theorem a_box (P : Nat → Prop) (v : Nat) {σ τ σ' τ' : St} (h : LI σ τ) (g1 : GI σ') (g2 : σ' 1 = σ 1) (g3 : ∀ x, x < 216 → (P x → σ' 0 x = v) ∧ (¬ P x → σ' 0 x = σ 0 x)) (k1 : ∀ j, j ≠ 0 → τ' j = τ j) (k2 : ∀ x, x < 216 → (P x → τ' 0 x = v) ∧ (¬ P x → τ' 0 x = τ 0 x)) : cnt (fun x => P x ∧ σ 0 x ≠ v) 216 = cnt (fun x => P x ∧ τ 0 x ≠ v) 216 ∧ LI σ' τ' := by
  refine ⟨cnt_congr (fun k hk => ?_), g1, fun x hx => ⟨?_, ?_⟩⟩
  · show (P k ∧ σ 0 k ≠ v) ↔ (P k ∧ τ 0 k ≠ v)
    rw [(h.2 k hk).1]
  · by_cases p : P x
    · rw [(g3 x hx).1 p, (k2 x hx).1 p]
    · rw [(g3 x hx).2 p, (k2 x hx).2 p]
      exact (h.2 x hx).1
  · rw [k1 1 (by decide), g2]
    exact (h.2 x hx).2
theorem a_fill {lo hi f : Int} {σ τ σ' τ' : St} {r1 r2 : Int32} (h : LI σ τ) (h1 : bpost lo hi (r1 = iI (-1) ∧ σ' = σ) (r1 = iI ((cnt (fun x => inP (x : Int) lo hi ∧ σ 0 x ≠ fl f) 216 : Nat) : Int) ∧ GI σ' ∧ σ' 1 = σ 1 ∧ ∀ x : Nat, x < 216 → (inP (x : Int) lo hi → σ' 0 x = fl f) ∧ (¬ inP (x : Int) lo hi → σ' 0 x = σ 0 x)))
    (h2 : bpost lo hi (r2 = iI (-1) ∧ τ' = τ) (r2 = iI ((cnt (fun x => inP (x : Int) lo hi ∧ τ 0 x ≠ fl f) 216 : Nat) : Int) ∧ (∀ j, j ≠ 0 → τ' j = τ j) ∧ ∀ x : Nat, x < 216 → (inP (x : Int) lo hi → τ' 0 x = fl f) ∧ (¬ inP (x : Int) lo hi → τ' 0 x = τ 0 x))) : r1 = r2 ∧ LI σ' τ' := by
  refine bpost2 h1 h2 (fun a b => ⟨by rw [a.1, b.1], by rw [a.2, b.2]; exact h⟩) (fun a b => ?_)
  have g := a_box (fun x => inP (x : Int) lo hi) (fl f) h a.2.1 a.2.2.1 a.2.2.2 b.2.1 b.2.2
  exact ⟨by rw [a.1, b.1, g.1], g.2⟩
theorem a_shell {lo hi : Int} {σ τ σ' τ' : St} {r1 r2 : Int32} (h : LI σ τ) (h1 : bpost lo hi (r1 = iI (-1) ∧ σ' = σ) (r1 = iI ((cnt (fun x => (inP (x : Int) lo hi ∧ onP (x : Int) lo hi) ∧ σ 0 x ≠ 1) 216 : Nat) : Int) ∧ GI σ' ∧ σ' 1 = σ 1 ∧ ∀ x : Nat, x < 216 → (inP (x : Int) lo hi ∧ onP (x : Int) lo hi → σ' 0 x = 1) ∧ (¬ (inP (x : Int) lo hi ∧ onP (x : Int) lo hi) → σ' 0 x = σ 0 x)))
    (h2 : bpost lo hi (r2 = iI (-1) ∧ τ' = τ) (r2 = iI ((cnt (fun x => (inP (x : Int) lo hi ∧ onP (x : Int) lo hi) ∧ τ 0 x ≠ 1) 216 : Nat) : Int) ∧ (∀ j, j ≠ 0 → τ' j = τ j) ∧ ∀ x : Nat, x < 216 → (inP (x : Int) lo hi ∧ onP (x : Int) lo hi → τ' 0 x = 1) ∧ (¬ (inP (x : Int) lo hi ∧ onP (x : Int) lo hi) → τ' 0 x = τ 0 x))) : r1 = r2 ∧ LI σ' τ' := by
  refine bpost2 h1 h2 (fun a b => ⟨by rw [a.1, b.1], by rw [a.2, b.2]; exact h⟩) (fun a b => ?_)
  have g := a_box (fun x => inP (x : Int) lo hi ∧ onP (x : Int) lo hi) 1 h a.2.1 a.2.2.1 a.2.2.2 b.2.1 b.2.2
  exact ⟨by rw [a.1, b.1, g.1], g.2⟩
theorem a_lamp {z f : Int} {σ τ σ' τ' : St} {r1 r2 : Int32} (h : LI σ τ) (h1 : vpost z (r1 = iI (-1) ∧ σ' = σ) (fun c => (¬ (0 ≤ f ∧ f ≤ 12) ∧ r1 = iI (-2) ∧ σ' = σ) ∨ ((0 ≤ f ∧ f ≤ 12) ∧ r1 = iI ((σ 1 c : Nat) : Int) ∧ LPO σ σ' c f.toNat)))
    (h2 : vpost z (r2 = iI (-1) ∧ τ' = τ) (fun c => (¬ (0 ≤ f ∧ f ≤ 12) ∧ r2 = iI (-2) ∧ τ' = τ) ∨ ((0 ≤ f ∧ f ≤ 12) ∧ r2 = iI ((τ 1 c : Nat) : Int) ∧ τ' = s2 τ 1 c f.toNat))) : r1 = r2 ∧ LI σ' τ' := by
  refine vpost2 h1 h2 (fun a b => ⟨by rw [a.1, b.1], by rw [a.2, b.2]; exact h⟩) (fun c hc e a b => ?_)
  rcases a with a | a
  · rcases b with b | b
    · exact ⟨by rw [a.2.1, b.2.1], by rw [a.2.2, b.2.2]; exact h⟩
    · exact (a.1 b.1).elim
  · rcases b with b | b
    · exact (b.1 a.1).elim
    · refine ⟨by rw [a.2.1, b.2.1, (h.2 c hc).2], a.2.2.1, fun x hx => ?_⟩
      have e0 : τ' 0 x = τ 0 x := by rw [b.2.2, s2_ne (by decide)]
      have e1 : τ' 1 x = if x = c then f.toNat else τ 1 x := by rw [b.2.2, s2_eq]
      have f0 : σ' 0 x = σ 0 x := by rw [a.2.2.2.1]
      have f1 : σ' 1 x = if x = c then f.toNat else σ 1 x := by rw [a.2.2.2.2.1, s2_eq]
      rw [e0, e1, f0, f1, (h.2 x hx).1, (h.2 x hx).2]
      exact ⟨rfl, rfl⟩
theorem a_isSolid {z : Int} {σ τ σ' τ' : St} {r1 r2 : Int32} (h : LI σ τ) (h1 : vpost z (r1 = iI (-1) ∧ σ' = σ) (fun c => r1 = iI ((σ 0 c : Nat) : Int) ∧ σ' = σ)) (h2 : vpost z (r2 = iI (-1) ∧ τ' = τ) (fun c => r2 = iI ((τ 0 c : Nat) : Int) ∧ τ' = τ)) : r1 = r2 ∧ LI σ' τ' := by
  refine vpost2 h1 h2 (fun a b => ⟨by rw [a.1, b.1], by rw [a.2, b.2]; exact h⟩) (fun c hc e a b => ⟨by rw [a.1, b.1, (h.2 c hc).1], by rw [a.2, b.2]; exact h⟩)
theorem a_lamplight {z : Int} {σ τ σ' τ' : St} {r1 r2 : Int32} (h : LI σ τ) (h1 : vpost z (r1 = iI (-1) ∧ σ' = σ) (fun c => r1 = iI ((σ 3 (c) : Nat) : Int) ∧ σ' = σ)) (h2 : vpost z (r2 = iI (-1) ∧ τ' = τ) (fun c => r2 = iI (((σ 3) c : Nat) : Int) ∧ MK τ τ')) : r1 = r2 ∧ LI σ' τ' := by
  refine vpost2 h1 h2 (fun a b => ⟨by rw [a.1, b.1], by rw [a.2, b.2]; exact h⟩) (fun c hc e a b => ⟨by rw [a.1, b.1], by rw [a.2]; exact li_mk h b.2⟩)
theorem a_skylight {z : Int} {σ τ σ' τ' : St} {r1 r2 : Int32} (h : LI σ τ) (h1 : vpost z (r1 = iI (-1) ∧ σ' = σ) (fun c => r1 = iI ((σ 3 (216 + c) : Nat) : Int) ∧ σ' = σ)) (h2 : vpost z (r2 = iI (-1) ∧ τ' = τ) (fun c => r2 = iI (((fun c => σ 3 (216 + c)) c : Nat) : Int) ∧ MK τ τ')) : r1 = r2 ∧ LI σ' τ' := by
  refine vpost2 h1 h2 (fun a b => ⟨by rw [a.1, b.1], by rw [a.2, b.2]; exact h⟩) (fun c hc e a b => ⟨by rw [a.1, b.1], by rw [a.2]; exact li_mk h b.2⟩)
theorem a_lit {lo hi lv : Int} {σ τ σ' τ' : St} {r1 r2 : Int32} (h : LI σ τ) (h1 : bpost lo hi (r1 = iI (-1) ∧ σ' = σ) (r1 = iI ((cnt (litP (lgt σ) lo hi lv) 216 : Nat) : Int) ∧ σ' = σ)) (h2 : bpost lo hi (r2 = iI (-1) ∧ τ' = τ) (r2 = iI ((cnt (litP (LM (σ 3) (fun c => σ 3 (216 + c))) lo hi lv) 216 : Nat) : Int) ∧ MK τ τ')) : r1 = r2 ∧ LI σ' τ' := by
  refine bpost2 h1 h2 (fun a b => ⟨by rw [a.1, b.1], by rw [a.2, b.2]; exact h⟩) (fun a b => ⟨by rw [a.1, b.1, lm_lgt], by rw [a.2]; exact li_mk h b.2⟩)
theorem a_dim {lv : Int} {σ τ σ' τ' : St} {r1 r2 : Int32} (h : LI σ τ) (h1 : (¬ (0 ≤ lv ∧ lv ≤ 12) ∧ r1 = iI (-1) ∧ σ' = σ) ∨ ((0 ≤ lv ∧ lv ≤ 12) ∧ r1 = iI ((cnt (dimP (σ 0) (lgt σ) lv) 216 : Nat) : Int) ∧ σ' = σ)) (h2 : (¬ (0 ≤ lv ∧ lv ≤ 12) ∧ r2 = iI (-1) ∧ τ' = τ) ∨ ((0 ≤ lv ∧ lv ≤ 12) ∧ r2 = iI ((cnt (dimP (τ 0) (LM (σ 3) (fun c => σ 3 (216 + c))) lv) 216 : Nat) : Int) ∧ MK τ τ')) : r1 = r2 ∧ LI σ' τ' := by
  rcases h1 with a | a
  · rcases h2 with b | b
    · exact ⟨by rw [a.2.1, b.2.1], by rw [a.2.2, b.2.2]; exact h⟩
    · exact (a.1 b.1).elim
  · rcases h2 with b | b
    · exact (b.1 a.1).elim
    · have e : cnt (dimP (σ 0) (lgt σ) lv) 216 = cnt (dimP (τ 0) (lgt σ) lv) 216 := cnt_congr (fun k hk => by
        unfold dimP
        rw [(h.2 k hk).1])
      exact ⟨by rw [a.2.1, b.2.1, lm_lgt, e], by rw [a.2.2]; exact li_mk h b.2.2⟩
theorem dk_congr {w w' L : Nat → Nat} {n : Nat} (h : ∀ c, c < n → w' c = w c) : dk w' L n = dk w L n := by
  induction n with
  | zero => rfl
  | succ n ih =>
    have e := ih (fun c hc => h c (by omega))
    have e2 := h n (by omega)
    by_cases hc : w n = 0 ∧ (dk w L n = -1 ∨ L n < L (dk w L n).toNat)
    · have hc' : w' n = 0 ∧ (dk w' L n = -1 ∨ L n < L (dk w' L n).toNat) := by
        rw [e, e2]
        exact hc
      rw [dk_t hc, dk_t hc']
    · have hc' : ¬ (w' n = 0 ∧ (dk w' L n = -1 ∨ L n < L (dk w' L n).toNat)) := by
        rw [e, e2]
        exact hc
      rw [dk_f hc, dk_f hc', e]
theorem a_darkest {σ τ σ' τ' : St} {r1 r2 : Int32} (h : LI σ τ) (h1 : r1 = iI (dk (σ 0) (lgt σ) 216) ∧ σ' = σ) (h2 : r2 = iI (dk (τ 0) (LM (σ 3) (fun c => σ 3 (216 + c))) 216) ∧ MK τ τ') : r1 = r2 ∧ LI σ' τ' := by
  have e := dk_congr (w := σ 0) (w' := τ 0) (L := lgt σ) (n := 216) (fun c hc => (h.2 c hc).1)
  exact ⟨by rw [h1.1, h2.1, lm_lgt, e], by rw [h1.2]; exact li_mk h h2.2⟩
/-! faces: the six ways in another order -/
noncomputable def cI (P : Nat → Prop) (k : Nat) : Nat := @ite Nat (P k) (Classical.propDecidable _) 1 0
theorem cnt_s (P : Nat → Prop) (n : Nat) : cnt P (n + 1) = cnt P n + cI P n := rfl
theorem cI_iff {P P' : Nat → Prop} {k k' : Nat} (h : P k ↔ P' k') : cI P k = cI P' k' := by
  unfold cI
  by_cases hp : P k
  · rw [if_pos hp, if_pos (h.mp hp)]
  · rw [if_neg hp, if_neg (fun q => hp (h.mpr q))]
theorem cnt_six (P : Nat → Prop) (n : Nat) : cnt P (6 * (n + 1)) = cnt P (6 * n) + (cI P (6 * n) + cI P (6 * n + 1) + cI P (6 * n + 2) + cI P (6 * n + 3) + cI P (6 * n + 4) + cI P (6 * n + 5)) := by
  rw [show 6 * (n + 1) = 6 * n + 6 by omega]
  have e1 : cnt P (6 * n + 6) = cnt P (6 * n + 5) + cI P (6 * n + 5) := cnt_s P (6 * n + 5)
  have e2 : cnt P (6 * n + 5) = cnt P (6 * n + 4) + cI P (6 * n + 4) := cnt_s P (6 * n + 4)
  have e3 : cnt P (6 * n + 4) = cnt P (6 * n + 3) + cI P (6 * n + 3) := cnt_s P (6 * n + 3)
  have e4 : cnt P (6 * n + 3) = cnt P (6 * n + 2) + cI P (6 * n + 2) := cnt_s P (6 * n + 2)
  have e5 : cnt P (6 * n + 2) = cnt P (6 * n + 1) + cI P (6 * n + 1) := cnt_s P (6 * n + 1)
  have e6 : cnt P (6 * n + 1) = cnt P (6 * n) + cI P (6 * n) := cnt_s P (6 * n)
  omega
theorem cnt_flip {P P' : Nat → Prop} {N : Nat} (h : ∀ c, c < N → ∀ w, w < 6 → (P' (6 * c + w) ↔ P (6 * c + flip1 w))) : ∀ n, n ≤ N → cnt P' (6 * n) = cnt P (6 * n) := by
  intro n
  induction n with
  | zero => intro _; rfl
  | succ n ih =>
    intro hn
    have e := ih (by omega)
    have h0 : cI P' (6 * n) = cI P (6 * n + 1) := cI_iff (h n (by omega) 0 (by omega))
    have h1 : cI P' (6 * n + 1) = cI P (6 * n) := cI_iff (h n (by omega) 1 (by omega))
    have h2 : cI P' (6 * n + 2) = cI P (6 * n + 3) := cI_iff (h n (by omega) 2 (by omega))
    have h3 : cI P' (6 * n + 3) = cI P (6 * n + 2) := cI_iff (h n (by omega) 3 (by omega))
    have h4 : cI P' (6 * n + 4) = cI P (6 * n + 5) := cI_iff (h n (by omega) 4 (by omega))
    have h5 : cI P' (6 * n + 5) = cI P (6 * n + 4) := cI_iff (h n (by omega) 5 (by omega))
    rw [cnt_six, cnt_six, e, h0, h1, h2, h3, h4, h5]
    omega
theorem fc_eq {w w' : Nat → Nat} (h : ∀ c, c < 216 → w' c = w c) : cnt (fcP bes w') 1296 = cnt (fcP nbr w) 1296 := by
  refine cnt_flip (N := 216) (fun c hc v hv => ?_) 216 (Nat.le_refl _)
  have f6 := flip1_lt hv
  unfold fcP
  rw [show (6 * c + v) / 6 = c by omega, show (6 * c + v) % 6 = v by omega, show (6 * c + flip1 v) / 6 = c by omega, show (6 * c + flip1 v) % 6 = flip1 v by omega, bes_all c hc v hv, h c hc]
  rcases nbr_rg hc f6 with e | ⟨d, hd, e, -⟩
  · rw [e]
    exact ⟨fun g => ⟨g.1, Or.inl rfl⟩, fun g => ⟨g.1, Or.inl rfl⟩⟩
  · rw [e, Int.toNat_natCast, h d hd]
theorem a_faces {σ τ σ' τ' : St} {r1 r2 : Int32} (h : LI σ τ) (h1 : r1 = iI ((cnt (fcP nbr (σ 0)) 1296 : Nat) : Int) ∧ σ' = σ) (h2 : r2 = iI ((cnt (fcP bes (τ 0)) 1296 : Nat) : Int) ∧ τ' = τ) : r1 = r2 ∧ LI σ' τ' := by
  have e := fc_eq (w := σ 0) (w' := τ 0) (fun c hc => (h.2 c hc).1)
  exact ⟨by rw [h1.1, h2.1, e], by rw [h1.2, h2.2]; exact h⟩
theorem a_shady {lv : Int} {σ τ σ' τ' : St} {r1 r2 : Int32} (h : LI σ τ) (h1 : r1 = iI ((cnt (shaP (σ 0) (lgt σ) lv) 216 : Nat) : Int) ∧ σ' = σ) (h2 : r2 = iI ((cnt (shaP (τ 0) (LM (σ 3) (fun c => σ 3 (216 + c))) lv) 216 : Nat) : Int) ∧ MK τ τ') : r1 = r2 ∧ LI σ' τ' := by
  have e : cnt (shaP (σ 0) (lgt σ) lv) 216 = cnt (shaP (τ 0) (lgt σ) lv) 216 := cnt_congr (fun k hk => by
    unfold shaP
    rw [(h.2 k hk).1, (h.2 (k - 36) (by omega)).1])
  exact ⟨by rw [h1.1, h2.1, lm_lgt, e], by rw [h1.2]; exact li_mk h h2.2⟩
theorem a_open {σ τ σ' τ' : St} {r1 r2 : Int32} (h : LI σ τ) (h1 : r1 = iI ((cnt (opnP (σ 2)) 216 : Nat) : Int) ∧ σ' = σ) (h2 : r2 = iI ((cnt (opnP (σ 2)) 216 : Nat) : Int) ∧ τ' = τ) : r1 = r2 ∧ LI σ' τ' := ⟨by rw [h1.1, h2.1], by rw [h1.2, h2.2]; exact h⟩
theorem a_serves {z : Int} {σ τ σ' : St} {r1 : Int32} (h : LI σ τ) (h1 : vpost z (r1 = iI (-1) ∧ σ' = σ) (fun c => ∃ σ2 : St, GL (σ 0) (s2 σ 1 c 0 1) (σ2 3) ∧ GL (σ 0) (fun x => 8 * σ 2 x) (fun x => σ2 3 (216 + x)) ∧ r1 = iI ((cnt (srvP (lgt σ) (lgt σ2)) 216 : Nat) : Int) ∧ GI σ' ∧ σ' 0 = σ 0 ∧ σ' 1 = σ 1)) :
    ∃ G1 G2 : Nat → Nat, (∀ c : Nat, c < 216 → z = (c : Int) → MG (s2 τ 1 c 0) (σ 2) G1 G2) ∧ ∀ (r2 : Int32) (τ' : St), vpost z (r2 = iI (-1) ∧ τ' = τ) (fun c => r2 = iI ((cnt (srvP (LM (σ 3) (fun c => σ 3 (216 + c))) (LM G1 G2)) 216 : Nat) : Int) ∧ MK τ τ') → r1 = r2 ∧ LI σ' τ' := by
  rcases id h1 with ⟨a, b⟩ | ⟨c, hc, e, σ2, g1, g2, g3, g4, g5, g6⟩
  · refine ⟨σ 3, σ 3, fun c hc e => (a ⟨by omega, by omega⟩).elim, fun r2 τ' h2 => ?_⟩
    refine vpost2 h1 h2 (fun p q => ⟨by rw [p.1, q.1], by rw [p.2, q.2]; exact h⟩) (fun c hc e p q => (a ⟨by omega, by omega⟩).elim)
  · refine ⟨σ2 3, fun x => σ2 3 (216 + x), fun c2 hc2 e2 => ?_, fun r2 τ' h2 => ?_⟩
    · have eq : c2 = c := by omega
      subst eq
      have t0 : s2 τ 1 c2 0 0 = τ 0 := s2_ne (by decide)
      have m1 := li_w h
      refine ⟨fun x hx => ?_, ?_, ?_, ?_⟩
      · rw [t0, s2_eq]
        refine ⟨(m1 x hx).1, ?_⟩
        have := (m1 x hx).2
        split <;> omega
      · rw [t0]
        exact ser_congr (fun c hc => (h.2 c hc).1) h.1.2.1
      · rw [t0]
        refine gl_congr (fun c hc => (h.2 c hc).1) (fun x hx => ?_) g1
        rw [s2_eq, s2_eq, (h.2 x hx).2]
      · rw [t0]
        exact gl_congr (fun c hc => (h.2 c hc).1) (fun _ _ => rfl) g2
    · rcases h2 with ⟨a2, b2⟩ | ⟨c2, hc2, e2, k1, k2⟩
      · exact (a2 ⟨by omega, by omega⟩).elim
      · refine ⟨by rw [g3, k1, lm_lgt, lm_lgt], g4, fun x hx => ?_⟩
        rw [k2.1, k2.2, g5, g6]
        exact h.2 x hx
theorem conn_congr {w w' : Nat → Nat} (h : ∀ c, c < 216 → w' c = w c) {c d : Nat} (hc : conn w c d) : conn w' c d := fun S h0 hs => hc S h0 (fun x y a hx hy ha hw => hs x y a hx hy ha (by rw [h y hy]; exact hw))
theorem min_congr {w w' : Nat → Nat} (h : ∀ c, c < 216 → w' c = w c) {c : Nat} (hc : c < 216) : isMin w' c ↔ isMin w c := by
  have h' : ∀ c, c < 216 → w c = w' c := fun c hc => (h c hc).symm
  unfold isMin
  rw [h c hc]
  refine ⟨fun g => ⟨g.1, fun r hr h0 hcn => g.2 r hr (by rw [h r (by omega)]; exact h0) (conn_congr h hcn)⟩, fun g => ⟨g.1, fun r hr h0 hcn => g.2 r hr (by rw [← h r (by omega)]; exact h0) (conn_congr h' hcn)⟩⟩
theorem a_rooms {σ τ σ' τ' : St} {r1 r2 : Int32} (h : LI σ τ) (h1 : r1 = iI ((cnt (isMin (σ 0)) 216 : Nat) : Int) ∧ ∀ k, k ≤ 4 → σ' k = σ k) (h2 : r2 = iI ((cnt (isMin (τ 0)) 216 : Nat) : Int) ∧ MK τ τ') : r1 = r2 ∧ LI σ' τ' := by
  have e : cnt (isMin (τ 0)) 216 = cnt (isMin (σ 0)) 216 := cnt_congr (fun k hk => min_congr (fun c hc => (h.2 c hc).1) hk)
  refine ⟨by rw [h1.1, h2.1, e], gi_congr h1.2 h.1, fun x hx => ?_⟩
  rw [h2.2.1, h2.2.2, h1.2 0 (by omega), h1.2 1 (by omega)]
  exact h.2 x hx
/-! the start -/
def σz : St := fun _ _ => 0
theorem bnd_z : bnd σz := fun _ _ => Nat.zero_le _
theorem gi_init {σ : St} (h0 : ∀ c, c < 216 → σ 0 c = 0 ∧ σ 1 c = 0 ∧ σ 2 c = 1 ∧ σ 3 c = 0 ∧ σ 3 (216 + c) = 8) (h4 : ∀ p, p < 432 → σ 4 p = 0) : GI σ := by
  have l3 : ∀ p, p < 432 → σ 3 p = if p < 216 then 0 else 8 := by
    intro p hp
    split
    · rename_i q
      exact (h0 p q).2.2.2.1
    · have g := (h0 (p - 216) (by omega)).2.2.2.2
      rw [show 216 + (p - 216) = p by omega] at g
      exact g
  have sr : ∀ p, p < 432 → srcv σ p = if p < 216 then 0 else 8 := by
    intro p hp
    unfold srcv
    by_cases h : p < 216
    · rw [if_pos h, if_pos h]
      exact (h0 p h).2.1
    · rw [if_neg h, if_neg h, (h0 (p - 216) (by omega)).2.2.1, if_neg (by decide)]
  refine ⟨fun c hc => ⟨Nat.le_trans (Nat.le_of_eq (h0 c hc).1) (by decide), Nat.le_trans (Nat.le_of_eq (h0 c hc).2.1) (by decide)⟩, fun c hc => ⟨Nat.le_of_eq (h0 c hc).2.2.1, ⟨fun _ => ⟨(h0 c hc).1, fun h => (h0 _ h).2.2.1⟩, fun _ => (h0 c hc).2.2.1⟩⟩, ⟨fun p hp => ?_, fun p hp => Nat.le_of_eq (by rw [l3 p hp, sr p hp]), fun p q hp hq ha _ => ?_, fun p hp => ?_⟩, h4⟩
  · exact Or.inr (Or.inl (Nat.le_of_eq (by rw [l3 p hp, sr p hp])))
  · have e := padj_same hp ha
    have a := l3 p hp
    have b := l3 q hq
    by_cases h : p < 216
    · rw [if_pos h] at a
      omega
    · rw [if_neg h] at a
      rw [if_neg (fun z => h (e.mpr z))] at b
      omega
  · have a := l3 p hp
    split at a <;> omega
/-- in the constructor: cells ahead of c are done -/
def II (σ : St) (c : Nat) : Prop := (∀ k, k ≠ 2 → k ≠ 3 → σ k = σz k) ∧ (∀ x, x < c → σ 2 x = 1 ∧ σ 3 (216 + x) = 8) ∧ ∀ p, p < 216 → σ 3 p = 0
theorem ii_0 : II σz 0 := ⟨fun _ _ _ => rfl, fun x h => absurd h (Nat.not_lt_zero _), fun _ _ => rfl⟩
theorem ii_step {σ : St} {c : Nat} (h : II σ c) : II (s2 (s2 σ 2 c 1) 3 (216 + c) 8) (c + 1) := by
  obtain ⟨h1, h2, h3⟩ := h
  have e2 : ∀ x, s2 (s2 σ 2 c 1) 3 (216 + c) 8 2 x = if x = c then 1 else σ 2 x := fun x => by rw [s2_ne (by decide), s2_eq]
  have e3 : ∀ x, s2 (s2 σ 2 c 1) 3 (216 + c) 8 3 x = if x = 216 + c then 8 else σ 3 x := fun x => by rw [s2_eq, s2_ne (by decide)]
  refine ⟨fun k a b => by rw [s2_ne b, s2_ne a]; exact h1 k a b, fun x hx => ?_, fun p hp => ?_⟩
  · rw [e2, e3]
    by_cases e : x = c
    · rw [if_pos e, if_pos (by omega)]
      exact ⟨rfl, rfl⟩
    · rw [if_neg e, if_neg (by omega)]
      exact h2 x (by omega)
  · rw [e3, if_neg (by omega)]
    exact h3 p hp
theorem ii_fin {σ : St} (h : II σ 216) : GI σ ∧ ∀ c, c < 216 → σ 0 c = 0 ∧ σ 1 c = 0 := by
  obtain ⟨h1, h2, h3⟩ := h
  have a0 : ∀ c, σ 0 c = 0 := fun c => by rw [h1 0 (by decide) (by decide)]; rfl
  have a1 : ∀ c, σ 1 c = 0 := fun c => by rw [h1 1 (by decide) (by decide)]; rfl
  have a4 : ∀ c, σ 4 c = 0 := fun c => by rw [h1 4 (by decide) (by decide)]; rfl
  exact ⟨gi_init (fun c hc => ⟨a0 c, a1 c, (h2 c hc).1, h3 c hc, (h2 c hc).2⟩) (fun p _ => a4 p), fun c _ => ⟨a0 c, a1 c⟩⟩
end
section
/-! the constructors -/
abbrev XU : Type := (Nat → Nat) × (Nat → ClassId) × St
def pk9 {α : Type} (a0 a1 a2 a3 a4 a5 a6 a7 a8 : α) (k : Nat) : α := match k with
  | 0 => a0
  | 1 => a1
  | 2 => a2
  | 3 => a3
  | 4 => a4
  | 5 => a5
  | 6 => a6
  | 7 => a7
  | _ => a8
def xin0 : List Value := [.null, .null, .null, .null, .null, .null, .null, .null, .null, .int (iI ((σz 9 0 : Nat) : Int))]
def min0 : List Value := [.null, .null, .null, .null, .null, .null]
def XIR (κ : Kx) (O : XO) (A0 : Nat → Prop) (H0 : Heap) (post : XU → Prop) : Prop := (kt κ).sig.returnType = none ∧ (kt κ).locks = false ∧ oH O = (ks κ).heap ∧ kQ κ = MQ (kb κ) (va_Qv post (fun u t => XB (oD O, A0, H0, oh O, u.1, u.2.1) (oA O) u.2.2 t) (oA O)) (ka κ) (ks κ) (kn κ) (ko κ) (oA O)
theorem xi_vret {κ : Kx} {O : XO} {σ : St} {cc : ByteArray} {nL fr lo : Nat} {pc : Nat} {L : List (Nat × Value)} {A0 : Nat → Prop} {H0 : Heap} (C : CB κ cc nL RX0 fr lo) (X : XC κ O) {post : XU → Prop} (Rt : XIR κ O A0 H0 post) (hp : post (oa O, od O, σ)) (hdg : decode cc pc = .ok (.return_, 1)) : J κ nL (xW O σ) pc L [] := by
  intro H locs ls hw hl
  obtain ⟨h1, h2, h3, h4⟩ := Rt
  obtain ⟨hP, hD, hS, hb⟩ := hw
  rw [h3] at hS
  rw [h4]
  exact W.vret C.1.1 C.1.2.1 h1 (fun t ht hW => ⟨⟨(oa O, od O, σ), rfl, hp, by rw [ht]; exact hP, va_K.moved hW.alike X.1, hD, hb⟩, hS.F ht⟩) hS.2.2 hdg h2
set_option maxHeartbeats 4000000 in
theorem w_init {κ : Kx} {O : XO} {fr lo : Nat} {A0 : Nat → Prop} {H0 : Heap} (C : CB κ cX0_init 2 RX0 fr lo) (X : XC κ O) (Rt : XIR κ O A0 H0 (fun u => GI u.2.2 ∧ ∀ c, c < 216 → u.2.2 0 c = 0 ∧ u.2.2 1 c = 0)) : J κ 2 (xW O σz) 85 [(0, .ref (oh O))] [] := by
  have K87 : ∀ (n c : Nat) (σ1 : St) (z : Int), z = (c : Int) → 216 < c + n → c ≤ 216 → II σ1 c → J κ 2 (xW O σ1) 87 [(0, .ref (oh O)), (1, .int (iI z))] [] := by
    intro n
    induction n with
    | zero => intros; omega
    | succ n ih =>
      intro c σ1 z hz hn hc hI
      refine j_iload_n C 1 dX0_init_87 rfl rfl ?_
      refine j_sipush C dX0_init_88 (by decide) ?_
      refine j_icmp_ge C (tgt := 119) dX0_init_91 (by decide) (by omega) (by omega) (fun hc91 => ?_) (fun hc91 => ?_)
      · exact xi_vret C X Rt (ii_fin (by rw [show c = 216 by omega] at hI; exact hI)) dX0_init_119
      · refine j_aload_n C 0 dX0_init_94 rfl rfl ?_
        refine x_get C X 2 (by decide) q31 rfl dX0_init_95 ?_
        refine j_iload_n C 1 dX0_init_98 rfl rfl ?_
        refine j_iconst C dX0_init_99 ?_
        refine x_zst C X 2 216 (c) (1) rfl rfl xset_2 (by decide) (by omega) (by omega) (by omega) (by omega) dX0_init_100 ?_
        refine j_aload_n C 0 dX0_init_101 rfl rfl ?_
        refine x_get C X 3 (by decide) q32 rfl dX0_init_102 ?_
        refine j_sipush C dX0_init_105 (by decide) ?_
        refine j_iload_n C 1 dX0_init_108 rfl rfl ?_
        refine j_iadd C dX0_init_109 ?_
        refine j_bipush C dX0_init_110 (by decide) ?_
        refine x_ist C X 3 432 (216 + c) (8) rfl rfl xset_3 (by decide) (by omega) (by omega) (by omega) (by omega) dX0_init_112 ?_
        refine j_iinc C 1 [1, 0] (L' := [(0, _), (1, _)]) dX0_init_113 rfl (by decide) rfl ?_
        refine j_goto C (tgt := 87) dX0_init_116 (by decide) ?_
        exact ih (c + 1) _ _ (by omega) (by omega) (by omega) (ii_step hI)
  refine j_iconst C dX0_init_85 ?_
  refine j_istore_n C [1, 0] (L' := [(0, _), (1, _)]) dX0_init_86 rfl (by decide) rfl ?_
  exact K87 217 0 σz _ (by omega) (by omega) (by omega) ii_0
/-- the constructor of LightFlow -/
def XI (l : Launch) (D : va_G) (A0 : Nat → Prop) (H0 : Heap) (h0 : Nat) : Prop := ∀ sz : Nat, Met l yX0_init (ws_ yX0_init cX0_init 2 none) ({ frames := 1, cells := 9, slots := 2808, locals := 12 } : Room) (va_Pc [.ref h0] (fun U => U.heap.size = sz ∧ va_P D vCl [(h0, .inr (0, xin0))] U.heap ∧ va_K D vCl [] U ∧ va_D (fun _ => True) [(h0, .inr (0, xin0))])) (va_Qv (fun u : XU => GI u.2.2 ∧ ∀ c, c < 216 → u.2.2 0 c = 0 ∧ u.2.2 1 c = 0) (fun u t => XB (D, A0, H0, h0, u.1, u.2.1) (va_A [(h0, .inr (0, xin0))] sz) u.2.2 t) (va_A [(h0, .inr (0, xin0))] sz)) 9 2808 (va_A [(h0, .inr (0, xin0))] sz)
set_option maxHeartbeats 4000000 in
set_option maxRecDepth 100000 in
theorem m_Xinit (l : Launch) (D : va_G) (A0 : Nat → Prop) (H0 : Heap) (h0 : Nat) : XI l D A0 H0 h0 := by
  intro sz
  refine Met.ofW (cc := cX0_init) (maxL := 2) (ret := none) (by decide) rfl ?_
  intro p e s m args below meth c s₁ B hml hv
  obtain ⟨rfl, hsz, hP, hK, hD0⟩ := hv
  have hx := B.exec
  have hb := B.bytes
  have hr := B.returns
  have hts := atoms_spec (ws := ws_ yX0_init cX0_init 2 none) B.pre
  have hts : ∀ w ∈ lw_all, w.before _ s = true := fun w h => hts w (List.mem_cons_of_mem _ h)
  have hown : s.vm.findClass RX0 = some m.cls := findClass_of_methodNamed B.named
  have hlocks := B.notSynchronized
  have hin : meth.name = "<init>" := (name_of_methodNamed B.named B.method).1
  subst hsz
  have hD := hD0.self (sz := s.heap.size)
  generalize hAe : va_A [(h0, .inr (0, xin0))] s.heap.size = A at hD ⊢
  have hA : ∀ q : Nat, s.heap.size ≤ q → A q := fun q h => by rw [← hAe]; exact Or.inr h
  have hS : va_S A s.heap s.heap [] := va_S.rf
  have hP : va_P D vCl [(h0, .inr (0, [.null, .null, .null, .null, .null, .null, .null, .null, .null, .int (iI ((σz 9 0 : Nat) : Int))]))] s.heap := hP
  have hD : va_D A [(h0, .inr (0, [.null, .null, .null, .null, .null, .null, .null, .null, .null, .int (iI ((σz 9 0 : Nat) : Int))]))] := hD
  have hl := lv_entry ([.ref h0]) (n := 2) (Nat.le_of_ble_eq_true rfl)
  rw [lg_entry_eq]
  generalize (lg_sl ([.ref h0]) ++ List.replicate (2 - (lg_sl ([.ref h0])).length) Slot.unset).toArray = ls at hl ⊢
  have hl : lv_has ls 2 [(0, .ref h0)] := hl
  refine lv_aload_n hx hb dX0_init_0 rfl (lv_at hl 0 rfl) ?_
  refine W.objInit hx hb hown (hts _ q26) (hts _ q27) (hts _ q28) rfl (by rw [hml]; exact hl.1) rfl dX0_init_1 (Nat.le_of_ble_eq_true rfl) (Nat.le_of_ble_eq_true rfl) ?_
  refine W.eq (g2 := F0 m 4 ls []) rfl ?_
  refine lv_aload_n hx hb dX0_init_4 rfl (lv_at hl 0 rfl) ?_
  refine lv_sipush (v := 216) hx hb dX0_init_5 (by decide) ?_
  refine va_newa (atype := .boolean) (ty := .boolean) (N' := 216) (a0 := (216, .inl (fun j => iI ((σz 0 j : Nat) : Int)))) hx hb (hts _ q60) rfl hK hP hD hS hA (fun _ => rfl) (by decide) (by decide) (by decide) (Nat.le_of_ble_eq_true rfl) (Nat.le_of_ble_eq_true rfl) dX0_init_8 (fun a0 d0 H hK hP hD hS => ?_)
  have hP : va_P D vCl [(h0, .inr (0, [.null, .null, .null, .null, .null, .null, .null, .null, .null, .int (iI ((σz 9 0 : Nat) : Int))])), (a0, .inl (d0, 216, .inl (fun j => iI ((σz 0 j : Nat) : Int))))] H := hP
  have hD : va_D A [(h0, .inr (0, [.null, .null, .null, .null, .null, .null, .null, .null, .null, .int (iI ((σz 9 0 : Nat) : Int))])), (a0, .inl (d0, 216, .inl (fun j => iI ((σz 0 j : Nat) : Int))))] := hD
  have hK : va_K D vCl [(d0, .boolean)] s := hK
  refine va_putF (D := D) (ci := 0) (v := .ref a0) (ty := .array .boolean) (C := RX0) (T := TX0) (N := 10) hx hb hts in_X0 tyX0 tyX0_ok nmX0 hown hK hP hD hS 0 rfl rfl 0 (by decide) (hts _ q29) (fun _ h9 => h9) rfl hin rfl (by decide +kernel) rfl rfl (Nat.le_of_ble_eq_true rfl) dX0_init_10 (fun H locs hP hD hS => ?_)
  have hP : va_P D vCl [(h0, .inr (0, [.ref a0, .null, .null, .null, .null, .null, .null, .null, .null, .int (iI ((σz 9 0 : Nat) : Int))])), (a0, .inl (d0, 216, .inl (fun j => iI ((σz 0 j : Nat) : Int))))] H := hP
  have hD : va_D A [(h0, .inr (0, [.ref a0, .null, .null, .null, .null, .null, .null, .null, .null, .int (iI ((σz 9 0 : Nat) : Int))])), (a0, .inl (d0, 216, .inl (fun j => iI ((σz 0 j : Nat) : Int))))] := hD
  refine lv_aload_n hx hb dX0_init_13 rfl (lv_at hl 0 rfl) ?_
  refine lv_sipush (v := 216) hx hb dX0_init_14 (by decide) ?_
  refine va_newa (atype := .int) (ty := .int) (N' := 216) (a0 := (216, .inl (fun j => iI ((σz 1 j : Nat) : Int)))) hx hb (hts _ q61) rfl hK hP hD hS hA (fun _ => rfl) (by decide) (by decide) (by decide) (Nat.le_of_ble_eq_true rfl) (Nat.le_of_ble_eq_true rfl) dX0_init_17 (fun a1 d1 H hK hP hD hS => ?_)
  have hP : va_P D vCl [(h0, .inr (0, [.ref a0, .null, .null, .null, .null, .null, .null, .null, .null, .int (iI ((σz 9 0 : Nat) : Int))])), (a0, .inl (d0, 216, .inl (fun j => iI ((σz 0 j : Nat) : Int)))), (a1, .inl (d1, 216, .inl (fun j => iI ((σz 1 j : Nat) : Int))))] H := hP
  have hD : va_D A [(h0, .inr (0, [.ref a0, .null, .null, .null, .null, .null, .null, .null, .null, .int (iI ((σz 9 0 : Nat) : Int))])), (a0, .inl (d0, 216, .inl (fun j => iI ((σz 0 j : Nat) : Int)))), (a1, .inl (d1, 216, .inl (fun j => iI ((σz 1 j : Nat) : Int))))] := hD
  have hK : va_K D vCl [(d0, .boolean), (d1, .int)] s := hK
  refine va_putF (D := D) (ci := 0) (v := .ref a1) (ty := .array .int) (C := RX0) (T := TX0) (N := 10) hx hb hts in_X0 tyX0 tyX0_ok nmX0 hown hK hP hD hS 0 rfl rfl 1 (by decide) (hts _ q30) (fun _ h9 => h9) rfl hin rfl (by decide +kernel) rfl rfl (Nat.le_of_ble_eq_true rfl) dX0_init_19 (fun H locs hP hD hS => ?_)
  have hP : va_P D vCl [(h0, .inr (0, [.ref a0, .ref a1, .null, .null, .null, .null, .null, .null, .null, .int (iI ((σz 9 0 : Nat) : Int))])), (a0, .inl (d0, 216, .inl (fun j => iI ((σz 0 j : Nat) : Int)))), (a1, .inl (d1, 216, .inl (fun j => iI ((σz 1 j : Nat) : Int))))] H := hP
  have hD : va_D A [(h0, .inr (0, [.ref a0, .ref a1, .null, .null, .null, .null, .null, .null, .null, .int (iI ((σz 9 0 : Nat) : Int))])), (a0, .inl (d0, 216, .inl (fun j => iI ((σz 0 j : Nat) : Int)))), (a1, .inl (d1, 216, .inl (fun j => iI ((σz 1 j : Nat) : Int))))] := hD
  refine lv_aload_n hx hb dX0_init_22 rfl (lv_at hl 0 rfl) ?_
  refine lv_sipush (v := 216) hx hb dX0_init_23 (by decide) ?_
  refine va_newa (atype := .boolean) (ty := .boolean) (N' := 216) (a0 := (216, .inl (fun j => iI ((σz 2 j : Nat) : Int)))) hx hb (hts _ q60) rfl hK hP hD hS hA (fun _ => rfl) (by decide) (by decide) (by decide) (Nat.le_of_ble_eq_true rfl) (Nat.le_of_ble_eq_true rfl) dX0_init_26 (fun a2 d2 H hK hP hD hS => ?_)
  have hP : va_P D vCl [(h0, .inr (0, [.ref a0, .ref a1, .null, .null, .null, .null, .null, .null, .null, .int (iI ((σz 9 0 : Nat) : Int))])), (a0, .inl (d0, 216, .inl (fun j => iI ((σz 0 j : Nat) : Int)))), (a1, .inl (d1, 216, .inl (fun j => iI ((σz 1 j : Nat) : Int)))), (a2, .inl (d2, 216, .inl (fun j => iI ((σz 2 j : Nat) : Int))))] H := hP
  have hD : va_D A [(h0, .inr (0, [.ref a0, .ref a1, .null, .null, .null, .null, .null, .null, .null, .int (iI ((σz 9 0 : Nat) : Int))])), (a0, .inl (d0, 216, .inl (fun j => iI ((σz 0 j : Nat) : Int)))), (a1, .inl (d1, 216, .inl (fun j => iI ((σz 1 j : Nat) : Int)))), (a2, .inl (d2, 216, .inl (fun j => iI ((σz 2 j : Nat) : Int))))] := hD
  have hK : va_K D vCl [(d0, .boolean), (d1, .int), (d2, .boolean)] s := hK
  refine va_putF (D := D) (ci := 0) (v := .ref a2) (ty := .array .boolean) (C := RX0) (T := TX0) (N := 10) hx hb hts in_X0 tyX0 tyX0_ok nmX0 hown hK hP hD hS 0 rfl rfl 2 (by decide) (hts _ q31) (fun _ h9 => h9) rfl hin rfl (by decide +kernel) rfl rfl (Nat.le_of_ble_eq_true rfl) dX0_init_28 (fun H locs hP hD hS => ?_)
  have hP : va_P D vCl [(h0, .inr (0, [.ref a0, .ref a1, .ref a2, .null, .null, .null, .null, .null, .null, .int (iI ((σz 9 0 : Nat) : Int))])), (a0, .inl (d0, 216, .inl (fun j => iI ((σz 0 j : Nat) : Int)))), (a1, .inl (d1, 216, .inl (fun j => iI ((σz 1 j : Nat) : Int)))), (a2, .inl (d2, 216, .inl (fun j => iI ((σz 2 j : Nat) : Int))))] H := hP
  have hD : va_D A [(h0, .inr (0, [.ref a0, .ref a1, .ref a2, .null, .null, .null, .null, .null, .null, .int (iI ((σz 9 0 : Nat) : Int))])), (a0, .inl (d0, 216, .inl (fun j => iI ((σz 0 j : Nat) : Int)))), (a1, .inl (d1, 216, .inl (fun j => iI ((σz 1 j : Nat) : Int)))), (a2, .inl (d2, 216, .inl (fun j => iI ((σz 2 j : Nat) : Int))))] := hD
  refine lv_aload_n hx hb dX0_init_31 rfl (lv_at hl 0 rfl) ?_
  refine lv_sipush (v := 432) hx hb dX0_init_32 (by decide) ?_
  refine va_newa (atype := .int) (ty := .int) (N' := 432) (a0 := (432, .inl (fun j => iI ((σz 3 j : Nat) : Int)))) hx hb (hts _ q61) rfl hK hP hD hS hA (fun _ => rfl) (by decide) (by decide) (by decide) (Nat.le_of_ble_eq_true rfl) (Nat.le_of_ble_eq_true rfl) dX0_init_35 (fun a3 d3 H hK hP hD hS => ?_)
  have hP : va_P D vCl [(h0, .inr (0, [.ref a0, .ref a1, .ref a2, .null, .null, .null, .null, .null, .null, .int (iI ((σz 9 0 : Nat) : Int))])), (a0, .inl (d0, 216, .inl (fun j => iI ((σz 0 j : Nat) : Int)))), (a1, .inl (d1, 216, .inl (fun j => iI ((σz 1 j : Nat) : Int)))), (a2, .inl (d2, 216, .inl (fun j => iI ((σz 2 j : Nat) : Int)))), (a3, .inl (d3, 432, .inl (fun j => iI ((σz 3 j : Nat) : Int))))] H := hP
  have hD : va_D A [(h0, .inr (0, [.ref a0, .ref a1, .ref a2, .null, .null, .null, .null, .null, .null, .int (iI ((σz 9 0 : Nat) : Int))])), (a0, .inl (d0, 216, .inl (fun j => iI ((σz 0 j : Nat) : Int)))), (a1, .inl (d1, 216, .inl (fun j => iI ((σz 1 j : Nat) : Int)))), (a2, .inl (d2, 216, .inl (fun j => iI ((σz 2 j : Nat) : Int)))), (a3, .inl (d3, 432, .inl (fun j => iI ((σz 3 j : Nat) : Int))))] := hD
  have hK : va_K D vCl [(d0, .boolean), (d1, .int), (d2, .boolean), (d3, .int)] s := hK
  refine va_putF (D := D) (ci := 0) (v := .ref a3) (ty := .array .int) (C := RX0) (T := TX0) (N := 10) hx hb hts in_X0 tyX0 tyX0_ok nmX0 hown hK hP hD hS 0 rfl rfl 3 (by decide) (hts _ q32) (fun _ h9 => h9) rfl hin rfl (by decide +kernel) rfl rfl (Nat.le_of_ble_eq_true rfl) dX0_init_37 (fun H locs hP hD hS => ?_)
  have hP : va_P D vCl [(h0, .inr (0, [.ref a0, .ref a1, .ref a2, .ref a3, .null, .null, .null, .null, .null, .int (iI ((σz 9 0 : Nat) : Int))])), (a0, .inl (d0, 216, .inl (fun j => iI ((σz 0 j : Nat) : Int)))), (a1, .inl (d1, 216, .inl (fun j => iI ((σz 1 j : Nat) : Int)))), (a2, .inl (d2, 216, .inl (fun j => iI ((σz 2 j : Nat) : Int)))), (a3, .inl (d3, 432, .inl (fun j => iI ((σz 3 j : Nat) : Int))))] H := hP
  have hD : va_D A [(h0, .inr (0, [.ref a0, .ref a1, .ref a2, .ref a3, .null, .null, .null, .null, .null, .int (iI ((σz 9 0 : Nat) : Int))])), (a0, .inl (d0, 216, .inl (fun j => iI ((σz 0 j : Nat) : Int)))), (a1, .inl (d1, 216, .inl (fun j => iI ((σz 1 j : Nat) : Int)))), (a2, .inl (d2, 216, .inl (fun j => iI ((σz 2 j : Nat) : Int)))), (a3, .inl (d3, 432, .inl (fun j => iI ((σz 3 j : Nat) : Int))))] := hD
  refine lv_aload_n hx hb dX0_init_40 rfl (lv_at hl 0 rfl) ?_
  refine lv_sipush (v := 432) hx hb dX0_init_41 (by decide) ?_
  refine va_newa (atype := .boolean) (ty := .boolean) (N' := 432) (a0 := (432, .inl (fun j => iI ((σz 4 j : Nat) : Int)))) hx hb (hts _ q60) rfl hK hP hD hS hA (fun _ => rfl) (by decide) (by decide) (by decide) (Nat.le_of_ble_eq_true rfl) (Nat.le_of_ble_eq_true rfl) dX0_init_44 (fun a4 d4 H hK hP hD hS => ?_)
  have hP : va_P D vCl [(h0, .inr (0, [.ref a0, .ref a1, .ref a2, .ref a3, .null, .null, .null, .null, .null, .int (iI ((σz 9 0 : Nat) : Int))])), (a0, .inl (d0, 216, .inl (fun j => iI ((σz 0 j : Nat) : Int)))), (a1, .inl (d1, 216, .inl (fun j => iI ((σz 1 j : Nat) : Int)))), (a2, .inl (d2, 216, .inl (fun j => iI ((σz 2 j : Nat) : Int)))), (a3, .inl (d3, 432, .inl (fun j => iI ((σz 3 j : Nat) : Int)))), (a4, .inl (d4, 432, .inl (fun j => iI ((σz 4 j : Nat) : Int))))] H := hP
  have hD : va_D A [(h0, .inr (0, [.ref a0, .ref a1, .ref a2, .ref a3, .null, .null, .null, .null, .null, .int (iI ((σz 9 0 : Nat) : Int))])), (a0, .inl (d0, 216, .inl (fun j => iI ((σz 0 j : Nat) : Int)))), (a1, .inl (d1, 216, .inl (fun j => iI ((σz 1 j : Nat) : Int)))), (a2, .inl (d2, 216, .inl (fun j => iI ((σz 2 j : Nat) : Int)))), (a3, .inl (d3, 432, .inl (fun j => iI ((σz 3 j : Nat) : Int)))), (a4, .inl (d4, 432, .inl (fun j => iI ((σz 4 j : Nat) : Int))))] := hD
  have hK : va_K D vCl [(d0, .boolean), (d1, .int), (d2, .boolean), (d3, .int), (d4, .boolean)] s := hK
  refine va_putF (D := D) (ci := 0) (v := .ref a4) (ty := .array .boolean) (C := RX0) (T := TX0) (N := 10) hx hb hts in_X0 tyX0 tyX0_ok nmX0 hown hK hP hD hS 0 rfl rfl 4 (by decide) (hts _ q33) (fun _ h9 => h9) rfl hin rfl (by decide +kernel) rfl rfl (Nat.le_of_ble_eq_true rfl) dX0_init_46 (fun H locs hP hD hS => ?_)
  have hP : va_P D vCl [(h0, .inr (0, [.ref a0, .ref a1, .ref a2, .ref a3, .ref a4, .null, .null, .null, .null, .int (iI ((σz 9 0 : Nat) : Int))])), (a0, .inl (d0, 216, .inl (fun j => iI ((σz 0 j : Nat) : Int)))), (a1, .inl (d1, 216, .inl (fun j => iI ((σz 1 j : Nat) : Int)))), (a2, .inl (d2, 216, .inl (fun j => iI ((σz 2 j : Nat) : Int)))), (a3, .inl (d3, 432, .inl (fun j => iI ((σz 3 j : Nat) : Int)))), (a4, .inl (d4, 432, .inl (fun j => iI ((σz 4 j : Nat) : Int))))] H := hP
  have hD : va_D A [(h0, .inr (0, [.ref a0, .ref a1, .ref a2, .ref a3, .ref a4, .null, .null, .null, .null, .int (iI ((σz 9 0 : Nat) : Int))])), (a0, .inl (d0, 216, .inl (fun j => iI ((σz 0 j : Nat) : Int)))), (a1, .inl (d1, 216, .inl (fun j => iI ((σz 1 j : Nat) : Int)))), (a2, .inl (d2, 216, .inl (fun j => iI ((σz 2 j : Nat) : Int)))), (a3, .inl (d3, 432, .inl (fun j => iI ((σz 3 j : Nat) : Int)))), (a4, .inl (d4, 432, .inl (fun j => iI ((σz 4 j : Nat) : Int))))] := hD
  refine lv_aload_n hx hb dX0_init_49 rfl (lv_at hl 0 rfl) ?_
  refine lv_sipush (v := 432) hx hb dX0_init_50 (by decide) ?_
  refine va_newa (atype := .int) (ty := .int) (N' := 432) (a0 := (432, .inl (fun j => iI ((σz 5 j : Nat) : Int)))) hx hb (hts _ q61) rfl hK hP hD hS hA (fun _ => rfl) (by decide) (by decide) (by decide) (Nat.le_of_ble_eq_true rfl) (Nat.le_of_ble_eq_true rfl) dX0_init_53 (fun a5 d5 H hK hP hD hS => ?_)
  have hP : va_P D vCl [(h0, .inr (0, [.ref a0, .ref a1, .ref a2, .ref a3, .ref a4, .null, .null, .null, .null, .int (iI ((σz 9 0 : Nat) : Int))])), (a0, .inl (d0, 216, .inl (fun j => iI ((σz 0 j : Nat) : Int)))), (a1, .inl (d1, 216, .inl (fun j => iI ((σz 1 j : Nat) : Int)))), (a2, .inl (d2, 216, .inl (fun j => iI ((σz 2 j : Nat) : Int)))), (a3, .inl (d3, 432, .inl (fun j => iI ((σz 3 j : Nat) : Int)))), (a4, .inl (d4, 432, .inl (fun j => iI ((σz 4 j : Nat) : Int)))), (a5, .inl (d5, 432, .inl (fun j => iI ((σz 5 j : Nat) : Int))))] H := hP
  have hD : va_D A [(h0, .inr (0, [.ref a0, .ref a1, .ref a2, .ref a3, .ref a4, .null, .null, .null, .null, .int (iI ((σz 9 0 : Nat) : Int))])), (a0, .inl (d0, 216, .inl (fun j => iI ((σz 0 j : Nat) : Int)))), (a1, .inl (d1, 216, .inl (fun j => iI ((σz 1 j : Nat) : Int)))), (a2, .inl (d2, 216, .inl (fun j => iI ((σz 2 j : Nat) : Int)))), (a3, .inl (d3, 432, .inl (fun j => iI ((σz 3 j : Nat) : Int)))), (a4, .inl (d4, 432, .inl (fun j => iI ((σz 4 j : Nat) : Int)))), (a5, .inl (d5, 432, .inl (fun j => iI ((σz 5 j : Nat) : Int))))] := hD
  have hK : va_K D vCl [(d0, .boolean), (d1, .int), (d2, .boolean), (d3, .int), (d4, .boolean), (d5, .int)] s := hK
  refine va_putF (D := D) (ci := 0) (v := .ref a5) (ty := .array .int) (C := RX0) (T := TX0) (N := 10) hx hb hts in_X0 tyX0 tyX0_ok nmX0 hown hK hP hD hS 0 rfl rfl 5 (by decide) (hts _ q34) (fun _ h9 => h9) rfl hin rfl (by decide +kernel) rfl rfl (Nat.le_of_ble_eq_true rfl) dX0_init_55 (fun H locs hP hD hS => ?_)
  have hP : va_P D vCl [(h0, .inr (0, [.ref a0, .ref a1, .ref a2, .ref a3, .ref a4, .ref a5, .null, .null, .null, .int (iI ((σz 9 0 : Nat) : Int))])), (a0, .inl (d0, 216, .inl (fun j => iI ((σz 0 j : Nat) : Int)))), (a1, .inl (d1, 216, .inl (fun j => iI ((σz 1 j : Nat) : Int)))), (a2, .inl (d2, 216, .inl (fun j => iI ((σz 2 j : Nat) : Int)))), (a3, .inl (d3, 432, .inl (fun j => iI ((σz 3 j : Nat) : Int)))), (a4, .inl (d4, 432, .inl (fun j => iI ((σz 4 j : Nat) : Int)))), (a5, .inl (d5, 432, .inl (fun j => iI ((σz 5 j : Nat) : Int))))] H := hP
  have hD : va_D A [(h0, .inr (0, [.ref a0, .ref a1, .ref a2, .ref a3, .ref a4, .ref a5, .null, .null, .null, .int (iI ((σz 9 0 : Nat) : Int))])), (a0, .inl (d0, 216, .inl (fun j => iI ((σz 0 j : Nat) : Int)))), (a1, .inl (d1, 216, .inl (fun j => iI ((σz 1 j : Nat) : Int)))), (a2, .inl (d2, 216, .inl (fun j => iI ((σz 2 j : Nat) : Int)))), (a3, .inl (d3, 432, .inl (fun j => iI ((σz 3 j : Nat) : Int)))), (a4, .inl (d4, 432, .inl (fun j => iI ((σz 4 j : Nat) : Int)))), (a5, .inl (d5, 432, .inl (fun j => iI ((σz 5 j : Nat) : Int))))] := hD
  refine lv_aload_n hx hb dX0_init_58 rfl (lv_at hl 0 rfl) ?_
  refine lv_sipush (v := 432) hx hb dX0_init_59 (by decide) ?_
  refine va_newa (atype := .int) (ty := .int) (N' := 432) (a0 := (432, .inl (fun j => iI ((σz 6 j : Nat) : Int)))) hx hb (hts _ q61) rfl hK hP hD hS hA (fun _ => rfl) (by decide) (by decide) (by decide) (Nat.le_of_ble_eq_true rfl) (Nat.le_of_ble_eq_true rfl) dX0_init_62 (fun a6 d6 H hK hP hD hS => ?_)
  have hP : va_P D vCl [(h0, .inr (0, [.ref a0, .ref a1, .ref a2, .ref a3, .ref a4, .ref a5, .null, .null, .null, .int (iI ((σz 9 0 : Nat) : Int))])), (a0, .inl (d0, 216, .inl (fun j => iI ((σz 0 j : Nat) : Int)))), (a1, .inl (d1, 216, .inl (fun j => iI ((σz 1 j : Nat) : Int)))), (a2, .inl (d2, 216, .inl (fun j => iI ((σz 2 j : Nat) : Int)))), (a3, .inl (d3, 432, .inl (fun j => iI ((σz 3 j : Nat) : Int)))), (a4, .inl (d4, 432, .inl (fun j => iI ((σz 4 j : Nat) : Int)))), (a5, .inl (d5, 432, .inl (fun j => iI ((σz 5 j : Nat) : Int)))), (a6, .inl (d6, 432, .inl (fun j => iI ((σz 6 j : Nat) : Int))))] H := hP
  have hD : va_D A [(h0, .inr (0, [.ref a0, .ref a1, .ref a2, .ref a3, .ref a4, .ref a5, .null, .null, .null, .int (iI ((σz 9 0 : Nat) : Int))])), (a0, .inl (d0, 216, .inl (fun j => iI ((σz 0 j : Nat) : Int)))), (a1, .inl (d1, 216, .inl (fun j => iI ((σz 1 j : Nat) : Int)))), (a2, .inl (d2, 216, .inl (fun j => iI ((σz 2 j : Nat) : Int)))), (a3, .inl (d3, 432, .inl (fun j => iI ((σz 3 j : Nat) : Int)))), (a4, .inl (d4, 432, .inl (fun j => iI ((σz 4 j : Nat) : Int)))), (a5, .inl (d5, 432, .inl (fun j => iI ((σz 5 j : Nat) : Int)))), (a6, .inl (d6, 432, .inl (fun j => iI ((σz 6 j : Nat) : Int))))] := hD
  have hK : va_K D vCl [(d0, .boolean), (d1, .int), (d2, .boolean), (d3, .int), (d4, .boolean), (d5, .int), (d6, .int)] s := hK
  refine va_putF (D := D) (ci := 0) (v := .ref a6) (ty := .array .int) (C := RX0) (T := TX0) (N := 10) hx hb hts in_X0 tyX0 tyX0_ok nmX0 hown hK hP hD hS 0 rfl rfl 6 (by decide) (hts _ q35) (fun _ h9 => h9) rfl hin rfl (by decide +kernel) rfl rfl (Nat.le_of_ble_eq_true rfl) dX0_init_64 (fun H locs hP hD hS => ?_)
  have hP : va_P D vCl [(h0, .inr (0, [.ref a0, .ref a1, .ref a2, .ref a3, .ref a4, .ref a5, .ref a6, .null, .null, .int (iI ((σz 9 0 : Nat) : Int))])), (a0, .inl (d0, 216, .inl (fun j => iI ((σz 0 j : Nat) : Int)))), (a1, .inl (d1, 216, .inl (fun j => iI ((σz 1 j : Nat) : Int)))), (a2, .inl (d2, 216, .inl (fun j => iI ((σz 2 j : Nat) : Int)))), (a3, .inl (d3, 432, .inl (fun j => iI ((σz 3 j : Nat) : Int)))), (a4, .inl (d4, 432, .inl (fun j => iI ((σz 4 j : Nat) : Int)))), (a5, .inl (d5, 432, .inl (fun j => iI ((σz 5 j : Nat) : Int)))), (a6, .inl (d6, 432, .inl (fun j => iI ((σz 6 j : Nat) : Int))))] H := hP
  have hD : va_D A [(h0, .inr (0, [.ref a0, .ref a1, .ref a2, .ref a3, .ref a4, .ref a5, .ref a6, .null, .null, .int (iI ((σz 9 0 : Nat) : Int))])), (a0, .inl (d0, 216, .inl (fun j => iI ((σz 0 j : Nat) : Int)))), (a1, .inl (d1, 216, .inl (fun j => iI ((σz 1 j : Nat) : Int)))), (a2, .inl (d2, 216, .inl (fun j => iI ((σz 2 j : Nat) : Int)))), (a3, .inl (d3, 432, .inl (fun j => iI ((σz 3 j : Nat) : Int)))), (a4, .inl (d4, 432, .inl (fun j => iI ((σz 4 j : Nat) : Int)))), (a5, .inl (d5, 432, .inl (fun j => iI ((σz 5 j : Nat) : Int)))), (a6, .inl (d6, 432, .inl (fun j => iI ((σz 6 j : Nat) : Int))))] := hD
  refine lv_aload_n hx hb dX0_init_67 rfl (lv_at hl 0 rfl) ?_
  refine lv_sipush (v := 216) hx hb dX0_init_68 (by decide) ?_
  refine va_newa (atype := .int) (ty := .int) (N' := 216) (a0 := (216, .inl (fun j => iI ((σz 7 j : Nat) : Int)))) hx hb (hts _ q61) rfl hK hP hD hS hA (fun _ => rfl) (by decide) (by decide) (by decide) (Nat.le_of_ble_eq_true rfl) (Nat.le_of_ble_eq_true rfl) dX0_init_71 (fun a7 d7 H hK hP hD hS => ?_)
  have hP : va_P D vCl [(h0, .inr (0, [.ref a0, .ref a1, .ref a2, .ref a3, .ref a4, .ref a5, .ref a6, .null, .null, .int (iI ((σz 9 0 : Nat) : Int))])), (a0, .inl (d0, 216, .inl (fun j => iI ((σz 0 j : Nat) : Int)))), (a1, .inl (d1, 216, .inl (fun j => iI ((σz 1 j : Nat) : Int)))), (a2, .inl (d2, 216, .inl (fun j => iI ((σz 2 j : Nat) : Int)))), (a3, .inl (d3, 432, .inl (fun j => iI ((σz 3 j : Nat) : Int)))), (a4, .inl (d4, 432, .inl (fun j => iI ((σz 4 j : Nat) : Int)))), (a5, .inl (d5, 432, .inl (fun j => iI ((σz 5 j : Nat) : Int)))), (a6, .inl (d6, 432, .inl (fun j => iI ((σz 6 j : Nat) : Int)))), (a7, .inl (d7, 216, .inl (fun j => iI ((σz 7 j : Nat) : Int))))] H := hP
  have hD : va_D A [(h0, .inr (0, [.ref a0, .ref a1, .ref a2, .ref a3, .ref a4, .ref a5, .ref a6, .null, .null, .int (iI ((σz 9 0 : Nat) : Int))])), (a0, .inl (d0, 216, .inl (fun j => iI ((σz 0 j : Nat) : Int)))), (a1, .inl (d1, 216, .inl (fun j => iI ((σz 1 j : Nat) : Int)))), (a2, .inl (d2, 216, .inl (fun j => iI ((σz 2 j : Nat) : Int)))), (a3, .inl (d3, 432, .inl (fun j => iI ((σz 3 j : Nat) : Int)))), (a4, .inl (d4, 432, .inl (fun j => iI ((σz 4 j : Nat) : Int)))), (a5, .inl (d5, 432, .inl (fun j => iI ((σz 5 j : Nat) : Int)))), (a6, .inl (d6, 432, .inl (fun j => iI ((σz 6 j : Nat) : Int)))), (a7, .inl (d7, 216, .inl (fun j => iI ((σz 7 j : Nat) : Int))))] := hD
  have hK : va_K D vCl [(d0, .boolean), (d1, .int), (d2, .boolean), (d3, .int), (d4, .boolean), (d5, .int), (d6, .int), (d7, .int)] s := hK
  refine va_putF (D := D) (ci := 0) (v := .ref a7) (ty := .array .int) (C := RX0) (T := TX0) (N := 10) hx hb hts in_X0 tyX0 tyX0_ok nmX0 hown hK hP hD hS 0 rfl rfl 7 (by decide) (hts _ q36) (fun _ h9 => h9) rfl hin rfl (by decide +kernel) rfl rfl (Nat.le_of_ble_eq_true rfl) dX0_init_73 (fun H locs hP hD hS => ?_)
  have hP : va_P D vCl [(h0, .inr (0, [.ref a0, .ref a1, .ref a2, .ref a3, .ref a4, .ref a5, .ref a6, .ref a7, .null, .int (iI ((σz 9 0 : Nat) : Int))])), (a0, .inl (d0, 216, .inl (fun j => iI ((σz 0 j : Nat) : Int)))), (a1, .inl (d1, 216, .inl (fun j => iI ((σz 1 j : Nat) : Int)))), (a2, .inl (d2, 216, .inl (fun j => iI ((σz 2 j : Nat) : Int)))), (a3, .inl (d3, 432, .inl (fun j => iI ((σz 3 j : Nat) : Int)))), (a4, .inl (d4, 432, .inl (fun j => iI ((σz 4 j : Nat) : Int)))), (a5, .inl (d5, 432, .inl (fun j => iI ((σz 5 j : Nat) : Int)))), (a6, .inl (d6, 432, .inl (fun j => iI ((σz 6 j : Nat) : Int)))), (a7, .inl (d7, 216, .inl (fun j => iI ((σz 7 j : Nat) : Int))))] H := hP
  have hD : va_D A [(h0, .inr (0, [.ref a0, .ref a1, .ref a2, .ref a3, .ref a4, .ref a5, .ref a6, .ref a7, .null, .int (iI ((σz 9 0 : Nat) : Int))])), (a0, .inl (d0, 216, .inl (fun j => iI ((σz 0 j : Nat) : Int)))), (a1, .inl (d1, 216, .inl (fun j => iI ((σz 1 j : Nat) : Int)))), (a2, .inl (d2, 216, .inl (fun j => iI ((σz 2 j : Nat) : Int)))), (a3, .inl (d3, 432, .inl (fun j => iI ((σz 3 j : Nat) : Int)))), (a4, .inl (d4, 432, .inl (fun j => iI ((σz 4 j : Nat) : Int)))), (a5, .inl (d5, 432, .inl (fun j => iI ((σz 5 j : Nat) : Int)))), (a6, .inl (d6, 432, .inl (fun j => iI ((σz 6 j : Nat) : Int)))), (a7, .inl (d7, 216, .inl (fun j => iI ((σz 7 j : Nat) : Int))))] := hD
  refine lv_aload_n hx hb dX0_init_76 rfl (lv_at hl 0 rfl) ?_
  refine lv_sipush (v := 216) hx hb dX0_init_77 (by decide) ?_
  refine va_newa (atype := .boolean) (ty := .boolean) (N' := 216) (a0 := (216, .inl (fun j => iI ((σz 8 j : Nat) : Int)))) hx hb (hts _ q60) rfl hK hP hD hS hA (fun _ => rfl) (by decide) (by decide) (by decide) (Nat.le_of_ble_eq_true rfl) (Nat.le_of_ble_eq_true rfl) dX0_init_80 (fun a8 d8 H hK hP hD hS => ?_)
  have hP : va_P D vCl [(h0, .inr (0, [.ref a0, .ref a1, .ref a2, .ref a3, .ref a4, .ref a5, .ref a6, .ref a7, .null, .int (iI ((σz 9 0 : Nat) : Int))])), (a0, .inl (d0, 216, .inl (fun j => iI ((σz 0 j : Nat) : Int)))), (a1, .inl (d1, 216, .inl (fun j => iI ((σz 1 j : Nat) : Int)))), (a2, .inl (d2, 216, .inl (fun j => iI ((σz 2 j : Nat) : Int)))), (a3, .inl (d3, 432, .inl (fun j => iI ((σz 3 j : Nat) : Int)))), (a4, .inl (d4, 432, .inl (fun j => iI ((σz 4 j : Nat) : Int)))), (a5, .inl (d5, 432, .inl (fun j => iI ((σz 5 j : Nat) : Int)))), (a6, .inl (d6, 432, .inl (fun j => iI ((σz 6 j : Nat) : Int)))), (a7, .inl (d7, 216, .inl (fun j => iI ((σz 7 j : Nat) : Int)))), (a8, .inl (d8, 216, .inl (fun j => iI ((σz 8 j : Nat) : Int))))] H := hP
  have hD : va_D A [(h0, .inr (0, [.ref a0, .ref a1, .ref a2, .ref a3, .ref a4, .ref a5, .ref a6, .ref a7, .null, .int (iI ((σz 9 0 : Nat) : Int))])), (a0, .inl (d0, 216, .inl (fun j => iI ((σz 0 j : Nat) : Int)))), (a1, .inl (d1, 216, .inl (fun j => iI ((σz 1 j : Nat) : Int)))), (a2, .inl (d2, 216, .inl (fun j => iI ((σz 2 j : Nat) : Int)))), (a3, .inl (d3, 432, .inl (fun j => iI ((σz 3 j : Nat) : Int)))), (a4, .inl (d4, 432, .inl (fun j => iI ((σz 4 j : Nat) : Int)))), (a5, .inl (d5, 432, .inl (fun j => iI ((σz 5 j : Nat) : Int)))), (a6, .inl (d6, 432, .inl (fun j => iI ((σz 6 j : Nat) : Int)))), (a7, .inl (d7, 216, .inl (fun j => iI ((σz 7 j : Nat) : Int)))), (a8, .inl (d8, 216, .inl (fun j => iI ((σz 8 j : Nat) : Int))))] := hD
  have hK : va_K D vCl [(d0, .boolean), (d1, .int), (d2, .boolean), (d3, .int), (d4, .boolean), (d5, .int), (d6, .int), (d7, .int), (d8, .boolean)] s := hK
  refine va_putF (D := D) (ci := 0) (v := .ref a8) (ty := .array .boolean) (C := RX0) (T := TX0) (N := 10) hx hb hts in_X0 tyX0 tyX0_ok nmX0 hown hK hP hD hS 0 rfl rfl 8 (by decide) (hts _ q37) (fun _ h9 => h9) rfl hin rfl (by decide +kernel) rfl rfl (Nat.le_of_ble_eq_true rfl) dX0_init_82 (fun H locs hP hD hS => ?_)
  have hP : va_P D vCl [(h0, .inr (0, [.ref a0, .ref a1, .ref a2, .ref a3, .ref a4, .ref a5, .ref a6, .ref a7, .ref a8, .int (iI ((σz 9 0 : Nat) : Int))])), (a0, .inl (d0, 216, .inl (fun j => iI ((σz 0 j : Nat) : Int)))), (a1, .inl (d1, 216, .inl (fun j => iI ((σz 1 j : Nat) : Int)))), (a2, .inl (d2, 216, .inl (fun j => iI ((σz 2 j : Nat) : Int)))), (a3, .inl (d3, 432, .inl (fun j => iI ((σz 3 j : Nat) : Int)))), (a4, .inl (d4, 432, .inl (fun j => iI ((σz 4 j : Nat) : Int)))), (a5, .inl (d5, 432, .inl (fun j => iI ((σz 5 j : Nat) : Int)))), (a6, .inl (d6, 432, .inl (fun j => iI ((σz 6 j : Nat) : Int)))), (a7, .inl (d7, 216, .inl (fun j => iI ((σz 7 j : Nat) : Int)))), (a8, .inl (d8, 216, .inl (fun j => iI ((σz 8 j : Nat) : Int))))] H := hP
  have hD : va_D A [(h0, .inr (0, [.ref a0, .ref a1, .ref a2, .ref a3, .ref a4, .ref a5, .ref a6, .ref a7, .ref a8, .int (iI ((σz 9 0 : Nat) : Int))])), (a0, .inl (d0, 216, .inl (fun j => iI ((σz 0 j : Nat) : Int)))), (a1, .inl (d1, 216, .inl (fun j => iI ((σz 1 j : Nat) : Int)))), (a2, .inl (d2, 216, .inl (fun j => iI ((σz 2 j : Nat) : Int)))), (a3, .inl (d3, 432, .inl (fun j => iI ((σz 3 j : Nat) : Int)))), (a4, .inl (d4, 432, .inl (fun j => iI ((σz 4 j : Nat) : Int)))), (a5, .inl (d5, 432, .inl (fun j => iI ((σz 5 j : Nat) : Int)))), (a6, .inl (d6, 432, .inl (fun j => iI ((σz 6 j : Nat) : Int)))), (a7, .inl (d7, 216, .inl (fun j => iI ((σz 7 j : Nat) : Int)))), (a8, .inl (d8, 216, .inl (fun j => iI ((σz 8 j : Nat) : Int))))] := hD
  refine W.widen (k := 9) (n := 2808) (Nat.le_of_ble_eq_true rfl) (Nat.le_of_ble_eq_true rfl) ?_
  exact w_init (κ := (p, l, e, (headSpec (ws_ yX0_init cX0_init 2 none) ({ frames := 1, cells := 9, slots := 2808, locals := 12 } : Room)).room, s, m, _, below, meth, c, _, 9, 2808)) (O := (D, A, s.heap, h0, pk9 a0 a1 a2 a3 a4 a5 a6 a7 a8, pk9 d0 d1 d2 d3 d4 d5 d6 d7 d8)) (fr := 1) (lo := 12) (A0 := A0) (H0 := H0) ⟨⟨hx, hb, hml, hown, hts⟩, Nat.le_refl _, Nat.le_refl _, Nat.le_refl _, Nat.le_refl _⟩ ⟨hK, hA⟩ ⟨hr, hlocks, rfl, rfl⟩ H locs ls ⟨hP, hD, hS, bnd_z⟩ hl
/-- the constructor of LightFlowModel -/
def MI (l : Launch) (D : va_G) (A0 : Nat → Prop) (H0 : Heap) (h0 : Nat) : Prop := ∀ sz : Nat, Met l yX1_init (ws_ yX1_init cX1_init 1 none) ({ frames := 1, cells := 6, slots := 1296, locals := 12 } : Room) (va_Pc [.ref h0] (fun U => U.heap.size = sz ∧ va_P D vCl [(h0, .inr (1, min0))] U.heap ∧ va_K D vCl [] U ∧ va_D (fun _ => True) [(h0, .inr (1, min0))])) (va_Qv (fun u : XU => u.2.2 = σz) (fun u t => MB (D, A0, H0, h0, u.1, u.2.1) (va_A [(h0, .inr (1, min0))] sz) u.2.2 t) (va_A [(h0, .inr (1, min0))] sz)) 6 1296 (va_A [(h0, .inr (1, min0))] sz)
set_option maxHeartbeats 4000000 in
set_option maxRecDepth 100000 in
theorem m_Minit (l : Launch) (D : va_G) (A0 : Nat → Prop) (H0 : Heap) (h0 : Nat) : MI l D A0 H0 h0 := by
  intro sz
  refine Met.ofW (cc := cX1_init) (maxL := 1) (ret := none) (by decide) rfl ?_
  intro p e s m args below meth c s₁ B hml hv
  obtain ⟨rfl, hsz, hP, hK, hD0⟩ := hv
  have hx := B.exec
  have hb := B.bytes
  have hr := B.returns
  have hts := atoms_spec (ws := ws_ yX1_init cX1_init 1 none) B.pre
  have hts : ∀ w ∈ lw_all, w.before _ s = true := fun w h => hts w (List.mem_cons_of_mem _ h)
  have hown : s.vm.findClass RX1 = some m.cls := findClass_of_methodNamed B.named
  have hlocks := B.notSynchronized
  have hin : meth.name = "<init>" := (name_of_methodNamed B.named B.method).1
  subst hsz
  have hD := hD0.self (sz := s.heap.size)
  generalize hAe : va_A [(h0, .inr (1, min0))] s.heap.size = A at hD ⊢
  have hA : ∀ q : Nat, s.heap.size ≤ q → A q := fun q h => by rw [← hAe]; exact Or.inr h
  have hS : va_S A s.heap s.heap [] := va_S.rf
  have hP : va_P D vCl [(h0, .inr (1, [.null, .null, .null, .null, .null, .null]))] s.heap := hP
  have hD : va_D A [(h0, .inr (1, [.null, .null, .null, .null, .null, .null]))] := hD
  have hl := lv_entry ([.ref h0]) (n := 1) (Nat.le_of_ble_eq_true rfl)
  rw [lg_entry_eq]
  generalize (lg_sl ([.ref h0]) ++ List.replicate (1 - (lg_sl ([.ref h0])).length) Slot.unset).toArray = ls at hl ⊢
  have hl : lv_has ls 1 [(0, .ref h0)] := hl
  refine lv_aload_n hx hb dX1_init_0 rfl (lv_at hl 0 rfl) ?_
  refine W.objInit hx hb hown (hts _ q178) (hts _ q27) (hts _ q28) rfl (by rw [hml]; exact hl.1) rfl dX1_init_1 (Nat.le_of_ble_eq_true rfl) (Nat.le_of_ble_eq_true rfl) ?_
  refine W.eq (g2 := F0 m 4 ls []) rfl ?_
  refine lv_aload_n hx hb dX1_init_4 rfl (lv_at hl 0 rfl) ?_
  refine lv_sipush (v := 216) hx hb dX1_init_5 (by decide) ?_
  refine va_newa (atype := .boolean) (ty := .boolean) (N' := 216) (a0 := (216, .inl (fun j => iI ((σz 0 j : Nat) : Int)))) hx hb (hts _ q60) rfl hK hP hD hS hA (fun _ => rfl) (by decide) (by decide) (by decide) (Nat.le_of_ble_eq_true rfl) (Nat.le_of_ble_eq_true rfl) dX1_init_8 (fun a0 d0 H hK hP hD hS => ?_)
  have hP : va_P D vCl [(h0, .inr (1, [.null, .null, .null, .null, .null, .null])), (a0, .inl (d0, 216, .inl (fun j => iI ((σz 0 j : Nat) : Int))))] H := hP
  have hD : va_D A [(h0, .inr (1, [.null, .null, .null, .null, .null, .null])), (a0, .inl (d0, 216, .inl (fun j => iI ((σz 0 j : Nat) : Int))))] := hD
  have hK : va_K D vCl [(d0, .boolean)] s := hK
  refine va_putF (D := D) (ci := 1) (v := .ref a0) (ty := .array .boolean) (C := RX1) (T := TX1) (N := 6) hx hb hts in_X1 tyX1 tyX1_ok nmX1 hown hK hP hD hS 0 rfl rfl 0 (by decide) (hts _ q179) (fun _ h9 => h9) rfl hin rfl (by decide +kernel) rfl rfl (Nat.le_of_ble_eq_true rfl) dX1_init_10 (fun H locs hP hD hS => ?_)
  have hP : va_P D vCl [(h0, .inr (1, [.ref a0, .null, .null, .null, .null, .null])), (a0, .inl (d0, 216, .inl (fun j => iI ((σz 0 j : Nat) : Int))))] H := hP
  have hD : va_D A [(h0, .inr (1, [.ref a0, .null, .null, .null, .null, .null])), (a0, .inl (d0, 216, .inl (fun j => iI ((σz 0 j : Nat) : Int))))] := hD
  refine lv_aload_n hx hb dX1_init_13 rfl (lv_at hl 0 rfl) ?_
  refine lv_sipush (v := 216) hx hb dX1_init_14 (by decide) ?_
  refine va_newa (atype := .int) (ty := .int) (N' := 216) (a0 := (216, .inl (fun j => iI ((σz 1 j : Nat) : Int)))) hx hb (hts _ q61) rfl hK hP hD hS hA (fun _ => rfl) (by decide) (by decide) (by decide) (Nat.le_of_ble_eq_true rfl) (Nat.le_of_ble_eq_true rfl) dX1_init_17 (fun a1 d1 H hK hP hD hS => ?_)
  have hP : va_P D vCl [(h0, .inr (1, [.ref a0, .null, .null, .null, .null, .null])), (a0, .inl (d0, 216, .inl (fun j => iI ((σz 0 j : Nat) : Int)))), (a1, .inl (d1, 216, .inl (fun j => iI ((σz 1 j : Nat) : Int))))] H := hP
  have hD : va_D A [(h0, .inr (1, [.ref a0, .null, .null, .null, .null, .null])), (a0, .inl (d0, 216, .inl (fun j => iI ((σz 0 j : Nat) : Int)))), (a1, .inl (d1, 216, .inl (fun j => iI ((σz 1 j : Nat) : Int))))] := hD
  have hK : va_K D vCl [(d0, .boolean), (d1, .int)] s := hK
  refine va_putF (D := D) (ci := 1) (v := .ref a1) (ty := .array .int) (C := RX1) (T := TX1) (N := 6) hx hb hts in_X1 tyX1 tyX1_ok nmX1 hown hK hP hD hS 0 rfl rfl 1 (by decide) (hts _ q180) (fun _ h9 => h9) rfl hin rfl (by decide +kernel) rfl rfl (Nat.le_of_ble_eq_true rfl) dX1_init_19 (fun H locs hP hD hS => ?_)
  have hP : va_P D vCl [(h0, .inr (1, [.ref a0, .ref a1, .null, .null, .null, .null])), (a0, .inl (d0, 216, .inl (fun j => iI ((σz 0 j : Nat) : Int)))), (a1, .inl (d1, 216, .inl (fun j => iI ((σz 1 j : Nat) : Int))))] H := hP
  have hD : va_D A [(h0, .inr (1, [.ref a0, .ref a1, .null, .null, .null, .null])), (a0, .inl (d0, 216, .inl (fun j => iI ((σz 0 j : Nat) : Int)))), (a1, .inl (d1, 216, .inl (fun j => iI ((σz 1 j : Nat) : Int))))] := hD
  refine lv_aload_n hx hb dX1_init_22 rfl (lv_at hl 0 rfl) ?_
  refine lv_sipush (v := 216) hx hb dX1_init_23 (by decide) ?_
  refine va_newa (atype := .int) (ty := .int) (N' := 216) (a0 := (216, .inl (fun j => iI ((σz 2 j : Nat) : Int)))) hx hb (hts _ q61) rfl hK hP hD hS hA (fun _ => rfl) (by decide) (by decide) (by decide) (Nat.le_of_ble_eq_true rfl) (Nat.le_of_ble_eq_true rfl) dX1_init_26 (fun a2 d2 H hK hP hD hS => ?_)
  have hP : va_P D vCl [(h0, .inr (1, [.ref a0, .ref a1, .null, .null, .null, .null])), (a0, .inl (d0, 216, .inl (fun j => iI ((σz 0 j : Nat) : Int)))), (a1, .inl (d1, 216, .inl (fun j => iI ((σz 1 j : Nat) : Int)))), (a2, .inl (d2, 216, .inl (fun j => iI ((σz 2 j : Nat) : Int))))] H := hP
  have hD : va_D A [(h0, .inr (1, [.ref a0, .ref a1, .null, .null, .null, .null])), (a0, .inl (d0, 216, .inl (fun j => iI ((σz 0 j : Nat) : Int)))), (a1, .inl (d1, 216, .inl (fun j => iI ((σz 1 j : Nat) : Int)))), (a2, .inl (d2, 216, .inl (fun j => iI ((σz 2 j : Nat) : Int))))] := hD
  have hK : va_K D vCl [(d0, .boolean), (d1, .int), (d2, .int)] s := hK
  refine va_putF (D := D) (ci := 1) (v := .ref a2) (ty := .array .int) (C := RX1) (T := TX1) (N := 6) hx hb hts in_X1 tyX1 tyX1_ok nmX1 hown hK hP hD hS 0 rfl rfl 2 (by decide) (hts _ q181) (fun _ h9 => h9) rfl hin rfl (by decide +kernel) rfl rfl (Nat.le_of_ble_eq_true rfl) dX1_init_28 (fun H locs hP hD hS => ?_)
  have hP : va_P D vCl [(h0, .inr (1, [.ref a0, .ref a1, .ref a2, .null, .null, .null])), (a0, .inl (d0, 216, .inl (fun j => iI ((σz 0 j : Nat) : Int)))), (a1, .inl (d1, 216, .inl (fun j => iI ((σz 1 j : Nat) : Int)))), (a2, .inl (d2, 216, .inl (fun j => iI ((σz 2 j : Nat) : Int))))] H := hP
  have hD : va_D A [(h0, .inr (1, [.ref a0, .ref a1, .ref a2, .null, .null, .null])), (a0, .inl (d0, 216, .inl (fun j => iI ((σz 0 j : Nat) : Int)))), (a1, .inl (d1, 216, .inl (fun j => iI ((σz 1 j : Nat) : Int)))), (a2, .inl (d2, 216, .inl (fun j => iI ((σz 2 j : Nat) : Int))))] := hD
  refine lv_aload_n hx hb dX1_init_31 rfl (lv_at hl 0 rfl) ?_
  refine lv_sipush (v := 216) hx hb dX1_init_32 (by decide) ?_
  refine va_newa (atype := .int) (ty := .int) (N' := 216) (a0 := (216, .inl (fun j => iI ((σz 3 j : Nat) : Int)))) hx hb (hts _ q61) rfl hK hP hD hS hA (fun _ => rfl) (by decide) (by decide) (by decide) (Nat.le_of_ble_eq_true rfl) (Nat.le_of_ble_eq_true rfl) dX1_init_35 (fun a3 d3 H hK hP hD hS => ?_)
  have hP : va_P D vCl [(h0, .inr (1, [.ref a0, .ref a1, .ref a2, .null, .null, .null])), (a0, .inl (d0, 216, .inl (fun j => iI ((σz 0 j : Nat) : Int)))), (a1, .inl (d1, 216, .inl (fun j => iI ((σz 1 j : Nat) : Int)))), (a2, .inl (d2, 216, .inl (fun j => iI ((σz 2 j : Nat) : Int)))), (a3, .inl (d3, 216, .inl (fun j => iI ((σz 3 j : Nat) : Int))))] H := hP
  have hD : va_D A [(h0, .inr (1, [.ref a0, .ref a1, .ref a2, .null, .null, .null])), (a0, .inl (d0, 216, .inl (fun j => iI ((σz 0 j : Nat) : Int)))), (a1, .inl (d1, 216, .inl (fun j => iI ((σz 1 j : Nat) : Int)))), (a2, .inl (d2, 216, .inl (fun j => iI ((σz 2 j : Nat) : Int)))), (a3, .inl (d3, 216, .inl (fun j => iI ((σz 3 j : Nat) : Int))))] := hD
  have hK : va_K D vCl [(d0, .boolean), (d1, .int), (d2, .int), (d3, .int)] s := hK
  refine va_putF (D := D) (ci := 1) (v := .ref a3) (ty := .array .int) (C := RX1) (T := TX1) (N := 6) hx hb hts in_X1 tyX1 tyX1_ok nmX1 hown hK hP hD hS 0 rfl rfl 3 (by decide) (hts _ q182) (fun _ h9 => h9) rfl hin rfl (by decide +kernel) rfl rfl (Nat.le_of_ble_eq_true rfl) dX1_init_37 (fun H locs hP hD hS => ?_)
  have hP : va_P D vCl [(h0, .inr (1, [.ref a0, .ref a1, .ref a2, .ref a3, .null, .null])), (a0, .inl (d0, 216, .inl (fun j => iI ((σz 0 j : Nat) : Int)))), (a1, .inl (d1, 216, .inl (fun j => iI ((σz 1 j : Nat) : Int)))), (a2, .inl (d2, 216, .inl (fun j => iI ((σz 2 j : Nat) : Int)))), (a3, .inl (d3, 216, .inl (fun j => iI ((σz 3 j : Nat) : Int))))] H := hP
  have hD : va_D A [(h0, .inr (1, [.ref a0, .ref a1, .ref a2, .ref a3, .null, .null])), (a0, .inl (d0, 216, .inl (fun j => iI ((σz 0 j : Nat) : Int)))), (a1, .inl (d1, 216, .inl (fun j => iI ((σz 1 j : Nat) : Int)))), (a2, .inl (d2, 216, .inl (fun j => iI ((σz 2 j : Nat) : Int)))), (a3, .inl (d3, 216, .inl (fun j => iI ((σz 3 j : Nat) : Int))))] := hD
  refine lv_aload_n hx hb dX1_init_40 rfl (lv_at hl 0 rfl) ?_
  refine lv_sipush (v := 216) hx hb dX1_init_41 (by decide) ?_
  refine va_newa (atype := .int) (ty := .int) (N' := 216) (a0 := (216, .inl (fun j => iI ((σz 4 j : Nat) : Int)))) hx hb (hts _ q61) rfl hK hP hD hS hA (fun _ => rfl) (by decide) (by decide) (by decide) (Nat.le_of_ble_eq_true rfl) (Nat.le_of_ble_eq_true rfl) dX1_init_44 (fun a4 d4 H hK hP hD hS => ?_)
  have hP : va_P D vCl [(h0, .inr (1, [.ref a0, .ref a1, .ref a2, .ref a3, .null, .null])), (a0, .inl (d0, 216, .inl (fun j => iI ((σz 0 j : Nat) : Int)))), (a1, .inl (d1, 216, .inl (fun j => iI ((σz 1 j : Nat) : Int)))), (a2, .inl (d2, 216, .inl (fun j => iI ((σz 2 j : Nat) : Int)))), (a3, .inl (d3, 216, .inl (fun j => iI ((σz 3 j : Nat) : Int)))), (a4, .inl (d4, 216, .inl (fun j => iI ((σz 4 j : Nat) : Int))))] H := hP
  have hD : va_D A [(h0, .inr (1, [.ref a0, .ref a1, .ref a2, .ref a3, .null, .null])), (a0, .inl (d0, 216, .inl (fun j => iI ((σz 0 j : Nat) : Int)))), (a1, .inl (d1, 216, .inl (fun j => iI ((σz 1 j : Nat) : Int)))), (a2, .inl (d2, 216, .inl (fun j => iI ((σz 2 j : Nat) : Int)))), (a3, .inl (d3, 216, .inl (fun j => iI ((σz 3 j : Nat) : Int)))), (a4, .inl (d4, 216, .inl (fun j => iI ((σz 4 j : Nat) : Int))))] := hD
  have hK : va_K D vCl [(d0, .boolean), (d1, .int), (d2, .int), (d3, .int), (d4, .int)] s := hK
  refine va_putF (D := D) (ci := 1) (v := .ref a4) (ty := .array .int) (C := RX1) (T := TX1) (N := 6) hx hb hts in_X1 tyX1 tyX1_ok nmX1 hown hK hP hD hS 0 rfl rfl 4 (by decide) (hts _ q183) (fun _ h9 => h9) rfl hin rfl (by decide +kernel) rfl rfl (Nat.le_of_ble_eq_true rfl) dX1_init_46 (fun H locs hP hD hS => ?_)
  have hP : va_P D vCl [(h0, .inr (1, [.ref a0, .ref a1, .ref a2, .ref a3, .ref a4, .null])), (a0, .inl (d0, 216, .inl (fun j => iI ((σz 0 j : Nat) : Int)))), (a1, .inl (d1, 216, .inl (fun j => iI ((σz 1 j : Nat) : Int)))), (a2, .inl (d2, 216, .inl (fun j => iI ((σz 2 j : Nat) : Int)))), (a3, .inl (d3, 216, .inl (fun j => iI ((σz 3 j : Nat) : Int)))), (a4, .inl (d4, 216, .inl (fun j => iI ((σz 4 j : Nat) : Int))))] H := hP
  have hD : va_D A [(h0, .inr (1, [.ref a0, .ref a1, .ref a2, .ref a3, .ref a4, .null])), (a0, .inl (d0, 216, .inl (fun j => iI ((σz 0 j : Nat) : Int)))), (a1, .inl (d1, 216, .inl (fun j => iI ((σz 1 j : Nat) : Int)))), (a2, .inl (d2, 216, .inl (fun j => iI ((σz 2 j : Nat) : Int)))), (a3, .inl (d3, 216, .inl (fun j => iI ((σz 3 j : Nat) : Int)))), (a4, .inl (d4, 216, .inl (fun j => iI ((σz 4 j : Nat) : Int))))] := hD
  refine lv_aload_n hx hb dX1_init_49 rfl (lv_at hl 0 rfl) ?_
  refine lv_sipush (v := 216) hx hb dX1_init_50 (by decide) ?_
  refine va_newa (atype := .int) (ty := .int) (N' := 216) (a0 := (216, .inl (fun j => iI ((σz 5 j : Nat) : Int)))) hx hb (hts _ q61) rfl hK hP hD hS hA (fun _ => rfl) (by decide) (by decide) (by decide) (Nat.le_of_ble_eq_true rfl) (Nat.le_of_ble_eq_true rfl) dX1_init_53 (fun a5 d5 H hK hP hD hS => ?_)
  have hP : va_P D vCl [(h0, .inr (1, [.ref a0, .ref a1, .ref a2, .ref a3, .ref a4, .null])), (a0, .inl (d0, 216, .inl (fun j => iI ((σz 0 j : Nat) : Int)))), (a1, .inl (d1, 216, .inl (fun j => iI ((σz 1 j : Nat) : Int)))), (a2, .inl (d2, 216, .inl (fun j => iI ((σz 2 j : Nat) : Int)))), (a3, .inl (d3, 216, .inl (fun j => iI ((σz 3 j : Nat) : Int)))), (a4, .inl (d4, 216, .inl (fun j => iI ((σz 4 j : Nat) : Int)))), (a5, .inl (d5, 216, .inl (fun j => iI ((σz 5 j : Nat) : Int))))] H := hP
  have hD : va_D A [(h0, .inr (1, [.ref a0, .ref a1, .ref a2, .ref a3, .ref a4, .null])), (a0, .inl (d0, 216, .inl (fun j => iI ((σz 0 j : Nat) : Int)))), (a1, .inl (d1, 216, .inl (fun j => iI ((σz 1 j : Nat) : Int)))), (a2, .inl (d2, 216, .inl (fun j => iI ((σz 2 j : Nat) : Int)))), (a3, .inl (d3, 216, .inl (fun j => iI ((σz 3 j : Nat) : Int)))), (a4, .inl (d4, 216, .inl (fun j => iI ((σz 4 j : Nat) : Int)))), (a5, .inl (d5, 216, .inl (fun j => iI ((σz 5 j : Nat) : Int))))] := hD
  have hK : va_K D vCl [(d0, .boolean), (d1, .int), (d2, .int), (d3, .int), (d4, .int), (d5, .int)] s := hK
  refine va_putF (D := D) (ci := 1) (v := .ref a5) (ty := .array .int) (C := RX1) (T := TX1) (N := 6) hx hb hts in_X1 tyX1 tyX1_ok nmX1 hown hK hP hD hS 0 rfl rfl 5 (by decide) (hts _ q184) (fun _ h9 => h9) rfl hin rfl (by decide +kernel) rfl rfl (Nat.le_of_ble_eq_true rfl) dX1_init_55 (fun H locs hP hD hS => ?_)
  have hP : va_P D vCl [(h0, .inr (1, [.ref a0, .ref a1, .ref a2, .ref a3, .ref a4, .ref a5])), (a0, .inl (d0, 216, .inl (fun j => iI ((σz 0 j : Nat) : Int)))), (a1, .inl (d1, 216, .inl (fun j => iI ((σz 1 j : Nat) : Int)))), (a2, .inl (d2, 216, .inl (fun j => iI ((σz 2 j : Nat) : Int)))), (a3, .inl (d3, 216, .inl (fun j => iI ((σz 3 j : Nat) : Int)))), (a4, .inl (d4, 216, .inl (fun j => iI ((σz 4 j : Nat) : Int)))), (a5, .inl (d5, 216, .inl (fun j => iI ((σz 5 j : Nat) : Int))))] H := hP
  have hD : va_D A [(h0, .inr (1, [.ref a0, .ref a1, .ref a2, .ref a3, .ref a4, .ref a5])), (a0, .inl (d0, 216, .inl (fun j => iI ((σz 0 j : Nat) : Int)))), (a1, .inl (d1, 216, .inl (fun j => iI ((σz 1 j : Nat) : Int)))), (a2, .inl (d2, 216, .inl (fun j => iI ((σz 2 j : Nat) : Int)))), (a3, .inl (d3, 216, .inl (fun j => iI ((σz 3 j : Nat) : Int)))), (a4, .inl (d4, 216, .inl (fun j => iI ((σz 4 j : Nat) : Int)))), (a5, .inl (d5, 216, .inl (fun j => iI ((σz 5 j : Nat) : Int))))] := hD
  refine W.widen (k := 6) (n := 1296) (Nat.le_of_ble_eq_true rfl) (Nat.le_of_ble_eq_true rfl) ?_
  exact W.vret hx hb hr (fun t ht hW => ⟨⟨(pk9 a0 a1 a2 a3 a4 a5 a5 a5 a5, pk9 d0 d1 d2 d3 d4 d5 d5 d5 d5, σz), rfl, rfl, by rw [ht]; exact hP, va_K.moved hW.alike hK, hD, bnd_z⟩, hS.F ht⟩) hS.2.2 dX1_init_58
end
section
/-! THE CLAIM OUT OF ONE WALK OF THE LAW'S BODY. Your part is whole_start (and what it stands on); all else here is the same for every law, but numbers. -/
def R_law : String := "LightFlowLaw"
def lw_P (b : Addr) (xs : List Int32) (args : Array Value) (s : State) : Prop := args = #[.ref b] ∧ s.IntsAt b xs ∧ xs.length ≤ 256 ∧ (Jvm.Cond.and given_1 narrow_1).before args s = true
def lw_Q (_ : Array Value) (s : State) (o : Outcome) (t : State) : Prop := o = .returned (some (.int 1)) ∧ Framed s o t [] 600000 7290000
def lw_Z (below : List Frame) (a : Array Value) (s : State) : State → Prop := fun t => ∃ o, t.status = .running ∧ Ended t below o ∧ lw_Q a s o t
/-- the law's own end, with 1 on the stack, nothing written that was there before, its room as the claim has it -/
theorem lw_ret {p : Program} {l : Launch} {e : Env} {s : State} {m : MethodId} {below : List Frame} {meth : Method} {c : Code} {b : Nat} (hx : p.tables.exec = Jvm.exec) (hb : c.code = code) (hr : meth.sig.returnType = ret) (hlocks : meth.locks = false) {pc : Nat} {H : Heap} {ls : Array Slot} (hdg : decode code pc = .ok (.ireturn, 1)) : W p l e room_1 s m #[Value.ref b] below meth c H [] 600000 7290000 (lw_Z below #[Value.ref b] s) (F0 m pc ls [.int 1]) := by
  intro T hT X
  obtain ⟨fs, hret, hrun, hended, hW, hframe⟩ := X.leave (v := some (.int 1)) (hlocks := hlocks) (fun h => by rw [hr] at h; cases h)
  have hmeth' : T.vm.method? m = some meth := X.method'
  refine ⟨T.setFrames fs, ?_, .returned (some (.int 1)), hrun, hended, rfl, ⟨_, rfl⟩, hW, hframe⟩
  jvm_step X.here [X.here.top, hx, hb, hdg, hmeth', hr, ret, narrow_b1]
  (try refine ⟨rfl, ?_⟩); (try refine ⟨rfl, ?_⟩)
  first | (intro acts; rw [hret _ acts rfl rfl rfl]) | rw [hret _ _ rfl rfl rfl]
  exact Steps.refl _
/-- what holds at the law's entry: the machine, the code, the tables' words (any of lw_tbl by 'hts w (by decide +kernel)'), the script of L ints xs at the cell b, what the Statement gives of the start (any of its parts by flat_of_before) -/
def lw_At (p : Program) (s : State) (m : MethodId) (meth : Method) (c : Code) (b L : Nat) (xs : Nat → Int32) : Prop :=
  p.tables.exec = Jvm.exec ∧ c.code = code ∧ meth.sig.returnType = ret ∧ c.maxLocals = 4 ∧ s.vm.findClass R_law = some m.cls ∧ (∀ w ∈ lw_tbl, w.before #[Value.ref b] s = true) ∧ va_X b L xs s s.heap ∧ b < s.heap.size ∧ meth.locks = false ∧ (Jvm.Cond.and given_1 narrow_1).before #[Value.ref b] s = true
/-! the law's world: the cells of both objects; the script lies outside -/
abbrev LQ : Type := Nat × (Nat → Nat) × (Nat → ClassId)
abbrev MO (O : XO) (N : LQ) : XO := (oD O, oA O, oH O, N)
def lws (O : XO) (N : LQ) (σ τ : St) : va_W := xws O σ ++ mws (MO O N) τ
def lW (O : XO) (N : LQ) (σ τ : St) : Heap → List Loc → Prop := fun H locs => va_P (oD O) vCl (lws O N σ τ) H ∧ va_D (oA O) (lws O N σ τ) ∧ va_S (oA O) (oH O) H locs ∧ bnd σ ∧ bnd τ
def LC (κ : Kx) (O : XO) (N : LQ) (b n : Nat) (xs : Nat → Int32) : Prop := va_K (oD O) vCl (xty O ++ mty (MO O N)) (ks κ) ∧ (∀ x, (oH O).size ≤ x → oA O x) ∧ va_X b n xs (ks κ) (oH O) ∧ b < (oH O).size ∧ ¬ oA O b
def LRt (κ : Kx) (O : XO) (b : Nat) : Prop := (kt κ).sig.returnType = ret ∧ (kt κ).locks = false ∧ kR κ = room_1 ∧ ka κ = #[Value.ref b] ∧ kQ κ = lw_Z (kb κ) #[Value.ref b] (ks κ) ∧ kn κ ≤ 600000 ∧ ko κ ≤ 7290000 ∧ ∀ q, oA O q → (ks κ).heap.size ≤ q
section LR
variable {κ : Kx} {O : XO} {N : LQ} {σ τ : St} {cc : ByteArray} {nL fr lo : Nat} {pc : Nat} {L : List (Nat × Value)} {st : List Value} {b n : Nat} {xs : Nat → Int32}
theorem l_sld (C : CB κ cc nL R_law fr lo) (X : LC κ O N b n xs) (j : Nat) {z : Int} (hz : z = (j : Int)) (hj : j < n) (hn : n < 2147483648) (hdg : decode cc pc = .ok (.iaload, 1)) (kk : J κ nL (lW O N σ τ) (pc + 1) L (.int (iI (xs j).toInt) :: st)) : J κ nL (lW O N σ τ) pc L (.int (iI z) :: .ref b :: st) := by
  subst hz
  intro H locs ls hw hl
  refine va_sld C.1.1 C.1.2.1 X.2.2.1 X.2.2.2.1 X.2.2.2.2 hw.2.2.1 (iI_in hj hn) hdg ?_
  have g := kk H locs ls hw hl
  rw [← iI_of (xs j)] at g
  rw [iI_cl (Nat.lt_trans hj hn)]
  exact g
theorem l_slen (C : CB κ cc nL R_law fr lo) (X : LC κ O N b n xs) (hdg : decode cc pc = .ok (.arraylength, 1)) (kk : J κ nL (lW O N σ τ) (pc + 1) L (.int (iI (n : Int)) :: st)) : J κ nL (lW O N σ τ) pc L (.ref b :: st) := by
  intro H locs ls hw hl
  refine va_slen C.1.1 C.1.2.1 X.2.2.1 X.2.2.2.1 X.2.2.2.2 hw.2.2.1 hdg ?_
  have g := kk H locs ls hw hl
  rw [iI_nat] at g
  exact g
theorem l_and15 {own : String} {Wd : Heap → List Loc → Prop} (C : CB κ cc nL own fr lo) {x : Int32} (hdg : decode cc pc = .ok (.iand, 1)) (kk : ∀ k : Nat, k < 16 → J κ nL Wd (pc + 1) L (.int (iI (k : Int)) :: st)) : J κ nL Wd pc L (.int (iI 15) :: .int x :: st) := by
  intro H locs ls hw hl
  obtain ⟨k, hk, e⟩ := pk_andE x (m := iI 15) 4 (by decide)
  refine lv_iand C.1.1 C.1.2.1 hdg ?_
  rw [e, ← iI_nat]
  exact kk k hk H locs ls hw hl
theorem l_tabIn {own : String} {Wd : Heap → List Loc → Prop} (C : CB κ cc nL own fr lo) {dflt lo' hi : Int} {offs : Array Int} {len : Nat} {x : Int32} {off : Int} {tgt : Nat} (hdg : decode cc pc = .ok (.tableswitch dflt lo' hi offs, len)) (h1 : ¬ x.toInt < lo') (h2 : ¬ hi < x.toInt) (ho : offs[(x.toInt - lo').toNat]? = some off) (ht : (pc : Int) + off = (tgt : Int)) (k : J κ nL Wd tgt L st) : J κ nL Wd pc L (.int x :: st) := fun H locs ls hw hl => lv_tableIn C.1.1 C.1.2.1 hdg h1 h2 ho ht (k H locs ls hw hl)
theorem l_tabOut {own : String} {Wd : Heap → List Loc → Prop} (C : CB κ cc nL own fr lo) {dflt lo' hi : Int} {offs : Array Int} {len : Nat} {x : Int32} {tgt : Nat} (hdg : decode cc pc = .ok (.tableswitch dflt lo' hi offs, len)) (h : x.toInt < lo' ∨ hi < x.toInt) (ht : (pc : Int) + dflt = (tgt : Int)) (k : J κ nL Wd tgt L st) : J κ nL Wd pc L (.int x :: st) := fun H locs ls hw hl => lv_tableOut C.1.1 C.1.2.1 hdg h ht (k H locs ls hw hl)
theorem l_eq {own : String} {Wd : Heap → List Loc → Prop} (C : CB κ cc nL own fr lo) {r1 r2 : Int32} {off : Int} {tgt : Nat} (h : r1 = r2) (hdg : decode cc pc = .ok (.if_icmp .eq off, 3)) (ht : (pc : Int) + off = (tgt : Int)) (k : J κ nL Wd tgt L st) : J κ nL Wd pc L (.int r2 :: .int r1 :: st) := fun H locs ls hw hl => lv_icmp_eq C.1.1 C.1.2.1 hdg ht (fun _ => k H locs ls hw hl) (fun q => absurd h q)
set_option maxRecDepth 100000 in
theorem l_callX {y : MethodName} {bc : ByteArray} {nL' fr' lo' idx : Nat} {ret : FieldType} {av stk : List Value} {post : Int32 → St → Prop} (C : CB κ cc nL R_law fr lo) (X : LC κ O N b n xs) (hM : XMi (kl κ) O y bc nL' ret fr' lo' av σ post) (na : Nat) (hn : av.length = na) (hq : GoodIn lw_all (wsV R_law idx RX0 y (ws_ y bc nL' (some ret)))) (hd : y.cls = RX0 ∧ y.cls ≠ "java/lang/invoke/MethodHandle" ∧ y.cls ≠ "java/lang/invoke/VarHandle" ∧ (parseMethodDescriptor y.desc).map (fun d => d.parameters.length) = some na) (hr : fr' + 1 ≤ fr ∧ 8 + (nL' + 11) + lo' ≤ lo) (hdg : decode cc pc = .ok (.invokevirtual idx, 3)) (hs : stk = av.reverse ++ .ref (oh O) :: st) (hc : (st.map fun v => v.category).sum ≤ 8) (kk : ∀ r σ', post r σ' → J κ nL (lW O N σ' τ) (pc + 3) L (.int r :: st)) : J κ nL (lW O N σ τ) pc L stk := by
  subst hs
  intro H locs ls hw hl
  obtain ⟨hP, hD, hS, hb1, hb2⟩ := hw
  have hPc := hP.sub (ws' := xws O σ) [0, 1, 2, 3, 4, 5, 6, 7, 8, 9] rfl
  have hDc := hD.sub (ws' := xws O σ) [0, 1, 2, 3, 4, 5, 6, 7, 8, 9] (by decide) rfl
  have hKc := X.1.sub (tys' := xty O) [0, 1, 2, 3, 4, 5, 6, 7, 8] rfl
  have hF := va_free (wc := xws O σ) hD hS X.2.1 [0, 1, 2, 3, 4, 5, 6, 7, 8, 9] rfl
  refine va_calli (va_runV (As := av) (rest := st) C.1 (hM H.size) (cwV na C.1.2.2.2.2 hq rfl rfl rfl hd ⟨Nat.le_trans hr.1 C.2.1, Nat.le_trans hr.2 C.2.2.1⟩) ⟨fun a U g mk q => ?_, va_recv hKc hPc (ci := 0) (q0 := 0) rfl rfl, fun U hU hW => ?_⟩ rfl hn hl.1 rfl (lv_room hc) hdg ⟨C.2.2.2.1, C.2.2.2.2⟩) hS (fun q _ h => hF q h) hF (fun r σ' t H1 locs1 ht hvm hp hB hz hk hS1 => ?_)
  · obtain ⟨q0, q1, qP, qK, qD⟩ := q
    exact ⟨q0, q1, qP, va_K.moved (u := U) (U := U.calling g mk a) (Vm.Alike.refl U.vm) qK, qD⟩
  · exact ⟨rfl, by rw [hU], by rw [hU]; exact hPc, va_K.moved hW.alike hKc, hDc.weaken (fun _ _ _ _ => trivial), hb1⟩
  · obtain ⟨hP1, hK1, hD1, hb3⟩ := hB
    rw [ht] at hP1
    obtain ⟨hP2, hD2⟩ := va_join (wc := xws O σ) (wr := mws (MO O N) τ) (w1 := xws O σ') hP hD [0, 1, 2, 3, 4, 5, 6, 7, 8, 9] [10, 11, 12, 13, 14, 15, 16] rfl rfl (by decide) (by decide) hk hF hP1 hD1
    have hP3 := hP2.sub (ws' := lws O N σ' τ) [7, 8, 9, 10, 11, 12, 13, 14, 15, 16, 0, 1, 2, 3, 4, 5, 6] rfl
    have hD3 := hD2.sub (ws' := lws O N σ' τ) [7, 8, 9, 10, 11, 12, 13, 14, 15, 16, 0, 1, 2, 3, 4, 5, 6] (by decide) rfl
    exact kk r σ' hp H1 locs1 ls ⟨hP3, hD3, hS1, hb3, hb2⟩ hl
set_option maxRecDepth 100000 in
theorem l_callM {y : MethodName} {bc : ByteArray} {nL' fr' lo' idx : Nat} {ret : FieldType} {av stk : List Value} {post : Int32 → St → Prop} (C : CB κ cc nL R_law fr lo) (X : LC κ O N b n xs) (hM : MMi (kl κ) (MO O N) y bc nL' ret fr' lo' av τ post) (na : Nat) (hn : av.length = na) (hq : GoodIn lw_all (wsV R_law idx RX1 y (ws_ y bc nL' (some ret)))) (hd : y.cls = RX1 ∧ y.cls ≠ "java/lang/invoke/MethodHandle" ∧ y.cls ≠ "java/lang/invoke/VarHandle" ∧ (parseMethodDescriptor y.desc).map (fun d => d.parameters.length) = some na) (hr : fr' + 1 ≤ fr ∧ 8 + (nL' + 11) + lo' ≤ lo) (hdg : decode cc pc = .ok (.invokevirtual idx, 3)) (hs : stk = av.reverse ++ .ref (oh (MO O N)) :: st) (hc : (st.map fun v => v.category).sum ≤ 8) (kk : ∀ r σ', post r σ' → J κ nL (lW O N σ σ') (pc + 3) L (.int r :: st)) : J κ nL (lW O N σ τ) pc L stk := by
  subst hs
  intro H locs ls hw hl
  obtain ⟨hP, hD, hS, hb1, hb2⟩ := hw
  have hPc := hP.sub (ws' := mws (MO O N) τ) [10, 11, 12, 13, 14, 15, 16] rfl
  have hDc := hD.sub (ws' := mws (MO O N) τ) [10, 11, 12, 13, 14, 15, 16] (by decide) rfl
  have hKc := X.1.sub (tys' := mty (MO O N)) [9, 10, 11, 12, 13, 14] rfl
  have hF := va_free (wc := mws (MO O N) τ) hD hS X.2.1 [10, 11, 12, 13, 14, 15, 16] rfl
  refine va_calli (va_runV (As := av) (rest := st) C.1 (hM H.size) (cwV na C.1.2.2.2.2 hq rfl rfl rfl hd ⟨Nat.le_trans hr.1 C.2.1, Nat.le_trans hr.2 C.2.2.1⟩) ⟨fun a U g mk q => ?_, va_recv hKc hPc (ci := 1) (q0 := 0) rfl rfl, fun U hU hW => ?_⟩ rfl hn hl.1 rfl (lv_room hc) hdg ⟨C.2.2.2.1, C.2.2.2.2⟩) hS (fun q _ h => hF q h) hF (fun r σ' t H1 locs1 ht hvm hp hB hz hk hS1 => ?_)
  · obtain ⟨q0, q1, qP, qK, qD⟩ := q
    exact ⟨q0, q1, qP, va_K.moved (u := U) (U := U.calling g mk a) (Vm.Alike.refl U.vm) qK, qD⟩
  · exact ⟨rfl, by rw [hU], by rw [hU]; exact hPc, va_K.moved hW.alike hKc, hDc.weaken (fun _ _ _ _ => trivial), hb2⟩
  · obtain ⟨hP1, hK1, hD1, hb3⟩ := hB
    rw [ht] at hP1
    obtain ⟨hP2, hD2⟩ := va_join (wc := mws (MO O N) τ) (wr := xws O σ) (w1 := mws (MO O N) σ') hP hD [10, 11, 12, 13, 14, 15, 16] [0, 1, 2, 3, 4, 5, 6, 7, 8, 9] rfl rfl (by decide) (by decide) hk hF hP1 hD1
    exact kk r σ' hp H1 locs1 ls ⟨hP2, hD2, hS1, hb1, hb3⟩ hl
theorem l_end (C : CB κ cL_law 4 R_law fr lo) (Rt : LRt κ O b) : J κ 4 (lW O N σ τ) 490 L [.int (iI 1)] := by
  intro H locs ls hw hl
  obtain ⟨h1, h2, h3, h4, h5, h6, h7, h8⟩ := Rt
  refine va_forget (fun q hq => h8 _ (hw.2.2.1.2.2 q hq)) ?_
  refine W.widen (k := 600000) (n := 7290000) h6 h7 ?_
  rw [h3, h4, h5]
  exact lw_ret C.1.1 C.1.2.1 h1 h2 dL_law_490
end LR
end
section
set_option maxHeartbeats 4000000 in
theorem lc_solid {κ : Kx} {O : XO} {N : LQ} {σ τ : St} {b n : Nat} {xs : Nat → Int32} {j : Nat} {z : Int} (C : CB κ cL_law 4 R_law 7 240) (X : LC κ O N b n xs) (hn : n ≤ 256) (hz : z = (j : Int)) (hj : j + 4 ≤ n) (h : LI σ τ) (kk : ∀ σ' τ' : St, LI σ' τ' → J κ 4 (lW O N σ' τ') 483 [(0, .ref b), (1, .ref (oh O)), (2, .ref (oh (MO O N))), (3, .int (iI z))] []) : J κ 4 (lW O N σ τ) 108 [(0, .ref b), (1, .ref (oh O)), (2, .ref (oh (MO O N))), (3, .int (iI z))] [] := by
  refine j_aload_n C 1 dL_law_108 rfl rfl ?_
  refine j_aload_n C 0 dL_law_109 rfl rfl ?_
  refine j_iload_n C 3 dL_law_110 rfl rfl ?_
  refine j_iconst C dL_law_111 ?_
  refine j_iadd C dL_law_112 ?_
  refine l_sld C X (j + 1) (by omega) (by omega) (by omega) dL_law_113 ?_
  refine j_aload_n C 0 dL_law_114 rfl rfl ?_
  refine j_iload_n C 3 dL_law_115 rfl rfl ?_
  refine j_iconst C dL_law_116 ?_
  refine j_iadd C dL_law_117 ?_
  refine l_sld C X (j + 2) (by omega) (by omega) (by omega) dL_law_118 ?_
  refine l_callX C X (m_solid _ O σ (xs (j + 1)).toInt (xs (j + 2)).toInt (iI_rg _) (iI_rg _) h.1) 2 rfl (lw_V q62 q63 q64 q19 q65) (by decide +kernel) (by decide) dL_law_119 rfl (Nat.le_of_ble_eq_true rfl) (fun r1 σ' h1 => ?_)
  refine j_aload_n C 2 dL_law_122 rfl rfl ?_
  refine j_aload_n C 0 dL_law_123 rfl rfl ?_
  refine j_iload_n C 3 dL_law_124 rfl rfl ?_
  refine j_iconst C dL_law_125 ?_
  refine j_iadd C dL_law_126 ?_
  refine l_sld C X (j + 1) (by omega) (by omega) (by omega) dL_law_127 ?_
  refine j_aload_n C 0 dL_law_128 rfl rfl ?_
  refine j_iload_n C 3 dL_law_129 rfl rfl ?_
  refine j_iconst C dL_law_130 ?_
  refine j_iadd C dL_law_131 ?_
  refine l_sld C X (j + 2) (by omega) (by omega) (by omega) dL_law_132 ?_
  refine l_callM C X (m_Msolid _ (MO O N) τ (xs (j + 1)).toInt (xs (j + 2)).toInt (iI_rg _) (iI_rg _) (li_w h)) 2 rfl (lw_V q198 q199 q200 q20 q201) (by decide +kernel) (by decide) dL_law_133 rfl (Nat.le_of_ble_eq_true rfl) (fun r2 τ' h2 => ?_)
  obtain ⟨e, h'⟩ := a_solid h h1 h2
  exact l_eq C (tgt := 483) e dL_law_136 (by decide) (kk σ' τ' h')
set_option maxHeartbeats 4000000 in
theorem lc_fill {κ : Kx} {O : XO} {N : LQ} {σ τ : St} {b n : Nat} {xs : Nat → Int32} {j : Nat} {z : Int} (C : CB κ cL_law 4 R_law 7 240) (X : LC κ O N b n xs) (hn : n ≤ 256) (hz : z = (j : Int)) (hj : j + 4 ≤ n) (h : LI σ τ) (kk : ∀ σ' τ' : St, LI σ' τ' → J κ 4 (lW O N σ' τ') 483 [(0, .ref b), (1, .ref (oh O)), (2, .ref (oh (MO O N))), (3, .int (iI z))] []) : J κ 4 (lW O N σ τ) 141 [(0, .ref b), (1, .ref (oh O)), (2, .ref (oh (MO O N))), (3, .int (iI z))] [] := by
  refine j_aload_n C 1 dL_law_141 rfl rfl ?_
  refine j_aload_n C 0 dL_law_142 rfl rfl ?_
  refine j_iload_n C 3 dL_law_143 rfl rfl ?_
  refine j_iconst C dL_law_144 ?_
  refine j_iadd C dL_law_145 ?_
  refine l_sld C X (j + 1) (by omega) (by omega) (by omega) dL_law_146 ?_
  refine j_aload_n C 0 dL_law_147 rfl rfl ?_
  refine j_iload_n C 3 dL_law_148 rfl rfl ?_
  refine j_iconst C dL_law_149 ?_
  refine j_iadd C dL_law_150 ?_
  refine l_sld C X (j + 2) (by omega) (by omega) (by omega) dL_law_151 ?_
  refine j_aload_n C 0 dL_law_152 rfl rfl ?_
  refine j_iload_n C 3 dL_law_153 rfl rfl ?_
  refine j_iconst C dL_law_154 ?_
  refine j_iadd C dL_law_155 ?_
  refine l_sld C X (j + 3) (by omega) (by omega) (by omega) dL_law_156 ?_
  refine l_callX C X (m_fill _ O σ (xs (j + 1)).toInt (xs (j + 2)).toInt (xs (j + 3)).toInt (iI_rg _) (iI_rg _) (iI_rg _) h.1) 3 rfl (lw_V q96 q97 q98 q19 q99) (by decide +kernel) (by decide) dL_law_157 rfl (Nat.le_of_ble_eq_true rfl) (fun r1 σ' h1 => ?_)
  refine j_aload_n C 2 dL_law_160 rfl rfl ?_
  refine j_aload_n C 0 dL_law_161 rfl rfl ?_
  refine j_iload_n C 3 dL_law_162 rfl rfl ?_
  refine j_iconst C dL_law_163 ?_
  refine j_iadd C dL_law_164 ?_
  refine l_sld C X (j + 1) (by omega) (by omega) (by omega) dL_law_165 ?_
  refine j_aload_n C 0 dL_law_166 rfl rfl ?_
  refine j_iload_n C 3 dL_law_167 rfl rfl ?_
  refine j_iconst C dL_law_168 ?_
  refine j_iadd C dL_law_169 ?_
  refine l_sld C X (j + 2) (by omega) (by omega) (by omega) dL_law_170 ?_
  refine j_aload_n C 0 dL_law_171 rfl rfl ?_
  refine j_iload_n C 3 dL_law_172 rfl rfl ?_
  refine j_iconst C dL_law_173 ?_
  refine j_iadd C dL_law_174 ?_
  refine l_sld C X (j + 3) (by omega) (by omega) (by omega) dL_law_175 ?_
  refine l_callM C X (m_Mfill _ (MO O N) τ (xs (j + 1)).toInt (xs (j + 2)).toInt (xs (j + 3)).toInt (iI_rg _) (iI_rg _) (iI_rg _)) 3 rfl (lw_V q206 q207 q208 q20 q209) (by decide +kernel) (by decide) dL_law_176 rfl (Nat.le_of_ble_eq_true rfl) (fun r2 τ' h2 => ?_)
  obtain ⟨e, h'⟩ := a_fill h h1 h2
  exact l_eq C (tgt := 483) e dL_law_179 (by decide) (kk σ' τ' h')
set_option maxHeartbeats 4000000 in
theorem lc_shell {κ : Kx} {O : XO} {N : LQ} {σ τ : St} {b n : Nat} {xs : Nat → Int32} {j : Nat} {z : Int} (C : CB κ cL_law 4 R_law 7 240) (X : LC κ O N b n xs) (hn : n ≤ 256) (hz : z = (j : Int)) (hj : j + 4 ≤ n) (h : LI σ τ) (kk : ∀ σ' τ' : St, LI σ' τ' → J κ 4 (lW O N σ' τ') 483 [(0, .ref b), (1, .ref (oh O)), (2, .ref (oh (MO O N))), (3, .int (iI z))] []) : J κ 4 (lW O N σ τ) 184 [(0, .ref b), (1, .ref (oh O)), (2, .ref (oh (MO O N))), (3, .int (iI z))] [] := by
  refine j_aload_n C 1 dL_law_184 rfl rfl ?_
  refine j_aload_n C 0 dL_law_185 rfl rfl ?_
  refine j_iload_n C 3 dL_law_186 rfl rfl ?_
  refine j_iconst C dL_law_187 ?_
  refine j_iadd C dL_law_188 ?_
  refine l_sld C X (j + 1) (by omega) (by omega) (by omega) dL_law_189 ?_
  refine j_aload_n C 0 dL_law_190 rfl rfl ?_
  refine j_iload_n C 3 dL_law_191 rfl rfl ?_
  refine j_iconst C dL_law_192 ?_
  refine j_iadd C dL_law_193 ?_
  refine l_sld C X (j + 2) (by omega) (by omega) (by omega) dL_law_194 ?_
  refine l_callX C X (m_shell _ O σ (xs (j + 1)).toInt (xs (j + 2)).toInt (iI_rg _) (iI_rg _) h.1) 2 rfl (lw_V q106 q107 q108 q19 q109) (by decide +kernel) (by decide) dL_law_195 rfl (Nat.le_of_ble_eq_true rfl) (fun r1 σ' h1 => ?_)
  refine j_aload_n C 2 dL_law_198 rfl rfl ?_
  refine j_aload_n C 0 dL_law_199 rfl rfl ?_
  refine j_iload_n C 3 dL_law_200 rfl rfl ?_
  refine j_iconst C dL_law_201 ?_
  refine j_iadd C dL_law_202 ?_
  refine l_sld C X (j + 1) (by omega) (by omega) (by omega) dL_law_203 ?_
  refine j_aload_n C 0 dL_law_204 rfl rfl ?_
  refine j_iload_n C 3 dL_law_205 rfl rfl ?_
  refine j_iconst C dL_law_206 ?_
  refine j_iadd C dL_law_207 ?_
  refine l_sld C X (j + 2) (by omega) (by omega) (by omega) dL_law_208 ?_
  refine l_callM C X (m_Mshell _ (MO O N) τ (xs (j + 1)).toInt (xs (j + 2)).toInt (iI_rg _) (iI_rg _) (li_w h)) 2 rfl (lw_V q218 q219 q220 q20 q221) (by decide +kernel) (by decide) dL_law_209 rfl (Nat.le_of_ble_eq_true rfl) (fun r2 τ' h2 => ?_)
  obtain ⟨e, h'⟩ := a_shell h h1 h2
  exact l_eq C (tgt := 483) e dL_law_212 (by decide) (kk σ' τ' h')
set_option maxHeartbeats 4000000 in
theorem lc_lamp {κ : Kx} {O : XO} {N : LQ} {σ τ : St} {b n : Nat} {xs : Nat → Int32} {j : Nat} {z : Int} (C : CB κ cL_law 4 R_law 7 240) (X : LC κ O N b n xs) (hn : n ≤ 256) (hz : z = (j : Int)) (hj : j + 4 ≤ n) (h : LI σ τ) (kk : ∀ σ' τ' : St, LI σ' τ' → J κ 4 (lW O N σ' τ') 483 [(0, .ref b), (1, .ref (oh O)), (2, .ref (oh (MO O N))), (3, .int (iI z))] []) : J κ 4 (lW O N σ τ) 217 [(0, .ref b), (1, .ref (oh O)), (2, .ref (oh (MO O N))), (3, .int (iI z))] [] := by
  refine j_aload_n C 1 dL_law_217 rfl rfl ?_
  refine j_aload_n C 0 dL_law_218 rfl rfl ?_
  refine j_iload_n C 3 dL_law_219 rfl rfl ?_
  refine j_iconst C dL_law_220 ?_
  refine j_iadd C dL_law_221 ?_
  refine l_sld C X (j + 1) (by omega) (by omega) (by omega) dL_law_222 ?_
  refine j_aload_n C 0 dL_law_223 rfl rfl ?_
  refine j_iload_n C 3 dL_law_224 rfl rfl ?_
  refine j_iconst C dL_law_225 ?_
  refine j_iadd C dL_law_226 ?_
  refine l_sld C X (j + 2) (by omega) (by omega) (by omega) dL_law_227 ?_
  refine l_callX C X (m_lamp _ O σ (xs (j + 1)).toInt (xs (j + 2)).toInt (iI_rg _) (iI_rg _) h.1) 2 rfl (lw_V q113 q114 q115 q19 q116) (by decide +kernel) (by decide) dL_law_228 rfl (Nat.le_of_ble_eq_true rfl) (fun r1 σ' h1 => ?_)
  refine j_aload_n C 2 dL_law_231 rfl rfl ?_
  refine j_aload_n C 0 dL_law_232 rfl rfl ?_
  refine j_iload_n C 3 dL_law_233 rfl rfl ?_
  refine j_iconst C dL_law_234 ?_
  refine j_iadd C dL_law_235 ?_
  refine l_sld C X (j + 1) (by omega) (by omega) (by omega) dL_law_236 ?_
  refine j_aload_n C 0 dL_law_237 rfl rfl ?_
  refine j_iload_n C 3 dL_law_238 rfl rfl ?_
  refine j_iconst C dL_law_239 ?_
  refine j_iadd C dL_law_240 ?_
  refine l_sld C X (j + 2) (by omega) (by omega) (by omega) dL_law_241 ?_
  refine l_callM C X (m_Mlamp _ (MO O N) τ (xs (j + 1)).toInt (xs (j + 2)).toInt (iI_rg _) (iI_rg _)) 2 rfl (lw_V q222 q223 q224 q20 q225) (by decide +kernel) (by decide) dL_law_242 rfl (Nat.le_of_ble_eq_true rfl) (fun r2 τ' h2 => ?_)
  obtain ⟨e, h'⟩ := a_lamp h h1 h2
  exact l_eq C (tgt := 483) e dL_law_245 (by decide) (kk σ' τ' h')
set_option maxHeartbeats 4000000 in
theorem lc_isSolid {κ : Kx} {O : XO} {N : LQ} {σ τ : St} {b n : Nat} {xs : Nat → Int32} {j : Nat} {z : Int} (C : CB κ cL_law 4 R_law 7 240) (X : LC κ O N b n xs) (hn : n ≤ 256) (hz : z = (j : Int)) (hj : j + 4 ≤ n) (h : LI σ τ) (kk : ∀ σ' τ' : St, LI σ' τ' → J κ 4 (lW O N σ' τ') 483 [(0, .ref b), (1, .ref (oh O)), (2, .ref (oh (MO O N))), (3, .int (iI z))] []) : J κ 4 (lW O N σ τ) 250 [(0, .ref b), (1, .ref (oh O)), (2, .ref (oh (MO O N))), (3, .int (iI z))] [] := by
  refine j_aload_n C 1 dL_law_250 rfl rfl ?_
  refine j_aload_n C 0 dL_law_251 rfl rfl ?_
  refine j_iload_n C 3 dL_law_252 rfl rfl ?_
  refine j_iconst C dL_law_253 ?_
  refine j_iadd C dL_law_254 ?_
  refine l_sld C X (j + 1) (by omega) (by omega) (by omega) dL_law_255 ?_
  refine l_callX C X (m_isSolid _ O σ (xs (j + 1)).toInt (iI_rg _) h.1) 1 rfl (lw_V q121 q122 q123 q19 q124) (by decide +kernel) (by decide) dL_law_256 rfl (Nat.le_of_ble_eq_true rfl) (fun r1 σ' h1 => ?_)
  refine j_aload_n C 2 dL_law_259 rfl rfl ?_
  refine j_aload_n C 0 dL_law_260 rfl rfl ?_
  refine j_iload_n C 3 dL_law_261 rfl rfl ?_
  refine j_iconst C dL_law_262 ?_
  refine j_iadd C dL_law_263 ?_
  refine l_sld C X (j + 1) (by omega) (by omega) (by omega) dL_law_264 ?_
  refine l_callM C X (m_MisSolid _ (MO O N) τ (xs (j + 1)).toInt (iI_rg _) (li_w h)) 1 rfl (lw_V q226 q227 q228 q20 q229) (by decide +kernel) (by decide) dL_law_265 rfl (Nat.le_of_ble_eq_true rfl) (fun r2 τ' h2 => ?_)
  obtain ⟨e, h'⟩ := a_isSolid h h1 h2
  exact l_eq C (tgt := 483) e dL_law_268 (by decide) (kk σ' τ' h')
set_option maxHeartbeats 4000000 in
theorem lc_lamplight {κ : Kx} {O : XO} {N : LQ} {σ τ : St} {b n : Nat} {xs : Nat → Int32} {j : Nat} {z : Int} (C : CB κ cL_law 4 R_law 7 240) (X : LC κ O N b n xs) (hn : n ≤ 256) (hz : z = (j : Int)) (hj : j + 4 ≤ n) (h : LI σ τ) (kk : ∀ σ' τ' : St, LI σ' τ' → J κ 4 (lW O N σ' τ') 483 [(0, .ref b), (1, .ref (oh O)), (2, .ref (oh (MO O N))), (3, .int (iI z))] []) : J κ 4 (lW O N σ τ) 273 [(0, .ref b), (1, .ref (oh O)), (2, .ref (oh (MO O N))), (3, .int (iI z))] [] := by
  refine j_aload_n C 1 dL_law_273 rfl rfl ?_
  refine j_aload_n C 0 dL_law_274 rfl rfl ?_
  refine j_iload_n C 3 dL_law_275 rfl rfl ?_
  refine j_iconst C dL_law_276 ?_
  refine j_iadd C dL_law_277 ?_
  refine l_sld C X (j + 1) (by omega) (by omega) (by omega) dL_law_278 ?_
  refine l_callX C X (m_lamplight _ O σ (xs (j + 1)).toInt (iI_rg _) h.1) 1 rfl (lw_V q125 q126 q127 q19 q128) (by decide +kernel) (by decide) dL_law_279 rfl (Nat.le_of_ble_eq_true rfl) (fun r1 σ' h1 => ?_)
  refine j_aload_n C 2 dL_law_282 rfl rfl ?_
  refine j_aload_n C 0 dL_law_283 rfl rfl ?_
  refine j_iload_n C 3 dL_law_284 rfl rfl ?_
  refine j_iconst C dL_law_285 ?_
  refine j_iadd C dL_law_286 ?_
  refine l_sld C X (j + 1) (by omega) (by omega) (by omega) dL_law_287 ?_
  refine l_callM C X (m_Mlamplight _ (MO O N) τ (xs (j + 1)).toInt (iI_rg _) (σ 2) (σ 3) (fun c => σ 3 (216 + c)) (li_mg h)) 1 rfl (lw_V q230 q231 q232 q20 q233) (by decide +kernel) (by decide) dL_law_288 rfl (Nat.le_of_ble_eq_true rfl) (fun r2 τ' h2 => ?_)
  obtain ⟨e, h'⟩ := a_lamplight h h1 h2
  exact l_eq C (tgt := 483) e dL_law_291 (by decide) (kk σ' τ' h')
set_option maxHeartbeats 4000000 in
theorem lc_skylight {κ : Kx} {O : XO} {N : LQ} {σ τ : St} {b n : Nat} {xs : Nat → Int32} {j : Nat} {z : Int} (C : CB κ cL_law 4 R_law 7 240) (X : LC κ O N b n xs) (hn : n ≤ 256) (hz : z = (j : Int)) (hj : j + 4 ≤ n) (h : LI σ τ) (kk : ∀ σ' τ' : St, LI σ' τ' → J κ 4 (lW O N σ' τ') 483 [(0, .ref b), (1, .ref (oh O)), (2, .ref (oh (MO O N))), (3, .int (iI z))] []) : J κ 4 (lW O N σ τ) 296 [(0, .ref b), (1, .ref (oh O)), (2, .ref (oh (MO O N))), (3, .int (iI z))] [] := by
  refine j_aload_n C 1 dL_law_296 rfl rfl ?_
  refine j_aload_n C 0 dL_law_297 rfl rfl ?_
  refine j_iload_n C 3 dL_law_298 rfl rfl ?_
  refine j_iconst C dL_law_299 ?_
  refine j_iadd C dL_law_300 ?_
  refine l_sld C X (j + 1) (by omega) (by omega) (by omega) dL_law_301 ?_
  refine l_callX C X (m_skylight _ O σ (xs (j + 1)).toInt (iI_rg _) h.1) 1 rfl (lw_V q129 q130 q131 q19 q132) (by decide +kernel) (by decide) dL_law_302 rfl (Nat.le_of_ble_eq_true rfl) (fun r1 σ' h1 => ?_)
  refine j_aload_n C 2 dL_law_305 rfl rfl ?_
  refine j_aload_n C 0 dL_law_306 rfl rfl ?_
  refine j_iload_n C 3 dL_law_307 rfl rfl ?_
  refine j_iconst C dL_law_308 ?_
  refine j_iadd C dL_law_309 ?_
  refine l_sld C X (j + 1) (by omega) (by omega) (by omega) dL_law_310 ?_
  refine l_callM C X (m_Mskylight _ (MO O N) τ (xs (j + 1)).toInt (iI_rg _) (σ 2) (σ 3) (fun c => σ 3 (216 + c)) (li_mg h)) 1 rfl (lw_V q250 q251 q252 q20 q253) (by decide +kernel) (by decide) dL_law_311 rfl (Nat.le_of_ble_eq_true rfl) (fun r2 τ' h2 => ?_)
  obtain ⟨e, h'⟩ := a_skylight h h1 h2
  exact l_eq C (tgt := 483) e dL_law_314 (by decide) (kk σ' τ' h')
set_option maxHeartbeats 4000000 in
theorem lc_lit {κ : Kx} {O : XO} {N : LQ} {σ τ : St} {b n : Nat} {xs : Nat → Int32} {j : Nat} {z : Int} (C : CB κ cL_law 4 R_law 7 240) (X : LC κ O N b n xs) (hn : n ≤ 256) (hz : z = (j : Int)) (hj : j + 4 ≤ n) (h : LI σ τ) (kk : ∀ σ' τ' : St, LI σ' τ' → J κ 4 (lW O N σ' τ') 483 [(0, .ref b), (1, .ref (oh O)), (2, .ref (oh (MO O N))), (3, .int (iI z))] []) : J κ 4 (lW O N σ τ) 319 [(0, .ref b), (1, .ref (oh O)), (2, .ref (oh (MO O N))), (3, .int (iI z))] [] := by
  refine j_aload_n C 1 dL_law_319 rfl rfl ?_
  refine j_aload_n C 0 dL_law_320 rfl rfl ?_
  refine j_iload_n C 3 dL_law_321 rfl rfl ?_
  refine j_iconst C dL_law_322 ?_
  refine j_iadd C dL_law_323 ?_
  refine l_sld C X (j + 1) (by omega) (by omega) (by omega) dL_law_324 ?_
  refine j_aload_n C 0 dL_law_325 rfl rfl ?_
  refine j_iload_n C 3 dL_law_326 rfl rfl ?_
  refine j_iconst C dL_law_327 ?_
  refine j_iadd C dL_law_328 ?_
  refine l_sld C X (j + 2) (by omega) (by omega) (by omega) dL_law_329 ?_
  refine j_aload_n C 0 dL_law_330 rfl rfl ?_
  refine j_iload_n C 3 dL_law_331 rfl rfl ?_
  refine j_iconst C dL_law_332 ?_
  refine j_iadd C dL_law_333 ?_
  refine l_sld C X (j + 3) (by omega) (by omega) (by omega) dL_law_334 ?_
  refine l_callX C X (m_lit _ O σ (xs (j + 1)).toInt (xs (j + 2)).toInt (xs (j + 3)).toInt (iI_rg _) (iI_rg _) (iI_rg _)) 3 rfl (lw_V q133 q134 q135 q19 q136) (by decide +kernel) (by decide) dL_law_335 rfl (Nat.le_of_ble_eq_true rfl) (fun r1 σ' h1 => ?_)
  refine j_aload_n C 2 dL_law_338 rfl rfl ?_
  refine j_aload_n C 0 dL_law_339 rfl rfl ?_
  refine j_iload_n C 3 dL_law_340 rfl rfl ?_
  refine j_iconst C dL_law_341 ?_
  refine j_iadd C dL_law_342 ?_
  refine l_sld C X (j + 1) (by omega) (by omega) (by omega) dL_law_343 ?_
  refine j_aload_n C 0 dL_law_344 rfl rfl ?_
  refine j_iload_n C 3 dL_law_345 rfl rfl ?_
  refine j_iconst C dL_law_346 ?_
  refine j_iadd C dL_law_347 ?_
  refine l_sld C X (j + 2) (by omega) (by omega) (by omega) dL_law_348 ?_
  refine j_aload_n C 0 dL_law_349 rfl rfl ?_
  refine j_iload_n C 3 dL_law_350 rfl rfl ?_
  refine j_iconst C dL_law_351 ?_
  refine j_iadd C dL_law_352 ?_
  refine l_sld C X (j + 3) (by omega) (by omega) (by omega) dL_law_353 ?_
  refine l_callM C X (m_Mlit _ (MO O N) τ (xs (j + 1)).toInt (xs (j + 2)).toInt (xs (j + 3)).toInt (iI_rg _) (iI_rg _) (iI_rg _) (σ 2) (σ 3) (fun c => σ 3 (216 + c)) (li_mg h)) 3 rfl (lw_V q254 q255 q256 q20 q257) (by decide +kernel) (by decide) dL_law_354 rfl (Nat.le_of_ble_eq_true rfl) (fun r2 τ' h2 => ?_)
  obtain ⟨e, h'⟩ := a_lit h h1 h2
  exact l_eq C (tgt := 483) e dL_law_357 (by decide) (kk σ' τ' h')
set_option maxHeartbeats 4000000 in
theorem lc_dim {κ : Kx} {O : XO} {N : LQ} {σ τ : St} {b n : Nat} {xs : Nat → Int32} {j : Nat} {z : Int} (C : CB κ cL_law 4 R_law 7 240) (X : LC κ O N b n xs) (hn : n ≤ 256) (hz : z = (j : Int)) (hj : j + 4 ≤ n) (h : LI σ τ) (kk : ∀ σ' τ' : St, LI σ' τ' → J κ 4 (lW O N σ' τ') 483 [(0, .ref b), (1, .ref (oh O)), (2, .ref (oh (MO O N))), (3, .int (iI z))] []) : J κ 4 (lW O N σ τ) 362 [(0, .ref b), (1, .ref (oh O)), (2, .ref (oh (MO O N))), (3, .int (iI z))] [] := by
  refine j_aload_n C 1 dL_law_362 rfl rfl ?_
  refine j_aload_n C 0 dL_law_363 rfl rfl ?_
  refine j_iload_n C 3 dL_law_364 rfl rfl ?_
  refine j_iconst C dL_law_365 ?_
  refine j_iadd C dL_law_366 ?_
  refine l_sld C X (j + 1) (by omega) (by omega) (by omega) dL_law_367 ?_
  refine l_callX C X (m_dim _ O σ (xs (j + 1)).toInt (iI_rg _)) 1 rfl (lw_V q141 q142 q143 q19 q144) (by decide +kernel) (by decide) dL_law_368 rfl (Nat.le_of_ble_eq_true rfl) (fun r1 σ' h1 => ?_)
  refine j_aload_n C 2 dL_law_371 rfl rfl ?_
  refine j_aload_n C 0 dL_law_372 rfl rfl ?_
  refine j_iload_n C 3 dL_law_373 rfl rfl ?_
  refine j_iconst C dL_law_374 ?_
  refine j_iadd C dL_law_375 ?_
  refine l_sld C X (j + 1) (by omega) (by omega) (by omega) dL_law_376 ?_
  refine l_callM C X (m_Mdim _ (MO O N) τ (xs (j + 1)).toInt (iI_rg _) (σ 2) (σ 3) (fun c => σ 3 (216 + c)) (li_mg h)) 1 rfl (lw_V q262 q263 q264 q20 q265) (by decide +kernel) (by decide) dL_law_377 rfl (Nat.le_of_ble_eq_true rfl) (fun r2 τ' h2 => ?_)
  obtain ⟨e, h'⟩ := a_dim h h1 h2
  exact l_eq C (tgt := 483) e dL_law_380 (by decide) (kk σ' τ' h')
set_option maxHeartbeats 4000000 in
theorem lc_darkest {κ : Kx} {O : XO} {N : LQ} {σ τ : St} {b n : Nat} {xs : Nat → Int32} {j : Nat} {z : Int} (C : CB κ cL_law 4 R_law 7 240) (X : LC κ O N b n xs) (hn : n ≤ 256) (hz : z = (j : Int)) (hj : j + 4 ≤ n) (h : LI σ τ) (kk : ∀ σ' τ' : St, LI σ' τ' → J κ 4 (lW O N σ' τ') 483 [(0, .ref b), (1, .ref (oh O)), (2, .ref (oh (MO O N))), (3, .int (iI z))] []) : J κ 4 (lW O N σ τ) 385 [(0, .ref b), (1, .ref (oh O)), (2, .ref (oh (MO O N))), (3, .int (iI z))] [] := by
  refine j_aload_n C 1 dL_law_385 rfl rfl ?_
  refine l_callX C X (m_darkest _ O σ) 0 rfl (lw_V q145 q146 q147 q19 q148) (by decide +kernel) (by decide) dL_law_386 rfl (Nat.le_of_ble_eq_true rfl) (fun r1 σ' h1 => ?_)
  refine j_aload_n C 2 dL_law_389 rfl rfl ?_
  refine l_callM C X (m_Mdarkest _ (MO O N) τ (σ 2) (σ 3) (fun c => σ 3 (216 + c)) (li_mg h)) 0 rfl (lw_V q266 q267 q268 q20 q269) (by decide +kernel) (by decide) dL_law_390 rfl (Nat.le_of_ble_eq_true rfl) (fun r2 τ' h2 => ?_)
  obtain ⟨e, h'⟩ := a_darkest h h1 h2
  exact l_eq C (tgt := 483) e dL_law_393 (by decide) (kk σ' τ' h')
set_option maxHeartbeats 4000000 in
theorem lc_faces {κ : Kx} {O : XO} {N : LQ} {σ τ : St} {b n : Nat} {xs : Nat → Int32} {j : Nat} {z : Int} (C : CB κ cL_law 4 R_law 7 240) (X : LC κ O N b n xs) (hn : n ≤ 256) (hz : z = (j : Int)) (hj : j + 4 ≤ n) (h : LI σ τ) (kk : ∀ σ' τ' : St, LI σ' τ' → J κ 4 (lW O N σ' τ') 483 [(0, .ref b), (1, .ref (oh O)), (2, .ref (oh (MO O N))), (3, .int (iI z))] []) : J κ 4 (lW O N σ τ) 398 [(0, .ref b), (1, .ref (oh O)), (2, .ref (oh (MO O N))), (3, .int (iI z))] [] := by
  refine j_aload_n C 1 dL_law_398 rfl rfl ?_
  refine l_callX C X (m_faces _ O σ) 0 rfl (lw_V q149 q150 q151 q19 q152) (by decide +kernel) (by decide) dL_law_399 rfl (Nat.le_of_ble_eq_true rfl) (fun r1 σ' h1 => ?_)
  refine j_aload_n C 2 dL_law_402 rfl rfl ?_
  refine l_callM C X (m_Mfaces _ (MO O N) τ) 0 rfl (lw_V q270 q271 q272 q20 q273) (by decide +kernel) (by decide) dL_law_403 rfl (Nat.le_of_ble_eq_true rfl) (fun r2 τ' h2 => ?_)
  obtain ⟨e, h'⟩ := a_faces h h1 h2
  exact l_eq C (tgt := 483) e dL_law_406 (by decide) (kk σ' τ' h')
set_option maxHeartbeats 4000000 in
theorem lc_shady {κ : Kx} {O : XO} {N : LQ} {σ τ : St} {b n : Nat} {xs : Nat → Int32} {j : Nat} {z : Int} (C : CB κ cL_law 4 R_law 7 240) (X : LC κ O N b n xs) (hn : n ≤ 256) (hz : z = (j : Int)) (hj : j + 4 ≤ n) (h : LI σ τ) (kk : ∀ σ' τ' : St, LI σ' τ' → J κ 4 (lW O N σ' τ') 483 [(0, .ref b), (1, .ref (oh O)), (2, .ref (oh (MO O N))), (3, .int (iI z))] []) : J κ 4 (lW O N σ τ) 411 [(0, .ref b), (1, .ref (oh O)), (2, .ref (oh (MO O N))), (3, .int (iI z))] [] := by
  refine j_aload_n C 1 dL_law_411 rfl rfl ?_
  refine j_aload_n C 0 dL_law_412 rfl rfl ?_
  refine j_iload_n C 3 dL_law_413 rfl rfl ?_
  refine j_iconst C dL_law_414 ?_
  refine j_iadd C dL_law_415 ?_
  refine l_sld C X (j + 1) (by omega) (by omega) (by omega) dL_law_416 ?_
  refine l_callX C X (m_shady _ O σ (xs (j + 1)).toInt (iI_rg _)) 1 rfl (lw_V q153 q154 q155 q19 q156) (by decide +kernel) (by decide) dL_law_417 rfl (Nat.le_of_ble_eq_true rfl) (fun r1 σ' h1 => ?_)
  refine j_aload_n C 2 dL_law_420 rfl rfl ?_
  refine j_aload_n C 0 dL_law_421 rfl rfl ?_
  refine j_iload_n C 3 dL_law_422 rfl rfl ?_
  refine j_iconst C dL_law_423 ?_
  refine j_iadd C dL_law_424 ?_
  refine l_sld C X (j + 1) (by omega) (by omega) (by omega) dL_law_425 ?_
  refine l_callM C X (m_Mshady _ (MO O N) τ (xs (j + 1)).toInt (iI_rg _) (σ 2) (σ 3) (fun c => σ 3 (216 + c)) (li_mg h)) 1 rfl (lw_V q274 q275 q276 q20 q277) (by decide +kernel) (by decide) dL_law_426 rfl (Nat.le_of_ble_eq_true rfl) (fun r2 τ' h2 => ?_)
  obtain ⟨e, h'⟩ := a_shady h h1 h2
  exact l_eq C (tgt := 483) e dL_law_429 (by decide) (kk σ' τ' h')
set_option maxHeartbeats 4000000 in
theorem lc_open {κ : Kx} {O : XO} {N : LQ} {σ τ : St} {b n : Nat} {xs : Nat → Int32} {j : Nat} {z : Int} (C : CB κ cL_law 4 R_law 7 240) (X : LC κ O N b n xs) (hn : n ≤ 256) (hz : z = (j : Int)) (hj : j + 4 ≤ n) (h : LI σ τ) (kk : ∀ σ' τ' : St, LI σ' τ' → J κ 4 (lW O N σ' τ') 483 [(0, .ref b), (1, .ref (oh O)), (2, .ref (oh (MO O N))), (3, .int (iI z))] []) : J κ 4 (lW O N σ τ) 434 [(0, .ref b), (1, .ref (oh O)), (2, .ref (oh (MO O N))), (3, .int (iI z))] [] := by
  refine j_aload_n C 1 dL_law_434 rfl rfl ?_
  refine l_callX C X (m_open _ O σ) 0 rfl (lw_V q157 q158 q159 q19 q160) (by decide +kernel) (by decide) dL_law_435 rfl (Nat.le_of_ble_eq_true rfl) (fun r1 σ' h1 => ?_)
  refine j_aload_n C 2 dL_law_438 rfl rfl ?_
  refine l_callM C X (m_Mopen _ (MO O N) τ (σ 2) (li_mg h).2.1) 0 rfl (lw_V q278 q279 q280 q20 q281) (by decide +kernel) (by decide) dL_law_439 rfl (Nat.le_of_ble_eq_true rfl) (fun r2 τ' h2 => ?_)
  obtain ⟨e, h'⟩ := a_open h h1 h2
  exact l_eq C (tgt := 483) e dL_law_442 (by decide) (kk σ' τ' h')
set_option maxHeartbeats 4000000 in
theorem lc_serves {κ : Kx} {O : XO} {N : LQ} {σ τ : St} {b n : Nat} {xs : Nat → Int32} {j : Nat} {z : Int} (C : CB κ cL_law 4 R_law 7 240) (X : LC κ O N b n xs) (hn : n ≤ 256) (hz : z = (j : Int)) (hj : j + 4 ≤ n) (h : LI σ τ) (kk : ∀ σ' τ' : St, LI σ' τ' → J κ 4 (lW O N σ' τ') 483 [(0, .ref b), (1, .ref (oh O)), (2, .ref (oh (MO O N))), (3, .int (iI z))] []) : J κ 4 (lW O N σ τ) 447 [(0, .ref b), (1, .ref (oh O)), (2, .ref (oh (MO O N))), (3, .int (iI z))] [] := by
  refine j_aload_n C 1 dL_law_447 rfl rfl ?_
  refine j_aload_n C 0 dL_law_448 rfl rfl ?_
  refine j_iload_n C 3 dL_law_449 rfl rfl ?_
  refine j_iconst C dL_law_450 ?_
  refine j_iadd C dL_law_451 ?_
  refine l_sld C X (j + 1) (by omega) (by omega) (by omega) dL_law_452 ?_
  refine l_callX C X (m_serves _ O σ (xs (j + 1)).toInt (iI_rg _) h.1) 1 rfl (lw_V q161 q162 q163 q19 q164) (by decide +kernel) (by decide) dL_law_453 rfl (Nat.le_of_ble_eq_true rfl) (fun r1 σ' h1 => ?_)
  obtain ⟨G1, G2, hN, hcmp⟩ := a_serves h h1
  refine j_aload_n C 2 dL_law_456 rfl rfl ?_
  refine j_aload_n C 0 dL_law_457 rfl rfl ?_
  refine j_iload_n C 3 dL_law_458 rfl rfl ?_
  refine j_iconst C dL_law_459 ?_
  refine j_iadd C dL_law_460 ?_
  refine l_sld C X (j + 1) (by omega) (by omega) (by omega) dL_law_461 ?_
  refine l_callM C X (m_Mserves _ (MO O N) τ (xs (j + 1)).toInt (iI_rg _) (σ 2) (σ 3) (fun c => σ 3 (216 + c)) (li_mg h) G1 G2 hN) 1 rfl (lw_V q282 q283 q284 q20 q285) (by decide +kernel) (by decide) dL_law_462 rfl (Nat.le_of_ble_eq_true rfl) (fun r2 τ' h2 => ?_)
  obtain ⟨e, h'⟩ := hcmp r2 τ' h2
  exact l_eq C (tgt := 483) e dL_law_465 (by decide) (kk σ' τ' h')
set_option maxHeartbeats 4000000 in
theorem lc_rooms {κ : Kx} {O : XO} {N : LQ} {σ τ : St} {b n : Nat} {xs : Nat → Int32} {j : Nat} {z : Int} (C : CB κ cL_law 4 R_law 7 240) (X : LC κ O N b n xs) (hn : n ≤ 256) (hz : z = (j : Int)) (hj : j + 4 ≤ n) (h : LI σ τ) (kk : ∀ σ' τ' : St, LI σ' τ' → J κ 4 (lW O N σ' τ') 483 [(0, .ref b), (1, .ref (oh O)), (2, .ref (oh (MO O N))), (3, .int (iI z))] []) : J κ 4 (lW O N σ τ) 470 [(0, .ref b), (1, .ref (oh O)), (2, .ref (oh (MO O N))), (3, .int (iI z))] [] := by
  refine j_aload_n C 1 dL_law_470 rfl rfl ?_
  refine l_callX C X (m_rooms _ O σ h.1) 0 rfl (lw_V q165 q166 q167 q19 q168) (by decide +kernel) (by decide) dL_law_471 rfl (Nat.le_of_ble_eq_true rfl) (fun r1 σ' h1 => ?_)
  refine j_aload_n C 2 dL_law_474 rfl rfl ?_
  refine l_callM C X (m_Mrooms _ (MO O N) τ) 0 rfl (lw_V q286 q287 q288 q20 q289) (by decide +kernel) (by decide) dL_law_475 rfl (Nat.le_of_ble_eq_true rfl) (fun r2 τ' h2 => ?_)
  obtain ⟨e, h'⟩ := a_rooms h h1 h2
  exact l_eq C (tgt := 483) e dL_law_478 (by decide) (kk σ' τ' h')
end
section
set_option maxHeartbeats 4000000 in
theorem law_loop {κ : Kx} {O : XO} {N : LQ} {b n : Nat} {xs : Nat → Int32} (C : CB κ cL_law 4 R_law 7 240) (X : LC κ O N b n xs) (hn : n ≤ 256) (Rt : LRt κ O b) : ∀ (k j : Nat) (σ τ : St) (z : Int), z = (j : Int) → j ≤ n → n < j + k → LI σ τ → J κ 4 (lW O N σ τ) 18 [(0, .ref b), (1, .ref (oh O)), (2, .ref (oh (MO O N))), (3, .int (iI z))] [] := by
  intro k
  induction k with
  | zero => intros; omega
  | succ k ih =>
    intro j σ τ z hz h1 h2 h
    refine j_iload_n C 3 dL_law_18 rfl rfl ?_
    refine j_aload_n C 0 dL_law_19 rfl rfl ?_
    refine l_slen C X dL_law_20 ?_
    refine j_iconst C dL_law_21 ?_
    refine j_isub C dL_law_22 ?_
    refine j_icmp_gt C (tgt := 489) dL_law_23 (by decide) (by omega) (by omega) (fun hc => ?_) (fun hc => ?_)
    · refine j_iconst C dL_law_489 ?_
      exact l_end C Rt
    · have hj : j + 4 ≤ n := by omega
      have kk : ∀ σ' τ' : St, LI σ' τ' → J κ 4 (lW O N σ' τ') 483 [(0, .ref b), (1, .ref (oh O)), (2, .ref (oh (MO O N))), (3, .int (iI z))] [] := by
        intro σ' τ' h'
        refine j_iinc C 3 [1, 2, 3, 0] (L' := [(0, _), (1, _), (2, _), (3, _)]) dL_law_483 rfl (by decide) rfl ?_
        refine j_goto C (tgt := 18) dL_law_486 (by decide) ?_
        exact ih (j + 4) σ' τ' _ (by omega) hj (by omega) h'
      refine j_aload_n C 0 dL_law_26 rfl rfl ?_
      refine j_iload_n C 3 dL_law_27 rfl rfl ?_
      refine l_sld C X j hz (by omega) (by omega) dL_law_28 ?_
      refine j_bipush C dL_law_29 (by decide) ?_
      refine l_and15 C dL_law_31 (fun k hk => ?_)
      rcases (show k = 0 ∨ k = 1 ∨ k = 2 ∨ k = 3 ∨ k = 4 ∨ k = 5 ∨ k = 6 ∨ k = 7 ∨ k = 8 ∨ k = 9 ∨ k = 10 ∨ k = 11 ∨ k = 12 ∨ k = 13 ∨ k = 14 ∨ k = 15 by omega) with rfl | rfl | rfl | rfl | rfl | rfl | rfl | rfl | rfl | rfl | rfl | rfl | rfl | rfl | rfl | rfl
      · exact l_tabIn C (off := 76) (tgt := 108) dL_law_32 (by decide +kernel) (by decide +kernel) (by decide +kernel) (by decide) (lc_solid C X hn hz hj h kk)
      · exact l_tabIn C (off := 109) (tgt := 141) dL_law_32 (by decide +kernel) (by decide +kernel) (by decide +kernel) (by decide) (lc_fill C X hn hz hj h kk)
      · exact l_tabIn C (off := 152) (tgt := 184) dL_law_32 (by decide +kernel) (by decide +kernel) (by decide +kernel) (by decide) (lc_shell C X hn hz hj h kk)
      · exact l_tabIn C (off := 185) (tgt := 217) dL_law_32 (by decide +kernel) (by decide +kernel) (by decide +kernel) (by decide) (lc_lamp C X hn hz hj h kk)
      · exact l_tabIn C (off := 218) (tgt := 250) dL_law_32 (by decide +kernel) (by decide +kernel) (by decide +kernel) (by decide) (lc_isSolid C X hn hz hj h kk)
      · exact l_tabIn C (off := 241) (tgt := 273) dL_law_32 (by decide +kernel) (by decide +kernel) (by decide +kernel) (by decide) (lc_lamplight C X hn hz hj h kk)
      · exact l_tabIn C (off := 264) (tgt := 296) dL_law_32 (by decide +kernel) (by decide +kernel) (by decide +kernel) (by decide) (lc_skylight C X hn hz hj h kk)
      · exact l_tabIn C (off := 287) (tgt := 319) dL_law_32 (by decide +kernel) (by decide +kernel) (by decide +kernel) (by decide) (lc_lit C X hn hz hj h kk)
      · exact l_tabIn C (off := 330) (tgt := 362) dL_law_32 (by decide +kernel) (by decide +kernel) (by decide +kernel) (by decide) (lc_dim C X hn hz hj h kk)
      · exact l_tabIn C (off := 353) (tgt := 385) dL_law_32 (by decide +kernel) (by decide +kernel) (by decide +kernel) (by decide) (lc_darkest C X hn hz hj h kk)
      · exact l_tabIn C (off := 366) (tgt := 398) dL_law_32 (by decide +kernel) (by decide +kernel) (by decide +kernel) (by decide) (lc_faces C X hn hz hj h kk)
      · exact l_tabIn C (off := 379) (tgt := 411) dL_law_32 (by decide +kernel) (by decide +kernel) (by decide +kernel) (by decide) (lc_shady C X hn hz hj h kk)
      · exact l_tabIn C (off := 402) (tgt := 434) dL_law_32 (by decide +kernel) (by decide +kernel) (by decide +kernel) (by decide) (lc_open C X hn hz hj h kk)
      · exact l_tabIn C (off := 415) (tgt := 447) dL_law_32 (by decide +kernel) (by decide +kernel) (by decide +kernel) (by decide) (lc_serves C X hn hz hj h kk)
      · exact l_tabIn C (off := 438) (tgt := 470) dL_law_32 (by decide +kernel) (by decide +kernel) (by decide +kernel) (by decide) (lc_rooms C X hn hz hj h kk)
      · exact l_tabOut C (tgt := 483) dL_law_32 (by decide +kernel) (by decide) (kk σ τ h)
end
section
set_option maxHeartbeats 4000000 in
set_option maxRecDepth 100000 in
/-- THE LAW, from its entry -/
theorem whole_start {p : Program} {e : Env} {s : State} {m : MethodId} {below : List Frame} {meth : Method} {c : Code} (l : Launch) {b L : Nat} {xs : Nat → Int32} (hL : L ≤ 256) (C0 : lw_At p s m meth c b L xs) : W p l e room_1 s m #[Value.ref b] below meth c s.heap [] 0 0 (lw_Z below #[Value.ref b] s) (entryFrame m ([Value.ref b] : List Value).toArray 4) := by
  obtain ⟨hx, hb, hr, hml, hown, hts0, hX, hbl, hlocks, hgv⟩ := id C0
  have hts : ∀ w ∈ lw_all, w.before #[Value.ref b] s = true := fun w h => hts0 w (lw_all_tbl h)
  obtain ⟨A, hAe⟩ : ∃ A : Nat → Prop, A = (fun q : Nat => s.heap.size ≤ q) := ⟨_, rfl⟩
  have hA : ∀ q : Nat, s.heap.size ≤ q → A q := fun q h => by rw [hAe]; exact h
  have hA2 : ∀ q : Nat, A q → s.heap.size ≤ q := fun q h => by rw [hAe] at h; exact h
  have hbA : ¬ A b := fun h => Nat.not_le.mpr hbl (hA2 b h)
  obtain ⟨c0, iS0, hKn0⟩ := u_known (C := RX0) (T := TX0) (N := 10) (n := 10) hts in_X0 (hts _ q22)
  obtain ⟨c1, iS1, hKn1⟩ := u_known (C := RX1) (T := TX1) (N := 6) (n := 6) hts in_X1 (hts _ q174)
  obtain ⟨D, hKc⟩ : ∃ D : va_G, ∀ (k : Nat) (q : vw_C), vCl[k]? = some q → u_Kn s q.1 q.2.1 q.2.2 (D.1 k) (D.2 k) := by
    refine ⟨(fun k => if k = 0 then c0 else c1, fun k => if k = 0 then iS0 else iS1), ?_⟩
    intro k q hq
    match k, hq with
    | 0, hq => cases hq; exact hKn0
    | 1, hq => cases hq; exact hKn1
    | k + 2, hq => simp [vCl] at hq
  have hS : va_S A s.heap s.heap [] := va_S.rf
  have hK : va_K D vCl [] s := ⟨hKc, fun k q h => by simp at h⟩
  have hP : va_P D vCl [] s.heap := fun k q h => by simp at h
  have hD : va_D A [] := ⟨fun i j p q h => by simp at h, fun k q h => by simp at h⟩
  have hl := lv_entry ([.ref b]) (n := 4) (Nat.le_of_ble_eq_true rfl)
  rw [lg_entry_eq]
  generalize (lg_sl ([.ref b]) ++ List.replicate (4 - (lg_sl ([.ref b])).length) Slot.unset).toArray = ls at hl ⊢
  have hl : lv_has ls 4 [(0, .ref b)] := hl
  refine va_new (ci := 0) (fs := xin0) (C := RX0) (T := TX0) (N := 10) hx hb hts in_X0 tyX0 tyX0_ok hown (hts _ q21) (hts _ q22) (hts _ q19) hK hP hD hS hA rfl (fun j hj => by rcases (show j = 0 ∨ j = 1 ∨ j = 2 ∨ j = 3 ∨ j = 4 ∨ j = 5 ∨ j = 6 ∨ j = 7 ∨ j = 8 ∨ j = 9 by omega) with rfl | rfl | rfl | rfl | rfl | rfl | rfl | rfl | rfl | rfl <;> rfl) (Nat.le_of_ble_eq_true rfl) (Nat.le_of_ble_eq_true rfl) dL_law_0 (fun h0 H hP hD hS => ?_)
  have hP : va_P D vCl [(h0, .inr (0, xin0))] H := hP
  have hD : va_D A [(h0, .inr (0, xin0))] := hD
  refine W.widen (k := 1) (n := 10) (Nat.le_of_ble_eq_true rfl) (Nat.le_of_ble_eq_true rfl) ?_
  refine lv_dup hx hb dL_law_3 rfl ?_
  have hFc := va_free (wc := [(h0, .inr (0, xin0))]) hD hS hA [0] rfl
  refine va_callv (va_runI (As := []) (rest := [.ref h0]) ⟨hx, hb, hml, hown, hts⟩ (m_Xinit l D A s.heap h0 H.size) (cwI 0 hts (lw_meth q25) rfl rfl rfl (hts _ q19) (hts _ q23) (hts _ q24) rfl (by decide +kernel) ⟨Nat.le_of_ble_eq_true rfl, Nat.le_of_ble_eq_true rfl⟩) ⟨fun a U g mk q => by obtain ⟨q0, q1, qP, qK, qD⟩ := q; exact ⟨q0, q1, qP, va_K.moved (u := U) (U := U.calling g mk a) (Vm.Alike.refl U.vm) qK, qD⟩, fun U hU hW => ⟨rfl, by rw [hU], by rw [hU]; exact hP, va_K.moved hW.alike hK, hD.weaken (fun _ _ _ _ => trivial)⟩⟩ rfl rfl hl.1 rfl (lv_room (Nat.le_of_ble_eq_true rfl)) dL_law_4 ⟨Nat.le_of_ble_eq_true rfl, Nat.le_of_ble_eq_true rfl⟩) hS (fun q _ h => hFc q h) hFc (fun u t H1 locs ht hvm hw hB hz1 hk1 hS => ?_)
  obtain ⟨oaX, odX, σ0⟩ := u
  have hw : GI σ0 ∧ ∀ c, c < 216 → σ0 0 c = 0 ∧ σ0 1 c = 0 := hw
  obtain ⟨hP1, hK1, hD1, hbX⟩ := hB
  rw [ht] at hP1
  have hK1 := va_K.moved hvm.symm hK1
  obtain ⟨hP, hD⟩ := va_join (wr := []) (w1 := xws (D, A, s.heap, h0, oaX, odX) σ0) hP hD [0] [] rfl rfl (by decide) (by decide) hk1 hFc hP1 hD1
  generalize H1 = H at hP hS ⊢
  have hP : va_P D vCl (xws (D, A, s.heap, h0, oaX, odX) σ0) H := hP
  have hD : va_D A (xws (D, A, s.heap, h0, oaX, odX) σ0) := hD
  have hK : va_K D vCl (xty (D, A, s.heap, h0, oaX, odX)) s := hK1
  refine W.widen (k := 10) (n := 2818) (Nat.le_of_ble_eq_true rfl) (Nat.le_of_ble_eq_true rfl) ?_
  refine lv_astore_n (lv' := [(1, .ref h0), (0, .ref b)]) hx hb dL_law_7 rfl hl (by decide) rfl (fun ls hl => ?_)
  refine va_new (ci := 1) (fs := min0) (C := RX1) (T := TX1) (N := 6) hx hb hts in_X1 tyX1 tyX1_ok hown (hts _ q173) (hts _ q174) (hts _ q20) hK hP hD hS hA rfl (fun j hj => by rcases (show j = 0 ∨ j = 1 ∨ j = 2 ∨ j = 3 ∨ j = 4 ∨ j = 5 by omega) with rfl | rfl | rfl | rfl | rfl | rfl <;> rfl) (Nat.le_of_ble_eq_true rfl) (Nat.le_of_ble_eq_true rfl) dL_law_8 (fun hm H hP hD hS => ?_)
  refine W.widen (k := 11) (n := 2824) (Nat.le_of_ble_eq_true rfl) (Nat.le_of_ble_eq_true rfl) ?_
  refine lv_dup hx hb dL_law_11 rfl ?_
  have hPc := hP.sub (ws' := [(hm, .inr (1, min0))]) [10] rfl
  have hDc := hD.sub (ws' := [(hm, .inr (1, min0))]) [10] (by decide) rfl
  have hKc := hK.sub (tys' := []) [] rfl
  have hFc := va_free (wc := [(hm, .inr (1, min0))]) hD hS hA [10] rfl
  refine va_callv (va_runI (As := []) (rest := [.ref hm]) ⟨hx, hb, hml, hown, hts⟩ (m_Minit l D A s.heap hm H.size) (cwI 0 hts (lw_meth q177) rfl rfl rfl (hts _ q20) (hts _ q175) (hts _ q176) rfl (by decide +kernel) ⟨Nat.le_of_ble_eq_true rfl, Nat.le_of_ble_eq_true rfl⟩) ⟨fun a U g mk q => by obtain ⟨q0, q1, qP, qK, qD⟩ := q; exact ⟨q0, q1, qP, va_K.moved (u := U) (U := U.calling g mk a) (Vm.Alike.refl U.vm) qK, qD⟩, fun U hU hW => ⟨rfl, by rw [hU], by rw [hU]; exact hPc, va_K.moved hW.alike hKc, hDc.weaken (fun _ _ _ _ => trivial)⟩⟩ rfl rfl hl.1 rfl (lv_room (Nat.le_of_ble_eq_true rfl)) dL_law_12 ⟨Nat.le_of_ble_eq_true rfl, Nat.le_of_ble_eq_true rfl⟩) hS (fun q _ h => hFc q h) hFc (fun u t H1 locs ht hvm hw2 hB hz1 hk1 hS => ?_)
  obtain ⟨oaM, odM, τ0⟩ := u
  have hw2 : τ0 = σz := hw2
  obtain ⟨hP1, hK1, hD1, hbM⟩ := hB
  rw [ht] at hP1
  have hK1 := va_K.moved hvm.symm hK1
  obtain ⟨hP, hD⟩ := va_join (wr := xws (D, A, s.heap, h0, oaX, odX) σ0) (w1 := mws (D, A, s.heap, hm, oaM, odM) τ0) hP hD [10] [0, 1, 2, 3, 4, 5, 6, 7, 8, 9] rfl rfl (by decide) (by decide) hk1 hFc hP1 hD1
  have hK := (hK.sub (tys' := xty (D, A, s.heap, h0, oaX, odX)) [0, 1, 2, 3, 4, 5, 6, 7, 8] rfl).app hK1
  generalize H1 = H at hP hS ⊢
  refine W.widen (k := 17) (n := 4120) (Nat.le_of_ble_eq_true rfl) (Nat.le_of_ble_eq_true rfl) ?_
  refine lv_astore_n (lv' := [(2, .ref hm), (1, .ref h0), (0, .ref b)]) hx hb dL_law_15 rfl hl (by decide) rfl (fun ls hl => ?_)
  refine lv_iconst (v := iI 0) hx hb dL_law_16 (by decide) ?_
  refine lv_istore_n (lv' := [(3, .int (iI 0)), (2, .ref hm), (1, .ref h0), (0, .ref b)]) hx hb dL_law_17 rfl hl (by decide) rfl (fun ls hl => ?_)
  have hl := lv_sub (l' := [(0, .ref b), (1, .ref h0), (2, .ref hm), (3, .int (iI 0))]) hl [3, 2, 1, 0] rfl
  exact law_loop (κ := (p, l, e, room_1, s, m, #[Value.ref b], below, meth, c, lw_Z below #[Value.ref b] s, 17, 4120)) (O := (D, A, s.heap, h0, oaX, odX)) (N := (hm, oaM, odM)) ⟨⟨hx, hb, hml, hown, hts⟩, Nat.le_of_ble_eq_true rfl, Nat.le_of_ble_eq_true rfl, Nat.le_of_ble_eq_true rfl, Nat.le_of_ble_eq_true rfl⟩ ⟨hK, hA, hX, hbl, hbA⟩ hL ⟨hr, hlocks, rfl, rfl, rfl, Nat.le_of_ble_eq_true rfl, Nat.le_of_ble_eq_true rfl, hA2⟩ (L + 1) 0 σ0 τ0 0 rfl (Nat.zero_le _) (by omega) ⟨hw.1, fun x hx => ⟨by rw [hw2, (hw.2 x hx).1]; rfl, by rw [hw2, (hw.2 x hx).2]; rfl⟩⟩ H locs ls ⟨hP, hD, hS, hbX, hbM⟩ hl
end
section
set_option maxHeartbeats 4000000 in
theorem lw_walk (l : Launch) (b : Addr) (xs : List Int32) : MetFree l x (headSpec (Jvm.Cond.code x code maxLocals ret :: tables_1) room_1) (lw_P b xs) (fun _ _ _ _ _ => True) lw_Q := by
  refine MetFree.of_bodyS (code := code) (maxLocals := maxLocals) (ret := ret) (by decide) ?_ ?_
  · intro args s m h hn
    obtain ⟨meth, c, h1, h2, h3, h4, h5, h6, -, -⟩ := Cond.code_spec hn (atoms_spec (ws := Jvm.Cond.code x code maxLocals ret :: tables_1) h _ List.mem_cons_self)
    exact ⟨meth, c, h1, h2, h3, h4, h5, h6⟩
  · intro p e s m args below meth c s₁ B hml0 hP _
    obtain ⟨rfl, hx, hbd, hgv⟩ := hP
    obtain ⟨scr, harrAt, hlist, hof, hsmall⟩ := hx
    obtain ⟨hcb, hkn, -, -⟩ := State.arrayAt?_spec harrAt
    have hown : s.vm.findClass R_law = some m.cls := findClass_of_methodNamed B.named
    have hts0 : ∀ c ∈ (Jvm.Cond.code x code maxLocals ret :: tables_1), c.before #[Value.ref b] s = true := atoms_spec (ws := Jvm.Cond.code x code maxLocals ret :: tables_1) B.pre
    have hts : ∀ w ∈ lw_tbl, w.before #[Value.ref b] s = true := k2_hts_sels lw_privs (fun w hw => hts0 w (List.mem_cons_of_mem _ hw)) lw_privs_ok
    have hml : c.maxLocals = 4 := B.maxLocals_eq (hts0 _ List.mem_cons_self)
    have X₀ : Stand p l e room_1 s m #[Value.ref b] below meth c s₁ [] 0 0 := Stand.of_body B
    have hh0 : s₁.heap = s.heap := by rw [B.state]; rfl
    have hsz : scr.slots.size = xs.length := by rw [← Array.length_toList, hlist, List.length_map]
    have hval : ∀ j : Nat, j < xs.length → scr.slots[j]? = some (.int (xs.getD j 0)) := fun j hj => by
      rw [← Array.getElem?_toList, hlist]
      simp [hj]
    have hbl : b < s.heap.size := (Array.getElem?_eq_some_iff.mp hcb).1
    have hX : va_X b xs.length (fun j => xs.getD j 0) s s.heap := ⟨scr, hcb, hof, hkn, hsz, hval⟩
    have K : W p l e room_1 s m #[Value.ref b] below meth c s₁.heap [] 0 0 (lw_Z below #[Value.ref b] s) (entryFrame m ([Value.ref b] : List Value).toArray 4) := by
      rw [hh0]
      exact whole_start l hbd ⟨B.exec, B.bytes, B.returns, hml, hown, hts, hX, hbl, B.notSynchronized, hgv⟩
    obtain ⟨t, a1, o, b1, b2, b3⟩ := K s₁ rfl X₀
    exact ⟨t, o, a1, b1, b2, b3⟩
theorem lw_pre_spec {args : Array Value} {s : State} (h : (Jvm.Cond.and given_1 narrow_1).before args s = true) (hr : rest_1_c.before args s = true) : ∃ (b : Addr) (xs : List Int32), lw_P b xs args s := by
  have hs := flat_of_before _ h
  have hq := flat_of_before _ hr
  have hc : (Cond.count 1).before args s = true := hs _ (by decide +kernel)
  have harr : (Cond.arrayOf (.arg 0) .int).before args s = true := hs _ (by decide +kernel)
  have hle : (Cond.le (.length (.arg 0)) (.int 256)).before args s = true := hs _ (by decide +kernel)
  have hlen : (Cond.isInt (.length (.arg 0))).before args s = true := hq _ (by decide +kernel)
  have hall : (Cond.all (.arg 0) (.isInt (.elem (.arg 0) (.index 0)))).before args s = true := hq _ (by decide +kernel)
  obtain ⟨b, xs, hb, hx⟩ := State.ints_of_pre rfl harr hlen hall
  have hsm : xs.length < 2 ^ 31 := hx.choose_spec.2.2.2
  have hev : (Term.length (.arg 0)).eval args s none [] s = some (.int xs.length.toInt32) := hx.length_eval hb
  have hv := Cond.le_ints hev (show (Term.int 256).eval args s none [] s = some (.int 256) from rfl)
  have hd : xs.length.toInt32 ≤ 256 := by
    simpa [Cond.before, Cond.holds, hv] using hle
  have hN : xs.length ≤ 256 := (Int32.ofNat_le_ofNat hsm (by decide)).mp (show Int32.ofNat xs.length ≤ Int32.ofNat 256 from hd)
  exact ⟨b, xs, Cond.one_arg hc (show args[0]? = some (.ref b) from hb), hx, hN, h⟩
theorem lw_comes (l : Launch) : Comes l x (Jvm.Cond.code x code maxLocals ret :: tables_1) room_1 (fun tb e args s => Calls_1 tb e args s ∧ rest_1 tb e args s ∧ Pre_1 tb e args s)
    (fun _ _ args s o t => lw_Q args s o t) := by
  intro p e ha hc hk s m args below hf hfit hheap happ hpre
  obtain ⟨b, xs, hP⟩ := lw_pre_spec hpre.2.2 hpre.2.1
  obtain ⟨k, o, h1, h2, h3, hQ⟩ := lw_walk l b xs p e ha hc hk s m args below hf ((Spec.applies_iff_loose hf).mp happ).1 hP trivial
  exact ⟨k, o, h1, h2, h3, hQ⟩
theorem lw_frame {s t : State} {o : Outcome} {args : Array Value} (h : Framed s o t [] 600000 7290000) :
    Framed s o t (fieldLocs frame_1_writes args s ++ arrayLocs frame_1_arrays args s ++ staticLocs frame_1_statics s) 600000 7290000 := h
theorem lw_limb (L : Cond) (hL : ∀ (args : Array Value) (s t : State), L.after args s (.returned (some (.int 1))) t = true) :
    ArmFor flags0 classFile x code maxLocals ret World_1 tables_1 room_1 Calls_1 rest_1 Pre_1
      (fun tb e a s o t => postC L tb e a s o t ∧ Framed s o t (fieldLocs frame_1_writes a s ++ arrayLocs frame_1_arrays a s ++ staticLocs frame_1_statics s) 600000 7290000) := by
  intro l _ _ _ p e ha hc hk s m args below hf hfit hheap happ hpre
  obtain ⟨k, o, h1, h2, h3, rfl, hF⟩ := lw_comes l p e ha hc hk s m args below hf hfit hheap happ hpre
  exact ⟨k, _, h1, h2, h3, hL args s _, lw_frame hF⟩
theorem i_vc : Claimed_1_1 ∧ Claimed_1_2 := ⟨lw_limb limb_1_1 (fun args s t => by simp [limb_1_1, Cond.after, Cond.holds, Cond.value]), lw_limb limb_1_2 (fun args s t => Cond.after_iff.mpr (by
  first | (rw [show limb_1_2 = Cond.eq .result (.int 1) from rfl, Cond.eq_ints (x := 1) (y := 1) rfl rfl]; simp; done) | (simp [limb_1_2, Cond.value, Term.eval]; done)))⟩
end
