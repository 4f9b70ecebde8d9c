section
-- ===== PART A: goes FIRST, ahead of the names: the tables' words, and 'selects' of the private methods out of them =====
/-- a private method of a class that the tables say can be made, by its rows of tables_1 -/
def lw_okq (q : MethodName × Nat) : Prop := (q.1.cls ≠ "java/lang/invoke/MethodHandle" ∧ q.1.cls ≠ "java/lang/invoke/VarHandle") ∧ Cond.instantiable q.1.cls q.2 ∈ tables_1 ∧ Cond.privateMethod q.1 ∈ tables_1 ∧ Cond.instanceMethod q.1 ∈ tables_1
set_option maxRecDepth 100000
theorem lw_t1 {w : Cond} (h : w ∈ tables_1_1) : w ∈ tables_1 := List.mem_append_left _ h
theorem lw_t2 {w : Cond} (h : w ∈ tables_1_2) : w ∈ tables_1 := List.mem_append_right _ h
theorem lw_p0 : lw_okq (⟨"StableModels", "has", "(I)Z"⟩, 15) := ⟨⟨by decide +kernel, by decide +kernel⟩, lw_t1 (List.mem_of_getElem? (i := 4) rfl), lw_t1 (List.mem_of_getElem? (i := 66) rfl), lw_t1 (List.mem_of_getElem? (i := 67) rfl)⟩
theorem lw_p1 : lw_okq (⟨"StableModels", "supportOf", "(I)I"⟩, 15) := ⟨⟨by decide +kernel, by decide +kernel⟩, lw_t1 (List.mem_of_getElem? (i := 4) rfl), lw_t1 (List.mem_of_getElem? (i := 82) rfl), lw_t1 (List.mem_of_getElem? (i := 83) rfl)⟩
theorem lw_p2 : lw_okq (⟨"StableModels", "search", "()V"⟩, 15) := ⟨⟨by decide +kernel, by decide +kernel⟩, lw_t1 (List.mem_of_getElem? (i := 4) rfl), lw_t1 (List.mem_of_getElem? (i := 90) rfl), lw_t1 (List.mem_of_getElem? (i := 91) rfl)⟩
theorem lw_p3 : lw_okq (⟨"StableModels", "conclude", "()V"⟩, 15) := ⟨⟨by decide +kernel, by decide +kernel⟩, lw_t1 (List.mem_of_getElem? (i := 4) rfl), lw_t1 (List.mem_of_getElem? (i := 94) rfl), lw_t1 (List.mem_of_getElem? (i := 95) rfl)⟩
theorem lw_p4 : lw_okq (⟨"StableModels", "forward", "(I)V"⟩, 15) := ⟨⟨by decide +kernel, by decide +kernel⟩, lw_t1 (List.mem_of_getElem? (i := 4) rfl), lw_t1 (List.mem_of_getElem? (i := 98) rfl), lw_t1 (List.mem_of_getElem? (i := 99) rfl)⟩
theorem lw_p5 : lw_okq (⟨"StableModels", "bodyHolds", "(I)Z"⟩, 15) := ⟨⟨by decide +kernel, by decide +kernel⟩, lw_t1 (List.mem_of_getElem? (i := 4) rfl), lw_t1 (List.mem_of_getElem? (i := 102) rfl), lw_t1 (List.mem_of_getElem? (i := 103) rfl)⟩
theorem lw_p6 : lw_okq (⟨"StableModels", "putIn", "(I)V"⟩, 15) := ⟨⟨by decide +kernel, by decide +kernel⟩, lw_t1 (List.mem_of_getElem? (i := 4) rfl), lw_t1 (List.mem_of_getElem? (i := 106) rfl), lw_t1 (List.mem_of_getElem? (i := 107) rfl)⟩
theorem lw_p7 : lw_okq (⟨"StableModels", "bodyFails", "(I)Z"⟩, 15) := ⟨⟨by decide +kernel, by decide +kernel⟩, lw_t1 (List.mem_of_getElem? (i := 4) rfl), lw_t1 (List.mem_of_getElem? (i := 110) rfl), lw_t1 (List.mem_of_getElem? (i := 111) rfl)⟩
theorem lw_p8 : lw_okq (⟨"StableModels", "putOut", "(I)V"⟩, 15) := ⟨⟨by decide +kernel, by decide +kernel⟩, lw_t1 (List.mem_of_getElem? (i := 4) rfl), lw_t1 (List.mem_of_getElem? (i := 117) rfl), lw_t1 (List.mem_of_getElem? (i := 118) rfl)⟩
theorem lw_p9 : lw_okq (⟨"StableModels", "backward", "(I)V"⟩, 15) := ⟨⟨by decide +kernel, by decide +kernel⟩, lw_t1 (List.mem_of_getElem? (i := 4) rfl), lw_t1 (List.mem_of_getElem? (i := 121) rfl), lw_t1 (List.mem_of_getElem? (i := 122) rfl)⟩
theorem lw_p10 : lw_okq (⟨"StableModels", "founded", "()I"⟩, 15) := ⟨⟨by decide +kernel, by decide +kernel⟩, lw_t1 (List.mem_of_getElem? (i := 4) rfl), lw_t1 (List.mem_of_getElem? (i := 125) rfl), lw_t1 (List.mem_of_getElem? (i := 126) rfl)⟩
theorem lw_p11 : lw_okq (⟨"StableModels", "open", "(I)V"⟩, 15) := ⟨⟨by decide +kernel, by decide +kernel⟩, lw_t1 (List.mem_of_getElem? (i := 4) rfl), lw_t1 (List.mem_of_getElem? (i := 129) rfl), lw_t1 (List.mem_of_getElem? (i := 130) rfl)⟩
theorem lw_p12 : lw_okq (⟨"StableModels", "tryNext", "(I)V"⟩, 15) := ⟨⟨by decide +kernel, by decide +kernel⟩, lw_t1 (List.mem_of_getElem? (i := 4) rfl), lw_t1 (List.mem_of_getElem? (i := 133) rfl), lw_t1 (List.mem_of_getElem? (i := 134) rfl)⟩
theorem lw_p13 : lw_okq (⟨"StableModels", "isModel", "(I)Z"⟩, 15) := ⟨⟨by decide +kernel, by decide +kernel⟩, lw_t1 (List.mem_of_getElem? (i := 4) rfl), lw_t1 (List.mem_of_getElem? (i := 137) rfl), lw_t1 (List.mem_of_getElem? (i := 138) rfl)⟩
theorem lw_p14 : lw_okq (⟨"StableModels", "isMaximal", "(I)Z"⟩, 15) := ⟨⟨by decide +kernel, by decide +kernel⟩, lw_t1 (List.mem_of_getElem? (i := 4) rfl), lw_t1 (List.mem_of_getElem? (i := 169) rfl), lw_t1 (List.mem_of_getElem? (i := 170) rfl)⟩
theorem lw_p15 : lw_okq (⟨"StableModelsModel", "set", "(I)Z"⟩, 7) := ⟨⟨by decide +kernel, by decide +kernel⟩, lw_t1 (List.mem_of_getElem? (i := 177) rfl), lw_t1 (List.mem_of_getElem? (i := 211) rfl), lw_t1 (List.mem_of_getElem? (i := 212) rfl)⟩
def lw_privs_1 : List (MethodName × Nat) := [(⟨"StableModels", "has", "(I)Z"⟩, 15), (⟨"StableModels", "supportOf", "(I)I"⟩, 15), (⟨"StableModels", "search", "()V"⟩, 15), (⟨"StableModels", "conclude", "()V"⟩, 15), (⟨"StableModels", "forward", "(I)V"⟩, 15), (⟨"StableModels", "bodyHolds", "(I)Z"⟩, 15), (⟨"StableModels", "putIn", "(I)V"⟩, 15), (⟨"StableModels", "bodyFails", "(I)Z"⟩, 15), (⟨"StableModels", "putOut", "(I)V"⟩, 15), (⟨"StableModels", "backward", "(I)V"⟩, 15), (⟨"StableModels", "founded", "()I"⟩, 15), (⟨"StableModels", "open", "(I)V"⟩, 15), (⟨"StableModels", "tryNext", "(I)V"⟩, 15), (⟨"StableModels", "isModel", "(I)Z"⟩, 15), (⟨"StableModels", "isMaximal", "(I)Z"⟩, 15), (⟨"StableModelsModel", "set", "(I)Z"⟩, 7)]
theorem lw_r1 : ∀ q ∈ lw_privs_1, lw_okq q := List.forall_mem_cons.mpr ⟨lw_p0, List.forall_mem_cons.mpr ⟨lw_p1, List.forall_mem_cons.mpr ⟨lw_p2, List.forall_mem_cons.mpr ⟨lw_p3, List.forall_mem_cons.mpr ⟨lw_p4, List.forall_mem_cons.mpr ⟨lw_p5, List.forall_mem_cons.mpr ⟨lw_p6, List.forall_mem_cons.mpr ⟨lw_p7, List.forall_mem_cons.mpr ⟨lw_p8, List.forall_mem_cons.mpr ⟨lw_p9, List.forall_mem_cons.mpr ⟨lw_p10, List.forall_mem_cons.mpr ⟨lw_p11, List.forall_mem_cons.mpr ⟨lw_p12, List.forall_mem_cons.mpr ⟨lw_p13, List.forall_mem_cons.mpr ⟨lw_p14, List.forall_mem_cons.mpr ⟨lw_p15, fun _ h => absurd h List.not_mem_nil⟩⟩⟩⟩⟩⟩⟩⟩⟩⟩⟩⟩⟩⟩⟩⟩
theorem lw_p16 : lw_okq (⟨"StableModelsModel", "taken", "(II)Z"⟩, 7) := ⟨⟨by decide +kernel, by decide +kernel⟩, lw_t1 (List.mem_of_getElem? (i := 177) rfl), lw_t1 (List.mem_of_getElem? (i := 227) rfl), lw_t1 (List.mem_of_getElem? (i := 228) rfl)⟩
theorem lw_p17 : lw_okq (⟨"StableModelsModel", "ones", "(I)I"⟩, 7) := ⟨⟨by decide +kernel, by decide +kernel⟩, lw_t1 (List.mem_of_getElem? (i := 177) rfl), lw_t2 (List.mem_of_getElem? (i := 21) rfl), lw_t2 (List.mem_of_getElem? (i := 22) rfl)⟩
theorem lw_p18 : lw_okq (⟨"StableModelsModel", "work", "()V"⟩, 7) := ⟨⟨by decide +kernel, by decide +kernel⟩, lw_t1 (List.mem_of_getElem? (i := 177) rfl), lw_t2 (List.mem_of_getElem? (i := 29) rfl), lw_t2 (List.mem_of_getElem? (i := 30) rfl)⟩
def lw_privs_2 : List (MethodName × Nat) := [(⟨"StableModelsModel", "taken", "(II)Z"⟩, 7), (⟨"StableModelsModel", "ones", "(I)I"⟩, 7), (⟨"StableModelsModel", "work", "()V"⟩, 7)]
theorem lw_r2 : ∀ q ∈ lw_privs_2, lw_okq q := List.forall_mem_cons.mpr ⟨lw_p16, List.forall_mem_cons.mpr ⟨lw_p17, List.forall_mem_cons.mpr ⟨lw_p18, fun _ h => absurd h List.not_mem_nil⟩⟩⟩
def lw_privs : List (MethodName × Nat) := lw_privs_1 ++ (lw_privs_2)
def lw_tbl : List Cond := k2_sels lw_privs ++ tables_1
theorem lw_privs_ok : ∀ q ∈ lw_privs, lw_okq q := by
  show ∀ q ∈ lw_privs_1 ++ (lw_privs_2), lw_okq q
  exact List.forall_mem_append.mpr ⟨lw_r1, lw_r2⟩
-- ===== ONE list of words for every method: the tables' words that hold all through a run =====
def lw_all : List Cond := lw_tbl.filter goodWord
/-- a word of the tables by its place: claim/WORDS.tsv -/
theorem lw_w {w : Cond} (i : Nat) (h : lw_tbl[i]? = some w) (g : goodWord w = true) : w ∈ lw_all := List.mem_filter.mpr ⟨List.mem_of_getElem? h, g⟩
theorem lw_all_tbl {w : Cond} (h : w ∈ lw_all) : w ∈ lw_tbl := (List.mem_filter.mp h).1
theorem lw_self : GoodIn lw_all lw_all := fun w h => ⟨h, good_of_word (List.mem_filter.mp h).2⟩
/-- a class's field words, by their places -/
theorem lw_in (ws : List Cond) (ps : List Nat) (hp : ws = ps.filterMap (fun i => lw_tbl[i]?)) (hg : ws.all goodWord = true) : ∀ w ∈ ws, w ∈ lw_all := by
  intro w h
  have h1 := List.all_eq_true.mp hg w h
  rw [hp] at h
  obtain ⟨i, -, hi⟩ := List.mem_filterMap.mp h
  exact lw_w i hi h1
/-- the words of a contract for the method y with code b, L locals, answer r -/
abbrev ws_ (y : MethodName) (b : ByteArray) (L : Nat) (r : Option FieldType) : List Cond := Cond.code y b L r :: lw_all
theorem lw_meth {y : MethodName} {b : ByteArray} {L : Nat} {r : Option FieldType} (h : Cond.code y b L r ∈ lw_all) : GoodIn lw_all (ws_ y b L r) := by
  intro w hw
  rcases List.mem_cons.mp hw with e | e
  · rw [e]
    exact lw_self _ h
  · exact lw_self _ e
theorem lw_app {a c : List Cond} (ha : ∀ w ∈ a, w ∈ lw_all) (hc : GoodIn lw_all c) : GoodIn lw_all (a ++ c) := by
  intro w hw
  rcases List.mem_append.mp hw with e | e
  · exact lw_self w (ha w e)
  · exact hc w e
/-- what a call through an object asks: cwV n hts (lw_V ..) -/
theorem lw_V {own : String} {idx : Nat} {C : String} {y : MethodName} {b : ByteArray} {L : Nat} {r : Option FieldType} (h1 : Cond.methodLink own idx y ∈ lw_all) (h2 : Cond.instanceMethod y ∈ lw_all) (h3 : Cond.selects C y y ∈ lw_all) (h4 : Cond.initialized C ∈ lw_all) (h5 : Cond.code y b L r ∈ lw_all) : GoodIn lw_all (wsV own idx C y (ws_ y b L r)) := by
  refine lw_app ?_ (lw_meth h5)
  intro w hw
  simp only [List.mem_cons, List.not_mem_nil, or_false] at hw
  rcases hw with e | e | e | e
  · rw [e]; exact h1
  · rw [e]; exact h2
  · rw [e]; exact h3
  · rw [e]; exact h4
/-- what a static call asks: va_cwS n hts (lw_S ..) -/
theorem lw_S {own : String} {idx : Nat} {y : MethodName} {b : ByteArray} {L : Nat} {r : Option FieldType} (h1 : Cond.methodLink own idx y ∈ lw_all) (h2 : Cond.static y ∈ lw_all) (h3 : Cond.initialized y.cls ∈ lw_all) (h4 : Cond.code y b L r ∈ lw_all) : GoodIn lw_all (va_wsS own idx y (ws_ y b L r)) := by
  refine lw_app ?_ (lw_meth h4)
  intro w hw
  simp only [List.mem_cons, List.not_mem_nil, or_false] at hw
  rcases hw with e | e | e
  · rw [e]; exact h1
  · rw [e]; exact h2
  · rw [e]; exact h3
/-- the words of a contract for a method WITH HANDLERS (hh: its table) -/
abbrev wsW_ (y : MethodName) (b : ByteArray) (L : Nat) (r : Option FieldType) (hh : List (Nat × Nat × Nat × Nat)) : List Cond := Cond.codeWith y b L r hh :: lw_all
theorem lw_methW {y : MethodName} {b : ByteArray} {L : Nat} {r : Option FieldType} {hh : List (Nat × Nat × Nat × Nat)} (h : Cond.codeWith y b L r hh ∈ lw_all) : GoodIn lw_all (wsW_ y b L r hh) := by
  intro w hw
  rcases List.mem_cons.mp hw with e | e
  · rw [e]
    exact lw_self _ h
  · exact lw_self _ e
/-- any list of words by their places (lw_in), good -/
theorem lw_good {ws : List Cond} (h : ∀ w ∈ ws, w ∈ lw_all) : GoodIn lw_all ws := fun w hw => lw_self w (h w hw)
/-- what a call of a method with handlers asks: vx_cwVW n hts (lw_VW ..), vx_cwSW n hts (lw_SW ..) -/
theorem lw_VW {own : String} {idx : Nat} {C : String} {y : MethodName} {b : ByteArray} {L : Nat} {r : Option FieldType} {hh : List (Nat × Nat × Nat × Nat)} (h1 : Cond.methodLink own idx y ∈ lw_all) (h2 : Cond.instanceMethod y ∈ lw_all) (h3 : Cond.selects C y y ∈ lw_all) (h4 : Cond.initialized C ∈ lw_all) (h5 : Cond.codeWith y b L r hh ∈ lw_all) : GoodIn lw_all (wsV own idx C y (wsW_ y b L r hh)) := by
  refine lw_app ?_ (lw_methW h5)
  intro w hw
  simp only [List.mem_cons, List.not_mem_nil, or_false] at hw
  rcases hw with e | e | e | e
  · rw [e]; exact h1
  · rw [e]; exact h2
  · rw [e]; exact h3
  · rw [e]; exact h4
theorem lw_SW {own : String} {idx : Nat} {y : MethodName} {b : ByteArray} {L : Nat} {r : Option FieldType} {hh : List (Nat × Nat × Nat × Nat)} (h1 : Cond.methodLink own idx y ∈ lw_all) (h2 : Cond.static y ∈ lw_all) (h3 : Cond.initialized y.cls ∈ lw_all) (h4 : Cond.codeWith y b L r hh ∈ lw_all) : GoodIn lw_all (va_wsS own idx y (wsW_ y b L r hh)) := by
  refine lw_app ?_ (lw_methW h4)
  intro w hw
  simp only [List.mem_cons, List.not_mem_nil, or_false] at hw
  rcases hw with e | e | e
  · rw [e]; exact h1
  · rw [e]; exact h2
  · rw [e]; exact h3
/-- a word by its place in its run of the tables -/
theorem lw_at {r : List Cond} (hr : ∀ w ∈ r, w ∈ lw_tbl) {w : Cond} (i : Nat) (h : r[i]? = some w) : w ∈ lw_tbl := hr w (List.mem_of_getElem? h)
theorem lw_g {w : Cond} (h : w ∈ lw_tbl) (g : goodWord w = true) : w ∈ lw_all := List.mem_filter.mpr ⟨h, g⟩
theorem lw_ms : ∀ w ∈ k2_sels lw_privs, w ∈ lw_tbl := fun w h => show w ∈ k2_sels lw_privs ++ tables_1 from List.mem_append_left _ h
theorem lw_m1 : ∀ w ∈ tables_1_1, w ∈ lw_tbl := fun w h => show w ∈ k2_sels lw_privs ++ tables_1 from List.mem_append_right (k2_sels lw_privs) (show w ∈ tables_1 from List.mem_append_left _ h)
theorem lw_m2 : ∀ w ∈ tables_1_2, w ∈ lw_tbl := fun w h => show w ∈ k2_sels lw_privs ++ tables_1 from List.mem_append_right (k2_sels lw_privs) (show w ∈ tables_1 from List.mem_append_right _ h)
theorem qs0 : (Cond.selects "StableModels" ⟨"StableModels", "has", "(I)Z"⟩ ⟨"StableModels", "has", "(I)Z"⟩) ∈ lw_all := lw_g (lw_at lw_ms 0 rfl) rfl
theorem qs1 : (Cond.selects "StableModels" ⟨"StableModels", "supportOf", "(I)I"⟩ ⟨"StableModels", "supportOf", "(I)I"⟩) ∈ lw_all := lw_g (lw_at lw_ms 1 rfl) rfl
theorem qs2 : (Cond.selects "StableModels" ⟨"StableModels", "search", "()V"⟩ ⟨"StableModels", "search", "()V"⟩) ∈ lw_all := lw_g (lw_at lw_ms 2 rfl) rfl
theorem qs3 : (Cond.selects "StableModels" ⟨"StableModels", "conclude", "()V"⟩ ⟨"StableModels", "conclude", "()V"⟩) ∈ lw_all := lw_g (lw_at lw_ms 3 rfl) rfl
theorem qs4 : (Cond.selects "StableModels" ⟨"StableModels", "forward", "(I)V"⟩ ⟨"StableModels", "forward", "(I)V"⟩) ∈ lw_all := lw_g (lw_at lw_ms 4 rfl) rfl
theorem qs5 : (Cond.selects "StableModels" ⟨"StableModels", "bodyHolds", "(I)Z"⟩ ⟨"StableModels", "bodyHolds", "(I)Z"⟩) ∈ lw_all := lw_g (lw_at lw_ms 5 rfl) rfl
theorem qs6 : (Cond.selects "StableModels" ⟨"StableModels", "putIn", "(I)V"⟩ ⟨"StableModels", "putIn", "(I)V"⟩) ∈ lw_all := lw_g (lw_at lw_ms 6 rfl) rfl
theorem qs7 : (Cond.selects "StableModels" ⟨"StableModels", "bodyFails", "(I)Z"⟩ ⟨"StableModels", "bodyFails", "(I)Z"⟩) ∈ lw_all := lw_g (lw_at lw_ms 7 rfl) rfl
theorem qs8 : (Cond.selects "StableModels" ⟨"StableModels", "putOut", "(I)V"⟩ ⟨"StableModels", "putOut", "(I)V"⟩) ∈ lw_all := lw_g (lw_at lw_ms 8 rfl) rfl
theorem qs9 : (Cond.selects "StableModels" ⟨"StableModels", "backward", "(I)V"⟩ ⟨"StableModels", "backward", "(I)V"⟩) ∈ lw_all := lw_g (lw_at lw_ms 9 rfl) rfl
theorem qs10 : (Cond.selects "StableModels" ⟨"StableModels", "founded", "()I"⟩ ⟨"StableModels", "founded", "()I"⟩) ∈ lw_all := lw_g (lw_at lw_ms 10 rfl) rfl
theorem qs11 : (Cond.selects "StableModels" ⟨"StableModels", "open", "(I)V"⟩ ⟨"StableModels", "open", "(I)V"⟩) ∈ lw_all := lw_g (lw_at lw_ms 11 rfl) rfl
theorem qs12 : (Cond.selects "StableModels" ⟨"StableModels", "tryNext", "(I)V"⟩ ⟨"StableModels", "tryNext", "(I)V"⟩) ∈ lw_all := lw_g (lw_at lw_ms 12 rfl) rfl
theorem qs13 : (Cond.selects "StableModels" ⟨"StableModels", "isModel", "(I)Z"⟩ ⟨"StableModels", "isModel", "(I)Z"⟩) ∈ lw_all := lw_g (lw_at lw_ms 13 rfl) rfl
theorem qs14 : (Cond.selects "StableModels" ⟨"StableModels", "isMaximal", "(I)Z"⟩ ⟨"StableModels", "isMaximal", "(I)Z"⟩) ∈ lw_all := lw_g (lw_at lw_ms 14 rfl) rfl
theorem qs15 : (Cond.selects "StableModelsModel" ⟨"StableModelsModel", "set", "(I)Z"⟩ ⟨"StableModelsModel", "set", "(I)Z"⟩) ∈ lw_all := lw_g (lw_at lw_ms 15 rfl) rfl
theorem qs16 : (Cond.selects "StableModelsModel" ⟨"StableModelsModel", "taken", "(II)Z"⟩ ⟨"StableModelsModel", "taken", "(II)Z"⟩) ∈ lw_all := lw_g (lw_at lw_ms 16 rfl) rfl
theorem qs17 : (Cond.selects "StableModelsModel" ⟨"StableModelsModel", "ones", "(I)I"⟩ ⟨"StableModelsModel", "ones", "(I)I"⟩) ∈ lw_all := lw_g (lw_at lw_ms 17 rfl) rfl
theorem qs18 : (Cond.selects "StableModelsModel" ⟨"StableModelsModel", "work", "()V"⟩ ⟨"StableModelsModel", "work", "()V"⟩) ∈ lw_all := lw_g (lw_at lw_ms 18 rfl) rfl
end
section
set_option maxRecDepth 100000
/-! StableModels -/
def RX0 : String := "StableModels"
def TX0 : u_T := fun k => match k with
  | 0 => ("StableModels", "present", "I", false)
  | 1 => ("StableModels", "kinds", "[B", true)
  | 2 => ("StableModels", "heads", "[B", true)
  | 3 => ("StableModels", "poses", "[B", true)
  | 4 => ("StableModels", "negs", "[B", true)
  | 5 => ("StableModels", "inSet", "I", false)
  | 6 => ("StableModels", "outSet", "I", false)
  | 7 => ("StableModels", "broken", "Z", false)
  | 8 => ("StableModels", "moved", "Z", false)
  | 9 => ("StableModels", "levelIn", "[B", true)
  | 10 => ("StableModels", "levelOut", "[B", true)
  | 11 => ("StableModels", "levelAtom", "[B", true)
  | 12 => ("StableModels", "levelTurn", "[B", true)
  | 13 => ("StableModels", "known", "Z", false)
  | _ => ("StableModels", "modelSet", "J", false)
def tyX0 : Nat → FieldType := fun k => match k with
  | 0 => .int
  | 1 => .array .byte
  | 2 => .array .byte
  | 3 => .array .byte
  | 4 => .array .byte
  | 5 => .int
  | 6 => .int
  | 7 => .boolean
  | 8 => .boolean
  | 9 => .array .byte
  | 10 => .array .byte
  | 11 => .array .byte
  | 12 => .array .byte
  | 13 => .boolean
  | _ => .long
abbrev wsX00 : List Cond := u_ws RX0 TX0 15
set_option maxRecDepth 100000 in
theorem nmX0 : ∀ a, a < 15 → ∀ b, b < 15 → a ≠ b → (TX0 a).2.1 ≠ (TX0 b).2.1 := by decide +kernel
set_option maxRecDepth 100000 in
theorem tyX0_ok : ∀ k, k < 15 → parseFieldDescriptor (TX0 k).2.2.1 = some (tyX0 k) := by decide +kernel
abbrev cX0_init : ByteArray := prog_1_method_1_code
def yX0_init : MethodName := ⟨RX0, "<init>", "()V"⟩
abbrev cX0_add : ByteArray := prog_1_method_5_code
def yX0_add : MethodName := ⟨RX0, "add", "(IIII)I"⟩
abbrev cX0_isSet : ByteArray := prog_1_method_3_code
def yX0_isSet : MethodName := ⟨RX0, "isSet", "(I)Z"⟩
abbrev cX0_has : ByteArray := prog_1_method_2_code
def yX0_has : MethodName := ⟨RX0, "has", "(I)Z"⟩
abbrev cX0_remove : ByteArray := prog_1_method_6_code
def yX0_remove : MethodName := ⟨RX0, "remove", "(I)Z"⟩
abbrev cX0_rules : ByteArray := prog_1_method_7_code
def yX0_rules : MethodName := ⟨RX0, "rules", "()I"⟩
abbrev cX0_support : ByteArray := prog_1_method_9_code
def yX0_support : MethodName := ⟨RX0, "support", "(I)I"⟩
abbrev cX0_supportOf : ByteArray := prog_1_method_8_code
def yX0_supportOf : MethodName := ⟨RX0, "supportOf", "(I)I"⟩
abbrev cX0_stable : ByteArray := prog_1_method_22_code
def yX0_stable : MethodName := ⟨RX0, "stable", "(I)Z"⟩
abbrev cX0_search : ByteArray := prog_1_method_18_code
def yX0_search : MethodName := ⟨RX0, "search", "()V"⟩
abbrev cX0_conclude : ByteArray := prog_1_method_14_code
def yX0_conclude : MethodName := ⟨RX0, "conclude", "()V"⟩
abbrev cX0_forward : ByteArray := prog_1_method_15_code
def yX0_forward : MethodName := ⟨RX0, "forward", "(I)V"⟩
abbrev cX0_bodyHolds : ByteArray := prog_1_method_12_code
def yX0_bodyHolds : MethodName := ⟨RX0, "bodyHolds", "(I)Z"⟩
abbrev cX0_putIn : ByteArray := prog_1_method_10_code
def yX0_putIn : MethodName := ⟨RX0, "putIn", "(I)V"⟩
abbrev cX0_bodyFails : ByteArray := prog_1_method_13_code
def yX0_bodyFails : MethodName := ⟨RX0, "bodyFails", "(I)Z"⟩
abbrev cX0_ones : ByteArray := prog_1_method_4_code
def yX0_ones : MethodName := ⟨RX0, "ones", "(I)I"⟩
abbrev cX0_putOut : ByteArray := prog_1_method_11_code
def yX0_putOut : MethodName := ⟨RX0, "putOut", "(I)V"⟩
abbrev cX0_backward : ByteArray := prog_1_method_16_code
def yX0_backward : MethodName := ⟨RX0, "backward", "(I)V"⟩
abbrev cX0_founded : ByteArray := prog_1_method_17_code
def yX0_founded : MethodName := ⟨RX0, "founded", "()I"⟩
abbrev cX0_open : ByteArray := prog_1_method_19_code
def yX0_open : MethodName := ⟨RX0, "open", "(I)V"⟩
abbrev cX0_tryNext : ByteArray := prog_1_method_20_code
def yX0_tryNext : MethodName := ⟨RX0, "tryNext", "(I)V"⟩
abbrev cX0_isModel : ByteArray := prog_1_method_21_code
def yX0_isModel : MethodName := ⟨RX0, "isModel", "(I)Z"⟩
abbrev cX0_models : ByteArray := prog_1_method_23_code
def yX0_models : MethodName := ⟨RX0, "models", "()I"⟩
abbrev cX0_model : ByteArray := prog_1_method_24_code
def yX0_model : MethodName := ⟨RX0, "model", "(I)I"⟩
abbrev cX0_brave : ByteArray := prog_1_method_25_code
def yX0_brave : MethodName := ⟨RX0, "brave", "()I"⟩
abbrev cX0_cautious : ByteArray := prog_1_method_26_code
def yX0_cautious : MethodName := ⟨RX0, "cautious", "()I"⟩
abbrev cX0_find : ByteArray := prog_1_method_27_code
def yX0_find : MethodName := ⟨RX0, "find", "(II)I"⟩
abbrev cX0_fewest : ByteArray := prog_1_method_28_code
def yX0_fewest : MethodName := ⟨RX0, "fewest", "()I"⟩
abbrev cX0_maximal : ByteArray := prog_1_method_29_code
def yX0_maximal : MethodName := ⟨RX0, "maximal", "()I"⟩
abbrev cX0_isMaximal : ByteArray := prog_1_method_30_code
def yX0_isMaximal : MethodName := ⟨RX0, "isMaximal", "(I)Z"⟩
abbrev cX0_matters : ByteArray := prog_1_method_31_code
def yX0_matters : MethodName := ⟨RX0, "matters", "(I)Z"⟩
/-! StableModelsModel -/
def RX1 : String := "StableModelsModel"
def TX1 : u_T := fun k => match k with
  | 0 => ("StableModelsModel", "there", "[Z", false)
  | 1 => ("StableModelsModel", "kinds", "[I", false)
  | 2 => ("StableModelsModel", "heads", "[I", false)
  | 3 => ("StableModelsModel", "yes", "[I", false)
  | 4 => ("StableModelsModel", "no", "[I", false)
  | 5 => ("StableModelsModel", "found", "[Z", false)
  | _ => ("StableModelsModel", "before", "[Z", false)
def tyX1 : Nat → FieldType := fun k => match k with
  | 0 => .array .boolean
  | 1 => .array .int
  | 2 => .array .int
  | 3 => .array .int
  | 4 => .array .int
  | 5 => .array .boolean
  | _ => .array .boolean
abbrev wsX10 : List Cond := u_ws RX1 TX1 7
theorem nmX1 : ∀ a, a < 7 → ∀ b, b < 7 → a ≠ b → (TX1 a).2.1 ≠ (TX1 b).2.1 := by decide +kernel
theorem tyX1_ok : ∀ k, k < 7 → parseFieldDescriptor (TX1 k).2.2.1 = some (tyX1 k) := by decide +kernel
abbrev cX1_init : ByteArray := prog_3_method_1_code
def yX1_init : MethodName := ⟨RX1, "<init>", "()V"⟩
abbrev cX1_add : ByteArray := prog_3_method_3_code
def yX1_add : MethodName := ⟨RX1, "add", "(IIII)I"⟩
abbrev cX1_set : ByteArray := prog_3_method_2_code
def yX1_set : MethodName := ⟨RX1, "set", "(I)Z"⟩
abbrev cX1_remove : ByteArray := prog_3_method_4_code
def yX1_remove : MethodName := ⟨RX1, "remove", "(I)Z"⟩
abbrev cX1_rules : ByteArray := prog_3_method_5_code
def yX1_rules : MethodName := ⟨RX1, "rules", "()I"⟩
abbrev cX1_support : ByteArray := prog_3_method_7_code
def yX1_support : MethodName := ⟨RX1, "support", "(I)I"⟩
abbrev cX1_taken : ByteArray := prog_3_method_6_code
def yX1_taken : MethodName := ⟨RX1, "taken", "(II)Z"⟩
abbrev cX1_stable : ByteArray := prog_3_method_8_code
def yX1_stable : MethodName := ⟨RX1, "stable", "(I)Z"⟩
abbrev cX1_models : ByteArray := prog_3_method_10_code
def yX1_models : MethodName := ⟨RX1, "models", "()I"⟩
abbrev cX1_model : ByteArray := prog_3_method_11_code
def yX1_model : MethodName := ⟨RX1, "model", "(I)I"⟩
abbrev cX1_brave : ByteArray := prog_3_method_12_code
def yX1_brave : MethodName := ⟨RX1, "brave", "()I"⟩
abbrev cX1_cautious : ByteArray := prog_3_method_13_code
def yX1_cautious : MethodName := ⟨RX1, "cautious", "()I"⟩
abbrev cX1_find : ByteArray := prog_3_method_14_code
def yX1_find : MethodName := ⟨RX1, "find", "(II)I"⟩
abbrev cX1_fewest : ByteArray := prog_3_method_16_code
def yX1_fewest : MethodName := ⟨RX1, "fewest", "()I"⟩
abbrev cX1_ones : ByteArray := prog_3_method_15_code
def yX1_ones : MethodName := ⟨RX1, "ones", "(I)I"⟩
abbrev cX1_maximal : ByteArray := prog_3_method_17_code
def yX1_maximal : MethodName := ⟨RX1, "maximal", "()I"⟩
abbrev cX1_work : ByteArray := prog_3_method_9_code
def yX1_work : MethodName := ⟨RX1, "work", "()V"⟩
abbrev cX1_matters : ByteArray := prog_3_method_18_code
def yX1_matters : MethodName := ⟨RX1, "matters", "(I)Z"⟩
/-! java/lang/Object -/
def RJ0 : String := "java/lang/Object"
abbrev cJ0_init : ByteArray := object_method_1_code
def yJ0_init : MethodName := ⟨RJ0, "<init>", "()V"⟩
theorem q28 : (Jvm.Cond.instanceMethod ({ cls := "java/lang/Object", name := "<init>", desc := "()V" } : Jvm.MethodName)) ∈ lw_all := lw_g (lw_at lw_m1 9 rfl) rfl
theorem q29 : (Jvm.Cond.code ({ cls := "java/lang/Object", name := "<init>", desc := "()V" } : Jvm.MethodName) object_method_1_code (1 : Nat) (Option.none : Option Jvm.ClassFile.FieldType)) ∈ lw_all := lw_g (lw_at lw_m1 10 rfl) rfl
theorem q20 : (Jvm.Cond.initialized "StableModels") ∈ lw_all := lw_g (lw_at lw_m1 1 rfl) rfl
theorem q23 : (Jvm.Cond.instantiable "StableModels" (15 : Nat)) ∈ lw_all := lw_g (lw_at lw_m1 4 rfl) rfl
theorem q25 : (Jvm.Cond.instanceMethod ({ cls := "StableModels", name := "<init>", desc := "()V" } : Jvm.MethodName)) ∈ lw_all := lw_g (lw_at lw_m1 6 rfl) rfl
theorem q26 : (Jvm.Cond.code ({ cls := "StableModels", name := "<init>", desc := "()V" } : Jvm.MethodName) prog_1_method_1_code (1 : Nat) (Option.none : Option Jvm.ClassFile.FieldType)) ∈ lw_all := lw_g (lw_at lw_m1 7 rfl) rfl
theorem q27 : (Jvm.Cond.methodLink "StableModels" (1 : Nat) ({ cls := "java/lang/Object", name := "<init>", desc := "()V" } : Jvm.MethodName)) ∈ lw_all := lw_g (lw_at lw_m1 8 rfl) rfl
theorem q30 : (Jvm.Cond.fieldLink "StableModels" (34 : Nat) "StableModels" "present" "I") ∈ lw_all := lw_g (lw_at lw_m1 11 rfl) rfl
theorem q31 : (Jvm.Cond.fieldLink "StableModels" (7 : Nat) "StableModels" "kinds" "[B") ∈ lw_all := lw_g (lw_at lw_m1 12 rfl) rfl
theorem q32 : (Jvm.Cond.fieldLink "StableModels" (13 : Nat) "StableModels" "heads" "[B") ∈ lw_all := lw_g (lw_at lw_m1 13 rfl) rfl
theorem q33 : (Jvm.Cond.fieldLink "StableModels" (16 : Nat) "StableModels" "poses" "[B") ∈ lw_all := lw_g (lw_at lw_m1 14 rfl) rfl
theorem q34 : (Jvm.Cond.fieldLink "StableModels" (19 : Nat) "StableModels" "negs" "[B") ∈ lw_all := lw_g (lw_at lw_m1 15 rfl) rfl
theorem q35 : (Jvm.Cond.fieldLink "StableModels" (53 : Nat) "StableModels" "inSet" "I") ∈ lw_all := lw_g (lw_at lw_m1 16 rfl) rfl
theorem q36 : (Jvm.Cond.fieldLink "StableModels" (62 : Nat) "StableModels" "outSet" "I") ∈ lw_all := lw_g (lw_at lw_m1 17 rfl) rfl
theorem q37 : (Jvm.Cond.fieldLink "StableModels" (59 : Nat) "StableModels" "broken" "Z") ∈ lw_all := lw_g (lw_at lw_m1 18 rfl) rfl
theorem q38 : (Jvm.Cond.fieldLink "StableModels" (56 : Nat) "StableModels" "moved" "Z") ∈ lw_all := lw_g (lw_at lw_m1 19 rfl) rfl
theorem q39 : (Jvm.Cond.fieldLink "StableModels" (22 : Nat) "StableModels" "levelIn" "[B") ∈ lw_all := lw_g (lw_at lw_m1 20 rfl) rfl
theorem q40 : (Jvm.Cond.fieldLink "StableModels" (25 : Nat) "StableModels" "levelOut" "[B") ∈ lw_all := lw_g (lw_at lw_m1 21 rfl) rfl
theorem q41 : (Jvm.Cond.fieldLink "StableModels" (28 : Nat) "StableModels" "levelAtom" "[B") ∈ lw_all := lw_g (lw_at lw_m1 22 rfl) rfl
theorem q42 : (Jvm.Cond.fieldLink "StableModels" (31 : Nat) "StableModels" "levelTurn" "[B") ∈ lw_all := lw_g (lw_at lw_m1 23 rfl) rfl
theorem q43 : (Jvm.Cond.fieldLink "StableModels" (45 : Nat) "StableModels" "known" "Z") ∈ lw_all := lw_g (lw_at lw_m1 24 rfl) rfl
theorem q44 : (Jvm.Cond.fieldLink "StableModels" (91 : Nat) "StableModels" "modelSet" "J") ∈ lw_all := lw_g (lw_at lw_m1 25 rfl) rfl
theorem q45 : (Jvm.Cond.lays "StableModels" "StableModels" "present" "I") ∈ lw_all := lw_g (lw_at lw_m1 26 rfl) rfl
theorem q46 : (Jvm.Cond.soleField "StableModels" "present") ∈ lw_all := lw_g (lw_at lw_m1 27 rfl) rfl
theorem q47 : (Jvm.Cond.laysFinal "StableModels" "StableModels" "kinds" "[B") ∈ lw_all := lw_g (lw_at lw_m1 28 rfl) rfl
theorem q48 : (Jvm.Cond.soleField "StableModels" "kinds") ∈ lw_all := lw_g (lw_at lw_m1 29 rfl) rfl
theorem q49 : (Jvm.Cond.laysFinal "StableModels" "StableModels" "heads" "[B") ∈ lw_all := lw_g (lw_at lw_m1 30 rfl) rfl
theorem q50 : (Jvm.Cond.soleField "StableModels" "heads") ∈ lw_all := lw_g (lw_at lw_m1 31 rfl) rfl
theorem q51 : (Jvm.Cond.laysFinal "StableModels" "StableModels" "poses" "[B") ∈ lw_all := lw_g (lw_at lw_m1 32 rfl) rfl
theorem q52 : (Jvm.Cond.soleField "StableModels" "poses") ∈ lw_all := lw_g (lw_at lw_m1 33 rfl) rfl
theorem q53 : (Jvm.Cond.laysFinal "StableModels" "StableModels" "negs" "[B") ∈ lw_all := lw_g (lw_at lw_m1 34 rfl) rfl
theorem q54 : (Jvm.Cond.soleField "StableModels" "negs") ∈ lw_all := lw_g (lw_at lw_m1 35 rfl) rfl
theorem q55 : (Jvm.Cond.lays "StableModels" "StableModels" "inSet" "I") ∈ lw_all := lw_g (lw_at lw_m1 36 rfl) rfl
theorem q56 : (Jvm.Cond.soleField "StableModels" "inSet") ∈ lw_all := lw_g (lw_at lw_m1 37 rfl) rfl
theorem q57 : (Jvm.Cond.lays "StableModels" "StableModels" "outSet" "I") ∈ lw_all := lw_g (lw_at lw_m1 38 rfl) rfl
theorem q58 : (Jvm.Cond.soleField "StableModels" "outSet") ∈ lw_all := lw_g (lw_at lw_m1 39 rfl) rfl
theorem q59 : (Jvm.Cond.lays "StableModels" "StableModels" "broken" "Z") ∈ lw_all := lw_g (lw_at lw_m1 40 rfl) rfl
theorem q60 : (Jvm.Cond.soleField "StableModels" "broken") ∈ lw_all := lw_g (lw_at lw_m1 41 rfl) rfl
theorem q61 : (Jvm.Cond.lays "StableModels" "StableModels" "moved" "Z") ∈ lw_all := lw_g (lw_at lw_m1 42 rfl) rfl
theorem q62 : (Jvm.Cond.soleField "StableModels" "moved") ∈ lw_all := lw_g (lw_at lw_m1 43 rfl) rfl
theorem q63 : (Jvm.Cond.laysFinal "StableModels" "StableModels" "levelIn" "[B") ∈ lw_all := lw_g (lw_at lw_m1 44 rfl) rfl
theorem q64 : (Jvm.Cond.soleField "StableModels" "levelIn") ∈ lw_all := lw_g (lw_at lw_m1 45 rfl) rfl
theorem q65 : (Jvm.Cond.laysFinal "StableModels" "StableModels" "levelOut" "[B") ∈ lw_all := lw_g (lw_at lw_m1 46 rfl) rfl
theorem q66 : (Jvm.Cond.soleField "StableModels" "levelOut") ∈ lw_all := lw_g (lw_at lw_m1 47 rfl) rfl
theorem q67 : (Jvm.Cond.laysFinal "StableModels" "StableModels" "levelAtom" "[B") ∈ lw_all := lw_g (lw_at lw_m1 48 rfl) rfl
theorem q68 : (Jvm.Cond.soleField "StableModels" "levelAtom") ∈ lw_all := lw_g (lw_at lw_m1 49 rfl) rfl
theorem q69 : (Jvm.Cond.laysFinal "StableModels" "StableModels" "levelTurn" "[B") ∈ lw_all := lw_g (lw_at lw_m1 50 rfl) rfl
theorem q70 : (Jvm.Cond.soleField "StableModels" "levelTurn") ∈ lw_all := lw_g (lw_at lw_m1 51 rfl) rfl
theorem q71 : (Jvm.Cond.lays "StableModels" "StableModels" "known" "Z") ∈ lw_all := lw_g (lw_at lw_m1 52 rfl) rfl
theorem q72 : (Jvm.Cond.soleField "StableModels" "known") ∈ lw_all := lw_g (lw_at lw_m1 53 rfl) rfl
theorem q73 : (Jvm.Cond.lays "StableModels" "StableModels" "modelSet" "J") ∈ lw_all := lw_g (lw_at lw_m1 54 rfl) rfl
theorem q74 : (Jvm.Cond.soleField "StableModels" "modelSet") ∈ lw_all := lw_g (lw_at lw_m1 55 rfl) rfl
theorem q75 : (Jvm.Cond.superclass "StableModels" "java/lang/Object") ∈ lw_all := lw_g (lw_at lw_m1 56 rfl) rfl
theorem q78 : (Jvm.Cond.instanceMethod ({ cls := "StableModels", name := "add", desc := "(IIII)I" } : Jvm.MethodName)) ∈ lw_all := lw_g (lw_at lw_m1 59 rfl) rfl
theorem q79 : (Jvm.Cond.selects "StableModels" ({ cls := "StableModels", name := "add", desc := "(IIII)I" } : Jvm.MethodName) ({ cls := "StableModels", name := "add", desc := "(IIII)I" } : Jvm.MethodName)) ∈ lw_all := lw_g (lw_at lw_m1 60 rfl) rfl
theorem q80 : (Jvm.Cond.code ({ cls := "StableModels", name := "add", desc := "(IIII)I" } : Jvm.MethodName) prog_1_method_5_code (7 : Nat) (Option.some Jvm.ClassFile.FieldType.int)) ∈ lw_all := lw_g (lw_at lw_m1 61 rfl) rfl
theorem q81 : (Jvm.Cond.methodLink "StableModels" (38 : Nat) ({ cls := "StableModels", name := "isSet", desc := "(I)Z" } : Jvm.MethodName)) ∈ lw_all := lw_g (lw_at lw_m1 62 rfl) rfl
theorem q82 : (Jvm.Cond.static ({ cls := "StableModels", name := "isSet", desc := "(I)Z" } : Jvm.MethodName)) ∈ lw_all := lw_g (lw_at lw_m1 63 rfl) rfl
theorem q83 : (Jvm.Cond.code ({ cls := "StableModels", name := "isSet", desc := "(I)Z" } : Jvm.MethodName) prog_1_method_3_code (1 : Nat) (Option.some Jvm.ClassFile.FieldType.boolean)) ∈ lw_all := lw_g (lw_at lw_m1 64 rfl) rfl
theorem q84 : (Jvm.Cond.methodLink "StableModels" (42 : Nat) ({ cls := "StableModels", name := "has", desc := "(I)Z" } : Jvm.MethodName)) ∈ lw_all := lw_g (lw_at lw_m1 65 rfl) rfl
theorem q85 : (Jvm.Cond.privateMethod ({ cls := "StableModels", name := "has", desc := "(I)Z" } : Jvm.MethodName)) ∈ lw_tbl := lw_at lw_m1 66 rfl
theorem q86 : (Jvm.Cond.instanceMethod ({ cls := "StableModels", name := "has", desc := "(I)Z" } : Jvm.MethodName)) ∈ lw_all := lw_g (lw_at lw_m1 67 rfl) rfl
theorem q87 : (Jvm.Cond.code ({ cls := "StableModels", name := "has", desc := "(I)Z" } : Jvm.MethodName) prog_1_method_2_code (2 : Nat) (Option.some Jvm.ClassFile.FieldType.boolean)) ∈ lw_all := lw_g (lw_at lw_m1 68 rfl) rfl
theorem q89 : (Jvm.Cond.instanceMethod ({ cls := "StableModels", name := "remove", desc := "(I)Z" } : Jvm.MethodName)) ∈ lw_all := lw_g (lw_at lw_m1 70 rfl) rfl
theorem q90 : (Jvm.Cond.selects "StableModels" ({ cls := "StableModels", name := "remove", desc := "(I)Z" } : Jvm.MethodName) ({ cls := "StableModels", name := "remove", desc := "(I)Z" } : Jvm.MethodName)) ∈ lw_all := lw_g (lw_at lw_m1 71 rfl) rfl
theorem q91 : (Jvm.Cond.code ({ cls := "StableModels", name := "remove", desc := "(I)Z" } : Jvm.MethodName) prog_1_method_6_code (2 : Nat) (Option.some Jvm.ClassFile.FieldType.boolean)) ∈ lw_all := lw_g (lw_at lw_m1 72 rfl) rfl
theorem q93 : (Jvm.Cond.instanceMethod ({ cls := "StableModels", name := "rules", desc := "()I" } : Jvm.MethodName)) ∈ lw_all := lw_g (lw_at lw_m1 74 rfl) rfl
theorem q94 : (Jvm.Cond.selects "StableModels" ({ cls := "StableModels", name := "rules", desc := "()I" } : Jvm.MethodName) ({ cls := "StableModels", name := "rules", desc := "()I" } : Jvm.MethodName)) ∈ lw_all := lw_g (lw_at lw_m1 75 rfl) rfl
theorem q95 : (Jvm.Cond.code ({ cls := "StableModels", name := "rules", desc := "()I" } : Jvm.MethodName) prog_1_method_7_code (1 : Nat) (Option.some Jvm.ClassFile.FieldType.int)) ∈ lw_all := lw_g (lw_at lw_m1 76 rfl) rfl
theorem q97 : (Jvm.Cond.instanceMethod ({ cls := "StableModels", name := "support", desc := "(I)I" } : Jvm.MethodName)) ∈ lw_all := lw_g (lw_at lw_m1 78 rfl) rfl
theorem q98 : (Jvm.Cond.selects "StableModels" ({ cls := "StableModels", name := "support", desc := "(I)I" } : Jvm.MethodName) ({ cls := "StableModels", name := "support", desc := "(I)I" } : Jvm.MethodName)) ∈ lw_all := lw_g (lw_at lw_m1 79 rfl) rfl
theorem q99 : (Jvm.Cond.code ({ cls := "StableModels", name := "support", desc := "(I)I" } : Jvm.MethodName) prog_1_method_9_code (2 : Nat) (Option.some Jvm.ClassFile.FieldType.int)) ∈ lw_all := lw_g (lw_at lw_m1 80 rfl) rfl
theorem q100 : (Jvm.Cond.methodLink "StableModels" (49 : Nat) ({ cls := "StableModels", name := "supportOf", desc := "(I)I" } : Jvm.MethodName)) ∈ lw_all := lw_g (lw_at lw_m1 81 rfl) rfl
theorem q101 : (Jvm.Cond.privateMethod ({ cls := "StableModels", name := "supportOf", desc := "(I)I" } : Jvm.MethodName)) ∈ lw_tbl := lw_at lw_m1 82 rfl
theorem q102 : (Jvm.Cond.instanceMethod ({ cls := "StableModels", name := "supportOf", desc := "(I)I" } : Jvm.MethodName)) ∈ lw_all := lw_g (lw_at lw_m1 83 rfl) rfl
theorem q103 : (Jvm.Cond.code ({ cls := "StableModels", name := "supportOf", desc := "(I)I" } : Jvm.MethodName) prog_1_method_8_code (6 : Nat) (Option.some Jvm.ClassFile.FieldType.int)) ∈ lw_all := lw_g (lw_at lw_m1 84 rfl) rfl
theorem q105 : (Jvm.Cond.instanceMethod ({ cls := "StableModels", name := "stable", desc := "(I)Z" } : Jvm.MethodName)) ∈ lw_all := lw_g (lw_at lw_m1 86 rfl) rfl
theorem q106 : (Jvm.Cond.selects "StableModels" ({ cls := "StableModels", name := "stable", desc := "(I)Z" } : Jvm.MethodName) ({ cls := "StableModels", name := "stable", desc := "(I)Z" } : Jvm.MethodName)) ∈ lw_all := lw_g (lw_at lw_m1 87 rfl) rfl
theorem q107 : (Jvm.Cond.code ({ cls := "StableModels", name := "stable", desc := "(I)Z" } : Jvm.MethodName) prog_1_method_22_code (2 : Nat) (Option.some Jvm.ClassFile.FieldType.boolean)) ∈ lw_all := lw_g (lw_at lw_m1 88 rfl) rfl
theorem q108 : (Jvm.Cond.methodLink "StableModels" (104 : Nat) ({ cls := "StableModels", name := "search", desc := "()V" } : Jvm.MethodName)) ∈ lw_all := lw_g (lw_at lw_m1 89 rfl) rfl
theorem q109 : (Jvm.Cond.privateMethod ({ cls := "StableModels", name := "search", desc := "()V" } : Jvm.MethodName)) ∈ lw_tbl := lw_at lw_m1 90 rfl
theorem q110 : (Jvm.Cond.instanceMethod ({ cls := "StableModels", name := "search", desc := "()V" } : Jvm.MethodName)) ∈ lw_all := lw_g (lw_at lw_m1 91 rfl) rfl
theorem q111 : (Jvm.Cond.code ({ cls := "StableModels", name := "search", desc := "()V" } : Jvm.MethodName) prog_1_method_18_code (4 : Nat) (Option.none : Option Jvm.ClassFile.FieldType)) ∈ lw_all := lw_g (lw_at lw_m1 92 rfl) rfl
theorem q112 : (Jvm.Cond.methodLink "StableModels" (95 : Nat) ({ cls := "StableModels", name := "conclude", desc := "()V" } : Jvm.MethodName)) ∈ lw_all := lw_g (lw_at lw_m1 93 rfl) rfl
theorem q113 : (Jvm.Cond.privateMethod ({ cls := "StableModels", name := "conclude", desc := "()V" } : Jvm.MethodName)) ∈ lw_tbl := lw_at lw_m1 94 rfl
theorem q114 : (Jvm.Cond.instanceMethod ({ cls := "StableModels", name := "conclude", desc := "()V" } : Jvm.MethodName)) ∈ lw_all := lw_g (lw_at lw_m1 95 rfl) rfl
theorem q115 : (Jvm.Cond.code ({ cls := "StableModels", name := "conclude", desc := "()V" } : Jvm.MethodName) prog_1_method_14_code (3 : Nat) (Option.none : Option Jvm.ClassFile.FieldType)) ∈ lw_all := lw_g (lw_at lw_m1 96 rfl) rfl
theorem q116 : (Jvm.Cond.methodLink "StableModels" (65 : Nat) ({ cls := "StableModels", name := "forward", desc := "(I)V" } : Jvm.MethodName)) ∈ lw_all := lw_g (lw_at lw_m1 97 rfl) rfl
theorem q117 : (Jvm.Cond.privateMethod ({ cls := "StableModels", name := "forward", desc := "(I)V" } : Jvm.MethodName)) ∈ lw_tbl := lw_at lw_m1 98 rfl
theorem q118 : (Jvm.Cond.instanceMethod ({ cls := "StableModels", name := "forward", desc := "(I)V" } : Jvm.MethodName)) ∈ lw_all := lw_g (lw_at lw_m1 99 rfl) rfl
theorem q119 : (Jvm.Cond.code ({ cls := "StableModels", name := "forward", desc := "(I)V" } : Jvm.MethodName) prog_1_method_15_code (5 : Nat) (Option.none : Option Jvm.ClassFile.FieldType)) ∈ lw_all := lw_g (lw_at lw_m1 100 rfl) rfl
theorem q120 : (Jvm.Cond.methodLink "StableModels" (79 : Nat) ({ cls := "StableModels", name := "bodyHolds", desc := "(I)Z" } : Jvm.MethodName)) ∈ lw_all := lw_g (lw_at lw_m1 101 rfl) rfl
theorem q121 : (Jvm.Cond.privateMethod ({ cls := "StableModels", name := "bodyHolds", desc := "(I)Z" } : Jvm.MethodName)) ∈ lw_tbl := lw_at lw_m1 102 rfl
theorem q122 : (Jvm.Cond.instanceMethod ({ cls := "StableModels", name := "bodyHolds", desc := "(I)Z" } : Jvm.MethodName)) ∈ lw_all := lw_g (lw_at lw_m1 103 rfl) rfl
theorem q123 : (Jvm.Cond.code ({ cls := "StableModels", name := "bodyHolds", desc := "(I)Z" } : Jvm.MethodName) prog_1_method_12_code (2 : Nat) (Option.some Jvm.ClassFile.FieldType.boolean)) ∈ lw_all := lw_g (lw_at lw_m1 104 rfl) rfl
theorem q124 : (Jvm.Cond.methodLink "StableModels" (82 : Nat) ({ cls := "StableModels", name := "putIn", desc := "(I)V" } : Jvm.MethodName)) ∈ lw_all := lw_g (lw_at lw_m1 105 rfl) rfl
theorem q125 : (Jvm.Cond.privateMethod ({ cls := "StableModels", name := "putIn", desc := "(I)V" } : Jvm.MethodName)) ∈ lw_tbl := lw_at lw_m1 106 rfl
theorem q126 : (Jvm.Cond.instanceMethod ({ cls := "StableModels", name := "putIn", desc := "(I)V" } : Jvm.MethodName)) ∈ lw_all := lw_g (lw_at lw_m1 107 rfl) rfl
theorem q127 : (Jvm.Cond.code ({ cls := "StableModels", name := "putIn", desc := "(I)V" } : Jvm.MethodName) prog_1_method_10_code (2 : Nat) (Option.none : Option Jvm.ClassFile.FieldType)) ∈ lw_all := lw_g (lw_at lw_m1 108 rfl) rfl
theorem q128 : (Jvm.Cond.methodLink "StableModels" (85 : Nat) ({ cls := "StableModels", name := "bodyFails", desc := "(I)Z" } : Jvm.MethodName)) ∈ lw_all := lw_g (lw_at lw_m1 109 rfl) rfl
theorem q129 : (Jvm.Cond.privateMethod ({ cls := "StableModels", name := "bodyFails", desc := "(I)Z" } : Jvm.MethodName)) ∈ lw_tbl := lw_at lw_m1 110 rfl
theorem q130 : (Jvm.Cond.instanceMethod ({ cls := "StableModels", name := "bodyFails", desc := "(I)Z" } : Jvm.MethodName)) ∈ lw_all := lw_g (lw_at lw_m1 111 rfl) rfl
theorem q131 : (Jvm.Cond.code ({ cls := "StableModels", name := "bodyFails", desc := "(I)Z" } : Jvm.MethodName) prog_1_method_13_code (2 : Nat) (Option.some Jvm.ClassFile.FieldType.boolean)) ∈ lw_all := lw_g (lw_at lw_m1 112 rfl) rfl
theorem q132 : (Jvm.Cond.methodLink "StableModels" (88 : Nat) ({ cls := "StableModels", name := "ones", desc := "(I)I" } : Jvm.MethodName)) ∈ lw_all := lw_g (lw_at lw_m1 113 rfl) rfl
theorem q133 : (Jvm.Cond.static ({ cls := "StableModels", name := "ones", desc := "(I)I" } : Jvm.MethodName)) ∈ lw_all := lw_g (lw_at lw_m1 114 rfl) rfl
theorem q134 : (Jvm.Cond.code ({ cls := "StableModels", name := "ones", desc := "(I)I" } : Jvm.MethodName) prog_1_method_4_code (3 : Nat) (Option.some Jvm.ClassFile.FieldType.int)) ∈ lw_all := lw_g (lw_at lw_m1 115 rfl) rfl
theorem q135 : (Jvm.Cond.methodLink "StableModels" (76 : Nat) ({ cls := "StableModels", name := "putOut", desc := "(I)V" } : Jvm.MethodName)) ∈ lw_all := lw_g (lw_at lw_m1 116 rfl) rfl
theorem q136 : (Jvm.Cond.privateMethod ({ cls := "StableModels", name := "putOut", desc := "(I)V" } : Jvm.MethodName)) ∈ lw_tbl := lw_at lw_m1 117 rfl
theorem q137 : (Jvm.Cond.instanceMethod ({ cls := "StableModels", name := "putOut", desc := "(I)V" } : Jvm.MethodName)) ∈ lw_all := lw_g (lw_at lw_m1 118 rfl) rfl
theorem q138 : (Jvm.Cond.code ({ cls := "StableModels", name := "putOut", desc := "(I)V" } : Jvm.MethodName) prog_1_method_11_code (2 : Nat) (Option.none : Option Jvm.ClassFile.FieldType)) ∈ lw_all := lw_g (lw_at lw_m1 119 rfl) rfl
theorem q139 : (Jvm.Cond.methodLink "StableModels" (69 : Nat) ({ cls := "StableModels", name := "backward", desc := "(I)V" } : Jvm.MethodName)) ∈ lw_all := lw_g (lw_at lw_m1 120 rfl) rfl
theorem q140 : (Jvm.Cond.privateMethod ({ cls := "StableModels", name := "backward", desc := "(I)V" } : Jvm.MethodName)) ∈ lw_tbl := lw_at lw_m1 121 rfl
theorem q141 : (Jvm.Cond.instanceMethod ({ cls := "StableModels", name := "backward", desc := "(I)V" } : Jvm.MethodName)) ∈ lw_all := lw_g (lw_at lw_m1 122 rfl) rfl
theorem q142 : (Jvm.Cond.code ({ cls := "StableModels", name := "backward", desc := "(I)V" } : Jvm.MethodName) prog_1_method_16_code (5 : Nat) (Option.none : Option Jvm.ClassFile.FieldType)) ∈ lw_all := lw_g (lw_at lw_m1 123 rfl) rfl
theorem q143 : (Jvm.Cond.methodLink "StableModels" (72 : Nat) ({ cls := "StableModels", name := "founded", desc := "()I" } : Jvm.MethodName)) ∈ lw_all := lw_g (lw_at lw_m1 124 rfl) rfl
theorem q144 : (Jvm.Cond.privateMethod ({ cls := "StableModels", name := "founded", desc := "()I" } : Jvm.MethodName)) ∈ lw_tbl := lw_at lw_m1 125 rfl
theorem q145 : (Jvm.Cond.instanceMethod ({ cls := "StableModels", name := "founded", desc := "()I" } : Jvm.MethodName)) ∈ lw_all := lw_g (lw_at lw_m1 126 rfl) rfl
theorem q146 : (Jvm.Cond.code ({ cls := "StableModels", name := "founded", desc := "()I" } : Jvm.MethodName) prog_1_method_17_code (5 : Nat) (Option.some Jvm.ClassFile.FieldType.int)) ∈ lw_all := lw_g (lw_at lw_m1 127 rfl) rfl
theorem q147 : (Jvm.Cond.methodLink "StableModels" (98 : Nat) ({ cls := "StableModels", name := "open", desc := "(I)V" } : Jvm.MethodName)) ∈ lw_all := lw_g (lw_at lw_m1 128 rfl) rfl
theorem q148 : (Jvm.Cond.privateMethod ({ cls := "StableModels", name := "open", desc := "(I)V" } : Jvm.MethodName)) ∈ lw_tbl := lw_at lw_m1 129 rfl
theorem q149 : (Jvm.Cond.instanceMethod ({ cls := "StableModels", name := "open", desc := "(I)V" } : Jvm.MethodName)) ∈ lw_all := lw_g (lw_at lw_m1 130 rfl) rfl
theorem q150 : (Jvm.Cond.code ({ cls := "StableModels", name := "open", desc := "(I)V" } : Jvm.MethodName) prog_1_method_19_code (3 : Nat) (Option.none : Option Jvm.ClassFile.FieldType)) ∈ lw_all := lw_g (lw_at lw_m1 131 rfl) rfl
theorem q151 : (Jvm.Cond.methodLink "StableModels" (101 : Nat) ({ cls := "StableModels", name := "tryNext", desc := "(I)V" } : Jvm.MethodName)) ∈ lw_all := lw_g (lw_at lw_m1 132 rfl) rfl
theorem q152 : (Jvm.Cond.privateMethod ({ cls := "StableModels", name := "tryNext", desc := "(I)V" } : Jvm.MethodName)) ∈ lw_tbl := lw_at lw_m1 133 rfl
theorem q153 : (Jvm.Cond.instanceMethod ({ cls := "StableModels", name := "tryNext", desc := "(I)V" } : Jvm.MethodName)) ∈ lw_all := lw_g (lw_at lw_m1 134 rfl) rfl
theorem q154 : (Jvm.Cond.code ({ cls := "StableModels", name := "tryNext", desc := "(I)V" } : Jvm.MethodName) prog_1_method_20_code (3 : Nat) (Option.none : Option Jvm.ClassFile.FieldType)) ∈ lw_all := lw_g (lw_at lw_m1 135 rfl) rfl
theorem q155 : (Jvm.Cond.methodLink "StableModels" (107 : Nat) ({ cls := "StableModels", name := "isModel", desc := "(I)Z" } : Jvm.MethodName)) ∈ lw_all := lw_g (lw_at lw_m1 136 rfl) rfl
theorem q156 : (Jvm.Cond.privateMethod ({ cls := "StableModels", name := "isModel", desc := "(I)Z" } : Jvm.MethodName)) ∈ lw_tbl := lw_at lw_m1 137 rfl
theorem q157 : (Jvm.Cond.instanceMethod ({ cls := "StableModels", name := "isModel", desc := "(I)Z" } : Jvm.MethodName)) ∈ lw_all := lw_g (lw_at lw_m1 138 rfl) rfl
theorem q158 : (Jvm.Cond.code ({ cls := "StableModels", name := "isModel", desc := "(I)Z" } : Jvm.MethodName) prog_1_method_21_code (2 : Nat) (Option.some Jvm.ClassFile.FieldType.boolean)) ∈ lw_all := lw_g (lw_at lw_m1 139 rfl) rfl
theorem q160 : (Jvm.Cond.instanceMethod ({ cls := "StableModels", name := "models", desc := "()I" } : Jvm.MethodName)) ∈ lw_all := lw_g (lw_at lw_m1 141 rfl) rfl
theorem q161 : (Jvm.Cond.selects "StableModels" ({ cls := "StableModels", name := "models", desc := "()I" } : Jvm.MethodName) ({ cls := "StableModels", name := "models", desc := "()I" } : Jvm.MethodName)) ∈ lw_all := lw_g (lw_at lw_m1 142 rfl) rfl
theorem q162 : (Jvm.Cond.code ({ cls := "StableModels", name := "models", desc := "()I" } : Jvm.MethodName) prog_1_method_23_code (3 : Nat) (Option.some Jvm.ClassFile.FieldType.int)) ∈ lw_all := lw_g (lw_at lw_m1 143 rfl) rfl
theorem q164 : (Jvm.Cond.instanceMethod ({ cls := "StableModels", name := "model", desc := "(I)I" } : Jvm.MethodName)) ∈ lw_all := lw_g (lw_at lw_m1 145 rfl) rfl
theorem q165 : (Jvm.Cond.selects "StableModels" ({ cls := "StableModels", name := "model", desc := "(I)I" } : Jvm.MethodName) ({ cls := "StableModels", name := "model", desc := "(I)I" } : Jvm.MethodName)) ∈ lw_all := lw_g (lw_at lw_m1 146 rfl) rfl
theorem q166 : (Jvm.Cond.code ({ cls := "StableModels", name := "model", desc := "(I)I" } : Jvm.MethodName) prog_1_method_24_code (4 : Nat) (Option.some Jvm.ClassFile.FieldType.int)) ∈ lw_all := lw_g (lw_at lw_m1 147 rfl) rfl
theorem q168 : (Jvm.Cond.instanceMethod ({ cls := "StableModels", name := "brave", desc := "()I" } : Jvm.MethodName)) ∈ lw_all := lw_g (lw_at lw_m1 149 rfl) rfl
theorem q169 : (Jvm.Cond.selects "StableModels" ({ cls := "StableModels", name := "brave", desc := "()I" } : Jvm.MethodName) ({ cls := "StableModels", name := "brave", desc := "()I" } : Jvm.MethodName)) ∈ lw_all := lw_g (lw_at lw_m1 150 rfl) rfl
theorem q170 : (Jvm.Cond.code ({ cls := "StableModels", name := "brave", desc := "()I" } : Jvm.MethodName) prog_1_method_25_code (3 : Nat) (Option.some Jvm.ClassFile.FieldType.int)) ∈ lw_all := lw_g (lw_at lw_m1 151 rfl) rfl
theorem q172 : (Jvm.Cond.instanceMethod ({ cls := "StableModels", name := "cautious", desc := "()I" } : Jvm.MethodName)) ∈ lw_all := lw_g (lw_at lw_m1 153 rfl) rfl
theorem q173 : (Jvm.Cond.selects "StableModels" ({ cls := "StableModels", name := "cautious", desc := "()I" } : Jvm.MethodName) ({ cls := "StableModels", name := "cautious", desc := "()I" } : Jvm.MethodName)) ∈ lw_all := lw_g (lw_at lw_m1 154 rfl) rfl
theorem q174 : (Jvm.Cond.code ({ cls := "StableModels", name := "cautious", desc := "()I" } : Jvm.MethodName) prog_1_method_26_code (3 : Nat) (Option.some Jvm.ClassFile.FieldType.int)) ∈ lw_all := lw_g (lw_at lw_m1 155 rfl) rfl
theorem q176 : (Jvm.Cond.instanceMethod ({ cls := "StableModels", name := "find", desc := "(II)I" } : Jvm.MethodName)) ∈ lw_all := lw_g (lw_at lw_m1 157 rfl) rfl
theorem q177 : (Jvm.Cond.selects "StableModels" ({ cls := "StableModels", name := "find", desc := "(II)I" } : Jvm.MethodName) ({ cls := "StableModels", name := "find", desc := "(II)I" } : Jvm.MethodName)) ∈ lw_all := lw_g (lw_at lw_m1 158 rfl) rfl
theorem q178 : (Jvm.Cond.code ({ cls := "StableModels", name := "find", desc := "(II)I" } : Jvm.MethodName) prog_1_method_27_code (4 : Nat) (Option.some Jvm.ClassFile.FieldType.int)) ∈ lw_all := lw_g (lw_at lw_m1 159 rfl) rfl
theorem q180 : (Jvm.Cond.instanceMethod ({ cls := "StableModels", name := "fewest", desc := "()I" } : Jvm.MethodName)) ∈ lw_all := lw_g (lw_at lw_m1 161 rfl) rfl
theorem q181 : (Jvm.Cond.selects "StableModels" ({ cls := "StableModels", name := "fewest", desc := "()I" } : Jvm.MethodName) ({ cls := "StableModels", name := "fewest", desc := "()I" } : Jvm.MethodName)) ∈ lw_all := lw_g (lw_at lw_m1 162 rfl) rfl
theorem q182 : (Jvm.Cond.code ({ cls := "StableModels", name := "fewest", desc := "()I" } : Jvm.MethodName) prog_1_method_28_code (4 : Nat) (Option.some Jvm.ClassFile.FieldType.int)) ∈ lw_all := lw_g (lw_at lw_m1 163 rfl) rfl
theorem q184 : (Jvm.Cond.instanceMethod ({ cls := "StableModels", name := "maximal", desc := "()I" } : Jvm.MethodName)) ∈ lw_all := lw_g (lw_at lw_m1 165 rfl) rfl
theorem q185 : (Jvm.Cond.selects "StableModels" ({ cls := "StableModels", name := "maximal", desc := "()I" } : Jvm.MethodName) ({ cls := "StableModels", name := "maximal", desc := "()I" } : Jvm.MethodName)) ∈ lw_all := lw_g (lw_at lw_m1 166 rfl) rfl
theorem q186 : (Jvm.Cond.code ({ cls := "StableModels", name := "maximal", desc := "()I" } : Jvm.MethodName) prog_1_method_29_code (3 : Nat) (Option.some Jvm.ClassFile.FieldType.int)) ∈ lw_all := lw_g (lw_at lw_m1 167 rfl) rfl
theorem q187 : (Jvm.Cond.methodLink "StableModels" (110 : Nat) ({ cls := "StableModels", name := "isMaximal", desc := "(I)Z" } : Jvm.MethodName)) ∈ lw_all := lw_g (lw_at lw_m1 168 rfl) rfl
theorem q188 : (Jvm.Cond.privateMethod ({ cls := "StableModels", name := "isMaximal", desc := "(I)Z" } : Jvm.MethodName)) ∈ lw_tbl := lw_at lw_m1 169 rfl
theorem q189 : (Jvm.Cond.instanceMethod ({ cls := "StableModels", name := "isMaximal", desc := "(I)Z" } : Jvm.MethodName)) ∈ lw_all := lw_g (lw_at lw_m1 170 rfl) rfl
theorem q190 : (Jvm.Cond.code ({ cls := "StableModels", name := "isMaximal", desc := "(I)Z" } : Jvm.MethodName) prog_1_method_30_code (3 : Nat) (Option.some Jvm.ClassFile.FieldType.boolean)) ∈ lw_all := lw_g (lw_at lw_m1 171 rfl) rfl
theorem q192 : (Jvm.Cond.instanceMethod ({ cls := "StableModels", name := "matters", desc := "(I)Z" } : Jvm.MethodName)) ∈ lw_all := lw_g (lw_at lw_m1 173 rfl) rfl
theorem q193 : (Jvm.Cond.selects "StableModels" ({ cls := "StableModels", name := "matters", desc := "(I)Z" } : Jvm.MethodName) ({ cls := "StableModels", name := "matters", desc := "(I)Z" } : Jvm.MethodName)) ∈ lw_all := lw_g (lw_at lw_m1 174 rfl) rfl
theorem q194 : (Jvm.Cond.code ({ cls := "StableModels", name := "matters", desc := "(I)Z" } : Jvm.MethodName) prog_1_method_31_code (6 : Nat) (Option.some Jvm.ClassFile.FieldType.boolean)) ∈ lw_all := lw_g (lw_at lw_m1 175 rfl) rfl
theorem in_X0 : ∀ w ∈ wsX00, w ∈ lw_all := lw_in wsX00 [45, 47, 49, 51, 53, 55, 57, 59, 61, 63, 65, 67, 69, 71, 73] (by decide +kernel) (by decide +kernel)
theorem q21 : (Jvm.Cond.initialized "StableModelsModel") ∈ lw_all := lw_g (lw_at lw_m1 2 rfl) rfl
theorem q196 : (Jvm.Cond.instantiable "StableModelsModel" (7 : Nat)) ∈ lw_all := lw_g (lw_at lw_m1 177 rfl) rfl
theorem q198 : (Jvm.Cond.instanceMethod ({ cls := "StableModelsModel", name := "<init>", desc := "()V" } : Jvm.MethodName)) ∈ lw_all := lw_g (lw_at lw_m1 179 rfl) rfl
theorem q199 : (Jvm.Cond.code ({ cls := "StableModelsModel", name := "<init>", desc := "()V" } : Jvm.MethodName) prog_3_method_1_code (1 : Nat) (Option.none : Option Jvm.ClassFile.FieldType)) ∈ lw_all := lw_g (lw_at lw_m1 180 rfl) rfl
theorem q200 : (Jvm.Cond.methodLink "StableModelsModel" (1 : Nat) ({ cls := "java/lang/Object", name := "<init>", desc := "()V" } : Jvm.MethodName)) ∈ lw_all := lw_g (lw_at lw_m1 181 rfl) rfl
theorem q201 : (Jvm.Cond.fieldLink "StableModelsModel" (7 : Nat) "StableModelsModel" "there" "[Z") ∈ lw_all := lw_g (lw_at lw_m1 182 rfl) rfl
theorem q202 : (Jvm.Cond.fieldLink "StableModelsModel" (13 : Nat) "StableModelsModel" "kinds" "[I") ∈ lw_all := lw_g (lw_at lw_m1 183 rfl) rfl
theorem q203 : (Jvm.Cond.fieldLink "StableModelsModel" (17 : Nat) "StableModelsModel" "heads" "[I") ∈ lw_all := lw_g (lw_at lw_m1 184 rfl) rfl
theorem q204 : (Jvm.Cond.fieldLink "StableModelsModel" (20 : Nat) "StableModelsModel" "yes" "[I") ∈ lw_all := lw_g (lw_at lw_m1 185 rfl) rfl
theorem q205 : (Jvm.Cond.fieldLink "StableModelsModel" (23 : Nat) "StableModelsModel" "no" "[I") ∈ lw_all := lw_g (lw_at lw_m1 186 rfl) rfl
theorem q206 : (Jvm.Cond.fieldLink "StableModelsModel" (26 : Nat) "StableModelsModel" "found" "[Z") ∈ lw_all := lw_g (lw_at lw_m1 187 rfl) rfl
theorem q207 : (Jvm.Cond.fieldLink "StableModelsModel" (29 : Nat) "StableModelsModel" "before" "[Z") ∈ lw_all := lw_g (lw_at lw_m1 188 rfl) rfl
theorem q208 : (Jvm.Cond.lays "StableModelsModel" "StableModelsModel" "there" "[Z") ∈ lw_all := lw_g (lw_at lw_m1 189 rfl) rfl
theorem q209 : (Jvm.Cond.soleField "StableModelsModel" "there") ∈ lw_all := lw_g (lw_at lw_m1 190 rfl) rfl
theorem q210 : (Jvm.Cond.lays "StableModelsModel" "StableModelsModel" "kinds" "[I") ∈ lw_all := lw_g (lw_at lw_m1 191 rfl) rfl
theorem q211 : (Jvm.Cond.soleField "StableModelsModel" "kinds") ∈ lw_all := lw_g (lw_at lw_m1 192 rfl) rfl
theorem q212 : (Jvm.Cond.lays "StableModelsModel" "StableModelsModel" "heads" "[I") ∈ lw_all := lw_g (lw_at lw_m1 193 rfl) rfl
theorem q213 : (Jvm.Cond.soleField "StableModelsModel" "heads") ∈ lw_all := lw_g (lw_at lw_m1 194 rfl) rfl
theorem q214 : (Jvm.Cond.lays "StableModelsModel" "StableModelsModel" "yes" "[I") ∈ lw_all := lw_g (lw_at lw_m1 195 rfl) rfl
theorem q215 : (Jvm.Cond.soleField "StableModelsModel" "yes") ∈ lw_all := lw_g (lw_at lw_m1 196 rfl) rfl
theorem q216 : (Jvm.Cond.lays "StableModelsModel" "StableModelsModel" "no" "[I") ∈ lw_all := lw_g (lw_at lw_m1 197 rfl) rfl
theorem q217 : (Jvm.Cond.soleField "StableModelsModel" "no") ∈ lw_all := lw_g (lw_at lw_m1 198 rfl) rfl
theorem q218 : (Jvm.Cond.lays "StableModelsModel" "StableModelsModel" "found" "[Z") ∈ lw_all := lw_g (lw_at lw_m1 199 rfl) rfl
theorem q219 : (Jvm.Cond.soleField "StableModelsModel" "found") ∈ lw_all := lw_g (lw_at lw_m1 200 rfl) rfl
theorem q220 : (Jvm.Cond.lays "StableModelsModel" "StableModelsModel" "before" "[Z") ∈ lw_all := lw_g (lw_at lw_m1 201 rfl) rfl
theorem q221 : (Jvm.Cond.soleField "StableModelsModel" "before") ∈ lw_all := lw_g (lw_at lw_m1 202 rfl) rfl
theorem q222 : (Jvm.Cond.superclass "StableModelsModel" "java/lang/Object") ∈ lw_all := lw_g (lw_at lw_m1 203 rfl) rfl
theorem q226 : (Jvm.Cond.instanceMethod ({ cls := "StableModelsModel", name := "add", desc := "(IIII)I" } : Jvm.MethodName)) ∈ lw_all := lw_g (lw_at lw_m1 207 rfl) rfl
theorem q227 : (Jvm.Cond.selects "StableModelsModel" ({ cls := "StableModelsModel", name := "add", desc := "(IIII)I" } : Jvm.MethodName) ({ cls := "StableModelsModel", name := "add", desc := "(IIII)I" } : Jvm.MethodName)) ∈ lw_all := lw_g (lw_at lw_m1 208 rfl) rfl
theorem q228 : (Jvm.Cond.code ({ cls := "StableModelsModel", name := "add", desc := "(IIII)I" } : Jvm.MethodName) prog_3_method_3_code (6 : Nat) (Option.some Jvm.ClassFile.FieldType.int)) ∈ lw_all := lw_g (lw_at lw_m1 209 rfl) rfl
theorem q229 : (Jvm.Cond.methodLink "StableModelsModel" (32 : Nat) ({ cls := "StableModelsModel", name := "set", desc := "(I)Z" } : Jvm.MethodName)) ∈ lw_all := lw_g (lw_at lw_m1 210 rfl) rfl
theorem q230 : (Jvm.Cond.privateMethod ({ cls := "StableModelsModel", name := "set", desc := "(I)Z" } : Jvm.MethodName)) ∈ lw_tbl := lw_at lw_m1 211 rfl
theorem q231 : (Jvm.Cond.instanceMethod ({ cls := "StableModelsModel", name := "set", desc := "(I)Z" } : Jvm.MethodName)) ∈ lw_all := lw_g (lw_at lw_m1 212 rfl) rfl
theorem q232 : (Jvm.Cond.code ({ cls := "StableModelsModel", name := "set", desc := "(I)Z" } : Jvm.MethodName) prog_3_method_2_code (2 : Nat) (Option.some Jvm.ClassFile.FieldType.boolean)) ∈ lw_all := lw_g (lw_at lw_m1 213 rfl) rfl
theorem q234 : (Jvm.Cond.instanceMethod ({ cls := "StableModelsModel", name := "remove", desc := "(I)Z" } : Jvm.MethodName)) ∈ lw_all := lw_g (lw_at lw_m1 215 rfl) rfl
theorem q235 : (Jvm.Cond.selects "StableModelsModel" ({ cls := "StableModelsModel", name := "remove", desc := "(I)Z" } : Jvm.MethodName) ({ cls := "StableModelsModel", name := "remove", desc := "(I)Z" } : Jvm.MethodName)) ∈ lw_all := lw_g (lw_at lw_m1 216 rfl) rfl
theorem q236 : (Jvm.Cond.code ({ cls := "StableModelsModel", name := "remove", desc := "(I)Z" } : Jvm.MethodName) prog_3_method_4_code (2 : Nat) (Option.some Jvm.ClassFile.FieldType.boolean)) ∈ lw_all := lw_g (lw_at lw_m1 217 rfl) rfl
theorem q238 : (Jvm.Cond.instanceMethod ({ cls := "StableModelsModel", name := "rules", desc := "()I" } : Jvm.MethodName)) ∈ lw_all := lw_g (lw_at lw_m1 219 rfl) rfl
theorem q239 : (Jvm.Cond.selects "StableModelsModel" ({ cls := "StableModelsModel", name := "rules", desc := "()I" } : Jvm.MethodName) ({ cls := "StableModelsModel", name := "rules", desc := "()I" } : Jvm.MethodName)) ∈ lw_all := lw_g (lw_at lw_m1 220 rfl) rfl
theorem q240 : (Jvm.Cond.code ({ cls := "StableModelsModel", name := "rules", desc := "()I" } : Jvm.MethodName) prog_3_method_5_code (3 : Nat) (Option.some Jvm.ClassFile.FieldType.int)) ∈ lw_all := lw_g (lw_at lw_m1 221 rfl) rfl
theorem q242 : (Jvm.Cond.instanceMethod ({ cls := "StableModelsModel", name := "support", desc := "(I)I" } : Jvm.MethodName)) ∈ lw_all := lw_g (lw_at lw_m1 223 rfl) rfl
theorem q243 : (Jvm.Cond.selects "StableModelsModel" ({ cls := "StableModelsModel", name := "support", desc := "(I)I" } : Jvm.MethodName) ({ cls := "StableModelsModel", name := "support", desc := "(I)I" } : Jvm.MethodName)) ∈ lw_all := lw_g (lw_at lw_m1 224 rfl) rfl
theorem q244 : (Jvm.Cond.code ({ cls := "StableModelsModel", name := "support", desc := "(I)I" } : Jvm.MethodName) prog_3_method_7_code (5 : Nat) (Option.some Jvm.ClassFile.FieldType.int)) ∈ lw_all := lw_g (lw_at lw_m1 225 rfl) rfl
theorem q245 : (Jvm.Cond.methodLink "StableModelsModel" (36 : Nat) ({ cls := "StableModelsModel", name := "taken", desc := "(II)Z" } : Jvm.MethodName)) ∈ lw_all := lw_g (lw_at lw_m1 226 rfl) rfl
theorem q246 : (Jvm.Cond.privateMethod ({ cls := "StableModelsModel", name := "taken", desc := "(II)Z" } : Jvm.MethodName)) ∈ lw_tbl := lw_at lw_m1 227 rfl
theorem q247 : (Jvm.Cond.instanceMethod ({ cls := "StableModelsModel", name := "taken", desc := "(II)Z" } : Jvm.MethodName)) ∈ lw_all := lw_g (lw_at lw_m1 228 rfl) rfl
theorem q248 : (Jvm.Cond.code ({ cls := "StableModelsModel", name := "taken", desc := "(II)Z" } : Jvm.MethodName) prog_3_method_6_code (4 : Nat) (Option.some Jvm.ClassFile.FieldType.boolean)) ∈ lw_all := lw_g (lw_at lw_m1 229 rfl) rfl
theorem q250 : (Jvm.Cond.instanceMethod ({ cls := "StableModelsModel", name := "stable", desc := "(I)Z" } : Jvm.MethodName)) ∈ lw_all := lw_g (lw_at lw_m1 231 rfl) rfl
theorem q251 : (Jvm.Cond.selects "StableModelsModel" ({ cls := "StableModelsModel", name := "stable", desc := "(I)Z" } : Jvm.MethodName) ({ cls := "StableModelsModel", name := "stable", desc := "(I)Z" } : Jvm.MethodName)) ∈ lw_all := lw_g (lw_at lw_m1 232 rfl) rfl
theorem q252 : (Jvm.Cond.code ({ cls := "StableModelsModel", name := "stable", desc := "(I)Z" } : Jvm.MethodName) prog_3_method_8_code (5 : Nat) (Option.some Jvm.ClassFile.FieldType.boolean)) ∈ lw_all := lw_g (lw_at lw_m1 233 rfl) rfl
theorem q253 : (Jvm.Cond.methodLink "StableModelsModel" (40 : Nat) ({ cls := "StableModelsModel", name := "support", desc := "(I)I" } : Jvm.MethodName)) ∈ lw_all := lw_g (lw_at lw_m1 234 rfl) rfl
theorem q255 : (Jvm.Cond.instanceMethod ({ cls := "StableModelsModel", name := "models", desc := "()I" } : Jvm.MethodName)) ∈ lw_all := lw_g (lw_at lw_m1 236 rfl) rfl
theorem q256 : (Jvm.Cond.selects "StableModelsModel" ({ cls := "StableModelsModel", name := "models", desc := "()I" } : Jvm.MethodName) ({ cls := "StableModelsModel", name := "models", desc := "()I" } : Jvm.MethodName)) ∈ lw_all := lw_g (lw_at lw_m1 237 rfl) rfl
theorem q257 : (Jvm.Cond.code ({ cls := "StableModelsModel", name := "models", desc := "()I" } : Jvm.MethodName) prog_3_method_10_code (3 : Nat) (Option.some Jvm.ClassFile.FieldType.int)) ∈ lw_all := lw_g (lw_at lw_m1 238 rfl) rfl
theorem q258 : (Jvm.Cond.methodLink "StableModelsModel" (44 : Nat) ({ cls := "StableModelsModel", name := "stable", desc := "(I)Z" } : Jvm.MethodName)) ∈ lw_all := lw_g (lw_at lw_m1 239 rfl) rfl
theorem q260 : (Jvm.Cond.instanceMethod ({ cls := "StableModelsModel", name := "model", desc := "(I)I" } : Jvm.MethodName)) ∈ lw_all := lw_g (lw_at lw_m2 1 rfl) rfl
theorem q261 : (Jvm.Cond.selects "StableModelsModel" ({ cls := "StableModelsModel", name := "model", desc := "(I)I" } : Jvm.MethodName) ({ cls := "StableModelsModel", name := "model", desc := "(I)I" } : Jvm.MethodName)) ∈ lw_all := lw_g (lw_at lw_m2 2 rfl) rfl
theorem q262 : (Jvm.Cond.code ({ cls := "StableModelsModel", name := "model", desc := "(I)I" } : Jvm.MethodName) prog_3_method_11_code (4 : Nat) (Option.some Jvm.ClassFile.FieldType.int)) ∈ lw_all := lw_g (lw_at lw_m2 3 rfl) rfl
theorem q264 : (Jvm.Cond.instanceMethod ({ cls := "StableModelsModel", name := "brave", desc := "()I" } : Jvm.MethodName)) ∈ lw_all := lw_g (lw_at lw_m2 5 rfl) rfl
theorem q265 : (Jvm.Cond.selects "StableModelsModel" ({ cls := "StableModelsModel", name := "brave", desc := "()I" } : Jvm.MethodName) ({ cls := "StableModelsModel", name := "brave", desc := "()I" } : Jvm.MethodName)) ∈ lw_all := lw_g (lw_at lw_m2 6 rfl) rfl
theorem q266 : (Jvm.Cond.code ({ cls := "StableModelsModel", name := "brave", desc := "()I" } : Jvm.MethodName) prog_3_method_12_code (3 : Nat) (Option.some Jvm.ClassFile.FieldType.int)) ∈ lw_all := lw_g (lw_at lw_m2 7 rfl) rfl
theorem q268 : (Jvm.Cond.instanceMethod ({ cls := "StableModelsModel", name := "cautious", desc := "()I" } : Jvm.MethodName)) ∈ lw_all := lw_g (lw_at lw_m2 9 rfl) rfl
theorem q269 : (Jvm.Cond.selects "StableModelsModel" ({ cls := "StableModelsModel", name := "cautious", desc := "()I" } : Jvm.MethodName) ({ cls := "StableModelsModel", name := "cautious", desc := "()I" } : Jvm.MethodName)) ∈ lw_all := lw_g (lw_at lw_m2 10 rfl) rfl
theorem q270 : (Jvm.Cond.code ({ cls := "StableModelsModel", name := "cautious", desc := "()I" } : Jvm.MethodName) prog_3_method_13_code (3 : Nat) (Option.some Jvm.ClassFile.FieldType.int)) ∈ lw_all := lw_g (lw_at lw_m2 11 rfl) rfl
theorem q272 : (Jvm.Cond.instanceMethod ({ cls := "StableModelsModel", name := "find", desc := "(II)I" } : Jvm.MethodName)) ∈ lw_all := lw_g (lw_at lw_m2 13 rfl) rfl
theorem q273 : (Jvm.Cond.selects "StableModelsModel" ({ cls := "StableModelsModel", name := "find", desc := "(II)I" } : Jvm.MethodName) ({ cls := "StableModelsModel", name := "find", desc := "(II)I" } : Jvm.MethodName)) ∈ lw_all := lw_g (lw_at lw_m2 14 rfl) rfl
theorem q274 : (Jvm.Cond.code ({ cls := "StableModelsModel", name := "find", desc := "(II)I" } : Jvm.MethodName) prog_3_method_14_code (4 : Nat) (Option.some Jvm.ClassFile.FieldType.int)) ∈ lw_all := lw_g (lw_at lw_m2 15 rfl) rfl
theorem q276 : (Jvm.Cond.instanceMethod ({ cls := "StableModelsModel", name := "fewest", desc := "()I" } : Jvm.MethodName)) ∈ lw_all := lw_g (lw_at lw_m2 17 rfl) rfl
theorem q277 : (Jvm.Cond.selects "StableModelsModel" ({ cls := "StableModelsModel", name := "fewest", desc := "()I" } : Jvm.MethodName) ({ cls := "StableModelsModel", name := "fewest", desc := "()I" } : Jvm.MethodName)) ∈ lw_all := lw_g (lw_at lw_m2 18 rfl) rfl
theorem q278 : (Jvm.Cond.code ({ cls := "StableModelsModel", name := "fewest", desc := "()I" } : Jvm.MethodName) prog_3_method_16_code (4 : Nat) (Option.some Jvm.ClassFile.FieldType.int)) ∈ lw_all := lw_g (lw_at lw_m2 19 rfl) rfl
theorem q279 : (Jvm.Cond.methodLink "StableModelsModel" (47 : Nat) ({ cls := "StableModelsModel", name := "ones", desc := "(I)I" } : Jvm.MethodName)) ∈ lw_all := lw_g (lw_at lw_m2 20 rfl) rfl
theorem q280 : (Jvm.Cond.privateMethod ({ cls := "StableModelsModel", name := "ones", desc := "(I)I" } : Jvm.MethodName)) ∈ lw_tbl := lw_at lw_m2 21 rfl
theorem q281 : (Jvm.Cond.instanceMethod ({ cls := "StableModelsModel", name := "ones", desc := "(I)I" } : Jvm.MethodName)) ∈ lw_all := lw_g (lw_at lw_m2 22 rfl) rfl
theorem q282 : (Jvm.Cond.code ({ cls := "StableModelsModel", name := "ones", desc := "(I)I" } : Jvm.MethodName) prog_3_method_15_code (4 : Nat) (Option.some Jvm.ClassFile.FieldType.int)) ∈ lw_all := lw_g (lw_at lw_m2 23 rfl) rfl
theorem q284 : (Jvm.Cond.instanceMethod ({ cls := "StableModelsModel", name := "maximal", desc := "()I" } : Jvm.MethodName)) ∈ lw_all := lw_g (lw_at lw_m2 25 rfl) rfl
theorem q285 : (Jvm.Cond.selects "StableModelsModel" ({ cls := "StableModelsModel", name := "maximal", desc := "()I" } : Jvm.MethodName) ({ cls := "StableModelsModel", name := "maximal", desc := "()I" } : Jvm.MethodName)) ∈ lw_all := lw_g (lw_at lw_m2 26 rfl) rfl
theorem q286 : (Jvm.Cond.code ({ cls := "StableModelsModel", name := "maximal", desc := "()I" } : Jvm.MethodName) prog_3_method_17_code (5 : Nat) (Option.some Jvm.ClassFile.FieldType.int)) ∈ lw_all := lw_g (lw_at lw_m2 27 rfl) rfl
theorem q287 : (Jvm.Cond.methodLink "StableModelsModel" (50 : Nat) ({ cls := "StableModelsModel", name := "work", desc := "()V" } : Jvm.MethodName)) ∈ lw_all := lw_g (lw_at lw_m2 28 rfl) rfl
theorem q288 : (Jvm.Cond.privateMethod ({ cls := "StableModelsModel", name := "work", desc := "()V" } : Jvm.MethodName)) ∈ lw_tbl := lw_at lw_m2 29 rfl
theorem q289 : (Jvm.Cond.instanceMethod ({ cls := "StableModelsModel", name := "work", desc := "()V" } : Jvm.MethodName)) ∈ lw_all := lw_g (lw_at lw_m2 30 rfl) rfl
theorem q290 : (Jvm.Cond.code ({ cls := "StableModelsModel", name := "work", desc := "()V" } : Jvm.MethodName) prog_3_method_9_code (2 : Nat) (Option.none : Option Jvm.ClassFile.FieldType)) ∈ lw_all := lw_g (lw_at lw_m2 31 rfl) rfl
theorem q292 : (Jvm.Cond.instanceMethod ({ cls := "StableModelsModel", name := "matters", desc := "(I)Z" } : Jvm.MethodName)) ∈ lw_all := lw_g (lw_at lw_m2 33 rfl) rfl
theorem q293 : (Jvm.Cond.selects "StableModelsModel" ({ cls := "StableModelsModel", name := "matters", desc := "(I)Z" } : Jvm.MethodName) ({ cls := "StableModelsModel", name := "matters", desc := "(I)Z" } : Jvm.MethodName)) ∈ lw_all := lw_g (lw_at lw_m2 34 rfl) rfl
theorem q294 : (Jvm.Cond.code ({ cls := "StableModelsModel", name := "matters", desc := "(I)Z" } : Jvm.MethodName) prog_3_method_18_code (4 : Nat) (Option.some Jvm.ClassFile.FieldType.boolean)) ∈ lw_all := lw_g (lw_at lw_m2 35 rfl) rfl
theorem in_X1 : ∀ w ∈ wsX10, w ∈ lw_all := lw_in wsX10 [208, 210, 212, 214, 216, 218, 220] (by decide +kernel) (by decide +kernel)
theorem q19 : (Jvm.Cond.initialized "StableModelsLaw") ∈ lw_all := lw_g (lw_at lw_m1 0 rfl) rfl
theorem q22 : (Jvm.Cond.classLink "StableModelsLaw" (7 : Nat) "StableModels") ∈ lw_all := lw_g (lw_at lw_m1 3 rfl) rfl
theorem q24 : (Jvm.Cond.methodLink "StableModelsLaw" (9 : Nat) ({ cls := "StableModels", name := "<init>", desc := "()V" } : Jvm.MethodName)) ∈ lw_all := lw_g (lw_at lw_m1 5 rfl) rfl
theorem q77 : (Jvm.Cond.methodLink "StableModelsLaw" (13 : Nat) ({ cls := "StableModels", name := "add", desc := "(IIII)I" } : Jvm.MethodName)) ∈ lw_all := lw_g (lw_at lw_m1 58 rfl) rfl
theorem q88 : (Jvm.Cond.methodLink "StableModelsLaw" (18 : Nat) ({ cls := "StableModels", name := "remove", desc := "(I)Z" } : Jvm.MethodName)) ∈ lw_all := lw_g (lw_at lw_m1 69 rfl) rfl
theorem q92 : (Jvm.Cond.methodLink "StableModelsLaw" (23 : Nat) ({ cls := "StableModels", name := "rules", desc := "()I" } : Jvm.MethodName)) ∈ lw_all := lw_g (lw_at lw_m1 73 rfl) rfl
theorem q96 : (Jvm.Cond.methodLink "StableModelsLaw" (28 : Nat) ({ cls := "StableModels", name := "support", desc := "(I)I" } : Jvm.MethodName)) ∈ lw_all := lw_g (lw_at lw_m1 77 rfl) rfl
theorem q104 : (Jvm.Cond.methodLink "StableModelsLaw" (33 : Nat) ({ cls := "StableModels", name := "stable", desc := "(I)Z" } : Jvm.MethodName)) ∈ lw_all := lw_g (lw_at lw_m1 85 rfl) rfl
theorem q159 : (Jvm.Cond.methodLink "StableModelsLaw" (37 : Nat) ({ cls := "StableModels", name := "models", desc := "()I" } : Jvm.MethodName)) ∈ lw_all := lw_g (lw_at lw_m1 140 rfl) rfl
theorem q163 : (Jvm.Cond.methodLink "StableModelsLaw" (41 : Nat) ({ cls := "StableModels", name := "model", desc := "(I)I" } : Jvm.MethodName)) ∈ lw_all := lw_g (lw_at lw_m1 144 rfl) rfl
theorem q167 : (Jvm.Cond.methodLink "StableModelsLaw" (45 : Nat) ({ cls := "StableModels", name := "brave", desc := "()I" } : Jvm.MethodName)) ∈ lw_all := lw_g (lw_at lw_m1 148 rfl) rfl
theorem q171 : (Jvm.Cond.methodLink "StableModelsLaw" (49 : Nat) ({ cls := "StableModels", name := "cautious", desc := "()I" } : Jvm.MethodName)) ∈ lw_all := lw_g (lw_at lw_m1 152 rfl) rfl
theorem q175 : (Jvm.Cond.methodLink "StableModelsLaw" (53 : Nat) ({ cls := "StableModels", name := "find", desc := "(II)I" } : Jvm.MethodName)) ∈ lw_all := lw_g (lw_at lw_m1 156 rfl) rfl
theorem q179 : (Jvm.Cond.methodLink "StableModelsLaw" (58 : Nat) ({ cls := "StableModels", name := "fewest", desc := "()I" } : Jvm.MethodName)) ∈ lw_all := lw_g (lw_at lw_m1 160 rfl) rfl
theorem q183 : (Jvm.Cond.methodLink "StableModelsLaw" (62 : Nat) ({ cls := "StableModels", name := "maximal", desc := "()I" } : Jvm.MethodName)) ∈ lw_all := lw_g (lw_at lw_m1 164 rfl) rfl
theorem q191 : (Jvm.Cond.methodLink "StableModelsLaw" (66 : Nat) ({ cls := "StableModels", name := "matters", desc := "(I)Z" } : Jvm.MethodName)) ∈ lw_all := lw_g (lw_at lw_m1 172 rfl) rfl
theorem q195 : (Jvm.Cond.classLink "StableModelsLaw" (10 : Nat) "StableModelsModel") ∈ lw_all := lw_g (lw_at lw_m1 176 rfl) rfl
theorem q197 : (Jvm.Cond.methodLink "StableModelsLaw" (12 : Nat) ({ cls := "StableModelsModel", name := "<init>", desc := "()V" } : Jvm.MethodName)) ∈ lw_all := lw_g (lw_at lw_m1 178 rfl) rfl
theorem q225 : (Jvm.Cond.methodLink "StableModelsLaw" (17 : Nat) ({ cls := "StableModelsModel", name := "add", desc := "(IIII)I" } : Jvm.MethodName)) ∈ lw_all := lw_g (lw_at lw_m1 206 rfl) rfl
theorem q233 : (Jvm.Cond.methodLink "StableModelsLaw" (22 : Nat) ({ cls := "StableModelsModel", name := "remove", desc := "(I)Z" } : Jvm.MethodName)) ∈ lw_all := lw_g (lw_at lw_m1 214 rfl) rfl
theorem q237 : (Jvm.Cond.methodLink "StableModelsLaw" (27 : Nat) ({ cls := "StableModelsModel", name := "rules", desc := "()I" } : Jvm.MethodName)) ∈ lw_all := lw_g (lw_at lw_m1 218 rfl) rfl
theorem q241 : (Jvm.Cond.methodLink "StableModelsLaw" (32 : Nat) ({ cls := "StableModelsModel", name := "support", desc := "(I)I" } : Jvm.MethodName)) ∈ lw_all := lw_g (lw_at lw_m1 222 rfl) rfl
theorem q249 : (Jvm.Cond.methodLink "StableModelsLaw" (36 : Nat) ({ cls := "StableModelsModel", name := "stable", desc := "(I)Z" } : Jvm.MethodName)) ∈ lw_all := lw_g (lw_at lw_m1 230 rfl) rfl
theorem q254 : (Jvm.Cond.methodLink "StableModelsLaw" (40 : Nat) ({ cls := "StableModelsModel", name := "models", desc := "()I" } : Jvm.MethodName)) ∈ lw_all := lw_g (lw_at lw_m1 235 rfl) rfl
theorem q259 : (Jvm.Cond.methodLink "StableModelsLaw" (44 : Nat) ({ cls := "StableModelsModel", name := "model", desc := "(I)I" } : Jvm.MethodName)) ∈ lw_all := lw_g (lw_at lw_m2 0 rfl) rfl
theorem q263 : (Jvm.Cond.methodLink "StableModelsLaw" (48 : Nat) ({ cls := "StableModelsModel", name := "brave", desc := "()I" } : Jvm.MethodName)) ∈ lw_all := lw_g (lw_at lw_m2 4 rfl) rfl
theorem q267 : (Jvm.Cond.methodLink "StableModelsLaw" (52 : Nat) ({ cls := "StableModelsModel", name := "cautious", desc := "()I" } : Jvm.MethodName)) ∈ lw_all := lw_g (lw_at lw_m2 8 rfl) rfl
theorem q271 : (Jvm.Cond.methodLink "StableModelsLaw" (57 : Nat) ({ cls := "StableModelsModel", name := "find", desc := "(II)I" } : Jvm.MethodName)) ∈ lw_all := lw_g (lw_at lw_m2 12 rfl) rfl
theorem q275 : (Jvm.Cond.methodLink "StableModelsLaw" (61 : Nat) ({ cls := "StableModelsModel", name := "fewest", desc := "()I" } : Jvm.MethodName)) ∈ lw_all := lw_g (lw_at lw_m2 16 rfl) rfl
theorem q283 : (Jvm.Cond.methodLink "StableModelsLaw" (65 : Nat) ({ cls := "StableModelsModel", name := "maximal", desc := "()I" } : Jvm.MethodName)) ∈ lw_all := lw_g (lw_at lw_m2 24 rfl) rfl
theorem q291 : (Jvm.Cond.methodLink "StableModelsLaw" (69 : Nat) ({ cls := "StableModelsModel", name := "matters", desc := "(I)Z" } : Jvm.MethodName)) ∈ lw_all := lw_g (lw_at lw_m2 32 rfl) rfl
theorem q76 : (Jvm.Cond.arrayClass Jvm.ClassFile.FieldType.byte) ∈ lw_all := lw_g (lw_at lw_m1 57 rfl) rfl
theorem q223 : (Jvm.Cond.arrayClass Jvm.ClassFile.FieldType.boolean) ∈ lw_all := lw_g (lw_at lw_m1 204 rfl) rfl
theorem q224 : (Jvm.Cond.arrayClass Jvm.ClassFile.FieldType.int) ∈ lw_all := lw_g (lw_at lw_m1 205 rfl) rfl
end
section
set_option maxRecDepth 100000
theorem dX0_init_0 : decode cX0_init 0 = .ok (.aload_n 0, 1) := by decide +kernel
theorem dX0_init_1 : decode cX0_init 1 = .ok (.invokespecial 1, 3) := by decide +kernel
theorem dX0_init_4 : decode cX0_init 4 = .ok (.aload_n 0, 1) := by decide +kernel
theorem dX0_init_5 : decode cX0_init 5 = .ok (.bipush 10, 2) := by decide +kernel
theorem dX0_init_7 : decode cX0_init 7 = .ok (.newarray .byte, 2) := by decide +kernel
theorem dX0_init_9 : decode cX0_init 9 = .ok (.putfield 7, 3) := by decide +kernel
theorem dX0_init_12 : decode cX0_init 12 = .ok (.aload_n 0, 1) := by decide +kernel
theorem dX0_init_13 : decode cX0_init 13 = .ok (.bipush 10, 2) := by decide +kernel
theorem dX0_init_15 : decode cX0_init 15 = .ok (.newarray .byte, 2) := by decide +kernel
theorem dX0_init_17 : decode cX0_init 17 = .ok (.putfield 13, 3) := by decide +kernel
theorem dX0_init_20 : decode cX0_init 20 = .ok (.aload_n 0, 1) := by decide +kernel
theorem dX0_init_21 : decode cX0_init 21 = .ok (.bipush 10, 2) := by decide +kernel
theorem dX0_init_23 : decode cX0_init 23 = .ok (.newarray .byte, 2) := by decide +kernel
theorem dX0_init_25 : decode cX0_init 25 = .ok (.putfield 16, 3) := by decide +kernel
theorem dX0_init_28 : decode cX0_init 28 = .ok (.aload_n 0, 1) := by decide +kernel
theorem dX0_init_29 : decode cX0_init 29 = .ok (.bipush 10, 2) := by decide +kernel
theorem dX0_init_31 : decode cX0_init 31 = .ok (.newarray .byte, 2) := by decide +kernel
theorem dX0_init_33 : decode cX0_init 33 = .ok (.putfield 19, 3) := by decide +kernel
theorem dX0_init_36 : decode cX0_init 36 = .ok (.aload_n 0, 1) := by decide +kernel
theorem dX0_init_37 : decode cX0_init 37 = .ok (.bipush 8, 2) := by decide +kernel
theorem dX0_init_39 : decode cX0_init 39 = .ok (.newarray .byte, 2) := by decide +kernel
theorem dX0_init_41 : decode cX0_init 41 = .ok (.putfield 22, 3) := by decide +kernel
theorem dX0_init_44 : decode cX0_init 44 = .ok (.aload_n 0, 1) := by decide +kernel
theorem dX0_init_45 : decode cX0_init 45 = .ok (.bipush 8, 2) := by decide +kernel
theorem dX0_init_47 : decode cX0_init 47 = .ok (.newarray .byte, 2) := by decide +kernel
theorem dX0_init_49 : decode cX0_init 49 = .ok (.putfield 25, 3) := by decide +kernel
theorem dX0_init_52 : decode cX0_init 52 = .ok (.aload_n 0, 1) := by decide +kernel
theorem dX0_init_53 : decode cX0_init 53 = .ok (.bipush 8, 2) := by decide +kernel
theorem dX0_init_55 : decode cX0_init 55 = .ok (.newarray .byte, 2) := by decide +kernel
theorem dX0_init_57 : decode cX0_init 57 = .ok (.putfield 28, 3) := by decide +kernel
theorem dX0_init_60 : decode cX0_init 60 = .ok (.aload_n 0, 1) := by decide +kernel
theorem dX0_init_61 : decode cX0_init 61 = .ok (.bipush 8, 2) := by decide +kernel
theorem dX0_init_63 : decode cX0_init 63 = .ok (.newarray .byte, 2) := by decide +kernel
theorem dX0_init_65 : decode cX0_init 65 = .ok (.putfield 31, 3) := by decide +kernel
theorem dX0_init_68 : decode cX0_init 68 = .ok (.return_, 1) := by decide +kernel
theorem dX0_add_0 : decode cX0_add 0 = .ok (.iload_n 1, 1) := by decide +kernel
theorem dX0_add_1 : decode cX0_add 1 = .ok (.iconst 2, 1) := by decide +kernel
theorem dX0_add_2 : decode cX0_add 2 = .ok (.if_icmp .eq 13, 3) := by decide +kernel
theorem dX0_add_5 : decode cX0_add 5 = .ok (.iload_n 2, 1) := by decide +kernel
theorem dX0_add_6 : decode cX0_add 6 = .ok (.ifCond .lt 13, 3) := by decide +kernel
theorem dX0_add_9 : decode cX0_add 9 = .ok (.iload_n 2, 1) := by decide +kernel
theorem dX0_add_10 : decode cX0_add 10 = .ok (.bipush 6, 2) := by decide +kernel
theorem dX0_add_12 : decode cX0_add 12 = .ok (.if_icmp .ge 7, 3) := by decide +kernel
theorem dX0_add_15 : decode cX0_add 15 = .ok (.iconst 1, 1) := by decide +kernel
theorem dX0_add_16 : decode cX0_add 16 = .ok (.goto 4, 3) := by decide +kernel
theorem dX0_add_19 : decode cX0_add 19 = .ok (.iconst 0, 1) := by decide +kernel
theorem dX0_add_20 : decode cX0_add 20 = .ok (.istore 5, 2) := by decide +kernel
theorem dX0_add_22 : decode cX0_add 22 = .ok (.iload_n 1, 1) := by decide +kernel
theorem dX0_add_23 : decode cX0_add 23 = .ok (.ifCond .lt 28, 3) := by decide +kernel
theorem dX0_add_26 : decode cX0_add 26 = .ok (.iload_n 1, 1) := by decide +kernel
theorem dX0_add_27 : decode cX0_add 27 = .ok (.iconst 2, 1) := by decide +kernel
theorem dX0_add_28 : decode cX0_add 28 = .ok (.if_icmp .gt 23, 3) := by decide +kernel
theorem dX0_add_31 : decode cX0_add 31 = .ok (.iload 5, 2) := by decide +kernel
theorem dX0_add_33 : decode cX0_add 33 = .ok (.ifCond .eq 18, 3) := by decide +kernel
theorem dX0_add_36 : decode cX0_add 36 = .ok (.iload_n 3, 1) := by decide +kernel
theorem dX0_add_37 : decode cX0_add 37 = .ok (.invokestatic 38, 3) := by decide +kernel
theorem dX0_add_40 : decode cX0_add 40 = .ok (.ifCond .eq 11, 3) := by decide +kernel
theorem dX0_add_43 : decode cX0_add 43 = .ok (.iload 4, 2) := by decide +kernel
theorem dX0_add_45 : decode cX0_add 45 = .ok (.invokestatic 38, 3) := by decide +kernel
theorem dX0_add_48 : decode cX0_add 48 = .ok (.ifCond .ne 5, 3) := by decide +kernel
theorem dX0_add_51 : decode cX0_add 51 = .ok (.iconst (-1), 1) := by decide +kernel
theorem dX0_add_52 : decode cX0_add 52 = .ok (.ireturn, 1) := by decide +kernel
theorem dX0_add_53 : decode cX0_add 53 = .ok (.iconst 0, 1) := by decide +kernel
theorem dX0_add_54 : decode cX0_add 54 = .ok (.istore 6, 2) := by decide +kernel
theorem dX0_add_56 : decode cX0_add 56 = .ok (.iload 6, 2) := by decide +kernel
theorem dX0_add_58 : decode cX0_add 58 = .ok (.bipush 10, 2) := by decide +kernel
theorem dX0_add_60 : decode cX0_add 60 = .ok (.if_icmp .ge 85, 3) := by decide +kernel
theorem dX0_add_63 : decode cX0_add 63 = .ok (.aload_n 0, 1) := by decide +kernel
theorem dX0_add_64 : decode cX0_add 64 = .ok (.iload 6, 2) := by decide +kernel
theorem dX0_add_66 : decode cX0_add 66 = .ok (.invokevirtual 42, 3) := by decide +kernel
theorem dX0_add_69 : decode cX0_add 69 = .ok (.ifCond .ne 70, 3) := by decide +kernel
theorem dX0_add_72 : decode cX0_add 72 = .ok (.aload_n 0, 1) := by decide +kernel
theorem dX0_add_73 : decode cX0_add 73 = .ok (.dup, 1) := by decide +kernel
theorem dX0_add_74 : decode cX0_add 74 = .ok (.getfield 34, 3) := by decide +kernel
theorem dX0_add_77 : decode cX0_add 77 = .ok (.iconst 1, 1) := by decide +kernel
theorem dX0_add_78 : decode cX0_add 78 = .ok (.iload 6, 2) := by decide +kernel
theorem dX0_add_80 : decode cX0_add 80 = .ok (.ishl, 1) := by decide +kernel
theorem dX0_add_81 : decode cX0_add 81 = .ok (.ior, 1) := by decide +kernel
theorem dX0_add_82 : decode cX0_add 82 = .ok (.putfield 34, 3) := by decide +kernel
theorem dX0_add_85 : decode cX0_add 85 = .ok (.aload_n 0, 1) := by decide +kernel
theorem dX0_add_86 : decode cX0_add 86 = .ok (.getfield 7, 3) := by decide +kernel
theorem dX0_add_89 : decode cX0_add 89 = .ok (.iload 6, 2) := by decide +kernel
theorem dX0_add_91 : decode cX0_add 91 = .ok (.iload_n 1, 1) := by decide +kernel
theorem dX0_add_92 : decode cX0_add 92 = .ok (.i2b, 1) := by decide +kernel
theorem dX0_add_93 : decode cX0_add 93 = .ok (.bastore, 1) := by decide +kernel
theorem dX0_add_94 : decode cX0_add 94 = .ok (.aload_n 0, 1) := by decide +kernel
theorem dX0_add_95 : decode cX0_add 95 = .ok (.getfield 13, 3) := by decide +kernel
theorem dX0_add_98 : decode cX0_add 98 = .ok (.iload 6, 2) := by decide +kernel
theorem dX0_add_100 : decode cX0_add 100 = .ok (.iload_n 1, 1) := by decide +kernel
theorem dX0_add_101 : decode cX0_add 101 = .ok (.iconst 2, 1) := by decide +kernel
theorem dX0_add_102 : decode cX0_add 102 = .ok (.if_icmp .ne 7, 3) := by decide +kernel
theorem dX0_add_105 : decode cX0_add 105 = .ok (.iconst 0, 1) := by decide +kernel
theorem dX0_add_106 : decode cX0_add 106 = .ok (.goto 4, 3) := by decide +kernel
theorem dX0_add_109 : decode cX0_add 109 = .ok (.iload_n 2, 1) := by decide +kernel
theorem dX0_add_110 : decode cX0_add 110 = .ok (.i2b, 1) := by decide +kernel
theorem dX0_add_111 : decode cX0_add 111 = .ok (.bastore, 1) := by decide +kernel
theorem dX0_add_112 : decode cX0_add 112 = .ok (.aload_n 0, 1) := by decide +kernel
theorem dX0_add_113 : decode cX0_add 113 = .ok (.getfield 16, 3) := by decide +kernel
theorem dX0_add_116 : decode cX0_add 116 = .ok (.iload 6, 2) := by decide +kernel
theorem dX0_add_118 : decode cX0_add 118 = .ok (.iload_n 3, 1) := by decide +kernel
theorem dX0_add_119 : decode cX0_add 119 = .ok (.i2b, 1) := by decide +kernel
theorem dX0_add_120 : decode cX0_add 120 = .ok (.bastore, 1) := by decide +kernel
theorem dX0_add_121 : decode cX0_add 121 = .ok (.aload_n 0, 1) := by decide +kernel
theorem dX0_add_122 : decode cX0_add 122 = .ok (.getfield 19, 3) := by decide +kernel
theorem dX0_add_125 : decode cX0_add 125 = .ok (.iload 6, 2) := by decide +kernel
theorem dX0_add_127 : decode cX0_add 127 = .ok (.iload 4, 2) := by decide +kernel
theorem dX0_add_129 : decode cX0_add 129 = .ok (.i2b, 1) := by decide +kernel
theorem dX0_add_130 : decode cX0_add 130 = .ok (.bastore, 1) := by decide +kernel
theorem dX0_add_131 : decode cX0_add 131 = .ok (.aload_n 0, 1) := by decide +kernel
theorem dX0_add_132 : decode cX0_add 132 = .ok (.iconst 0, 1) := by decide +kernel
theorem dX0_add_133 : decode cX0_add 133 = .ok (.putfield 45, 3) := by decide +kernel
theorem dX0_add_136 : decode cX0_add 136 = .ok (.iload 6, 2) := by decide +kernel
theorem dX0_add_138 : decode cX0_add 138 = .ok (.ireturn, 1) := by decide +kernel
theorem dX0_add_139 : decode cX0_add 139 = .ok (.iinc 6 1, 3) := by decide +kernel
theorem dX0_add_142 : decode cX0_add 142 = .ok (.goto (-86), 3) := by decide +kernel
theorem dX0_add_145 : decode cX0_add 145 = .ok (.bipush (-2), 2) := by decide +kernel
theorem dX0_add_147 : decode cX0_add 147 = .ok (.ireturn, 1) := by decide +kernel
theorem dX0_isSet_0 : decode cX0_isSet 0 = .ok (.iload_n 0, 1) := by decide +kernel
theorem dX0_isSet_1 : decode cX0_isSet 1 = .ok (.ifCond .lt 13, 3) := by decide +kernel
theorem dX0_isSet_4 : decode cX0_isSet 4 = .ok (.iload_n 0, 1) := by decide +kernel
theorem dX0_isSet_5 : decode cX0_isSet 5 = .ok (.bipush 63, 2) := by decide +kernel
theorem dX0_isSet_7 : decode cX0_isSet 7 = .ok (.if_icmp .gt 7, 3) := by decide +kernel
theorem dX0_isSet_10 : decode cX0_isSet 10 = .ok (.iconst 1, 1) := by decide +kernel
theorem dX0_isSet_11 : decode cX0_isSet 11 = .ok (.goto 4, 3) := by decide +kernel
theorem dX0_isSet_14 : decode cX0_isSet 14 = .ok (.iconst 0, 1) := by decide +kernel
theorem dX0_isSet_15 : decode cX0_isSet 15 = .ok (.ireturn, 1) := by decide +kernel
theorem dX0_has_0 : decode cX0_has 0 = .ok (.iload_n 1, 1) := by decide +kernel
theorem dX0_has_1 : decode cX0_has 1 = .ok (.ifCond .lt 24, 3) := by decide +kernel
theorem dX0_has_4 : decode cX0_has 4 = .ok (.iload_n 1, 1) := by decide +kernel
theorem dX0_has_5 : decode cX0_has 5 = .ok (.bipush 10, 2) := by decide +kernel
theorem dX0_has_7 : decode cX0_has 7 = .ok (.if_icmp .ge 18, 3) := by decide +kernel
theorem dX0_has_10 : decode cX0_has 10 = .ok (.aload_n 0, 1) := by decide +kernel
theorem dX0_has_11 : decode cX0_has 11 = .ok (.getfield 34, 3) := by decide +kernel
theorem dX0_has_14 : decode cX0_has 14 = .ok (.iload_n 1, 1) := by decide +kernel
theorem dX0_has_15 : decode cX0_has 15 = .ok (.ishr, 1) := by decide +kernel
theorem dX0_has_16 : decode cX0_has 16 = .ok (.iconst 1, 1) := by decide +kernel
theorem dX0_has_17 : decode cX0_has 17 = .ok (.iand, 1) := by decide +kernel
theorem dX0_has_18 : decode cX0_has 18 = .ok (.ifCond .eq 7, 3) := by decide +kernel
theorem dX0_has_21 : decode cX0_has 21 = .ok (.iconst 1, 1) := by decide +kernel
theorem dX0_has_22 : decode cX0_has 22 = .ok (.goto 4, 3) := by decide +kernel
theorem dX0_has_25 : decode cX0_has 25 = .ok (.iconst 0, 1) := by decide +kernel
theorem dX0_has_26 : decode cX0_has 26 = .ok (.ireturn, 1) := by decide +kernel
theorem dX0_remove_0 : decode cX0_remove 0 = .ok (.aload_n 0, 1) := by decide +kernel
theorem dX0_remove_1 : decode cX0_remove 1 = .ok (.iload_n 1, 1) := by decide +kernel
theorem dX0_remove_2 : decode cX0_remove 2 = .ok (.invokevirtual 42, 3) := by decide +kernel
theorem dX0_remove_5 : decode cX0_remove 5 = .ok (.ifCond .ne 5, 3) := by decide +kernel
theorem dX0_remove_8 : decode cX0_remove 8 = .ok (.iconst 0, 1) := by decide +kernel
theorem dX0_remove_9 : decode cX0_remove 9 = .ok (.ireturn, 1) := by decide +kernel
theorem dX0_remove_10 : decode cX0_remove 10 = .ok (.aload_n 0, 1) := by decide +kernel
theorem dX0_remove_11 : decode cX0_remove 11 = .ok (.dup, 1) := by decide +kernel
theorem dX0_remove_12 : decode cX0_remove 12 = .ok (.getfield 34, 3) := by decide +kernel
theorem dX0_remove_15 : decode cX0_remove 15 = .ok (.iconst 1, 1) := by decide +kernel
theorem dX0_remove_16 : decode cX0_remove 16 = .ok (.iload_n 1, 1) := by decide +kernel
theorem dX0_remove_17 : decode cX0_remove 17 = .ok (.ishl, 1) := by decide +kernel
theorem dX0_remove_18 : decode cX0_remove 18 = .ok (.iconst (-1), 1) := by decide +kernel
theorem dX0_remove_19 : decode cX0_remove 19 = .ok (.ixor, 1) := by decide +kernel
theorem dX0_remove_20 : decode cX0_remove 20 = .ok (.iand, 1) := by decide +kernel
theorem dX0_remove_21 : decode cX0_remove 21 = .ok (.putfield 34, 3) := by decide +kernel
theorem dX0_remove_24 : decode cX0_remove 24 = .ok (.aload_n 0, 1) := by decide +kernel
theorem dX0_remove_25 : decode cX0_remove 25 = .ok (.iconst 0, 1) := by decide +kernel
theorem dX0_remove_26 : decode cX0_remove 26 = .ok (.putfield 45, 3) := by decide +kernel
theorem dX0_remove_29 : decode cX0_remove 29 = .ok (.iconst 1, 1) := by decide +kernel
theorem dX0_remove_30 : decode cX0_remove 30 = .ok (.ireturn, 1) := by decide +kernel
theorem dX0_rules_0 : decode cX0_rules 0 = .ok (.aload_n 0, 1) := by decide +kernel
theorem dX0_rules_1 : decode cX0_rules 1 = .ok (.getfield 34, 3) := by decide +kernel
theorem dX0_rules_4 : decode cX0_rules 4 = .ok (.ireturn, 1) := by decide +kernel
theorem dX0_support_0 : decode cX0_support 0 = .ok (.iload_n 1, 1) := by decide +kernel
theorem dX0_support_1 : decode cX0_support 1 = .ok (.invokestatic 38, 3) := by decide +kernel
theorem dX0_support_4 : decode cX0_support 4 = .ok (.ifCond .eq 11, 3) := by decide +kernel
theorem dX0_support_7 : decode cX0_support 7 = .ok (.aload_n 0, 1) := by decide +kernel
theorem dX0_support_8 : decode cX0_support 8 = .ok (.iload_n 1, 1) := by decide +kernel
theorem dX0_support_9 : decode cX0_support 9 = .ok (.invokevirtual 49, 3) := by decide +kernel
theorem dX0_support_12 : decode cX0_support 12 = .ok (.goto 4, 3) := by decide +kernel
theorem dX0_support_15 : decode cX0_support 15 = .ok (.iconst (-1), 1) := by decide +kernel
theorem dX0_support_16 : decode cX0_support 16 = .ok (.ireturn, 1) := by decide +kernel
theorem dX0_supportOf_0 : decode cX0_supportOf 0 = .ok (.iconst 0, 1) := by decide +kernel
theorem dX0_supportOf_1 : decode cX0_supportOf 1 = .ok (.istore_n 2, 1) := by decide +kernel
theorem dX0_supportOf_2 : decode cX0_supportOf 2 = .ok (.iconst 0, 1) := by decide +kernel
theorem dX0_supportOf_3 : decode cX0_supportOf 3 = .ok (.istore_n 3, 1) := by decide +kernel
theorem dX0_supportOf_4 : decode cX0_supportOf 4 = .ok (.iload_n 3, 1) := by decide +kernel
theorem dX0_supportOf_5 : decode cX0_supportOf 5 = .ok (.bipush 6, 2) := by decide +kernel
theorem dX0_supportOf_7 : decode cX0_supportOf 7 = .ok (.if_icmp .ge 119, 3) := by decide +kernel
theorem dX0_supportOf_10 : decode cX0_supportOf 10 = .ok (.iconst 0, 1) := by decide +kernel
theorem dX0_supportOf_11 : decode cX0_supportOf 11 = .ok (.istore 4, 2) := by decide +kernel
theorem dX0_supportOf_13 : decode cX0_supportOf 13 = .ok (.iload 4, 2) := by decide +kernel
theorem dX0_supportOf_15 : decode cX0_supportOf 15 = .ok (.bipush 10, 2) := by decide +kernel
theorem dX0_supportOf_17 : decode cX0_supportOf 17 = .ok (.if_icmp .ge 103, 3) := by decide +kernel
theorem dX0_supportOf_20 : decode cX0_supportOf 20 = .ok (.aload_n 0, 1) := by decide +kernel
theorem dX0_supportOf_21 : decode cX0_supportOf 21 = .ok (.iload 4, 2) := by decide +kernel
theorem dX0_supportOf_23 : decode cX0_supportOf 23 = .ok (.invokevirtual 42, 3) := by decide +kernel
theorem dX0_supportOf_26 : decode cX0_supportOf 26 = .ok (.ifCond .eq 44, 3) := by decide +kernel
theorem dX0_supportOf_29 : decode cX0_supportOf 29 = .ok (.aload_n 0, 1) := by decide +kernel
theorem dX0_supportOf_30 : decode cX0_supportOf 30 = .ok (.getfield 7, 3) := by decide +kernel
theorem dX0_supportOf_33 : decode cX0_supportOf 33 = .ok (.iload 4, 2) := by decide +kernel
theorem dX0_supportOf_35 : decode cX0_supportOf 35 = .ok (.baload, 1) := by decide +kernel
theorem dX0_supportOf_36 : decode cX0_supportOf 36 = .ok (.iconst 2, 1) := by decide +kernel
theorem dX0_supportOf_37 : decode cX0_supportOf 37 = .ok (.if_icmp .eq 33, 3) := by decide +kernel
theorem dX0_supportOf_40 : decode cX0_supportOf 40 = .ok (.aload_n 0, 1) := by decide +kernel
theorem dX0_supportOf_41 : decode cX0_supportOf 41 = .ok (.getfield 19, 3) := by decide +kernel
theorem dX0_supportOf_44 : decode cX0_supportOf 44 = .ok (.iload 4, 2) := by decide +kernel
theorem dX0_supportOf_46 : decode cX0_supportOf 46 = .ok (.baload, 1) := by decide +kernel
theorem dX0_supportOf_47 : decode cX0_supportOf 47 = .ok (.iload_n 1, 1) := by decide +kernel
theorem dX0_supportOf_48 : decode cX0_supportOf 48 = .ok (.iand, 1) := by decide +kernel
theorem dX0_supportOf_49 : decode cX0_supportOf 49 = .ok (.ifCond .ne 21, 3) := by decide +kernel
theorem dX0_supportOf_52 : decode cX0_supportOf 52 = .ok (.aload_n 0, 1) := by decide +kernel
theorem dX0_supportOf_53 : decode cX0_supportOf 53 = .ok (.getfield 16, 3) := by decide +kernel
theorem dX0_supportOf_56 : decode cX0_supportOf 56 = .ok (.iload 4, 2) := by decide +kernel
theorem dX0_supportOf_58 : decode cX0_supportOf 58 = .ok (.baload, 1) := by decide +kernel
theorem dX0_supportOf_59 : decode cX0_supportOf 59 = .ok (.iload_n 2, 1) := by decide +kernel
theorem dX0_supportOf_60 : decode cX0_supportOf 60 = .ok (.iconst (-1), 1) := by decide +kernel
theorem dX0_supportOf_61 : decode cX0_supportOf 61 = .ok (.ixor, 1) := by decide +kernel
theorem dX0_supportOf_62 : decode cX0_supportOf 62 = .ok (.iand, 1) := by decide +kernel
theorem dX0_supportOf_63 : decode cX0_supportOf 63 = .ok (.ifCond .ne 7, 3) := by decide +kernel
theorem dX0_supportOf_66 : decode cX0_supportOf 66 = .ok (.iconst 1, 1) := by decide +kernel
theorem dX0_supportOf_67 : decode cX0_supportOf 67 = .ok (.goto 4, 3) := by decide +kernel
theorem dX0_supportOf_70 : decode cX0_supportOf 70 = .ok (.iconst 0, 1) := by decide +kernel
theorem dX0_supportOf_71 : decode cX0_supportOf 71 = .ok (.istore 5, 2) := by decide +kernel
theorem dX0_supportOf_73 : decode cX0_supportOf 73 = .ok (.iload 5, 2) := by decide +kernel
theorem dX0_supportOf_75 : decode cX0_supportOf 75 = .ok (.ifCond .eq 39, 3) := by decide +kernel
theorem dX0_supportOf_78 : decode cX0_supportOf 78 = .ok (.aload_n 0, 1) := by decide +kernel
theorem dX0_supportOf_79 : decode cX0_supportOf 79 = .ok (.getfield 7, 3) := by decide +kernel
theorem dX0_supportOf_82 : decode cX0_supportOf 82 = .ok (.iload 4, 2) := by decide +kernel
theorem dX0_supportOf_84 : decode cX0_supportOf 84 = .ok (.baload, 1) := by decide +kernel
theorem dX0_supportOf_85 : decode cX0_supportOf 85 = .ok (.ifCond .eq 17, 3) := by decide +kernel
theorem dX0_supportOf_88 : decode cX0_supportOf 88 = .ok (.iload_n 1, 1) := by decide +kernel
theorem dX0_supportOf_89 : decode cX0_supportOf 89 = .ok (.aload_n 0, 1) := by decide +kernel
theorem dX0_supportOf_90 : decode cX0_supportOf 90 = .ok (.getfield 13, 3) := by decide +kernel
theorem dX0_supportOf_93 : decode cX0_supportOf 93 = .ok (.iload 4, 2) := by decide +kernel
theorem dX0_supportOf_95 : decode cX0_supportOf 95 = .ok (.baload, 1) := by decide +kernel
theorem dX0_supportOf_96 : decode cX0_supportOf 96 = .ok (.ishr, 1) := by decide +kernel
theorem dX0_supportOf_97 : decode cX0_supportOf 97 = .ok (.iconst 1, 1) := by decide +kernel
theorem dX0_supportOf_98 : decode cX0_supportOf 98 = .ok (.iand, 1) := by decide +kernel
theorem dX0_supportOf_99 : decode cX0_supportOf 99 = .ok (.ifCond .eq 15, 3) := by decide +kernel
theorem dX0_supportOf_102 : decode cX0_supportOf 102 = .ok (.iload_n 2, 1) := by decide +kernel
theorem dX0_supportOf_103 : decode cX0_supportOf 103 = .ok (.iconst 1, 1) := by decide +kernel
theorem dX0_supportOf_104 : decode cX0_supportOf 104 = .ok (.aload_n 0, 1) := by decide +kernel
theorem dX0_supportOf_105 : decode cX0_supportOf 105 = .ok (.getfield 13, 3) := by decide +kernel
theorem dX0_supportOf_108 : decode cX0_supportOf 108 = .ok (.iload 4, 2) := by decide +kernel
theorem dX0_supportOf_110 : decode cX0_supportOf 110 = .ok (.baload, 1) := by decide +kernel
theorem dX0_supportOf_111 : decode cX0_supportOf 111 = .ok (.ishl, 1) := by decide +kernel
theorem dX0_supportOf_112 : decode cX0_supportOf 112 = .ok (.ior, 1) := by decide +kernel
theorem dX0_supportOf_113 : decode cX0_supportOf 113 = .ok (.istore_n 2, 1) := by decide +kernel
theorem dX0_supportOf_114 : decode cX0_supportOf 114 = .ok (.iinc 4 1, 3) := by decide +kernel
theorem dX0_supportOf_117 : decode cX0_supportOf 117 = .ok (.goto (-104), 3) := by decide +kernel
theorem dX0_supportOf_120 : decode cX0_supportOf 120 = .ok (.iinc 3 1, 3) := by decide +kernel
theorem dX0_supportOf_123 : decode cX0_supportOf 123 = .ok (.goto (-119), 3) := by decide +kernel
theorem dX0_supportOf_126 : decode cX0_supportOf 126 = .ok (.iload_n 2, 1) := by decide +kernel
theorem dX0_supportOf_127 : decode cX0_supportOf 127 = .ok (.ireturn, 1) := by decide +kernel
theorem dX0_stable_0 : decode cX0_stable 0 = .ok (.iload_n 1, 1) := by decide +kernel
theorem dX0_stable_1 : decode cX0_stable 1 = .ok (.invokestatic 38, 3) := by decide +kernel
theorem dX0_stable_4 : decode cX0_stable 4 = .ok (.ifCond .ne 5, 3) := by decide +kernel
theorem dX0_stable_7 : decode cX0_stable 7 = .ok (.iconst 0, 1) := by decide +kernel
theorem dX0_stable_8 : decode cX0_stable 8 = .ok (.ireturn, 1) := by decide +kernel
theorem dX0_stable_9 : decode cX0_stable 9 = .ok (.aload_n 0, 1) := by decide +kernel
theorem dX0_stable_10 : decode cX0_stable 10 = .ok (.invokevirtual 104, 3) := by decide +kernel
theorem dX0_stable_13 : decode cX0_stable 13 = .ok (.aload_n 0, 1) := by decide +kernel
theorem dX0_stable_14 : decode cX0_stable 14 = .ok (.iload_n 1, 1) := by decide +kernel
theorem dX0_stable_15 : decode cX0_stable 15 = .ok (.invokevirtual 107, 3) := by decide +kernel
theorem dX0_stable_18 : decode cX0_stable 18 = .ok (.ireturn, 1) := by decide +kernel
theorem dX0_search_0 : decode cX0_search 0 = .ok (.aload_n 0, 1) := by decide +kernel
theorem dX0_search_1 : decode cX0_search 1 = .ok (.getfield 45, 3) := by decide +kernel
theorem dX0_search_4 : decode cX0_search 4 = .ok (.ifCond .eq 4, 3) := by decide +kernel
theorem dX0_search_7 : decode cX0_search 7 = .ok (.return_, 1) := by decide +kernel
theorem dX0_search_8 : decode cX0_search 8 = .ok (.aload_n 0, 1) := by decide +kernel
theorem dX0_search_9 : decode cX0_search 9 = .ok (.iconst 1, 1) := by decide +kernel
theorem dX0_search_10 : decode cX0_search 10 = .ok (.putfield 45, 3) := by decide +kernel
theorem dX0_search_13 : decode cX0_search 13 = .ok (.aload_n 0, 1) := by decide +kernel
theorem dX0_search_14 : decode cX0_search 14 = .ok (.lconst 0, 1) := by decide +kernel
theorem dX0_search_15 : decode cX0_search 15 = .ok (.putfield 91, 3) := by decide +kernel
theorem dX0_search_18 : decode cX0_search 18 = .ok (.aload_n 0, 1) := by decide +kernel
theorem dX0_search_19 : decode cX0_search 19 = .ok (.iconst 0, 1) := by decide +kernel
theorem dX0_search_20 : decode cX0_search 20 = .ok (.putfield 53, 3) := by decide +kernel
theorem dX0_search_23 : decode cX0_search 23 = .ok (.aload_n 0, 1) := by decide +kernel
theorem dX0_search_24 : decode cX0_search 24 = .ok (.iconst 0, 1) := by decide +kernel
theorem dX0_search_25 : decode cX0_search 25 = .ok (.putfield 62, 3) := by decide +kernel
theorem dX0_search_28 : decode cX0_search 28 = .ok (.aload_n 0, 1) := by decide +kernel
theorem dX0_search_29 : decode cX0_search 29 = .ok (.iconst 0, 1) := by decide +kernel
theorem dX0_search_30 : decode cX0_search 30 = .ok (.putfield 59, 3) := by decide +kernel
theorem dX0_search_33 : decode cX0_search 33 = .ok (.aload_n 0, 1) := by decide +kernel
theorem dX0_search_34 : decode cX0_search 34 = .ok (.invokevirtual 95, 3) := by decide +kernel
theorem dX0_search_37 : decode cX0_search 37 = .ok (.iconst 0, 1) := by decide +kernel
theorem dX0_search_38 : decode cX0_search 38 = .ok (.istore_n 1, 1) := by decide +kernel
theorem dX0_search_39 : decode cX0_search 39 = .ok (.iconst 1, 1) := by decide +kernel
theorem dX0_search_40 : decode cX0_search 40 = .ok (.istore_n 2, 1) := by decide +kernel
theorem dX0_search_41 : decode cX0_search 41 = .ok (.iconst 0, 1) := by decide +kernel
theorem dX0_search_42 : decode cX0_search 42 = .ok (.istore_n 3, 1) := by decide +kernel
theorem dX0_search_43 : decode cX0_search 43 = .ok (.iload_n 3, 1) := by decide +kernel
theorem dX0_search_44 : decode cX0_search 44 = .ok (.sipush 512, 3) := by decide +kernel
theorem dX0_search_47 : decode cX0_search 47 = .ok (.if_icmp .ge 118, 3) := by decide +kernel
theorem dX0_search_50 : decode cX0_search 50 = .ok (.iload_n 2, 1) := by decide +kernel
theorem dX0_search_51 : decode cX0_search 51 = .ok (.ifCond .eq 39, 3) := by decide +kernel
theorem dX0_search_54 : decode cX0_search 54 = .ok (.aload_n 0, 1) := by decide +kernel
theorem dX0_search_55 : decode cX0_search 55 = .ok (.getfield 59, 3) := by decide +kernel
theorem dX0_search_58 : decode cX0_search 58 = .ok (.ifCond .ne 32, 3) := by decide +kernel
theorem dX0_search_61 : decode cX0_search 61 = .ok (.aload_n 0, 1) := by decide +kernel
theorem dX0_search_62 : decode cX0_search 62 = .ok (.getfield 53, 3) := by decide +kernel
theorem dX0_search_65 : decode cX0_search 65 = .ok (.aload_n 0, 1) := by decide +kernel
theorem dX0_search_66 : decode cX0_search 66 = .ok (.getfield 62, 3) := by decide +kernel
theorem dX0_search_69 : decode cX0_search 69 = .ok (.ior, 1) := by decide +kernel
theorem dX0_search_70 : decode cX0_search 70 = .ok (.bipush 63, 2) := by decide +kernel
theorem dX0_search_72 : decode cX0_search 72 = .ok (.if_icmp .ne 18, 3) := by decide +kernel
theorem dX0_search_75 : decode cX0_search 75 = .ok (.aload_n 0, 1) := by decide +kernel
theorem dX0_search_76 : decode cX0_search 76 = .ok (.dup, 1) := by decide +kernel
theorem dX0_search_77 : decode cX0_search 77 = .ok (.getfield 91, 3) := by decide +kernel
theorem dX0_search_80 : decode cX0_search 80 = .ok (.lconst 1, 1) := by decide +kernel
theorem dX0_search_81 : decode cX0_search 81 = .ok (.aload_n 0, 1) := by decide +kernel
theorem dX0_search_82 : decode cX0_search 82 = .ok (.getfield 53, 3) := by decide +kernel
theorem dX0_search_85 : decode cX0_search 85 = .ok (.lshl, 1) := by decide +kernel
theorem dX0_search_86 : decode cX0_search 86 = .ok (.lor, 1) := by decide +kernel
theorem dX0_search_87 : decode cX0_search 87 = .ok (.putfield 91, 3) := by decide +kernel
theorem dX0_search_90 : decode cX0_search 90 = .ok (.iload_n 2, 1) := by decide +kernel
theorem dX0_search_91 : decode cX0_search 91 = .ok (.ifCond .eq 32, 3) := by decide +kernel
theorem dX0_search_94 : decode cX0_search 94 = .ok (.aload_n 0, 1) := by decide +kernel
theorem dX0_search_95 : decode cX0_search 95 = .ok (.getfield 59, 3) := by decide +kernel
theorem dX0_search_98 : decode cX0_search 98 = .ok (.ifCond .ne 25, 3) := by decide +kernel
theorem dX0_search_101 : decode cX0_search 101 = .ok (.aload_n 0, 1) := by decide +kernel
theorem dX0_search_102 : decode cX0_search 102 = .ok (.getfield 53, 3) := by decide +kernel
theorem dX0_search_105 : decode cX0_search 105 = .ok (.aload_n 0, 1) := by decide +kernel
theorem dX0_search_106 : decode cX0_search 106 = .ok (.getfield 62, 3) := by decide +kernel
theorem dX0_search_109 : decode cX0_search 109 = .ok (.ior, 1) := by decide +kernel
theorem dX0_search_110 : decode cX0_search 110 = .ok (.bipush 63, 2) := by decide +kernel
theorem dX0_search_112 : decode cX0_search 112 = .ok (.if_icmp .eq 11, 3) := by decide +kernel
theorem dX0_search_115 : decode cX0_search 115 = .ok (.aload_n 0, 1) := by decide +kernel
theorem dX0_search_116 : decode cX0_search 116 = .ok (.iload_n 1, 1) := by decide +kernel
theorem dX0_search_117 : decode cX0_search 117 = .ok (.invokevirtual 98, 3) := by decide +kernel
theorem dX0_search_120 : decode cX0_search 120 = .ok (.iinc 1 1, 3) := by decide +kernel
theorem dX0_search_123 : decode cX0_search 123 = .ok (.iload_n 1, 1) := by decide +kernel
theorem dX0_search_124 : decode cX0_search 124 = .ok (.ifCond .le 21, 3) := by decide +kernel
theorem dX0_search_127 : decode cX0_search 127 = .ok (.aload_n 0, 1) := by decide +kernel
theorem dX0_search_128 : decode cX0_search 128 = .ok (.getfield 31, 3) := by decide +kernel
theorem dX0_search_131 : decode cX0_search 131 = .ok (.iload_n 1, 1) := by decide +kernel
theorem dX0_search_132 : decode cX0_search 132 = .ok (.iconst 1, 1) := by decide +kernel
theorem dX0_search_133 : decode cX0_search 133 = .ok (.isub, 1) := by decide +kernel
theorem dX0_search_134 : decode cX0_search 134 = .ok (.baload, 1) := by decide +kernel
theorem dX0_search_135 : decode cX0_search 135 = .ok (.iconst 2, 1) := by decide +kernel
theorem dX0_search_136 : decode cX0_search 136 = .ok (.if_icmp .ne 9, 3) := by decide +kernel
theorem dX0_search_139 : decode cX0_search 139 = .ok (.iinc 1 (-1), 3) := by decide +kernel
theorem dX0_search_142 : decode cX0_search 142 = .ok (.goto (-19), 3) := by decide +kernel
theorem dX0_search_145 : decode cX0_search 145 = .ok (.iload_n 1, 1) := by decide +kernel
theorem dX0_search_146 : decode cX0_search 146 = .ok (.ifCond .ne 4, 3) := by decide +kernel
theorem dX0_search_149 : decode cX0_search 149 = .ok (.return_, 1) := by decide +kernel
theorem dX0_search_150 : decode cX0_search 150 = .ok (.aload_n 0, 1) := by decide +kernel
theorem dX0_search_151 : decode cX0_search 151 = .ok (.iload_n 1, 1) := by decide +kernel
theorem dX0_search_152 : decode cX0_search 152 = .ok (.iconst 1, 1) := by decide +kernel
theorem dX0_search_153 : decode cX0_search 153 = .ok (.isub, 1) := by decide +kernel
theorem dX0_search_154 : decode cX0_search 154 = .ok (.invokevirtual 101, 3) := by decide +kernel
theorem dX0_search_157 : decode cX0_search 157 = .ok (.iconst 1, 1) := by decide +kernel
theorem dX0_search_158 : decode cX0_search 158 = .ok (.istore_n 2, 1) := by decide +kernel
theorem dX0_search_159 : decode cX0_search 159 = .ok (.iinc 3 1, 3) := by decide +kernel
theorem dX0_search_162 : decode cX0_search 162 = .ok (.goto (-119), 3) := by decide +kernel
theorem dX0_search_165 : decode cX0_search 165 = .ok (.return_, 1) := by decide +kernel
theorem dX0_conclude_0 : decode cX0_conclude 0 = .ok (.aload_n 0, 1) := by decide +kernel
theorem dX0_conclude_1 : decode cX0_conclude 1 = .ok (.iconst 1, 1) := by decide +kernel
theorem dX0_conclude_2 : decode cX0_conclude 2 = .ok (.putfield 56, 3) := by decide +kernel
theorem dX0_conclude_5 : decode cX0_conclude 5 = .ok (.iconst 0, 1) := by decide +kernel
theorem dX0_conclude_6 : decode cX0_conclude 6 = .ok (.istore_n 1, 1) := by decide +kernel
theorem dX0_conclude_7 : decode cX0_conclude 7 = .ok (.iload_n 1, 1) := by decide +kernel
theorem dX0_conclude_8 : decode cX0_conclude 8 = .ok (.bipush 14, 2) := by decide +kernel
theorem dX0_conclude_10 : decode cX0_conclude 10 = .ok (.if_icmp .ge 89, 3) := by decide +kernel
theorem dX0_conclude_13 : decode cX0_conclude 13 = .ok (.aload_n 0, 1) := by decide +kernel
theorem dX0_conclude_14 : decode cX0_conclude 14 = .ok (.getfield 56, 3) := by decide +kernel
theorem dX0_conclude_17 : decode cX0_conclude 17 = .ok (.ifCond .eq 82, 3) := by decide +kernel
theorem dX0_conclude_20 : decode cX0_conclude 20 = .ok (.aload_n 0, 1) := by decide +kernel
theorem dX0_conclude_21 : decode cX0_conclude 21 = .ok (.getfield 59, 3) := by decide +kernel
theorem dX0_conclude_24 : decode cX0_conclude 24 = .ok (.ifCond .ne 75, 3) := by decide +kernel
theorem dX0_conclude_27 : decode cX0_conclude 27 = .ok (.aload_n 0, 1) := by decide +kernel
theorem dX0_conclude_28 : decode cX0_conclude 28 = .ok (.iconst 0, 1) := by decide +kernel
theorem dX0_conclude_29 : decode cX0_conclude 29 = .ok (.putfield 56, 3) := by decide +kernel
theorem dX0_conclude_32 : decode cX0_conclude 32 = .ok (.iconst 0, 1) := by decide +kernel
theorem dX0_conclude_33 : decode cX0_conclude 33 = .ok (.istore_n 2, 1) := by decide +kernel
theorem dX0_conclude_34 : decode cX0_conclude 34 = .ok (.iload_n 2, 1) := by decide +kernel
theorem dX0_conclude_35 : decode cX0_conclude 35 = .ok (.bipush 10, 2) := by decide +kernel
theorem dX0_conclude_37 : decode cX0_conclude 37 = .ok (.if_icmp .ge 22, 3) := by decide +kernel
end
section
set_option maxRecDepth 100000
theorem dX0_conclude_40 : decode cX0_conclude 40 = .ok (.aload_n 0, 1) := by decide +kernel
theorem dX0_conclude_41 : decode cX0_conclude 41 = .ok (.iload_n 2, 1) := by decide +kernel
theorem dX0_conclude_42 : decode cX0_conclude 42 = .ok (.invokevirtual 42, 3) := by decide +kernel
theorem dX0_conclude_45 : decode cX0_conclude 45 = .ok (.ifCond .eq 8, 3) := by decide +kernel
theorem dX0_conclude_48 : decode cX0_conclude 48 = .ok (.aload_n 0, 1) := by decide +kernel
theorem dX0_conclude_49 : decode cX0_conclude 49 = .ok (.iload_n 2, 1) := by decide +kernel
theorem dX0_conclude_50 : decode cX0_conclude 50 = .ok (.invokevirtual 65, 3) := by decide +kernel
theorem dX0_conclude_53 : decode cX0_conclude 53 = .ok (.iinc 2 1, 3) := by decide +kernel
theorem dX0_conclude_56 : decode cX0_conclude 56 = .ok (.goto (-22), 3) := by decide +kernel
theorem dX0_conclude_59 : decode cX0_conclude 59 = .ok (.iconst 0, 1) := by decide +kernel
theorem dX0_conclude_60 : decode cX0_conclude 60 = .ok (.istore_n 2, 1) := by decide +kernel
theorem dX0_conclude_61 : decode cX0_conclude 61 = .ok (.iload_n 2, 1) := by decide +kernel
theorem dX0_conclude_62 : decode cX0_conclude 62 = .ok (.bipush 6, 2) := by decide +kernel
theorem dX0_conclude_64 : decode cX0_conclude 64 = .ok (.if_icmp .ge 14, 3) := by decide +kernel
theorem dX0_conclude_67 : decode cX0_conclude 67 = .ok (.aload_n 0, 1) := by decide +kernel
theorem dX0_conclude_68 : decode cX0_conclude 68 = .ok (.iload_n 2, 1) := by decide +kernel
theorem dX0_conclude_69 : decode cX0_conclude 69 = .ok (.invokevirtual 69, 3) := by decide +kernel
theorem dX0_conclude_72 : decode cX0_conclude 72 = .ok (.iinc 2 1, 3) := by decide +kernel
theorem dX0_conclude_75 : decode cX0_conclude 75 = .ok (.goto (-14), 3) := by decide +kernel
theorem dX0_conclude_78 : decode cX0_conclude 78 = .ok (.bipush 63, 2) := by decide +kernel
theorem dX0_conclude_80 : decode cX0_conclude 80 = .ok (.aload_n 0, 1) := by decide +kernel
theorem dX0_conclude_81 : decode cX0_conclude 81 = .ok (.invokevirtual 72, 3) := by decide +kernel
theorem dX0_conclude_84 : decode cX0_conclude 84 = .ok (.iconst (-1), 1) := by decide +kernel
theorem dX0_conclude_85 : decode cX0_conclude 85 = .ok (.ixor, 1) := by decide +kernel
theorem dX0_conclude_86 : decode cX0_conclude 86 = .ok (.iand, 1) := by decide +kernel
theorem dX0_conclude_87 : decode cX0_conclude 87 = .ok (.istore_n 2, 1) := by decide +kernel
theorem dX0_conclude_88 : decode cX0_conclude 88 = .ok (.aload_n 0, 1) := by decide +kernel
theorem dX0_conclude_89 : decode cX0_conclude 89 = .ok (.iload_n 2, 1) := by decide +kernel
theorem dX0_conclude_90 : decode cX0_conclude 90 = .ok (.invokevirtual 76, 3) := by decide +kernel
theorem dX0_conclude_93 : decode cX0_conclude 93 = .ok (.iinc 1 1, 3) := by decide +kernel
theorem dX0_conclude_96 : decode cX0_conclude 96 = .ok (.goto (-89), 3) := by decide +kernel
theorem dX0_conclude_99 : decode cX0_conclude 99 = .ok (.return_, 1) := by decide +kernel
theorem dX0_forward_0 : decode cX0_forward 0 = .ok (.aload_n 0, 1) := by decide +kernel
theorem dX0_forward_1 : decode cX0_forward 1 = .ok (.iload_n 1, 1) := by decide +kernel
theorem dX0_forward_2 : decode cX0_forward 2 = .ok (.invokevirtual 79, 3) := by decide +kernel
theorem dX0_forward_5 : decode cX0_forward 5 = .ok (.ifCond .eq 49, 3) := by decide +kernel
theorem dX0_forward_8 : decode cX0_forward 8 = .ok (.aload_n 0, 1) := by decide +kernel
theorem dX0_forward_9 : decode cX0_forward 9 = .ok (.getfield 7, 3) := by decide +kernel
theorem dX0_forward_12 : decode cX0_forward 12 = .ok (.iload_n 1, 1) := by decide +kernel
theorem dX0_forward_13 : decode cX0_forward 13 = .ok (.baload, 1) := by decide +kernel
theorem dX0_forward_14 : decode cX0_forward 14 = .ok (.ifCond .ne 15, 3) := by decide +kernel
theorem dX0_forward_17 : decode cX0_forward 17 = .ok (.aload_n 0, 1) := by decide +kernel
theorem dX0_forward_18 : decode cX0_forward 18 = .ok (.iconst 1, 1) := by decide +kernel
theorem dX0_forward_19 : decode cX0_forward 19 = .ok (.aload_n 0, 1) := by decide +kernel
theorem dX0_forward_20 : decode cX0_forward 20 = .ok (.getfield 13, 3) := by decide +kernel
theorem dX0_forward_23 : decode cX0_forward 23 = .ok (.iload_n 1, 1) := by decide +kernel
theorem dX0_forward_24 : decode cX0_forward 24 = .ok (.baload, 1) := by decide +kernel
theorem dX0_forward_25 : decode cX0_forward 25 = .ok (.ishl, 1) := by decide +kernel
theorem dX0_forward_26 : decode cX0_forward 26 = .ok (.invokevirtual 82, 3) := by decide +kernel
theorem dX0_forward_29 : decode cX0_forward 29 = .ok (.aload_n 0, 1) := by decide +kernel
theorem dX0_forward_30 : decode cX0_forward 30 = .ok (.dup, 1) := by decide +kernel
theorem dX0_forward_31 : decode cX0_forward 31 = .ok (.getfield 59, 3) := by decide +kernel
theorem dX0_forward_34 : decode cX0_forward 34 = .ok (.aload_n 0, 1) := by decide +kernel
theorem dX0_forward_35 : decode cX0_forward 35 = .ok (.getfield 7, 3) := by decide +kernel
theorem dX0_forward_38 : decode cX0_forward 38 = .ok (.iload_n 1, 1) := by decide +kernel
theorem dX0_forward_39 : decode cX0_forward 39 = .ok (.baload, 1) := by decide +kernel
theorem dX0_forward_40 : decode cX0_forward 40 = .ok (.iconst 2, 1) := by decide +kernel
theorem dX0_forward_41 : decode cX0_forward 41 = .ok (.if_icmp .ne 7, 3) := by decide +kernel
theorem dX0_forward_44 : decode cX0_forward 44 = .ok (.iconst 1, 1) := by decide +kernel
theorem dX0_forward_45 : decode cX0_forward 45 = .ok (.goto 4, 3) := by decide +kernel
theorem dX0_forward_48 : decode cX0_forward 48 = .ok (.iconst 0, 1) := by decide +kernel
theorem dX0_forward_49 : decode cX0_forward 49 = .ok (.ior, 1) := by decide +kernel
theorem dX0_forward_50 : decode cX0_forward 50 = .ok (.putfield 59, 3) := by decide +kernel
theorem dX0_forward_53 : decode cX0_forward 53 = .ok (.return_, 1) := by decide +kernel
theorem dX0_forward_54 : decode cX0_forward 54 = .ok (.aload_n 0, 1) := by decide +kernel
theorem dX0_forward_55 : decode cX0_forward 55 = .ok (.getfield 7, 3) := by decide +kernel
theorem dX0_forward_58 : decode cX0_forward 58 = .ok (.iload_n 1, 1) := by decide +kernel
theorem dX0_forward_59 : decode cX0_forward 59 = .ok (.baload, 1) := by decide +kernel
theorem dX0_forward_60 : decode cX0_forward 60 = .ok (.iconst 2, 1) := by decide +kernel
theorem dX0_forward_61 : decode cX0_forward 61 = .ok (.if_icmp .eq 28, 3) := by decide +kernel
theorem dX0_forward_64 : decode cX0_forward 64 = .ok (.aload_n 0, 1) := by decide +kernel
theorem dX0_forward_65 : decode cX0_forward 65 = .ok (.getfield 7, 3) := by decide +kernel
theorem dX0_forward_68 : decode cX0_forward 68 = .ok (.iload_n 1, 1) := by decide +kernel
theorem dX0_forward_69 : decode cX0_forward 69 = .ok (.baload, 1) := by decide +kernel
theorem dX0_forward_70 : decode cX0_forward 70 = .ok (.ifCond .ne 23, 3) := by decide +kernel
theorem dX0_forward_73 : decode cX0_forward 73 = .ok (.aload_n 0, 1) := by decide +kernel
theorem dX0_forward_74 : decode cX0_forward 74 = .ok (.getfield 62, 3) := by decide +kernel
theorem dX0_forward_77 : decode cX0_forward 77 = .ok (.aload_n 0, 1) := by decide +kernel
theorem dX0_forward_78 : decode cX0_forward 78 = .ok (.getfield 13, 3) := by decide +kernel
theorem dX0_forward_81 : decode cX0_forward 81 = .ok (.iload_n 1, 1) := by decide +kernel
theorem dX0_forward_82 : decode cX0_forward 82 = .ok (.baload, 1) := by decide +kernel
theorem dX0_forward_83 : decode cX0_forward 83 = .ok (.ishr, 1) := by decide +kernel
theorem dX0_forward_84 : decode cX0_forward 84 = .ok (.iconst 1, 1) := by decide +kernel
theorem dX0_forward_85 : decode cX0_forward 85 = .ok (.iand, 1) := by decide +kernel
theorem dX0_forward_86 : decode cX0_forward 86 = .ok (.ifCond .eq 7, 3) := by decide +kernel
theorem dX0_forward_89 : decode cX0_forward 89 = .ok (.iconst 1, 1) := by decide +kernel
theorem dX0_forward_90 : decode cX0_forward 90 = .ok (.goto 4, 3) := by decide +kernel
theorem dX0_forward_93 : decode cX0_forward 93 = .ok (.iconst 0, 1) := by decide +kernel
theorem dX0_forward_94 : decode cX0_forward 94 = .ok (.istore_n 2, 1) := by decide +kernel
theorem dX0_forward_95 : decode cX0_forward 95 = .ok (.aload_n 0, 1) := by decide +kernel
theorem dX0_forward_96 : decode cX0_forward 96 = .ok (.getfield 16, 3) := by decide +kernel
theorem dX0_forward_99 : decode cX0_forward 99 = .ok (.iload_n 1, 1) := by decide +kernel
theorem dX0_forward_100 : decode cX0_forward 100 = .ok (.baload, 1) := by decide +kernel
theorem dX0_forward_101 : decode cX0_forward 101 = .ok (.aload_n 0, 1) := by decide +kernel
theorem dX0_forward_102 : decode cX0_forward 102 = .ok (.getfield 53, 3) := by decide +kernel
theorem dX0_forward_105 : decode cX0_forward 105 = .ok (.iconst (-1), 1) := by decide +kernel
theorem dX0_forward_106 : decode cX0_forward 106 = .ok (.ixor, 1) := by decide +kernel
theorem dX0_forward_107 : decode cX0_forward 107 = .ok (.iand, 1) := by decide +kernel
theorem dX0_forward_108 : decode cX0_forward 108 = .ok (.istore_n 3, 1) := by decide +kernel
theorem dX0_forward_109 : decode cX0_forward 109 = .ok (.aload_n 0, 1) := by decide +kernel
theorem dX0_forward_110 : decode cX0_forward 110 = .ok (.getfield 19, 3) := by decide +kernel
theorem dX0_forward_113 : decode cX0_forward 113 = .ok (.iload_n 1, 1) := by decide +kernel
theorem dX0_forward_114 : decode cX0_forward 114 = .ok (.baload, 1) := by decide +kernel
theorem dX0_forward_115 : decode cX0_forward 115 = .ok (.aload_n 0, 1) := by decide +kernel
theorem dX0_forward_116 : decode cX0_forward 116 = .ok (.getfield 62, 3) := by decide +kernel
theorem dX0_forward_119 : decode cX0_forward 119 = .ok (.iconst (-1), 1) := by decide +kernel
theorem dX0_forward_120 : decode cX0_forward 120 = .ok (.ixor, 1) := by decide +kernel
theorem dX0_forward_121 : decode cX0_forward 121 = .ok (.iand, 1) := by decide +kernel
theorem dX0_forward_122 : decode cX0_forward 122 = .ok (.istore 4, 2) := by decide +kernel
theorem dX0_forward_124 : decode cX0_forward 124 = .ok (.iload_n 2, 1) := by decide +kernel
theorem dX0_forward_125 : decode cX0_forward 125 = .ok (.ifCond .eq 36, 3) := by decide +kernel
theorem dX0_forward_128 : decode cX0_forward 128 = .ok (.aload_n 0, 1) := by decide +kernel
theorem dX0_forward_129 : decode cX0_forward 129 = .ok (.iload_n 1, 1) := by decide +kernel
theorem dX0_forward_130 : decode cX0_forward 130 = .ok (.invokevirtual 85, 3) := by decide +kernel
theorem dX0_forward_133 : decode cX0_forward 133 = .ok (.ifCond .ne 28, 3) := by decide +kernel
theorem dX0_forward_136 : decode cX0_forward 136 = .ok (.iload_n 3, 1) := by decide +kernel
theorem dX0_forward_137 : decode cX0_forward 137 = .ok (.invokestatic 88, 3) := by decide +kernel
theorem dX0_forward_140 : decode cX0_forward 140 = .ok (.iload 4, 2) := by decide +kernel
theorem dX0_forward_142 : decode cX0_forward 142 = .ok (.invokestatic 88, 3) := by decide +kernel
theorem dX0_forward_145 : decode cX0_forward 145 = .ok (.iadd, 1) := by decide +kernel
theorem dX0_forward_146 : decode cX0_forward 146 = .ok (.iconst 1, 1) := by decide +kernel
theorem dX0_forward_147 : decode cX0_forward 147 = .ok (.if_icmp .ne 14, 3) := by decide +kernel
theorem dX0_forward_150 : decode cX0_forward 150 = .ok (.aload_n 0, 1) := by decide +kernel
theorem dX0_forward_151 : decode cX0_forward 151 = .ok (.iload_n 3, 1) := by decide +kernel
theorem dX0_forward_152 : decode cX0_forward 152 = .ok (.invokevirtual 76, 3) := by decide +kernel
theorem dX0_forward_155 : decode cX0_forward 155 = .ok (.aload_n 0, 1) := by decide +kernel
theorem dX0_forward_156 : decode cX0_forward 156 = .ok (.iload 4, 2) := by decide +kernel
theorem dX0_forward_158 : decode cX0_forward 158 = .ok (.invokevirtual 82, 3) := by decide +kernel
theorem dX0_forward_161 : decode cX0_forward 161 = .ok (.return_, 1) := by decide +kernel
theorem dX0_bodyHolds_0 : decode cX0_bodyHolds 0 = .ok (.aload_n 0, 1) := by decide +kernel
theorem dX0_bodyHolds_1 : decode cX0_bodyHolds 1 = .ok (.getfield 16, 3) := by decide +kernel
theorem dX0_bodyHolds_4 : decode cX0_bodyHolds 4 = .ok (.iload_n 1, 1) := by decide +kernel
theorem dX0_bodyHolds_5 : decode cX0_bodyHolds 5 = .ok (.baload, 1) := by decide +kernel
theorem dX0_bodyHolds_6 : decode cX0_bodyHolds 6 = .ok (.aload_n 0, 1) := by decide +kernel
theorem dX0_bodyHolds_7 : decode cX0_bodyHolds 7 = .ok (.getfield 53, 3) := by decide +kernel
theorem dX0_bodyHolds_10 : decode cX0_bodyHolds 10 = .ok (.iconst (-1), 1) := by decide +kernel
theorem dX0_bodyHolds_11 : decode cX0_bodyHolds 11 = .ok (.ixor, 1) := by decide +kernel
theorem dX0_bodyHolds_12 : decode cX0_bodyHolds 12 = .ok (.iand, 1) := by decide +kernel
theorem dX0_bodyHolds_13 : decode cX0_bodyHolds 13 = .ok (.ifCond .ne 23, 3) := by decide +kernel
theorem dX0_bodyHolds_16 : decode cX0_bodyHolds 16 = .ok (.aload_n 0, 1) := by decide +kernel
theorem dX0_bodyHolds_17 : decode cX0_bodyHolds 17 = .ok (.getfield 19, 3) := by decide +kernel
theorem dX0_bodyHolds_20 : decode cX0_bodyHolds 20 = .ok (.iload_n 1, 1) := by decide +kernel
theorem dX0_bodyHolds_21 : decode cX0_bodyHolds 21 = .ok (.baload, 1) := by decide +kernel
theorem dX0_bodyHolds_22 : decode cX0_bodyHolds 22 = .ok (.aload_n 0, 1) := by decide +kernel
theorem dX0_bodyHolds_23 : decode cX0_bodyHolds 23 = .ok (.getfield 62, 3) := by decide +kernel
theorem dX0_bodyHolds_26 : decode cX0_bodyHolds 26 = .ok (.iconst (-1), 1) := by decide +kernel
theorem dX0_bodyHolds_27 : decode cX0_bodyHolds 27 = .ok (.ixor, 1) := by decide +kernel
theorem dX0_bodyHolds_28 : decode cX0_bodyHolds 28 = .ok (.iand, 1) := by decide +kernel
theorem dX0_bodyHolds_29 : decode cX0_bodyHolds 29 = .ok (.ifCond .ne 7, 3) := by decide +kernel
theorem dX0_bodyHolds_32 : decode cX0_bodyHolds 32 = .ok (.iconst 1, 1) := by decide +kernel
theorem dX0_bodyHolds_33 : decode cX0_bodyHolds 33 = .ok (.goto 4, 3) := by decide +kernel
theorem dX0_bodyHolds_36 : decode cX0_bodyHolds 36 = .ok (.iconst 0, 1) := by decide +kernel
theorem dX0_bodyHolds_37 : decode cX0_bodyHolds 37 = .ok (.ireturn, 1) := by decide +kernel
theorem dX0_putIn_0 : decode cX0_putIn 0 = .ok (.iload_n 1, 1) := by decide +kernel
theorem dX0_putIn_1 : decode cX0_putIn 1 = .ok (.aload_n 0, 1) := by decide +kernel
theorem dX0_putIn_2 : decode cX0_putIn 2 = .ok (.getfield 53, 3) := by decide +kernel
theorem dX0_putIn_5 : decode cX0_putIn 5 = .ok (.iconst (-1), 1) := by decide +kernel
theorem dX0_putIn_6 : decode cX0_putIn 6 = .ok (.ixor, 1) := by decide +kernel
theorem dX0_putIn_7 : decode cX0_putIn 7 = .ok (.iand, 1) := by decide +kernel
theorem dX0_putIn_8 : decode cX0_putIn 8 = .ok (.ifCond .eq 18, 3) := by decide +kernel
theorem dX0_putIn_11 : decode cX0_putIn 11 = .ok (.aload_n 0, 1) := by decide +kernel
theorem dX0_putIn_12 : decode cX0_putIn 12 = .ok (.dup, 1) := by decide +kernel
theorem dX0_putIn_13 : decode cX0_putIn 13 = .ok (.getfield 53, 3) := by decide +kernel
theorem dX0_putIn_16 : decode cX0_putIn 16 = .ok (.iload_n 1, 1) := by decide +kernel
theorem dX0_putIn_17 : decode cX0_putIn 17 = .ok (.ior, 1) := by decide +kernel
theorem dX0_putIn_18 : decode cX0_putIn 18 = .ok (.putfield 53, 3) := by decide +kernel
theorem dX0_putIn_21 : decode cX0_putIn 21 = .ok (.aload_n 0, 1) := by decide +kernel
theorem dX0_putIn_22 : decode cX0_putIn 22 = .ok (.iconst 1, 1) := by decide +kernel
theorem dX0_putIn_23 : decode cX0_putIn 23 = .ok (.putfield 56, 3) := by decide +kernel
theorem dX0_putIn_26 : decode cX0_putIn 26 = .ok (.aload_n 0, 1) := by decide +kernel
theorem dX0_putIn_27 : decode cX0_putIn 27 = .ok (.dup, 1) := by decide +kernel
theorem dX0_putIn_28 : decode cX0_putIn 28 = .ok (.getfield 59, 3) := by decide +kernel
theorem dX0_putIn_31 : decode cX0_putIn 31 = .ok (.aload_n 0, 1) := by decide +kernel
theorem dX0_putIn_32 : decode cX0_putIn 32 = .ok (.getfield 53, 3) := by decide +kernel
theorem dX0_putIn_35 : decode cX0_putIn 35 = .ok (.aload_n 0, 1) := by decide +kernel
theorem dX0_putIn_36 : decode cX0_putIn 36 = .ok (.getfield 62, 3) := by decide +kernel
theorem dX0_putIn_39 : decode cX0_putIn 39 = .ok (.iand, 1) := by decide +kernel
theorem dX0_putIn_40 : decode cX0_putIn 40 = .ok (.ifCond .eq 7, 3) := by decide +kernel
theorem dX0_putIn_43 : decode cX0_putIn 43 = .ok (.iconst 1, 1) := by decide +kernel
theorem dX0_putIn_44 : decode cX0_putIn 44 = .ok (.goto 4, 3) := by decide +kernel
theorem dX0_putIn_47 : decode cX0_putIn 47 = .ok (.iconst 0, 1) := by decide +kernel
theorem dX0_putIn_48 : decode cX0_putIn 48 = .ok (.ior, 1) := by decide +kernel
theorem dX0_putIn_49 : decode cX0_putIn 49 = .ok (.putfield 59, 3) := by decide +kernel
theorem dX0_putIn_52 : decode cX0_putIn 52 = .ok (.return_, 1) := by decide +kernel
theorem dX0_bodyFails_0 : decode cX0_bodyFails 0 = .ok (.aload_n 0, 1) := by decide +kernel
theorem dX0_bodyFails_1 : decode cX0_bodyFails 1 = .ok (.getfield 16, 3) := by decide +kernel
theorem dX0_bodyFails_4 : decode cX0_bodyFails 4 = .ok (.iload_n 1, 1) := by decide +kernel
theorem dX0_bodyFails_5 : decode cX0_bodyFails 5 = .ok (.baload, 1) := by decide +kernel
theorem dX0_bodyFails_6 : decode cX0_bodyFails 6 = .ok (.aload_n 0, 1) := by decide +kernel
theorem dX0_bodyFails_7 : decode cX0_bodyFails 7 = .ok (.getfield 62, 3) := by decide +kernel
theorem dX0_bodyFails_10 : decode cX0_bodyFails 10 = .ok (.iand, 1) := by decide +kernel
theorem dX0_bodyFails_11 : decode cX0_bodyFails 11 = .ok (.ifCond .ne 17, 3) := by decide +kernel
theorem dX0_bodyFails_14 : decode cX0_bodyFails 14 = .ok (.aload_n 0, 1) := by decide +kernel
theorem dX0_bodyFails_15 : decode cX0_bodyFails 15 = .ok (.getfield 19, 3) := by decide +kernel
theorem dX0_bodyFails_18 : decode cX0_bodyFails 18 = .ok (.iload_n 1, 1) := by decide +kernel
theorem dX0_bodyFails_19 : decode cX0_bodyFails 19 = .ok (.baload, 1) := by decide +kernel
theorem dX0_bodyFails_20 : decode cX0_bodyFails 20 = .ok (.aload_n 0, 1) := by decide +kernel
theorem dX0_bodyFails_21 : decode cX0_bodyFails 21 = .ok (.getfield 53, 3) := by decide +kernel
theorem dX0_bodyFails_24 : decode cX0_bodyFails 24 = .ok (.iand, 1) := by decide +kernel
theorem dX0_bodyFails_25 : decode cX0_bodyFails 25 = .ok (.ifCond .eq 7, 3) := by decide +kernel
theorem dX0_bodyFails_28 : decode cX0_bodyFails 28 = .ok (.iconst 1, 1) := by decide +kernel
theorem dX0_bodyFails_29 : decode cX0_bodyFails 29 = .ok (.goto 4, 3) := by decide +kernel
theorem dX0_bodyFails_32 : decode cX0_bodyFails 32 = .ok (.iconst 0, 1) := by decide +kernel
theorem dX0_bodyFails_33 : decode cX0_bodyFails 33 = .ok (.ireturn, 1) := by decide +kernel
theorem dX0_ones_0 : decode cX0_ones 0 = .ok (.iconst 0, 1) := by decide +kernel
theorem dX0_ones_1 : decode cX0_ones 1 = .ok (.istore_n 1, 1) := by decide +kernel
theorem dX0_ones_2 : decode cX0_ones 2 = .ok (.iconst 0, 1) := by decide +kernel
theorem dX0_ones_3 : decode cX0_ones 3 = .ok (.istore_n 2, 1) := by decide +kernel
theorem dX0_ones_4 : decode cX0_ones 4 = .ok (.iload_n 2, 1) := by decide +kernel
theorem dX0_ones_5 : decode cX0_ones 5 = .ok (.bipush 6, 2) := by decide +kernel
theorem dX0_ones_7 : decode cX0_ones 7 = .ok (.if_icmp .ge 17, 3) := by decide +kernel
theorem dX0_ones_10 : decode cX0_ones 10 = .ok (.iload_n 1, 1) := by decide +kernel
theorem dX0_ones_11 : decode cX0_ones 11 = .ok (.iload_n 0, 1) := by decide +kernel
theorem dX0_ones_12 : decode cX0_ones 12 = .ok (.iload_n 2, 1) := by decide +kernel
theorem dX0_ones_13 : decode cX0_ones 13 = .ok (.ishr, 1) := by decide +kernel
theorem dX0_ones_14 : decode cX0_ones 14 = .ok (.iconst 1, 1) := by decide +kernel
theorem dX0_ones_15 : decode cX0_ones 15 = .ok (.iand, 1) := by decide +kernel
theorem dX0_ones_16 : decode cX0_ones 16 = .ok (.iadd, 1) := by decide +kernel
theorem dX0_ones_17 : decode cX0_ones 17 = .ok (.istore_n 1, 1) := by decide +kernel
theorem dX0_ones_18 : decode cX0_ones 18 = .ok (.iinc 2 1, 3) := by decide +kernel
theorem dX0_ones_21 : decode cX0_ones 21 = .ok (.goto (-17), 3) := by decide +kernel
theorem dX0_ones_24 : decode cX0_ones 24 = .ok (.iload_n 1, 1) := by decide +kernel
theorem dX0_ones_25 : decode cX0_ones 25 = .ok (.ireturn, 1) := by decide +kernel
theorem dX0_putOut_0 : decode cX0_putOut 0 = .ok (.iload_n 1, 1) := by decide +kernel
theorem dX0_putOut_1 : decode cX0_putOut 1 = .ok (.aload_n 0, 1) := by decide +kernel
theorem dX0_putOut_2 : decode cX0_putOut 2 = .ok (.getfield 62, 3) := by decide +kernel
theorem dX0_putOut_5 : decode cX0_putOut 5 = .ok (.iconst (-1), 1) := by decide +kernel
theorem dX0_putOut_6 : decode cX0_putOut 6 = .ok (.ixor, 1) := by decide +kernel
theorem dX0_putOut_7 : decode cX0_putOut 7 = .ok (.iand, 1) := by decide +kernel
theorem dX0_putOut_8 : decode cX0_putOut 8 = .ok (.ifCond .eq 18, 3) := by decide +kernel
theorem dX0_putOut_11 : decode cX0_putOut 11 = .ok (.aload_n 0, 1) := by decide +kernel
theorem dX0_putOut_12 : decode cX0_putOut 12 = .ok (.dup, 1) := by decide +kernel
theorem dX0_putOut_13 : decode cX0_putOut 13 = .ok (.getfield 62, 3) := by decide +kernel
theorem dX0_putOut_16 : decode cX0_putOut 16 = .ok (.iload_n 1, 1) := by decide +kernel
theorem dX0_putOut_17 : decode cX0_putOut 17 = .ok (.ior, 1) := by decide +kernel
theorem dX0_putOut_18 : decode cX0_putOut 18 = .ok (.putfield 62, 3) := by decide +kernel
theorem dX0_putOut_21 : decode cX0_putOut 21 = .ok (.aload_n 0, 1) := by decide +kernel
theorem dX0_putOut_22 : decode cX0_putOut 22 = .ok (.iconst 1, 1) := by decide +kernel
theorem dX0_putOut_23 : decode cX0_putOut 23 = .ok (.putfield 56, 3) := by decide +kernel
theorem dX0_putOut_26 : decode cX0_putOut 26 = .ok (.aload_n 0, 1) := by decide +kernel
theorem dX0_putOut_27 : decode cX0_putOut 27 = .ok (.dup, 1) := by decide +kernel
theorem dX0_putOut_28 : decode cX0_putOut 28 = .ok (.getfield 59, 3) := by decide +kernel
theorem dX0_putOut_31 : decode cX0_putOut 31 = .ok (.aload_n 0, 1) := by decide +kernel
theorem dX0_putOut_32 : decode cX0_putOut 32 = .ok (.getfield 53, 3) := by decide +kernel
theorem dX0_putOut_35 : decode cX0_putOut 35 = .ok (.aload_n 0, 1) := by decide +kernel
theorem dX0_putOut_36 : decode cX0_putOut 36 = .ok (.getfield 62, 3) := by decide +kernel
theorem dX0_putOut_39 : decode cX0_putOut 39 = .ok (.iand, 1) := by decide +kernel
theorem dX0_putOut_40 : decode cX0_putOut 40 = .ok (.ifCond .eq 7, 3) := by decide +kernel
theorem dX0_putOut_43 : decode cX0_putOut 43 = .ok (.iconst 1, 1) := by decide +kernel
theorem dX0_putOut_44 : decode cX0_putOut 44 = .ok (.goto 4, 3) := by decide +kernel
theorem dX0_putOut_47 : decode cX0_putOut 47 = .ok (.iconst 0, 1) := by decide +kernel
theorem dX0_putOut_48 : decode cX0_putOut 48 = .ok (.ior, 1) := by decide +kernel
theorem dX0_putOut_49 : decode cX0_putOut 49 = .ok (.putfield 59, 3) := by decide +kernel
theorem dX0_putOut_52 : decode cX0_putOut 52 = .ok (.return_, 1) := by decide +kernel
theorem dX0_backward_0 : decode cX0_backward 0 = .ok (.aload_n 0, 1) := by decide +kernel
theorem dX0_backward_1 : decode cX0_backward 1 = .ok (.getfield 53, 3) := by decide +kernel
theorem dX0_backward_4 : decode cX0_backward 4 = .ok (.iload_n 1, 1) := by decide +kernel
theorem dX0_backward_5 : decode cX0_backward 5 = .ok (.ishr, 1) := by decide +kernel
theorem dX0_backward_6 : decode cX0_backward 6 = .ok (.iconst 1, 1) := by decide +kernel
theorem dX0_backward_7 : decode cX0_backward 7 = .ok (.iand, 1) := by decide +kernel
theorem dX0_backward_8 : decode cX0_backward 8 = .ok (.ifCond .ne 4, 3) := by decide +kernel
theorem dX0_backward_11 : decode cX0_backward 11 = .ok (.return_, 1) := by decide +kernel
theorem dX0_backward_12 : decode cX0_backward 12 = .ok (.iconst (-1), 1) := by decide +kernel
theorem dX0_backward_13 : decode cX0_backward 13 = .ok (.istore_n 2, 1) := by decide +kernel
theorem dX0_backward_14 : decode cX0_backward 14 = .ok (.iconst 0, 1) := by decide +kernel
theorem dX0_backward_15 : decode cX0_backward 15 = .ok (.istore_n 3, 1) := by decide +kernel
theorem dX0_backward_16 : decode cX0_backward 16 = .ok (.iconst 0, 1) := by decide +kernel
theorem dX0_backward_17 : decode cX0_backward 17 = .ok (.istore 4, 2) := by decide +kernel
theorem dX0_backward_19 : decode cX0_backward 19 = .ok (.iload 4, 2) := by decide +kernel
theorem dX0_backward_21 : decode cX0_backward 21 = .ok (.bipush 10, 2) := by decide +kernel
theorem dX0_backward_23 : decode cX0_backward 23 = .ok (.if_icmp .ge 55, 3) := by decide +kernel
theorem dX0_backward_26 : decode cX0_backward 26 = .ok (.aload_n 0, 1) := by decide +kernel
theorem dX0_backward_27 : decode cX0_backward 27 = .ok (.iload 4, 2) := by decide +kernel
theorem dX0_backward_29 : decode cX0_backward 29 = .ok (.invokevirtual 42, 3) := by decide +kernel
theorem dX0_backward_32 : decode cX0_backward 32 = .ok (.ifCond .eq 40, 3) := by decide +kernel
theorem dX0_backward_35 : decode cX0_backward 35 = .ok (.aload_n 0, 1) := by decide +kernel
theorem dX0_backward_36 : decode cX0_backward 36 = .ok (.getfield 7, 3) := by decide +kernel
theorem dX0_backward_39 : decode cX0_backward 39 = .ok (.iload 4, 2) := by decide +kernel
theorem dX0_backward_41 : decode cX0_backward 41 = .ok (.baload, 1) := by decide +kernel
theorem dX0_backward_42 : decode cX0_backward 42 = .ok (.iconst 2, 1) := by decide +kernel
theorem dX0_backward_43 : decode cX0_backward 43 = .ok (.if_icmp .eq 29, 3) := by decide +kernel
theorem dX0_backward_46 : decode cX0_backward 46 = .ok (.aload_n 0, 1) := by decide +kernel
theorem dX0_backward_47 : decode cX0_backward 47 = .ok (.getfield 13, 3) := by decide +kernel
theorem dX0_backward_50 : decode cX0_backward 50 = .ok (.iload 4, 2) := by decide +kernel
theorem dX0_backward_52 : decode cX0_backward 52 = .ok (.baload, 1) := by decide +kernel
theorem dX0_backward_53 : decode cX0_backward 53 = .ok (.iload_n 1, 1) := by decide +kernel
theorem dX0_backward_54 : decode cX0_backward 54 = .ok (.if_icmp .ne 18, 3) := by decide +kernel
theorem dX0_backward_57 : decode cX0_backward 57 = .ok (.aload_n 0, 1) := by decide +kernel
theorem dX0_backward_58 : decode cX0_backward 58 = .ok (.iload 4, 2) := by decide +kernel
theorem dX0_backward_60 : decode cX0_backward 60 = .ok (.invokevirtual 85, 3) := by decide +kernel
theorem dX0_backward_63 : decode cX0_backward 63 = .ok (.ifCond .ne 9, 3) := by decide +kernel
theorem dX0_backward_66 : decode cX0_backward 66 = .ok (.iload 4, 2) := by decide +kernel
theorem dX0_backward_68 : decode cX0_backward 68 = .ok (.istore_n 2, 1) := by decide +kernel
theorem dX0_backward_69 : decode cX0_backward 69 = .ok (.iinc 3 1, 3) := by decide +kernel
theorem dX0_backward_72 : decode cX0_backward 72 = .ok (.iinc 4 1, 3) := by decide +kernel
theorem dX0_backward_75 : decode cX0_backward 75 = .ok (.goto (-56), 3) := by decide +kernel
theorem dX0_backward_78 : decode cX0_backward 78 = .ok (.iload_n 3, 1) := by decide +kernel
theorem dX0_backward_79 : decode cX0_backward 79 = .ok (.ifCond .ne 11, 3) := by decide +kernel
theorem dX0_backward_82 : decode cX0_backward 82 = .ok (.aload_n 0, 1) := by decide +kernel
theorem dX0_backward_83 : decode cX0_backward 83 = .ok (.iconst 1, 1) := by decide +kernel
theorem dX0_backward_84 : decode cX0_backward 84 = .ok (.putfield 59, 3) := by decide +kernel
theorem dX0_backward_87 : decode cX0_backward 87 = .ok (.goto 28, 3) := by decide +kernel
theorem dX0_backward_90 : decode cX0_backward 90 = .ok (.iload_n 3, 1) := by decide +kernel
theorem dX0_backward_91 : decode cX0_backward 91 = .ok (.iconst 1, 1) := by decide +kernel
theorem dX0_backward_92 : decode cX0_backward 92 = .ok (.if_icmp .ne 23, 3) := by decide +kernel
theorem dX0_backward_95 : decode cX0_backward 95 = .ok (.aload_n 0, 1) := by decide +kernel
theorem dX0_backward_96 : decode cX0_backward 96 = .ok (.aload_n 0, 1) := by decide +kernel
theorem dX0_backward_97 : decode cX0_backward 97 = .ok (.getfield 16, 3) := by decide +kernel
theorem dX0_backward_100 : decode cX0_backward 100 = .ok (.iload_n 2, 1) := by decide +kernel
theorem dX0_backward_101 : decode cX0_backward 101 = .ok (.baload, 1) := by decide +kernel
theorem dX0_backward_102 : decode cX0_backward 102 = .ok (.invokevirtual 82, 3) := by decide +kernel
theorem dX0_backward_105 : decode cX0_backward 105 = .ok (.aload_n 0, 1) := by decide +kernel
theorem dX0_backward_106 : decode cX0_backward 106 = .ok (.aload_n 0, 1) := by decide +kernel
theorem dX0_backward_107 : decode cX0_backward 107 = .ok (.getfield 19, 3) := by decide +kernel
theorem dX0_backward_110 : decode cX0_backward 110 = .ok (.iload_n 2, 1) := by decide +kernel
theorem dX0_backward_111 : decode cX0_backward 111 = .ok (.baload, 1) := by decide +kernel
theorem dX0_backward_112 : decode cX0_backward 112 = .ok (.invokevirtual 76, 3) := by decide +kernel
theorem dX0_backward_115 : decode cX0_backward 115 = .ok (.return_, 1) := by decide +kernel
theorem dX0_founded_0 : decode cX0_founded 0 = .ok (.iconst 0, 1) := by decide +kernel
theorem dX0_founded_1 : decode cX0_founded 1 = .ok (.istore_n 1, 1) := by decide +kernel
theorem dX0_founded_2 : decode cX0_founded 2 = .ok (.iconst 0, 1) := by decide +kernel
theorem dX0_founded_3 : decode cX0_founded 3 = .ok (.istore_n 2, 1) := by decide +kernel
theorem dX0_founded_4 : decode cX0_founded 4 = .ok (.iload_n 2, 1) := by decide +kernel
theorem dX0_founded_5 : decode cX0_founded 5 = .ok (.bipush 6, 2) := by decide +kernel
theorem dX0_founded_7 : decode cX0_founded 7 = .ok (.if_icmp .ge 101, 3) := by decide +kernel
theorem dX0_founded_10 : decode cX0_founded 10 = .ok (.iconst 0, 1) := by decide +kernel
theorem dX0_founded_11 : decode cX0_founded 11 = .ok (.istore_n 3, 1) := by decide +kernel
theorem dX0_founded_12 : decode cX0_founded 12 = .ok (.iload_n 3, 1) := by decide +kernel
theorem dX0_founded_13 : decode cX0_founded 13 = .ok (.bipush 10, 2) := by decide +kernel
theorem dX0_founded_15 : decode cX0_founded 15 = .ok (.if_icmp .ge 87, 3) := by decide +kernel
theorem dX0_founded_18 : decode cX0_founded 18 = .ok (.aload_n 0, 1) := by decide +kernel
theorem dX0_founded_19 : decode cX0_founded 19 = .ok (.iload_n 3, 1) := by decide +kernel
theorem dX0_founded_20 : decode cX0_founded 20 = .ok (.invokevirtual 42, 3) := by decide +kernel
theorem dX0_founded_23 : decode cX0_founded 23 = .ok (.ifCond .eq 41, 3) := by decide +kernel
theorem dX0_founded_26 : decode cX0_founded 26 = .ok (.aload_n 0, 1) := by decide +kernel
theorem dX0_founded_27 : decode cX0_founded 27 = .ok (.getfield 7, 3) := by decide +kernel
theorem dX0_founded_30 : decode cX0_founded 30 = .ok (.iload_n 3, 1) := by decide +kernel
theorem dX0_founded_31 : decode cX0_founded 31 = .ok (.baload, 1) := by decide +kernel
theorem dX0_founded_32 : decode cX0_founded 32 = .ok (.iconst 2, 1) := by decide +kernel
theorem dX0_founded_33 : decode cX0_founded 33 = .ok (.if_icmp .eq 31, 3) := by decide +kernel
theorem dX0_founded_36 : decode cX0_founded 36 = .ok (.aload_n 0, 1) := by decide +kernel
theorem dX0_founded_37 : decode cX0_founded 37 = .ok (.iload_n 3, 1) := by decide +kernel
theorem dX0_founded_38 : decode cX0_founded 38 = .ok (.invokevirtual 85, 3) := by decide +kernel
theorem dX0_founded_41 : decode cX0_founded 41 = .ok (.ifCond .ne 23, 3) := by decide +kernel
theorem dX0_founded_44 : decode cX0_founded 44 = .ok (.aload_n 0, 1) := by decide +kernel
theorem dX0_founded_45 : decode cX0_founded 45 = .ok (.getfield 62, 3) := by decide +kernel
theorem dX0_founded_48 : decode cX0_founded 48 = .ok (.aload_n 0, 1) := by decide +kernel
theorem dX0_founded_49 : decode cX0_founded 49 = .ok (.getfield 13, 3) := by decide +kernel
theorem dX0_founded_52 : decode cX0_founded 52 = .ok (.iload_n 3, 1) := by decide +kernel
theorem dX0_founded_53 : decode cX0_founded 53 = .ok (.baload, 1) := by decide +kernel
theorem dX0_founded_54 : decode cX0_founded 54 = .ok (.ishr, 1) := by decide +kernel
theorem dX0_founded_55 : decode cX0_founded 55 = .ok (.iconst 1, 1) := by decide +kernel
theorem dX0_founded_56 : decode cX0_founded 56 = .ok (.iand, 1) := by decide +kernel
theorem dX0_founded_57 : decode cX0_founded 57 = .ok (.ifCond .ne 7, 3) := by decide +kernel
theorem dX0_founded_60 : decode cX0_founded 60 = .ok (.iconst 1, 1) := by decide +kernel
theorem dX0_founded_61 : decode cX0_founded 61 = .ok (.goto 4, 3) := by decide +kernel
theorem dX0_founded_64 : decode cX0_founded 64 = .ok (.iconst 0, 1) := by decide +kernel
theorem dX0_founded_65 : decode cX0_founded 65 = .ok (.istore 4, 2) := by decide +kernel
theorem dX0_founded_67 : decode cX0_founded 67 = .ok (.iload 4, 2) := by decide +kernel
theorem dX0_founded_69 : decode cX0_founded 69 = .ok (.ifCond .eq 27, 3) := by decide +kernel
theorem dX0_founded_72 : decode cX0_founded 72 = .ok (.aload_n 0, 1) := by decide +kernel
theorem dX0_founded_73 : decode cX0_founded 73 = .ok (.getfield 16, 3) := by decide +kernel
theorem dX0_founded_76 : decode cX0_founded 76 = .ok (.iload_n 3, 1) := by decide +kernel
theorem dX0_founded_77 : decode cX0_founded 77 = .ok (.baload, 1) := by decide +kernel
theorem dX0_founded_78 : decode cX0_founded 78 = .ok (.iload_n 1, 1) := by decide +kernel
theorem dX0_founded_79 : decode cX0_founded 79 = .ok (.iconst (-1), 1) := by decide +kernel
theorem dX0_founded_80 : decode cX0_founded 80 = .ok (.ixor, 1) := by decide +kernel
theorem dX0_founded_81 : decode cX0_founded 81 = .ok (.iand, 1) := by decide +kernel
theorem dX0_founded_82 : decode cX0_founded 82 = .ok (.ifCond .ne 14, 3) := by decide +kernel
theorem dX0_founded_85 : decode cX0_founded 85 = .ok (.iload_n 1, 1) := by decide +kernel
theorem dX0_founded_86 : decode cX0_founded 86 = .ok (.iconst 1, 1) := by decide +kernel
theorem dX0_founded_87 : decode cX0_founded 87 = .ok (.aload_n 0, 1) := by decide +kernel
theorem dX0_founded_88 : decode cX0_founded 88 = .ok (.getfield 13, 3) := by decide +kernel
end
section
set_option maxRecDepth 100000
theorem dX0_founded_91 : decode cX0_founded 91 = .ok (.iload_n 3, 1) := by decide +kernel
theorem dX0_founded_92 : decode cX0_founded 92 = .ok (.baload, 1) := by decide +kernel
theorem dX0_founded_93 : decode cX0_founded 93 = .ok (.ishl, 1) := by decide +kernel
theorem dX0_founded_94 : decode cX0_founded 94 = .ok (.ior, 1) := by decide +kernel
theorem dX0_founded_95 : decode cX0_founded 95 = .ok (.istore_n 1, 1) := by decide +kernel
theorem dX0_founded_96 : decode cX0_founded 96 = .ok (.iinc 3 1, 3) := by decide +kernel
theorem dX0_founded_99 : decode cX0_founded 99 = .ok (.goto (-87), 3) := by decide +kernel
theorem dX0_founded_102 : decode cX0_founded 102 = .ok (.iinc 2 1, 3) := by decide +kernel
theorem dX0_founded_105 : decode cX0_founded 105 = .ok (.goto (-101), 3) := by decide +kernel
theorem dX0_founded_108 : decode cX0_founded 108 = .ok (.iload_n 1, 1) := by decide +kernel
theorem dX0_founded_109 : decode cX0_founded 109 = .ok (.ireturn, 1) := by decide +kernel
theorem dX0_open_0 : decode cX0_open 0 = .ok (.aload_n 0, 1) := by decide +kernel
theorem dX0_open_1 : decode cX0_open 1 = .ok (.getfield 22, 3) := by decide +kernel
theorem dX0_open_4 : decode cX0_open 4 = .ok (.iload_n 1, 1) := by decide +kernel
theorem dX0_open_5 : decode cX0_open 5 = .ok (.aload_n 0, 1) := by decide +kernel
theorem dX0_open_6 : decode cX0_open 6 = .ok (.getfield 53, 3) := by decide +kernel
theorem dX0_open_9 : decode cX0_open 9 = .ok (.i2b, 1) := by decide +kernel
theorem dX0_open_10 : decode cX0_open 10 = .ok (.bastore, 1) := by decide +kernel
theorem dX0_open_11 : decode cX0_open 11 = .ok (.aload_n 0, 1) := by decide +kernel
theorem dX0_open_12 : decode cX0_open 12 = .ok (.getfield 25, 3) := by decide +kernel
theorem dX0_open_15 : decode cX0_open 15 = .ok (.iload_n 1, 1) := by decide +kernel
theorem dX0_open_16 : decode cX0_open 16 = .ok (.aload_n 0, 1) := by decide +kernel
theorem dX0_open_17 : decode cX0_open 17 = .ok (.getfield 62, 3) := by decide +kernel
theorem dX0_open_20 : decode cX0_open 20 = .ok (.i2b, 1) := by decide +kernel
theorem dX0_open_21 : decode cX0_open 21 = .ok (.bastore, 1) := by decide +kernel
theorem dX0_open_22 : decode cX0_open 22 = .ok (.aload_n 0, 1) := by decide +kernel
theorem dX0_open_23 : decode cX0_open 23 = .ok (.getfield 31, 3) := by decide +kernel
theorem dX0_open_26 : decode cX0_open 26 = .ok (.iload_n 1, 1) := by decide +kernel
theorem dX0_open_27 : decode cX0_open 27 = .ok (.iconst 0, 1) := by decide +kernel
theorem dX0_open_28 : decode cX0_open 28 = .ok (.bastore, 1) := by decide +kernel
theorem dX0_open_29 : decode cX0_open 29 = .ok (.iconst 0, 1) := by decide +kernel
theorem dX0_open_30 : decode cX0_open 30 = .ok (.istore_n 2, 1) := by decide +kernel
theorem dX0_open_31 : decode cX0_open 31 = .ok (.aload_n 0, 1) := by decide +kernel
theorem dX0_open_32 : decode cX0_open 32 = .ok (.getfield 53, 3) := by decide +kernel
theorem dX0_open_35 : decode cX0_open 35 = .ok (.aload_n 0, 1) := by decide +kernel
theorem dX0_open_36 : decode cX0_open 36 = .ok (.getfield 62, 3) := by decide +kernel
theorem dX0_open_39 : decode cX0_open 39 = .ok (.ior, 1) := by decide +kernel
theorem dX0_open_40 : decode cX0_open 40 = .ok (.iload_n 2, 1) := by decide +kernel
theorem dX0_open_41 : decode cX0_open 41 = .ok (.ishr, 1) := by decide +kernel
theorem dX0_open_42 : decode cX0_open 42 = .ok (.iconst 1, 1) := by decide +kernel
theorem dX0_open_43 : decode cX0_open 43 = .ok (.iand, 1) := by decide +kernel
theorem dX0_open_44 : decode cX0_open 44 = .ok (.ifCond .eq 9, 3) := by decide +kernel
theorem dX0_open_47 : decode cX0_open 47 = .ok (.iinc 2 1, 3) := by decide +kernel
theorem dX0_open_50 : decode cX0_open 50 = .ok (.goto (-19), 3) := by decide +kernel
theorem dX0_open_53 : decode cX0_open 53 = .ok (.aload_n 0, 1) := by decide +kernel
theorem dX0_open_54 : decode cX0_open 54 = .ok (.getfield 28, 3) := by decide +kernel
theorem dX0_open_57 : decode cX0_open 57 = .ok (.iload_n 1, 1) := by decide +kernel
theorem dX0_open_58 : decode cX0_open 58 = .ok (.iload_n 2, 1) := by decide +kernel
theorem dX0_open_59 : decode cX0_open 59 = .ok (.i2b, 1) := by decide +kernel
theorem dX0_open_60 : decode cX0_open 60 = .ok (.bastore, 1) := by decide +kernel
theorem dX0_open_61 : decode cX0_open 61 = .ok (.return_, 1) := by decide +kernel
theorem dX0_tryNext_0 : decode cX0_tryNext 0 = .ok (.aload_n 0, 1) := by decide +kernel
theorem dX0_tryNext_1 : decode cX0_tryNext 1 = .ok (.aload_n 0, 1) := by decide +kernel
theorem dX0_tryNext_2 : decode cX0_tryNext 2 = .ok (.getfield 22, 3) := by decide +kernel
theorem dX0_tryNext_5 : decode cX0_tryNext 5 = .ok (.iload_n 1, 1) := by decide +kernel
theorem dX0_tryNext_6 : decode cX0_tryNext 6 = .ok (.baload, 1) := by decide +kernel
theorem dX0_tryNext_7 : decode cX0_tryNext 7 = .ok (.putfield 53, 3) := by decide +kernel
theorem dX0_tryNext_10 : decode cX0_tryNext 10 = .ok (.aload_n 0, 1) := by decide +kernel
theorem dX0_tryNext_11 : decode cX0_tryNext 11 = .ok (.aload_n 0, 1) := by decide +kernel
theorem dX0_tryNext_12 : decode cX0_tryNext 12 = .ok (.getfield 25, 3) := by decide +kernel
theorem dX0_tryNext_15 : decode cX0_tryNext 15 = .ok (.iload_n 1, 1) := by decide +kernel
theorem dX0_tryNext_16 : decode cX0_tryNext 16 = .ok (.baload, 1) := by decide +kernel
theorem dX0_tryNext_17 : decode cX0_tryNext 17 = .ok (.putfield 62, 3) := by decide +kernel
theorem dX0_tryNext_20 : decode cX0_tryNext 20 = .ok (.aload_n 0, 1) := by decide +kernel
theorem dX0_tryNext_21 : decode cX0_tryNext 21 = .ok (.iconst 0, 1) := by decide +kernel
theorem dX0_tryNext_22 : decode cX0_tryNext 22 = .ok (.putfield 59, 3) := by decide +kernel
theorem dX0_tryNext_25 : decode cX0_tryNext 25 = .ok (.iconst 1, 1) := by decide +kernel
theorem dX0_tryNext_26 : decode cX0_tryNext 26 = .ok (.aload_n 0, 1) := by decide +kernel
theorem dX0_tryNext_27 : decode cX0_tryNext 27 = .ok (.getfield 28, 3) := by decide +kernel
theorem dX0_tryNext_30 : decode cX0_tryNext 30 = .ok (.iload_n 1, 1) := by decide +kernel
theorem dX0_tryNext_31 : decode cX0_tryNext 31 = .ok (.baload, 1) := by decide +kernel
theorem dX0_tryNext_32 : decode cX0_tryNext 32 = .ok (.ishl, 1) := by decide +kernel
theorem dX0_tryNext_33 : decode cX0_tryNext 33 = .ok (.istore_n 2, 1) := by decide +kernel
theorem dX0_tryNext_34 : decode cX0_tryNext 34 = .ok (.aload_n 0, 1) := by decide +kernel
theorem dX0_tryNext_35 : decode cX0_tryNext 35 = .ok (.getfield 31, 3) := by decide +kernel
theorem dX0_tryNext_38 : decode cX0_tryNext 38 = .ok (.iload_n 1, 1) := by decide +kernel
theorem dX0_tryNext_39 : decode cX0_tryNext 39 = .ok (.baload, 1) := by decide +kernel
theorem dX0_tryNext_40 : decode cX0_tryNext 40 = .ok (.ifCond .ne 16, 3) := by decide +kernel
theorem dX0_tryNext_43 : decode cX0_tryNext 43 = .ok (.aload_n 0, 1) := by decide +kernel
theorem dX0_tryNext_44 : decode cX0_tryNext 44 = .ok (.dup, 1) := by decide +kernel
theorem dX0_tryNext_45 : decode cX0_tryNext 45 = .ok (.getfield 62, 3) := by decide +kernel
theorem dX0_tryNext_48 : decode cX0_tryNext 48 = .ok (.iload_n 2, 1) := by decide +kernel
theorem dX0_tryNext_49 : decode cX0_tryNext 49 = .ok (.ior, 1) := by decide +kernel
theorem dX0_tryNext_50 : decode cX0_tryNext 50 = .ok (.putfield 62, 3) := by decide +kernel
theorem dX0_tryNext_53 : decode cX0_tryNext 53 = .ok (.goto 13, 3) := by decide +kernel
theorem dX0_tryNext_56 : decode cX0_tryNext 56 = .ok (.aload_n 0, 1) := by decide +kernel
theorem dX0_tryNext_57 : decode cX0_tryNext 57 = .ok (.dup, 1) := by decide +kernel
theorem dX0_tryNext_58 : decode cX0_tryNext 58 = .ok (.getfield 53, 3) := by decide +kernel
theorem dX0_tryNext_61 : decode cX0_tryNext 61 = .ok (.iload_n 2, 1) := by decide +kernel
theorem dX0_tryNext_62 : decode cX0_tryNext 62 = .ok (.ior, 1) := by decide +kernel
theorem dX0_tryNext_63 : decode cX0_tryNext 63 = .ok (.putfield 53, 3) := by decide +kernel
theorem dX0_tryNext_66 : decode cX0_tryNext 66 = .ok (.aload_n 0, 1) := by decide +kernel
theorem dX0_tryNext_67 : decode cX0_tryNext 67 = .ok (.getfield 31, 3) := by decide +kernel
theorem dX0_tryNext_70 : decode cX0_tryNext 70 = .ok (.iload_n 1, 1) := by decide +kernel
theorem dX0_tryNext_71 : decode cX0_tryNext 71 = .ok (.dup2, 1) := by decide +kernel
theorem dX0_tryNext_72 : decode cX0_tryNext 72 = .ok (.baload, 1) := by decide +kernel
theorem dX0_tryNext_73 : decode cX0_tryNext 73 = .ok (.iconst 1, 1) := by decide +kernel
theorem dX0_tryNext_74 : decode cX0_tryNext 74 = .ok (.iadd, 1) := by decide +kernel
theorem dX0_tryNext_75 : decode cX0_tryNext 75 = .ok (.i2b, 1) := by decide +kernel
theorem dX0_tryNext_76 : decode cX0_tryNext 76 = .ok (.bastore, 1) := by decide +kernel
theorem dX0_tryNext_77 : decode cX0_tryNext 77 = .ok (.aload_n 0, 1) := by decide +kernel
theorem dX0_tryNext_78 : decode cX0_tryNext 78 = .ok (.invokevirtual 95, 3) := by decide +kernel
theorem dX0_tryNext_81 : decode cX0_tryNext 81 = .ok (.return_, 1) := by decide +kernel
theorem dX0_isModel_0 : decode cX0_isModel 0 = .ok (.aload_n 0, 1) := by decide +kernel
theorem dX0_isModel_1 : decode cX0_isModel 1 = .ok (.getfield 91, 3) := by decide +kernel
theorem dX0_isModel_4 : decode cX0_isModel 4 = .ok (.iload_n 1, 1) := by decide +kernel
theorem dX0_isModel_5 : decode cX0_isModel 5 = .ok (.lushr, 1) := by decide +kernel
theorem dX0_isModel_6 : decode cX0_isModel 6 = .ok (.lconst 1, 1) := by decide +kernel
theorem dX0_isModel_7 : decode cX0_isModel 7 = .ok (.land, 1) := by decide +kernel
theorem dX0_isModel_8 : decode cX0_isModel 8 = .ok (.lconst 0, 1) := by decide +kernel
theorem dX0_isModel_9 : decode cX0_isModel 9 = .ok (.lcmp, 1) := by decide +kernel
theorem dX0_isModel_10 : decode cX0_isModel 10 = .ok (.ifCond .eq 7, 3) := by decide +kernel
theorem dX0_isModel_13 : decode cX0_isModel 13 = .ok (.iconst 1, 1) := by decide +kernel
theorem dX0_isModel_14 : decode cX0_isModel 14 = .ok (.goto 4, 3) := by decide +kernel
theorem dX0_isModel_17 : decode cX0_isModel 17 = .ok (.iconst 0, 1) := by decide +kernel
theorem dX0_isModel_18 : decode cX0_isModel 18 = .ok (.ireturn, 1) := by decide +kernel
theorem dX0_models_0 : decode cX0_models 0 = .ok (.aload_n 0, 1) := by decide +kernel
theorem dX0_models_1 : decode cX0_models 1 = .ok (.invokevirtual 104, 3) := by decide +kernel
theorem dX0_models_4 : decode cX0_models 4 = .ok (.iconst 0, 1) := by decide +kernel
theorem dX0_models_5 : decode cX0_models 5 = .ok (.istore_n 1, 1) := by decide +kernel
theorem dX0_models_6 : decode cX0_models 6 = .ok (.iconst 0, 1) := by decide +kernel
theorem dX0_models_7 : decode cX0_models 7 = .ok (.istore_n 2, 1) := by decide +kernel
theorem dX0_models_8 : decode cX0_models 8 = .ok (.iload_n 2, 1) := by decide +kernel
theorem dX0_models_9 : decode cX0_models 9 = .ok (.bipush 63, 2) := by decide +kernel
theorem dX0_models_11 : decode cX0_models 11 = .ok (.if_icmp .gt 25, 3) := by decide +kernel
theorem dX0_models_14 : decode cX0_models 14 = .ok (.iload_n 1, 1) := by decide +kernel
theorem dX0_models_15 : decode cX0_models 15 = .ok (.aload_n 0, 1) := by decide +kernel
theorem dX0_models_16 : decode cX0_models 16 = .ok (.iload_n 2, 1) := by decide +kernel
theorem dX0_models_17 : decode cX0_models 17 = .ok (.invokevirtual 107, 3) := by decide +kernel
theorem dX0_models_20 : decode cX0_models 20 = .ok (.ifCond .eq 7, 3) := by decide +kernel
theorem dX0_models_23 : decode cX0_models 23 = .ok (.iconst 1, 1) := by decide +kernel
theorem dX0_models_24 : decode cX0_models 24 = .ok (.goto 4, 3) := by decide +kernel
theorem dX0_models_27 : decode cX0_models 27 = .ok (.iconst 0, 1) := by decide +kernel
theorem dX0_models_28 : decode cX0_models 28 = .ok (.iadd, 1) := by decide +kernel
theorem dX0_models_29 : decode cX0_models 29 = .ok (.istore_n 1, 1) := by decide +kernel
theorem dX0_models_30 : decode cX0_models 30 = .ok (.iinc 2 1, 3) := by decide +kernel
theorem dX0_models_33 : decode cX0_models 33 = .ok (.goto (-25), 3) := by decide +kernel
theorem dX0_models_36 : decode cX0_models 36 = .ok (.iload_n 1, 1) := by decide +kernel
theorem dX0_models_37 : decode cX0_models 37 = .ok (.ireturn, 1) := by decide +kernel
theorem dX0_model_0 : decode cX0_model 0 = .ok (.aload_n 0, 1) := by decide +kernel
theorem dX0_model_1 : decode cX0_model 1 = .ok (.invokevirtual 104, 3) := by decide +kernel
theorem dX0_model_4 : decode cX0_model 4 = .ok (.iconst 0, 1) := by decide +kernel
theorem dX0_model_5 : decode cX0_model 5 = .ok (.istore_n 2, 1) := by decide +kernel
theorem dX0_model_6 : decode cX0_model 6 = .ok (.iconst 0, 1) := by decide +kernel
theorem dX0_model_7 : decode cX0_model 7 = .ok (.istore_n 3, 1) := by decide +kernel
theorem dX0_model_8 : decode cX0_model 8 = .ok (.iload_n 3, 1) := by decide +kernel
theorem dX0_model_9 : decode cX0_model 9 = .ok (.bipush 63, 2) := by decide +kernel
theorem dX0_model_11 : decode cX0_model 11 = .ok (.if_icmp .gt 27, 3) := by decide +kernel
theorem dX0_model_14 : decode cX0_model 14 = .ok (.aload_n 0, 1) := by decide +kernel
theorem dX0_model_15 : decode cX0_model 15 = .ok (.iload_n 3, 1) := by decide +kernel
theorem dX0_model_16 : decode cX0_model 16 = .ok (.invokevirtual 107, 3) := by decide +kernel
theorem dX0_model_19 : decode cX0_model 19 = .ok (.ifCond .eq 13, 3) := by decide +kernel
theorem dX0_model_22 : decode cX0_model 22 = .ok (.iload_n 2, 1) := by decide +kernel
theorem dX0_model_23 : decode cX0_model 23 = .ok (.iload_n 1, 1) := by decide +kernel
theorem dX0_model_24 : decode cX0_model 24 = .ok (.if_icmp .ne 5, 3) := by decide +kernel
theorem dX0_model_27 : decode cX0_model 27 = .ok (.iload_n 3, 1) := by decide +kernel
theorem dX0_model_28 : decode cX0_model 28 = .ok (.ireturn, 1) := by decide +kernel
theorem dX0_model_29 : decode cX0_model 29 = .ok (.iinc 2 1, 3) := by decide +kernel
theorem dX0_model_32 : decode cX0_model 32 = .ok (.iinc 3 1, 3) := by decide +kernel
theorem dX0_model_35 : decode cX0_model 35 = .ok (.goto (-27), 3) := by decide +kernel
theorem dX0_model_38 : decode cX0_model 38 = .ok (.iconst (-1), 1) := by decide +kernel
theorem dX0_model_39 : decode cX0_model 39 = .ok (.ireturn, 1) := by decide +kernel
theorem dX0_brave_0 : decode cX0_brave 0 = .ok (.aload_n 0, 1) := by decide +kernel
theorem dX0_brave_1 : decode cX0_brave 1 = .ok (.invokevirtual 104, 3) := by decide +kernel
theorem dX0_brave_4 : decode cX0_brave 4 = .ok (.iconst 0, 1) := by decide +kernel
theorem dX0_brave_5 : decode cX0_brave 5 = .ok (.istore_n 1, 1) := by decide +kernel
theorem dX0_brave_6 : decode cX0_brave 6 = .ok (.iconst 0, 1) := by decide +kernel
theorem dX0_brave_7 : decode cX0_brave 7 = .ok (.istore_n 2, 1) := by decide +kernel
theorem dX0_brave_8 : decode cX0_brave 8 = .ok (.iload_n 2, 1) := by decide +kernel
theorem dX0_brave_9 : decode cX0_brave 9 = .ok (.bipush 63, 2) := by decide +kernel
theorem dX0_brave_11 : decode cX0_brave 11 = .ok (.if_icmp .gt 25, 3) := by decide +kernel
theorem dX0_brave_14 : decode cX0_brave 14 = .ok (.iload_n 1, 1) := by decide +kernel
theorem dX0_brave_15 : decode cX0_brave 15 = .ok (.aload_n 0, 1) := by decide +kernel
theorem dX0_brave_16 : decode cX0_brave 16 = .ok (.iload_n 2, 1) := by decide +kernel
theorem dX0_brave_17 : decode cX0_brave 17 = .ok (.invokevirtual 107, 3) := by decide +kernel
theorem dX0_brave_20 : decode cX0_brave 20 = .ok (.ifCond .eq 7, 3) := by decide +kernel
theorem dX0_brave_23 : decode cX0_brave 23 = .ok (.iload_n 2, 1) := by decide +kernel
theorem dX0_brave_24 : decode cX0_brave 24 = .ok (.goto 4, 3) := by decide +kernel
theorem dX0_brave_27 : decode cX0_brave 27 = .ok (.iconst 0, 1) := by decide +kernel
theorem dX0_brave_28 : decode cX0_brave 28 = .ok (.ior, 1) := by decide +kernel
theorem dX0_brave_29 : decode cX0_brave 29 = .ok (.istore_n 1, 1) := by decide +kernel
theorem dX0_brave_30 : decode cX0_brave 30 = .ok (.iinc 2 1, 3) := by decide +kernel
theorem dX0_brave_33 : decode cX0_brave 33 = .ok (.goto (-25), 3) := by decide +kernel
theorem dX0_brave_36 : decode cX0_brave 36 = .ok (.iload_n 1, 1) := by decide +kernel
theorem dX0_brave_37 : decode cX0_brave 37 = .ok (.ireturn, 1) := by decide +kernel
theorem dX0_cautious_0 : decode cX0_cautious 0 = .ok (.aload_n 0, 1) := by decide +kernel
theorem dX0_cautious_1 : decode cX0_cautious 1 = .ok (.invokevirtual 104, 3) := by decide +kernel
theorem dX0_cautious_4 : decode cX0_cautious 4 = .ok (.bipush 63, 2) := by decide +kernel
theorem dX0_cautious_6 : decode cX0_cautious 6 = .ok (.istore_n 1, 1) := by decide +kernel
theorem dX0_cautious_7 : decode cX0_cautious 7 = .ok (.iconst 0, 1) := by decide +kernel
theorem dX0_cautious_8 : decode cX0_cautious 8 = .ok (.istore_n 2, 1) := by decide +kernel
theorem dX0_cautious_9 : decode cX0_cautious 9 = .ok (.iload_n 2, 1) := by decide +kernel
theorem dX0_cautious_10 : decode cX0_cautious 10 = .ok (.bipush 63, 2) := by decide +kernel
theorem dX0_cautious_12 : decode cX0_cautious 12 = .ok (.if_icmp .gt 26, 3) := by decide +kernel
theorem dX0_cautious_15 : decode cX0_cautious 15 = .ok (.iload_n 1, 1) := by decide +kernel
theorem dX0_cautious_16 : decode cX0_cautious 16 = .ok (.aload_n 0, 1) := by decide +kernel
theorem dX0_cautious_17 : decode cX0_cautious 17 = .ok (.iload_n 2, 1) := by decide +kernel
theorem dX0_cautious_18 : decode cX0_cautious 18 = .ok (.invokevirtual 107, 3) := by decide +kernel
theorem dX0_cautious_21 : decode cX0_cautious 21 = .ok (.ifCond .eq 7, 3) := by decide +kernel
theorem dX0_cautious_24 : decode cX0_cautious 24 = .ok (.iload_n 2, 1) := by decide +kernel
theorem dX0_cautious_25 : decode cX0_cautious 25 = .ok (.goto 5, 3) := by decide +kernel
theorem dX0_cautious_28 : decode cX0_cautious 28 = .ok (.bipush 63, 2) := by decide +kernel
theorem dX0_cautious_30 : decode cX0_cautious 30 = .ok (.iand, 1) := by decide +kernel
theorem dX0_cautious_31 : decode cX0_cautious 31 = .ok (.istore_n 1, 1) := by decide +kernel
theorem dX0_cautious_32 : decode cX0_cautious 32 = .ok (.iinc 2 1, 3) := by decide +kernel
theorem dX0_cautious_35 : decode cX0_cautious 35 = .ok (.goto (-26), 3) := by decide +kernel
theorem dX0_cautious_38 : decode cX0_cautious 38 = .ok (.iload_n 1, 1) := by decide +kernel
theorem dX0_cautious_39 : decode cX0_cautious 39 = .ok (.ireturn, 1) := by decide +kernel
theorem dX0_find_0 : decode cX0_find 0 = .ok (.iload_n 1, 1) := by decide +kernel
theorem dX0_find_1 : decode cX0_find 1 = .ok (.invokestatic 38, 3) := by decide +kernel
theorem dX0_find_4 : decode cX0_find 4 = .ok (.ifCond .eq 10, 3) := by decide +kernel
theorem dX0_find_7 : decode cX0_find 7 = .ok (.iload_n 2, 1) := by decide +kernel
theorem dX0_find_8 : decode cX0_find 8 = .ok (.invokestatic 38, 3) := by decide +kernel
theorem dX0_find_11 : decode cX0_find 11 = .ok (.ifCond .ne 5, 3) := by decide +kernel
theorem dX0_find_14 : decode cX0_find 14 = .ok (.iconst (-1), 1) := by decide +kernel
theorem dX0_find_15 : decode cX0_find 15 = .ok (.ireturn, 1) := by decide +kernel
theorem dX0_find_16 : decode cX0_find 16 = .ok (.aload_n 0, 1) := by decide +kernel
theorem dX0_find_17 : decode cX0_find 17 = .ok (.invokevirtual 104, 3) := by decide +kernel
theorem dX0_find_20 : decode cX0_find 20 = .ok (.iconst 0, 1) := by decide +kernel
theorem dX0_find_21 : decode cX0_find 21 = .ok (.istore_n 3, 1) := by decide +kernel
theorem dX0_find_22 : decode cX0_find 22 = .ok (.iload_n 3, 1) := by decide +kernel
theorem dX0_find_23 : decode cX0_find 23 = .ok (.bipush 63, 2) := by decide +kernel
theorem dX0_find_25 : decode cX0_find 25 = .ok (.if_icmp .gt 33, 3) := by decide +kernel
theorem dX0_find_28 : decode cX0_find 28 = .ok (.aload_n 0, 1) := by decide +kernel
theorem dX0_find_29 : decode cX0_find 29 = .ok (.iload_n 3, 1) := by decide +kernel
theorem dX0_find_30 : decode cX0_find 30 = .ok (.invokevirtual 107, 3) := by decide +kernel
theorem dX0_find_33 : decode cX0_find 33 = .ok (.ifCond .eq 19, 3) := by decide +kernel
theorem dX0_find_36 : decode cX0_find 36 = .ok (.iload_n 1, 1) := by decide +kernel
theorem dX0_find_37 : decode cX0_find 37 = .ok (.iload_n 3, 1) := by decide +kernel
theorem dX0_find_38 : decode cX0_find 38 = .ok (.iconst (-1), 1) := by decide +kernel
theorem dX0_find_39 : decode cX0_find 39 = .ok (.ixor, 1) := by decide +kernel
theorem dX0_find_40 : decode cX0_find 40 = .ok (.iand, 1) := by decide +kernel
theorem dX0_find_41 : decode cX0_find 41 = .ok (.ifCond .ne 11, 3) := by decide +kernel
theorem dX0_find_44 : decode cX0_find 44 = .ok (.iload_n 2, 1) := by decide +kernel
theorem dX0_find_45 : decode cX0_find 45 = .ok (.iload_n 3, 1) := by decide +kernel
theorem dX0_find_46 : decode cX0_find 46 = .ok (.iand, 1) := by decide +kernel
theorem dX0_find_47 : decode cX0_find 47 = .ok (.ifCond .ne 5, 3) := by decide +kernel
theorem dX0_find_50 : decode cX0_find 50 = .ok (.iload_n 3, 1) := by decide +kernel
theorem dX0_find_51 : decode cX0_find 51 = .ok (.ireturn, 1) := by decide +kernel
theorem dX0_find_52 : decode cX0_find 52 = .ok (.iinc 3 1, 3) := by decide +kernel
theorem dX0_find_55 : decode cX0_find 55 = .ok (.goto (-33), 3) := by decide +kernel
theorem dX0_find_58 : decode cX0_find 58 = .ok (.iconst (-1), 1) := by decide +kernel
theorem dX0_find_59 : decode cX0_find 59 = .ok (.ireturn, 1) := by decide +kernel
theorem dX0_fewest_0 : decode cX0_fewest 0 = .ok (.aload_n 0, 1) := by decide +kernel
theorem dX0_fewest_1 : decode cX0_fewest 1 = .ok (.invokevirtual 104, 3) := by decide +kernel
theorem dX0_fewest_4 : decode cX0_fewest 4 = .ok (.iconst (-1), 1) := by decide +kernel
theorem dX0_fewest_5 : decode cX0_fewest 5 = .ok (.istore_n 1, 1) := by decide +kernel
theorem dX0_fewest_6 : decode cX0_fewest 6 = .ok (.iconst 0, 1) := by decide +kernel
theorem dX0_fewest_7 : decode cX0_fewest 7 = .ok (.istore_n 2, 1) := by decide +kernel
theorem dX0_fewest_8 : decode cX0_fewest 8 = .ok (.iload_n 2, 1) := by decide +kernel
theorem dX0_fewest_9 : decode cX0_fewest 9 = .ok (.bipush 63, 2) := by decide +kernel
theorem dX0_fewest_11 : decode cX0_fewest 11 = .ok (.if_icmp .gt 41, 3) := by decide +kernel
theorem dX0_fewest_14 : decode cX0_fewest 14 = .ok (.aload_n 0, 1) := by decide +kernel
theorem dX0_fewest_15 : decode cX0_fewest 15 = .ok (.iload_n 2, 1) := by decide +kernel
theorem dX0_fewest_16 : decode cX0_fewest 16 = .ok (.invokevirtual 107, 3) := by decide +kernel
theorem dX0_fewest_19 : decode cX0_fewest 19 = .ok (.ifCond .eq 10, 3) := by decide +kernel
theorem dX0_fewest_22 : decode cX0_fewest 22 = .ok (.iload_n 2, 1) := by decide +kernel
theorem dX0_fewest_23 : decode cX0_fewest 23 = .ok (.invokestatic 88, 3) := by decide +kernel
theorem dX0_fewest_26 : decode cX0_fewest 26 = .ok (.goto 4, 3) := by decide +kernel
theorem dX0_fewest_29 : decode cX0_fewest 29 = .ok (.iconst (-1), 1) := by decide +kernel
theorem dX0_fewest_30 : decode cX0_fewest 30 = .ok (.istore_n 3, 1) := by decide +kernel
theorem dX0_fewest_31 : decode cX0_fewest 31 = .ok (.iload_n 3, 1) := by decide +kernel
theorem dX0_fewest_32 : decode cX0_fewest 32 = .ok (.ifCond .lt 14, 3) := by decide +kernel
theorem dX0_fewest_35 : decode cX0_fewest 35 = .ok (.iload_n 1, 1) := by decide +kernel
theorem dX0_fewest_36 : decode cX0_fewest 36 = .ok (.ifCond .lt 8, 3) := by decide +kernel
theorem dX0_fewest_39 : decode cX0_fewest 39 = .ok (.iload_n 3, 1) := by decide +kernel
theorem dX0_fewest_40 : decode cX0_fewest 40 = .ok (.iload_n 1, 1) := by decide +kernel
theorem dX0_fewest_41 : decode cX0_fewest 41 = .ok (.if_icmp .ge 5, 3) := by decide +kernel
theorem dX0_fewest_44 : decode cX0_fewest 44 = .ok (.iload_n 3, 1) := by decide +kernel
theorem dX0_fewest_45 : decode cX0_fewest 45 = .ok (.istore_n 1, 1) := by decide +kernel
theorem dX0_fewest_46 : decode cX0_fewest 46 = .ok (.iinc 2 1, 3) := by decide +kernel
theorem dX0_fewest_49 : decode cX0_fewest 49 = .ok (.goto (-41), 3) := by decide +kernel
theorem dX0_fewest_52 : decode cX0_fewest 52 = .ok (.iload_n 1, 1) := by decide +kernel
theorem dX0_fewest_53 : decode cX0_fewest 53 = .ok (.ireturn, 1) := by decide +kernel
theorem dX0_maximal_0 : decode cX0_maximal 0 = .ok (.aload_n 0, 1) := by decide +kernel
theorem dX0_maximal_1 : decode cX0_maximal 1 = .ok (.invokevirtual 104, 3) := by decide +kernel
theorem dX0_maximal_4 : decode cX0_maximal 4 = .ok (.iconst 0, 1) := by decide +kernel
theorem dX0_maximal_5 : decode cX0_maximal 5 = .ok (.istore_n 1, 1) := by decide +kernel
theorem dX0_maximal_6 : decode cX0_maximal 6 = .ok (.iconst 0, 1) := by decide +kernel
theorem dX0_maximal_7 : decode cX0_maximal 7 = .ok (.istore_n 2, 1) := by decide +kernel
theorem dX0_maximal_8 : decode cX0_maximal 8 = .ok (.iload_n 2, 1) := by decide +kernel
theorem dX0_maximal_9 : decode cX0_maximal 9 = .ok (.bipush 63, 2) := by decide +kernel
theorem dX0_maximal_11 : decode cX0_maximal 11 = .ok (.if_icmp .gt 33, 3) := by decide +kernel
theorem dX0_maximal_14 : decode cX0_maximal 14 = .ok (.iload_n 1, 1) := by decide +kernel
theorem dX0_maximal_15 : decode cX0_maximal 15 = .ok (.aload_n 0, 1) := by decide +kernel
theorem dX0_maximal_16 : decode cX0_maximal 16 = .ok (.iload_n 2, 1) := by decide +kernel
theorem dX0_maximal_17 : decode cX0_maximal 17 = .ok (.invokevirtual 107, 3) := by decide +kernel
theorem dX0_maximal_20 : decode cX0_maximal 20 = .ok (.ifCond .eq 15, 3) := by decide +kernel
theorem dX0_maximal_23 : decode cX0_maximal 23 = .ok (.aload_n 0, 1) := by decide +kernel
theorem dX0_maximal_24 : decode cX0_maximal 24 = .ok (.iload_n 2, 1) := by decide +kernel
theorem dX0_maximal_25 : decode cX0_maximal 25 = .ok (.invokevirtual 110, 3) := by decide +kernel
theorem dX0_maximal_28 : decode cX0_maximal 28 = .ok (.ifCond .eq 7, 3) := by decide +kernel
theorem dX0_maximal_31 : decode cX0_maximal 31 = .ok (.iconst 1, 1) := by decide +kernel
theorem dX0_maximal_32 : decode cX0_maximal 32 = .ok (.goto 4, 3) := by decide +kernel
theorem dX0_maximal_35 : decode cX0_maximal 35 = .ok (.iconst 0, 1) := by decide +kernel
theorem dX0_maximal_36 : decode cX0_maximal 36 = .ok (.iadd, 1) := by decide +kernel
theorem dX0_maximal_37 : decode cX0_maximal 37 = .ok (.istore_n 1, 1) := by decide +kernel
theorem dX0_maximal_38 : decode cX0_maximal 38 = .ok (.iinc 2 1, 3) := by decide +kernel
theorem dX0_maximal_41 : decode cX0_maximal 41 = .ok (.goto (-33), 3) := by decide +kernel
theorem dX0_maximal_44 : decode cX0_maximal 44 = .ok (.iload_n 1, 1) := by decide +kernel
theorem dX0_maximal_45 : decode cX0_maximal 45 = .ok (.ireturn, 1) := by decide +kernel
theorem dX0_isMaximal_0 : decode cX0_isMaximal 0 = .ok (.iload_n 1, 1) := by decide +kernel
theorem dX0_isMaximal_1 : decode cX0_isMaximal 1 = .ok (.iconst 1, 1) := by decide +kernel
theorem dX0_isMaximal_2 : decode cX0_isMaximal 2 = .ok (.iadd, 1) := by decide +kernel
theorem dX0_isMaximal_3 : decode cX0_isMaximal 3 = .ok (.istore_n 2, 1) := by decide +kernel
theorem dX0_isMaximal_4 : decode cX0_isMaximal 4 = .ok (.iload_n 2, 1) := by decide +kernel
theorem dX0_isMaximal_5 : decode cX0_isMaximal 5 = .ok (.bipush 63, 2) := by decide +kernel
theorem dX0_isMaximal_7 : decode cX0_isMaximal 7 = .ok (.if_icmp .gt 27, 3) := by decide +kernel
theorem dX0_isMaximal_10 : decode cX0_isMaximal 10 = .ok (.aload_n 0, 1) := by decide +kernel
theorem dX0_isMaximal_11 : decode cX0_isMaximal 11 = .ok (.iload_n 2, 1) := by decide +kernel
theorem dX0_isMaximal_12 : decode cX0_isMaximal 12 = .ok (.invokevirtual 107, 3) := by decide +kernel
theorem dX0_isMaximal_15 : decode cX0_isMaximal 15 = .ok (.ifCond .eq 13, 3) := by decide +kernel
theorem dX0_isMaximal_18 : decode cX0_isMaximal 18 = .ok (.iload_n 1, 1) := by decide +kernel
theorem dX0_isMaximal_19 : decode cX0_isMaximal 19 = .ok (.iload_n 2, 1) := by decide +kernel
theorem dX0_isMaximal_20 : decode cX0_isMaximal 20 = .ok (.iconst (-1), 1) := by decide +kernel
theorem dX0_isMaximal_21 : decode cX0_isMaximal 21 = .ok (.ixor, 1) := by decide +kernel
theorem dX0_isMaximal_22 : decode cX0_isMaximal 22 = .ok (.iand, 1) := by decide +kernel
theorem dX0_isMaximal_23 : decode cX0_isMaximal 23 = .ok (.ifCond .ne 5, 3) := by decide +kernel
theorem dX0_isMaximal_26 : decode cX0_isMaximal 26 = .ok (.iconst 0, 1) := by decide +kernel
theorem dX0_isMaximal_27 : decode cX0_isMaximal 27 = .ok (.ireturn, 1) := by decide +kernel
theorem dX0_isMaximal_28 : decode cX0_isMaximal 28 = .ok (.iinc 2 1, 3) := by decide +kernel
theorem dX0_isMaximal_31 : decode cX0_isMaximal 31 = .ok (.goto (-27), 3) := by decide +kernel
theorem dX0_isMaximal_34 : decode cX0_isMaximal 34 = .ok (.iconst 1, 1) := by decide +kernel
theorem dX0_isMaximal_35 : decode cX0_isMaximal 35 = .ok (.ireturn, 1) := by decide +kernel
theorem dX0_matters_0 : decode cX0_matters 0 = .ok (.aload_n 0, 1) := by decide +kernel
theorem dX0_matters_1 : decode cX0_matters 1 = .ok (.iload_n 1, 1) := by decide +kernel
theorem dX0_matters_2 : decode cX0_matters 2 = .ok (.invokevirtual 42, 3) := by decide +kernel
theorem dX0_matters_5 : decode cX0_matters 5 = .ok (.ifCond .ne 5, 3) := by decide +kernel
theorem dX0_matters_8 : decode cX0_matters 8 = .ok (.iconst 0, 1) := by decide +kernel
theorem dX0_matters_9 : decode cX0_matters 9 = .ok (.ireturn, 1) := by decide +kernel
theorem dX0_matters_10 : decode cX0_matters 10 = .ok (.aload_n 0, 1) := by decide +kernel
theorem dX0_matters_11 : decode cX0_matters 11 = .ok (.invokevirtual 104, 3) := by decide +kernel
theorem dX0_matters_14 : decode cX0_matters 14 = .ok (.aload_n 0, 1) := by decide +kernel
theorem dX0_matters_15 : decode cX0_matters 15 = .ok (.getfield 91, 3) := by decide +kernel
theorem dX0_matters_18 : decode cX0_matters 18 = .ok (.lstore_n 2, 1) := by decide +kernel
theorem dX0_matters_19 : decode cX0_matters 19 = .ok (.aload_n 0, 1) := by decide +kernel
theorem dX0_matters_20 : decode cX0_matters 20 = .ok (.dup, 1) := by decide +kernel
theorem dX0_matters_21 : decode cX0_matters 21 = .ok (.getfield 34, 3) := by decide +kernel
theorem dX0_matters_24 : decode cX0_matters 24 = .ok (.iconst 1, 1) := by decide +kernel
theorem dX0_matters_25 : decode cX0_matters 25 = .ok (.iload_n 1, 1) := by decide +kernel
theorem dX0_matters_26 : decode cX0_matters 26 = .ok (.ishl, 1) := by decide +kernel
theorem dX0_matters_27 : decode cX0_matters 27 = .ok (.iconst (-1), 1) := by decide +kernel
theorem dX0_matters_28 : decode cX0_matters 28 = .ok (.ixor, 1) := by decide +kernel
theorem dX0_matters_29 : decode cX0_matters 29 = .ok (.iand, 1) := by decide +kernel
theorem dX0_matters_30 : decode cX0_matters 30 = .ok (.putfield 34, 3) := by decide +kernel
theorem dX0_matters_33 : decode cX0_matters 33 = .ok (.aload_n 0, 1) := by decide +kernel
theorem dX0_matters_34 : decode cX0_matters 34 = .ok (.iconst 0, 1) := by decide +kernel
theorem dX0_matters_35 : decode cX0_matters 35 = .ok (.putfield 45, 3) := by decide +kernel
theorem dX0_matters_38 : decode cX0_matters 38 = .ok (.aload_n 0, 1) := by decide +kernel
theorem dX0_matters_39 : decode cX0_matters 39 = .ok (.invokevirtual 104, 3) := by decide +kernel
theorem dX0_matters_42 : decode cX0_matters 42 = .ok (.aload_n 0, 1) := by decide +kernel
theorem dX0_matters_43 : decode cX0_matters 43 = .ok (.getfield 91, 3) := by decide +kernel
theorem dX0_matters_46 : decode cX0_matters 46 = .ok (.lstore 4, 2) := by decide +kernel
theorem dX0_matters_48 : decode cX0_matters 48 = .ok (.aload_n 0, 1) := by decide +kernel
theorem dX0_matters_49 : decode cX0_matters 49 = .ok (.dup, 1) := by decide +kernel
theorem dX0_matters_50 : decode cX0_matters 50 = .ok (.getfield 34, 3) := by decide +kernel
theorem dX0_matters_53 : decode cX0_matters 53 = .ok (.iconst 1, 1) := by decide +kernel
theorem dX0_matters_54 : decode cX0_matters 54 = .ok (.iload_n 1, 1) := by decide +kernel
theorem dX0_matters_55 : decode cX0_matters 55 = .ok (.ishl, 1) := by decide +kernel
theorem dX0_matters_56 : decode cX0_matters 56 = .ok (.ior, 1) := by decide +kernel
theorem dX0_matters_57 : decode cX0_matters 57 = .ok (.putfield 34, 3) := by decide +kernel
theorem dX0_matters_60 : decode cX0_matters 60 = .ok (.aload_n 0, 1) := by decide +kernel
theorem dX0_matters_61 : decode cX0_matters 61 = .ok (.iconst 0, 1) := by decide +kernel
theorem dX0_matters_62 : decode cX0_matters 62 = .ok (.putfield 45, 3) := by decide +kernel
theorem dX0_matters_65 : decode cX0_matters 65 = .ok (.lload_n 2, 1) := by decide +kernel
theorem dX0_matters_66 : decode cX0_matters 66 = .ok (.lload 4, 2) := by decide +kernel
theorem dX0_matters_68 : decode cX0_matters 68 = .ok (.lcmp, 1) := by decide +kernel
theorem dX0_matters_69 : decode cX0_matters 69 = .ok (.ifCond .eq 7, 3) := by decide +kernel
theorem dX0_matters_72 : decode cX0_matters 72 = .ok (.iconst 1, 1) := by decide +kernel
theorem dX0_matters_73 : decode cX0_matters 73 = .ok (.goto 4, 3) := by decide +kernel
theorem dX0_matters_76 : decode cX0_matters 76 = .ok (.iconst 0, 1) := by decide +kernel
theorem dX0_matters_77 : decode cX0_matters 77 = .ok (.ireturn, 1) := by decide +kernel
end
section
set_option maxRecDepth 100000
theorem dX1_init_0 : decode cX1_init 0 = .ok (.aload_n 0, 1) := by decide +kernel
theorem dX1_init_1 : decode cX1_init 1 = .ok (.invokespecial 1, 3) := by decide +kernel
theorem dX1_init_4 : decode cX1_init 4 = .ok (.aload_n 0, 1) := by decide +kernel
theorem dX1_init_5 : decode cX1_init 5 = .ok (.bipush 10, 2) := by decide +kernel
theorem dX1_init_7 : decode cX1_init 7 = .ok (.newarray .boolean, 2) := by decide +kernel
theorem dX1_init_9 : decode cX1_init 9 = .ok (.putfield 7, 3) := by decide +kernel
theorem dX1_init_12 : decode cX1_init 12 = .ok (.aload_n 0, 1) := by decide +kernel
theorem dX1_init_13 : decode cX1_init 13 = .ok (.bipush 10, 2) := by decide +kernel
theorem dX1_init_15 : decode cX1_init 15 = .ok (.newarray .int, 2) := by decide +kernel
theorem dX1_init_17 : decode cX1_init 17 = .ok (.putfield 13, 3) := by decide +kernel
theorem dX1_init_20 : decode cX1_init 20 = .ok (.aload_n 0, 1) := by decide +kernel
theorem dX1_init_21 : decode cX1_init 21 = .ok (.bipush 10, 2) := by decide +kernel
theorem dX1_init_23 : decode cX1_init 23 = .ok (.newarray .int, 2) := by decide +kernel
theorem dX1_init_25 : decode cX1_init 25 = .ok (.putfield 17, 3) := by decide +kernel
theorem dX1_init_28 : decode cX1_init 28 = .ok (.aload_n 0, 1) := by decide +kernel
theorem dX1_init_29 : decode cX1_init 29 = .ok (.bipush 10, 2) := by decide +kernel
theorem dX1_init_31 : decode cX1_init 31 = .ok (.newarray .int, 2) := by decide +kernel
theorem dX1_init_33 : decode cX1_init 33 = .ok (.putfield 20, 3) := by decide +kernel
theorem dX1_init_36 : decode cX1_init 36 = .ok (.aload_n 0, 1) := by decide +kernel
theorem dX1_init_37 : decode cX1_init 37 = .ok (.bipush 10, 2) := by decide +kernel
theorem dX1_init_39 : decode cX1_init 39 = .ok (.newarray .int, 2) := by decide +kernel
theorem dX1_init_41 : decode cX1_init 41 = .ok (.putfield 23, 3) := by decide +kernel
theorem dX1_init_44 : decode cX1_init 44 = .ok (.aload_n 0, 1) := by decide +kernel
theorem dX1_init_45 : decode cX1_init 45 = .ok (.bipush 64, 2) := by decide +kernel
theorem dX1_init_47 : decode cX1_init 47 = .ok (.newarray .boolean, 2) := by decide +kernel
theorem dX1_init_49 : decode cX1_init 49 = .ok (.putfield 26, 3) := by decide +kernel
theorem dX1_init_52 : decode cX1_init 52 = .ok (.aload_n 0, 1) := by decide +kernel
theorem dX1_init_53 : decode cX1_init 53 = .ok (.bipush 64, 2) := by decide +kernel
theorem dX1_init_55 : decode cX1_init 55 = .ok (.newarray .boolean, 2) := by decide +kernel
theorem dX1_init_57 : decode cX1_init 57 = .ok (.putfield 29, 3) := by decide +kernel
theorem dX1_init_60 : decode cX1_init 60 = .ok (.return_, 1) := by decide +kernel
theorem dX1_add_0 : decode cX1_add 0 = .ok (.iload_n 1, 1) := by decide +kernel
theorem dX1_add_1 : decode cX1_add 1 = .ok (.ifCond .lt 39, 3) := by decide +kernel
theorem dX1_add_4 : decode cX1_add 4 = .ok (.iload_n 1, 1) := by decide +kernel
theorem dX1_add_5 : decode cX1_add 5 = .ok (.iconst 2, 1) := by decide +kernel
theorem dX1_add_6 : decode cX1_add 6 = .ok (.if_icmp .gt 34, 3) := by decide +kernel
theorem dX1_add_9 : decode cX1_add 9 = .ok (.iload_n 1, 1) := by decide +kernel
theorem dX1_add_10 : decode cX1_add 10 = .ok (.iconst 2, 1) := by decide +kernel
theorem dX1_add_11 : decode cX1_add 11 = .ok (.if_icmp .eq 12, 3) := by decide +kernel
theorem dX1_add_14 : decode cX1_add 14 = .ok (.iload_n 2, 1) := by decide +kernel
theorem dX1_add_15 : decode cX1_add 15 = .ok (.ifCond .lt 25, 3) := by decide +kernel
theorem dX1_add_18 : decode cX1_add 18 = .ok (.iload_n 2, 1) := by decide +kernel
theorem dX1_add_19 : decode cX1_add 19 = .ok (.iconst 5, 1) := by decide +kernel
theorem dX1_add_20 : decode cX1_add 20 = .ok (.if_icmp .gt 20, 3) := by decide +kernel
theorem dX1_add_23 : decode cX1_add 23 = .ok (.aload_n 0, 1) := by decide +kernel
theorem dX1_add_24 : decode cX1_add 24 = .ok (.iload_n 3, 1) := by decide +kernel
theorem dX1_add_25 : decode cX1_add 25 = .ok (.invokevirtual 32, 3) := by decide +kernel
theorem dX1_add_28 : decode cX1_add 28 = .ok (.ifCond .eq 12, 3) := by decide +kernel
theorem dX1_add_31 : decode cX1_add 31 = .ok (.aload_n 0, 1) := by decide +kernel
theorem dX1_add_32 : decode cX1_add 32 = .ok (.iload 4, 2) := by decide +kernel
theorem dX1_add_34 : decode cX1_add 34 = .ok (.invokevirtual 32, 3) := by decide +kernel
theorem dX1_add_37 : decode cX1_add 37 = .ok (.ifCond .ne 5, 3) := by decide +kernel
theorem dX1_add_40 : decode cX1_add 40 = .ok (.iconst (-1), 1) := by decide +kernel
theorem dX1_add_41 : decode cX1_add 41 = .ok (.ireturn, 1) := by decide +kernel
theorem dX1_add_42 : decode cX1_add 42 = .ok (.iconst 0, 1) := by decide +kernel
theorem dX1_add_43 : decode cX1_add 43 = .ok (.istore 5, 2) := by decide +kernel
theorem dX1_add_45 : decode cX1_add 45 = .ok (.iload 5, 2) := by decide +kernel
theorem dX1_add_47 : decode cX1_add 47 = .ok (.bipush 10, 2) := by decide +kernel
theorem dX1_add_49 : decode cX1_add 49 = .ok (.if_icmp .ge 72, 3) := by decide +kernel
theorem dX1_add_52 : decode cX1_add 52 = .ok (.aload_n 0, 1) := by decide +kernel
theorem dX1_add_53 : decode cX1_add 53 = .ok (.getfield 7, 3) := by decide +kernel
theorem dX1_add_56 : decode cX1_add 56 = .ok (.iload 5, 2) := by decide +kernel
theorem dX1_add_58 : decode cX1_add 58 = .ok (.baload, 1) := by decide +kernel
theorem dX1_add_59 : decode cX1_add 59 = .ok (.ifCond .ne 56, 3) := by decide +kernel
theorem dX1_add_62 : decode cX1_add 62 = .ok (.aload_n 0, 1) := by decide +kernel
theorem dX1_add_63 : decode cX1_add 63 = .ok (.getfield 7, 3) := by decide +kernel
theorem dX1_add_66 : decode cX1_add 66 = .ok (.iload 5, 2) := by decide +kernel
theorem dX1_add_68 : decode cX1_add 68 = .ok (.iconst 1, 1) := by decide +kernel
theorem dX1_add_69 : decode cX1_add 69 = .ok (.bastore, 1) := by decide +kernel
theorem dX1_add_70 : decode cX1_add 70 = .ok (.aload_n 0, 1) := by decide +kernel
theorem dX1_add_71 : decode cX1_add 71 = .ok (.getfield 13, 3) := by decide +kernel
theorem dX1_add_74 : decode cX1_add 74 = .ok (.iload 5, 2) := by decide +kernel
theorem dX1_add_76 : decode cX1_add 76 = .ok (.iload_n 1, 1) := by decide +kernel
theorem dX1_add_77 : decode cX1_add 77 = .ok (.iastore, 1) := by decide +kernel
theorem dX1_add_78 : decode cX1_add 78 = .ok (.aload_n 0, 1) := by decide +kernel
theorem dX1_add_79 : decode cX1_add 79 = .ok (.getfield 17, 3) := by decide +kernel
theorem dX1_add_82 : decode cX1_add 82 = .ok (.iload 5, 2) := by decide +kernel
theorem dX1_add_84 : decode cX1_add 84 = .ok (.iload_n 1, 1) := by decide +kernel
theorem dX1_add_85 : decode cX1_add 85 = .ok (.iconst 2, 1) := by decide +kernel
theorem dX1_add_86 : decode cX1_add 86 = .ok (.if_icmp .ne 7, 3) := by decide +kernel
theorem dX1_add_89 : decode cX1_add 89 = .ok (.iconst 0, 1) := by decide +kernel
theorem dX1_add_90 : decode cX1_add 90 = .ok (.goto 4, 3) := by decide +kernel
theorem dX1_add_93 : decode cX1_add 93 = .ok (.iload_n 2, 1) := by decide +kernel
theorem dX1_add_94 : decode cX1_add 94 = .ok (.iastore, 1) := by decide +kernel
theorem dX1_add_95 : decode cX1_add 95 = .ok (.aload_n 0, 1) := by decide +kernel
theorem dX1_add_96 : decode cX1_add 96 = .ok (.getfield 20, 3) := by decide +kernel
theorem dX1_add_99 : decode cX1_add 99 = .ok (.iload 5, 2) := by decide +kernel
theorem dX1_add_101 : decode cX1_add 101 = .ok (.iload_n 3, 1) := by decide +kernel
theorem dX1_add_102 : decode cX1_add 102 = .ok (.iastore, 1) := by decide +kernel
theorem dX1_add_103 : decode cX1_add 103 = .ok (.aload_n 0, 1) := by decide +kernel
theorem dX1_add_104 : decode cX1_add 104 = .ok (.getfield 23, 3) := by decide +kernel
theorem dX1_add_107 : decode cX1_add 107 = .ok (.iload 5, 2) := by decide +kernel
theorem dX1_add_109 : decode cX1_add 109 = .ok (.iload 4, 2) := by decide +kernel
theorem dX1_add_111 : decode cX1_add 111 = .ok (.iastore, 1) := by decide +kernel
theorem dX1_add_112 : decode cX1_add 112 = .ok (.iload 5, 2) := by decide +kernel
theorem dX1_add_114 : decode cX1_add 114 = .ok (.ireturn, 1) := by decide +kernel
theorem dX1_add_115 : decode cX1_add 115 = .ok (.iinc 5 1, 3) := by decide +kernel
theorem dX1_add_118 : decode cX1_add 118 = .ok (.goto (-73), 3) := by decide +kernel
theorem dX1_add_121 : decode cX1_add 121 = .ok (.bipush (-2), 2) := by decide +kernel
theorem dX1_add_123 : decode cX1_add 123 = .ok (.ireturn, 1) := by decide +kernel
theorem dX1_set_0 : decode cX1_set 0 = .ok (.iload_n 1, 1) := by decide +kernel
theorem dX1_set_1 : decode cX1_set 1 = .ok (.ifCond .lt 13, 3) := by decide +kernel
theorem dX1_set_4 : decode cX1_set 4 = .ok (.iload_n 1, 1) := by decide +kernel
theorem dX1_set_5 : decode cX1_set 5 = .ok (.bipush 63, 2) := by decide +kernel
theorem dX1_set_7 : decode cX1_set 7 = .ok (.if_icmp .gt 7, 3) := by decide +kernel
theorem dX1_set_10 : decode cX1_set 10 = .ok (.iconst 1, 1) := by decide +kernel
theorem dX1_set_11 : decode cX1_set 11 = .ok (.goto 4, 3) := by decide +kernel
theorem dX1_set_14 : decode cX1_set 14 = .ok (.iconst 0, 1) := by decide +kernel
theorem dX1_set_15 : decode cX1_set 15 = .ok (.ireturn, 1) := by decide +kernel
theorem dX1_remove_0 : decode cX1_remove 0 = .ok (.iload_n 1, 1) := by decide +kernel
theorem dX1_remove_1 : decode cX1_remove 1 = .ok (.ifCond .lt 18, 3) := by decide +kernel
theorem dX1_remove_4 : decode cX1_remove 4 = .ok (.iload_n 1, 1) := by decide +kernel
theorem dX1_remove_5 : decode cX1_remove 5 = .ok (.bipush 9, 2) := by decide +kernel
theorem dX1_remove_7 : decode cX1_remove 7 = .ok (.if_icmp .gt 12, 3) := by decide +kernel
theorem dX1_remove_10 : decode cX1_remove 10 = .ok (.aload_n 0, 1) := by decide +kernel
theorem dX1_remove_11 : decode cX1_remove 11 = .ok (.getfield 7, 3) := by decide +kernel
theorem dX1_remove_14 : decode cX1_remove 14 = .ok (.iload_n 1, 1) := by decide +kernel
theorem dX1_remove_15 : decode cX1_remove 15 = .ok (.baload, 1) := by decide +kernel
theorem dX1_remove_16 : decode cX1_remove 16 = .ok (.ifCond .ne 5, 3) := by decide +kernel
theorem dX1_remove_19 : decode cX1_remove 19 = .ok (.iconst 0, 1) := by decide +kernel
theorem dX1_remove_20 : decode cX1_remove 20 = .ok (.ireturn, 1) := by decide +kernel
theorem dX1_remove_21 : decode cX1_remove 21 = .ok (.aload_n 0, 1) := by decide +kernel
theorem dX1_remove_22 : decode cX1_remove 22 = .ok (.getfield 7, 3) := by decide +kernel
theorem dX1_remove_25 : decode cX1_remove 25 = .ok (.iload_n 1, 1) := by decide +kernel
theorem dX1_remove_26 : decode cX1_remove 26 = .ok (.iconst 0, 1) := by decide +kernel
theorem dX1_remove_27 : decode cX1_remove 27 = .ok (.bastore, 1) := by decide +kernel
theorem dX1_remove_28 : decode cX1_remove 28 = .ok (.iconst 1, 1) := by decide +kernel
theorem dX1_remove_29 : decode cX1_remove 29 = .ok (.ireturn, 1) := by decide +kernel
theorem dX1_rules_0 : decode cX1_rules 0 = .ok (.iconst 0, 1) := by decide +kernel
theorem dX1_rules_1 : decode cX1_rules 1 = .ok (.istore_n 1, 1) := by decide +kernel
theorem dX1_rules_2 : decode cX1_rules 2 = .ok (.iconst 0, 1) := by decide +kernel
theorem dX1_rules_3 : decode cX1_rules 3 = .ok (.istore_n 2, 1) := by decide +kernel
theorem dX1_rules_4 : decode cX1_rules 4 = .ok (.iload_n 2, 1) := by decide +kernel
theorem dX1_rules_5 : decode cX1_rules 5 = .ok (.bipush 10, 2) := by decide +kernel
theorem dX1_rules_7 : decode cX1_rules 7 = .ok (.if_icmp .ge 28, 3) := by decide +kernel
theorem dX1_rules_10 : decode cX1_rules 10 = .ok (.aload_n 0, 1) := by decide +kernel
theorem dX1_rules_11 : decode cX1_rules 11 = .ok (.getfield 7, 3) := by decide +kernel
theorem dX1_rules_14 : decode cX1_rules 14 = .ok (.iload_n 2, 1) := by decide +kernel
theorem dX1_rules_15 : decode cX1_rules 15 = .ok (.baload, 1) := by decide +kernel
theorem dX1_rules_16 : decode cX1_rules 16 = .ok (.ifCond .eq 11, 3) := by decide +kernel
theorem dX1_rules_19 : decode cX1_rules 19 = .ok (.iload_n 1, 1) := by decide +kernel
theorem dX1_rules_20 : decode cX1_rules 20 = .ok (.iconst 1, 1) := by decide +kernel
theorem dX1_rules_21 : decode cX1_rules 21 = .ok (.iload_n 2, 1) := by decide +kernel
theorem dX1_rules_22 : decode cX1_rules 22 = .ok (.ishl, 1) := by decide +kernel
theorem dX1_rules_23 : decode cX1_rules 23 = .ok (.ior, 1) := by decide +kernel
theorem dX1_rules_24 : decode cX1_rules 24 = .ok (.goto 4, 3) := by decide +kernel
theorem dX1_rules_27 : decode cX1_rules 27 = .ok (.iload_n 1, 1) := by decide +kernel
theorem dX1_rules_28 : decode cX1_rules 28 = .ok (.istore_n 1, 1) := by decide +kernel
theorem dX1_rules_29 : decode cX1_rules 29 = .ok (.iinc 2 1, 3) := by decide +kernel
theorem dX1_rules_32 : decode cX1_rules 32 = .ok (.goto (-28), 3) := by decide +kernel
theorem dX1_rules_35 : decode cX1_rules 35 = .ok (.iload_n 1, 1) := by decide +kernel
theorem dX1_rules_36 : decode cX1_rules 36 = .ok (.ireturn, 1) := by decide +kernel
theorem dX1_support_0 : decode cX1_support 0 = .ok (.aload_n 0, 1) := by decide +kernel
theorem dX1_support_1 : decode cX1_support 1 = .ok (.iload_n 1, 1) := by decide +kernel
theorem dX1_support_2 : decode cX1_support 2 = .ok (.invokevirtual 32, 3) := by decide +kernel
theorem dX1_support_5 : decode cX1_support 5 = .ok (.ifCond .ne 5, 3) := by decide +kernel
theorem dX1_support_8 : decode cX1_support 8 = .ok (.iconst (-1), 1) := by decide +kernel
theorem dX1_support_9 : decode cX1_support 9 = .ok (.ireturn, 1) := by decide +kernel
theorem dX1_support_10 : decode cX1_support 10 = .ok (.iconst 0, 1) := by decide +kernel
theorem dX1_support_11 : decode cX1_support 11 = .ok (.istore_n 2, 1) := by decide +kernel
theorem dX1_support_12 : decode cX1_support 12 = .ok (.iconst 0, 1) := by decide +kernel
theorem dX1_support_13 : decode cX1_support 13 = .ok (.istore_n 3, 1) := by decide +kernel
theorem dX1_support_14 : decode cX1_support 14 = .ok (.iload_n 3, 1) := by decide +kernel
theorem dX1_support_15 : decode cX1_support 15 = .ok (.bipush 6, 2) := by decide +kernel
theorem dX1_support_17 : decode cX1_support 17 = .ok (.if_icmp .ge 65, 3) := by decide +kernel
theorem dX1_support_20 : decode cX1_support 20 = .ok (.iconst 0, 1) := by decide +kernel
theorem dX1_support_21 : decode cX1_support 21 = .ok (.istore 4, 2) := by decide +kernel
theorem dX1_support_23 : decode cX1_support 23 = .ok (.iload 4, 2) := by decide +kernel
theorem dX1_support_25 : decode cX1_support 25 = .ok (.bipush 10, 2) := by decide +kernel
theorem dX1_support_27 : decode cX1_support 27 = .ok (.if_icmp .ge 49, 3) := by decide +kernel
theorem dX1_support_30 : decode cX1_support 30 = .ok (.aload_n 0, 1) := by decide +kernel
theorem dX1_support_31 : decode cX1_support 31 = .ok (.iload 4, 2) := by decide +kernel
theorem dX1_support_33 : decode cX1_support 33 = .ok (.iload_n 1, 1) := by decide +kernel
theorem dX1_support_34 : decode cX1_support 34 = .ok (.invokevirtual 36, 3) := by decide +kernel
theorem dX1_support_37 : decode cX1_support 37 = .ok (.ifCond .eq 31, 3) := by decide +kernel
theorem dX1_support_40 : decode cX1_support 40 = .ok (.aload_n 0, 1) := by decide +kernel
theorem dX1_support_41 : decode cX1_support 41 = .ok (.getfield 20, 3) := by decide +kernel
theorem dX1_support_44 : decode cX1_support 44 = .ok (.iload 4, 2) := by decide +kernel
theorem dX1_support_46 : decode cX1_support 46 = .ok (.iaload, 1) := by decide +kernel
theorem dX1_support_47 : decode cX1_support 47 = .ok (.iload_n 2, 1) := by decide +kernel
theorem dX1_support_48 : decode cX1_support 48 = .ok (.iconst (-1), 1) := by decide +kernel
theorem dX1_support_49 : decode cX1_support 49 = .ok (.ixor, 1) := by decide +kernel
theorem dX1_support_50 : decode cX1_support 50 = .ok (.iand, 1) := by decide +kernel
theorem dX1_support_51 : decode cX1_support 51 = .ok (.ifCond .ne 17, 3) := by decide +kernel
theorem dX1_support_54 : decode cX1_support 54 = .ok (.iload_n 2, 1) := by decide +kernel
theorem dX1_support_55 : decode cX1_support 55 = .ok (.iconst 1, 1) := by decide +kernel
theorem dX1_support_56 : decode cX1_support 56 = .ok (.aload_n 0, 1) := by decide +kernel
theorem dX1_support_57 : decode cX1_support 57 = .ok (.getfield 17, 3) := by decide +kernel
theorem dX1_support_60 : decode cX1_support 60 = .ok (.iload 4, 2) := by decide +kernel
theorem dX1_support_62 : decode cX1_support 62 = .ok (.iaload, 1) := by decide +kernel
theorem dX1_support_63 : decode cX1_support 63 = .ok (.ishl, 1) := by decide +kernel
theorem dX1_support_64 : decode cX1_support 64 = .ok (.ior, 1) := by decide +kernel
theorem dX1_support_65 : decode cX1_support 65 = .ok (.goto 4, 3) := by decide +kernel
theorem dX1_support_68 : decode cX1_support 68 = .ok (.iload_n 2, 1) := by decide +kernel
theorem dX1_support_69 : decode cX1_support 69 = .ok (.istore_n 2, 1) := by decide +kernel
theorem dX1_support_70 : decode cX1_support 70 = .ok (.iinc 4 1, 3) := by decide +kernel
theorem dX1_support_73 : decode cX1_support 73 = .ok (.goto (-50), 3) := by decide +kernel
theorem dX1_support_76 : decode cX1_support 76 = .ok (.iinc 3 1, 3) := by decide +kernel
theorem dX1_support_79 : decode cX1_support 79 = .ok (.goto (-65), 3) := by decide +kernel
theorem dX1_support_82 : decode cX1_support 82 = .ok (.iload_n 2, 1) := by decide +kernel
theorem dX1_support_83 : decode cX1_support 83 = .ok (.ireturn, 1) := by decide +kernel
theorem dX1_taken_0 : decode cX1_taken 0 = .ok (.aload_n 0, 1) := by decide +kernel
theorem dX1_taken_1 : decode cX1_taken 1 = .ok (.getfield 13, 3) := by decide +kernel
theorem dX1_taken_4 : decode cX1_taken 4 = .ok (.iload_n 1, 1) := by decide +kernel
theorem dX1_taken_5 : decode cX1_taken 5 = .ok (.iaload, 1) := by decide +kernel
theorem dX1_taken_6 : decode cX1_taken 6 = .ok (.ifCond .eq 27, 3) := by decide +kernel
theorem dX1_taken_9 : decode cX1_taken 9 = .ok (.aload_n 0, 1) := by decide +kernel
theorem dX1_taken_10 : decode cX1_taken 10 = .ok (.getfield 13, 3) := by decide +kernel
theorem dX1_taken_13 : decode cX1_taken 13 = .ok (.iload_n 1, 1) := by decide +kernel
theorem dX1_taken_14 : decode cX1_taken 14 = .ok (.iaload, 1) := by decide +kernel
theorem dX1_taken_15 : decode cX1_taken 15 = .ok (.iconst 1, 1) := by decide +kernel
theorem dX1_taken_16 : decode cX1_taken 16 = .ok (.if_icmp .ne 21, 3) := by decide +kernel
theorem dX1_taken_19 : decode cX1_taken 19 = .ok (.iload_n 2, 1) := by decide +kernel
theorem dX1_taken_20 : decode cX1_taken 20 = .ok (.aload_n 0, 1) := by decide +kernel
theorem dX1_taken_21 : decode cX1_taken 21 = .ok (.getfield 17, 3) := by decide +kernel
theorem dX1_taken_24 : decode cX1_taken 24 = .ok (.iload_n 1, 1) := by decide +kernel
theorem dX1_taken_25 : decode cX1_taken 25 = .ok (.iaload, 1) := by decide +kernel
theorem dX1_taken_26 : decode cX1_taken 26 = .ok (.ishr, 1) := by decide +kernel
theorem dX1_taken_27 : decode cX1_taken 27 = .ok (.iconst 1, 1) := by decide +kernel
theorem dX1_taken_28 : decode cX1_taken 28 = .ok (.iand, 1) := by decide +kernel
theorem dX1_taken_29 : decode cX1_taken 29 = .ok (.iconst 1, 1) := by decide +kernel
theorem dX1_taken_30 : decode cX1_taken 30 = .ok (.if_icmp .ne 7, 3) := by decide +kernel
theorem dX1_taken_33 : decode cX1_taken 33 = .ok (.iconst 1, 1) := by decide +kernel
theorem dX1_taken_34 : decode cX1_taken 34 = .ok (.goto 4, 3) := by decide +kernel
theorem dX1_taken_37 : decode cX1_taken 37 = .ok (.iconst 0, 1) := by decide +kernel
theorem dX1_taken_38 : decode cX1_taken 38 = .ok (.istore_n 3, 1) := by decide +kernel
theorem dX1_taken_39 : decode cX1_taken 39 = .ok (.aload_n 0, 1) := by decide +kernel
theorem dX1_taken_40 : decode cX1_taken 40 = .ok (.getfield 7, 3) := by decide +kernel
theorem dX1_taken_43 : decode cX1_taken 43 = .ok (.iload_n 1, 1) := by decide +kernel
theorem dX1_taken_44 : decode cX1_taken 44 = .ok (.baload, 1) := by decide +kernel
theorem dX1_taken_45 : decode cX1_taken 45 = .ok (.ifCond .eq 22, 3) := by decide +kernel
theorem dX1_taken_48 : decode cX1_taken 48 = .ok (.iload_n 3, 1) := by decide +kernel
theorem dX1_taken_49 : decode cX1_taken 49 = .ok (.ifCond .eq 18, 3) := by decide +kernel
theorem dX1_taken_52 : decode cX1_taken 52 = .ok (.aload_n 0, 1) := by decide +kernel
theorem dX1_taken_53 : decode cX1_taken 53 = .ok (.getfield 23, 3) := by decide +kernel
theorem dX1_taken_56 : decode cX1_taken 56 = .ok (.iload_n 1, 1) := by decide +kernel
theorem dX1_taken_57 : decode cX1_taken 57 = .ok (.iaload, 1) := by decide +kernel
theorem dX1_taken_58 : decode cX1_taken 58 = .ok (.iload_n 2, 1) := by decide +kernel
theorem dX1_taken_59 : decode cX1_taken 59 = .ok (.iand, 1) := by decide +kernel
theorem dX1_taken_60 : decode cX1_taken 60 = .ok (.ifCond .ne 7, 3) := by decide +kernel
theorem dX1_taken_63 : decode cX1_taken 63 = .ok (.iconst 1, 1) := by decide +kernel
theorem dX1_taken_64 : decode cX1_taken 64 = .ok (.goto 4, 3) := by decide +kernel
theorem dX1_taken_67 : decode cX1_taken 67 = .ok (.iconst 0, 1) := by decide +kernel
theorem dX1_taken_68 : decode cX1_taken 68 = .ok (.ireturn, 1) := by decide +kernel
theorem dX1_stable_0 : decode cX1_stable 0 = .ok (.aload_n 0, 1) := by decide +kernel
theorem dX1_stable_1 : decode cX1_stable 1 = .ok (.iload_n 1, 1) := by decide +kernel
theorem dX1_stable_2 : decode cX1_stable 2 = .ok (.invokevirtual 32, 3) := by decide +kernel
theorem dX1_stable_5 : decode cX1_stable 5 = .ok (.ifCond .eq 16, 3) := by decide +kernel
theorem dX1_stable_8 : decode cX1_stable 8 = .ok (.aload_n 0, 1) := by decide +kernel
theorem dX1_stable_9 : decode cX1_stable 9 = .ok (.iload_n 1, 1) := by decide +kernel
theorem dX1_stable_10 : decode cX1_stable 10 = .ok (.invokevirtual 40, 3) := by decide +kernel
theorem dX1_stable_13 : decode cX1_stable 13 = .ok (.iload_n 1, 1) := by decide +kernel
theorem dX1_stable_14 : decode cX1_stable 14 = .ok (.if_icmp .ne 7, 3) := by decide +kernel
theorem dX1_stable_17 : decode cX1_stable 17 = .ok (.iconst 1, 1) := by decide +kernel
theorem dX1_stable_18 : decode cX1_stable 18 = .ok (.goto 4, 3) := by decide +kernel
theorem dX1_stable_21 : decode cX1_stable 21 = .ok (.iconst 0, 1) := by decide +kernel
theorem dX1_stable_22 : decode cX1_stable 22 = .ok (.istore_n 2, 1) := by decide +kernel
theorem dX1_stable_23 : decode cX1_stable 23 = .ok (.iconst 0, 1) := by decide +kernel
theorem dX1_stable_24 : decode cX1_stable 24 = .ok (.istore_n 3, 1) := by decide +kernel
theorem dX1_stable_25 : decode cX1_stable 25 = .ok (.iload_n 3, 1) := by decide +kernel
theorem dX1_stable_26 : decode cX1_stable 26 = .ok (.bipush 10, 2) := by decide +kernel
theorem dX1_stable_28 : decode cX1_stable 28 = .ok (.if_icmp .ge 74, 3) := by decide +kernel
theorem dX1_stable_31 : decode cX1_stable 31 = .ok (.aload_n 0, 1) := by decide +kernel
theorem dX1_stable_32 : decode cX1_stable 32 = .ok (.getfield 7, 3) := by decide +kernel
theorem dX1_stable_35 : decode cX1_stable 35 = .ok (.iload_n 3, 1) := by decide +kernel
theorem dX1_stable_36 : decode cX1_stable 36 = .ok (.baload, 1) := by decide +kernel
theorem dX1_stable_37 : decode cX1_stable 37 = .ok (.ifCond .eq 41, 3) := by decide +kernel
theorem dX1_stable_40 : decode cX1_stable 40 = .ok (.aload_n 0, 1) := by decide +kernel
theorem dX1_stable_41 : decode cX1_stable 41 = .ok (.getfield 13, 3) := by decide +kernel
theorem dX1_stable_44 : decode cX1_stable 44 = .ok (.iload_n 3, 1) := by decide +kernel
theorem dX1_stable_45 : decode cX1_stable 45 = .ok (.iaload, 1) := by decide +kernel
theorem dX1_stable_46 : decode cX1_stable 46 = .ok (.iconst 2, 1) := by decide +kernel
theorem dX1_stable_47 : decode cX1_stable 47 = .ok (.if_icmp .ne 31, 3) := by decide +kernel
theorem dX1_stable_50 : decode cX1_stable 50 = .ok (.aload_n 0, 1) := by decide +kernel
theorem dX1_stable_51 : decode cX1_stable 51 = .ok (.getfield 20, 3) := by decide +kernel
theorem dX1_stable_54 : decode cX1_stable 54 = .ok (.iload_n 3, 1) := by decide +kernel
theorem dX1_stable_55 : decode cX1_stable 55 = .ok (.iaload, 1) := by decide +kernel
theorem dX1_stable_56 : decode cX1_stable 56 = .ok (.iload_n 1, 1) := by decide +kernel
theorem dX1_stable_57 : decode cX1_stable 57 = .ok (.iconst (-1), 1) := by decide +kernel
theorem dX1_stable_58 : decode cX1_stable 58 = .ok (.ixor, 1) := by decide +kernel
theorem dX1_stable_59 : decode cX1_stable 59 = .ok (.iand, 1) := by decide +kernel
theorem dX1_stable_60 : decode cX1_stable 60 = .ok (.ifCond .ne 18, 3) := by decide +kernel
theorem dX1_stable_63 : decode cX1_stable 63 = .ok (.aload_n 0, 1) := by decide +kernel
theorem dX1_stable_64 : decode cX1_stable 64 = .ok (.getfield 23, 3) := by decide +kernel
theorem dX1_stable_67 : decode cX1_stable 67 = .ok (.iload_n 3, 1) := by decide +kernel
theorem dX1_stable_68 : decode cX1_stable 68 = .ok (.iaload, 1) := by decide +kernel
theorem dX1_stable_69 : decode cX1_stable 69 = .ok (.iload_n 1, 1) := by decide +kernel
theorem dX1_stable_70 : decode cX1_stable 70 = .ok (.iand, 1) := by decide +kernel
theorem dX1_stable_71 : decode cX1_stable 71 = .ok (.ifCond .ne 7, 3) := by decide +kernel
theorem dX1_stable_74 : decode cX1_stable 74 = .ok (.iconst 1, 1) := by decide +kernel
theorem dX1_stable_75 : decode cX1_stable 75 = .ok (.goto 4, 3) := by decide +kernel
theorem dX1_stable_78 : decode cX1_stable 78 = .ok (.iconst 0, 1) := by decide +kernel
theorem dX1_stable_79 : decode cX1_stable 79 = .ok (.istore 4, 2) := by decide +kernel
theorem dX1_stable_81 : decode cX1_stable 81 = .ok (.iload_n 2, 1) := by decide +kernel
theorem dX1_stable_82 : decode cX1_stable 82 = .ok (.ifCond .eq 12, 3) := by decide +kernel
theorem dX1_stable_85 : decode cX1_stable 85 = .ok (.iload 4, 2) := by decide +kernel
theorem dX1_stable_87 : decode cX1_stable 87 = .ok (.ifCond .ne 7, 3) := by decide +kernel
theorem dX1_stable_90 : decode cX1_stable 90 = .ok (.iconst 1, 1) := by decide +kernel
theorem dX1_stable_91 : decode cX1_stable 91 = .ok (.goto 4, 3) := by decide +kernel
theorem dX1_stable_94 : decode cX1_stable 94 = .ok (.iconst 0, 1) := by decide +kernel
theorem dX1_stable_95 : decode cX1_stable 95 = .ok (.istore_n 2, 1) := by decide +kernel
theorem dX1_stable_96 : decode cX1_stable 96 = .ok (.iinc 3 1, 3) := by decide +kernel
end
section
set_option maxRecDepth 100000
theorem dX1_stable_99 : decode cX1_stable 99 = .ok (.goto (-74), 3) := by decide +kernel
theorem dX1_stable_102 : decode cX1_stable 102 = .ok (.iload_n 2, 1) := by decide +kernel
theorem dX1_stable_103 : decode cX1_stable 103 = .ok (.ireturn, 1) := by decide +kernel
theorem dX1_models_0 : decode cX1_models 0 = .ok (.iconst 0, 1) := by decide +kernel
theorem dX1_models_1 : decode cX1_models 1 = .ok (.istore_n 1, 1) := by decide +kernel
theorem dX1_models_2 : decode cX1_models 2 = .ok (.iconst 0, 1) := by decide +kernel
theorem dX1_models_3 : decode cX1_models 3 = .ok (.istore_n 2, 1) := by decide +kernel
theorem dX1_models_4 : decode cX1_models 4 = .ok (.iload_n 2, 1) := by decide +kernel
theorem dX1_models_5 : decode cX1_models 5 = .ok (.bipush 64, 2) := by decide +kernel
theorem dX1_models_7 : decode cX1_models 7 = .ok (.if_icmp .ge 25, 3) := by decide +kernel
theorem dX1_models_10 : decode cX1_models 10 = .ok (.aload_n 0, 1) := by decide +kernel
theorem dX1_models_11 : decode cX1_models 11 = .ok (.iload_n 2, 1) := by decide +kernel
theorem dX1_models_12 : decode cX1_models 12 = .ok (.invokevirtual 44, 3) := by decide +kernel
theorem dX1_models_15 : decode cX1_models 15 = .ok (.ifCond .eq 9, 3) := by decide +kernel
theorem dX1_models_18 : decode cX1_models 18 = .ok (.iload_n 1, 1) := by decide +kernel
theorem dX1_models_19 : decode cX1_models 19 = .ok (.iconst 1, 1) := by decide +kernel
theorem dX1_models_20 : decode cX1_models 20 = .ok (.iadd, 1) := by decide +kernel
theorem dX1_models_21 : decode cX1_models 21 = .ok (.goto 4, 3) := by decide +kernel
theorem dX1_models_24 : decode cX1_models 24 = .ok (.iload_n 1, 1) := by decide +kernel
theorem dX1_models_25 : decode cX1_models 25 = .ok (.istore_n 1, 1) := by decide +kernel
theorem dX1_models_26 : decode cX1_models 26 = .ok (.iinc 2 1, 3) := by decide +kernel
theorem dX1_models_29 : decode cX1_models 29 = .ok (.goto (-25), 3) := by decide +kernel
theorem dX1_models_32 : decode cX1_models 32 = .ok (.iload_n 1, 1) := by decide +kernel
theorem dX1_models_33 : decode cX1_models 33 = .ok (.ireturn, 1) := by decide +kernel
theorem dX1_model_0 : decode cX1_model 0 = .ok (.iconst 0, 1) := by decide +kernel
theorem dX1_model_1 : decode cX1_model 1 = .ok (.istore_n 2, 1) := by decide +kernel
theorem dX1_model_2 : decode cX1_model 2 = .ok (.iconst 0, 1) := by decide +kernel
theorem dX1_model_3 : decode cX1_model 3 = .ok (.istore_n 3, 1) := by decide +kernel
theorem dX1_model_4 : decode cX1_model 4 = .ok (.iload_n 3, 1) := by decide +kernel
theorem dX1_model_5 : decode cX1_model 5 = .ok (.bipush 64, 2) := by decide +kernel
theorem dX1_model_7 : decode cX1_model 7 = .ok (.if_icmp .ge 27, 3) := by decide +kernel
theorem dX1_model_10 : decode cX1_model 10 = .ok (.aload_n 0, 1) := by decide +kernel
theorem dX1_model_11 : decode cX1_model 11 = .ok (.iload_n 3, 1) := by decide +kernel
theorem dX1_model_12 : decode cX1_model 12 = .ok (.invokevirtual 44, 3) := by decide +kernel
theorem dX1_model_15 : decode cX1_model 15 = .ok (.ifCond .eq 13, 3) := by decide +kernel
theorem dX1_model_18 : decode cX1_model 18 = .ok (.iload_n 2, 1) := by decide +kernel
theorem dX1_model_19 : decode cX1_model 19 = .ok (.iload_n 1, 1) := by decide +kernel
theorem dX1_model_20 : decode cX1_model 20 = .ok (.if_icmp .ne 5, 3) := by decide +kernel
theorem dX1_model_23 : decode cX1_model 23 = .ok (.iload_n 3, 1) := by decide +kernel
theorem dX1_model_24 : decode cX1_model 24 = .ok (.ireturn, 1) := by decide +kernel
theorem dX1_model_25 : decode cX1_model 25 = .ok (.iinc 2 1, 3) := by decide +kernel
theorem dX1_model_28 : decode cX1_model 28 = .ok (.iinc 3 1, 3) := by decide +kernel
theorem dX1_model_31 : decode cX1_model 31 = .ok (.goto (-27), 3) := by decide +kernel
theorem dX1_model_34 : decode cX1_model 34 = .ok (.iconst (-1), 1) := by decide +kernel
theorem dX1_model_35 : decode cX1_model 35 = .ok (.ireturn, 1) := by decide +kernel
theorem dX1_brave_0 : decode cX1_brave 0 = .ok (.iconst 0, 1) := by decide +kernel
theorem dX1_brave_1 : decode cX1_brave 1 = .ok (.istore_n 1, 1) := by decide +kernel
theorem dX1_brave_2 : decode cX1_brave 2 = .ok (.iconst 0, 1) := by decide +kernel
theorem dX1_brave_3 : decode cX1_brave 3 = .ok (.istore_n 2, 1) := by decide +kernel
theorem dX1_brave_4 : decode cX1_brave 4 = .ok (.iload_n 2, 1) := by decide +kernel
theorem dX1_brave_5 : decode cX1_brave 5 = .ok (.bipush 64, 2) := by decide +kernel
theorem dX1_brave_7 : decode cX1_brave 7 = .ok (.if_icmp .ge 25, 3) := by decide +kernel
theorem dX1_brave_10 : decode cX1_brave 10 = .ok (.aload_n 0, 1) := by decide +kernel
theorem dX1_brave_11 : decode cX1_brave 11 = .ok (.iload_n 2, 1) := by decide +kernel
theorem dX1_brave_12 : decode cX1_brave 12 = .ok (.invokevirtual 44, 3) := by decide +kernel
theorem dX1_brave_15 : decode cX1_brave 15 = .ok (.ifCond .eq 9, 3) := by decide +kernel
theorem dX1_brave_18 : decode cX1_brave 18 = .ok (.iload_n 1, 1) := by decide +kernel
theorem dX1_brave_19 : decode cX1_brave 19 = .ok (.iload_n 2, 1) := by decide +kernel
theorem dX1_brave_20 : decode cX1_brave 20 = .ok (.ior, 1) := by decide +kernel
theorem dX1_brave_21 : decode cX1_brave 21 = .ok (.goto 4, 3) := by decide +kernel
theorem dX1_brave_24 : decode cX1_brave 24 = .ok (.iload_n 1, 1) := by decide +kernel
theorem dX1_brave_25 : decode cX1_brave 25 = .ok (.istore_n 1, 1) := by decide +kernel
theorem dX1_brave_26 : decode cX1_brave 26 = .ok (.iinc 2 1, 3) := by decide +kernel
theorem dX1_brave_29 : decode cX1_brave 29 = .ok (.goto (-25), 3) := by decide +kernel
theorem dX1_brave_32 : decode cX1_brave 32 = .ok (.iload_n 1, 1) := by decide +kernel
theorem dX1_brave_33 : decode cX1_brave 33 = .ok (.ireturn, 1) := by decide +kernel
theorem dX1_cautious_0 : decode cX1_cautious 0 = .ok (.bipush 63, 2) := by decide +kernel
theorem dX1_cautious_2 : decode cX1_cautious 2 = .ok (.istore_n 1, 1) := by decide +kernel
theorem dX1_cautious_3 : decode cX1_cautious 3 = .ok (.iconst 0, 1) := by decide +kernel
theorem dX1_cautious_4 : decode cX1_cautious 4 = .ok (.istore_n 2, 1) := by decide +kernel
theorem dX1_cautious_5 : decode cX1_cautious 5 = .ok (.iload_n 2, 1) := by decide +kernel
theorem dX1_cautious_6 : decode cX1_cautious 6 = .ok (.bipush 64, 2) := by decide +kernel
theorem dX1_cautious_8 : decode cX1_cautious 8 = .ok (.if_icmp .ge 25, 3) := by decide +kernel
theorem dX1_cautious_11 : decode cX1_cautious 11 = .ok (.aload_n 0, 1) := by decide +kernel
theorem dX1_cautious_12 : decode cX1_cautious 12 = .ok (.iload_n 2, 1) := by decide +kernel
theorem dX1_cautious_13 : decode cX1_cautious 13 = .ok (.invokevirtual 44, 3) := by decide +kernel
theorem dX1_cautious_16 : decode cX1_cautious 16 = .ok (.ifCond .eq 9, 3) := by decide +kernel
theorem dX1_cautious_19 : decode cX1_cautious 19 = .ok (.iload_n 1, 1) := by decide +kernel
theorem dX1_cautious_20 : decode cX1_cautious 20 = .ok (.iload_n 2, 1) := by decide +kernel
theorem dX1_cautious_21 : decode cX1_cautious 21 = .ok (.iand, 1) := by decide +kernel
theorem dX1_cautious_22 : decode cX1_cautious 22 = .ok (.goto 4, 3) := by decide +kernel
theorem dX1_cautious_25 : decode cX1_cautious 25 = .ok (.iload_n 1, 1) := by decide +kernel
theorem dX1_cautious_26 : decode cX1_cautious 26 = .ok (.istore_n 1, 1) := by decide +kernel
theorem dX1_cautious_27 : decode cX1_cautious 27 = .ok (.iinc 2 1, 3) := by decide +kernel
theorem dX1_cautious_30 : decode cX1_cautious 30 = .ok (.goto (-25), 3) := by decide +kernel
theorem dX1_cautious_33 : decode cX1_cautious 33 = .ok (.iload_n 1, 1) := by decide +kernel
theorem dX1_cautious_34 : decode cX1_cautious 34 = .ok (.ireturn, 1) := by decide +kernel
theorem dX1_find_0 : decode cX1_find 0 = .ok (.iconst 0, 1) := by decide +kernel
theorem dX1_find_1 : decode cX1_find 1 = .ok (.istore_n 3, 1) := by decide +kernel
theorem dX1_find_2 : decode cX1_find 2 = .ok (.iload_n 3, 1) := by decide +kernel
theorem dX1_find_3 : decode cX1_find 3 = .ok (.bipush 64, 2) := by decide +kernel
theorem dX1_find_5 : decode cX1_find 5 = .ok (.if_icmp .ge 49, 3) := by decide +kernel
theorem dX1_find_8 : decode cX1_find 8 = .ok (.aload_n 0, 1) := by decide +kernel
theorem dX1_find_9 : decode cX1_find 9 = .ok (.iload_n 1, 1) := by decide +kernel
theorem dX1_find_10 : decode cX1_find 10 = .ok (.invokevirtual 32, 3) := by decide +kernel
theorem dX1_find_13 : decode cX1_find 13 = .ok (.ifCond .eq 41, 3) := by decide +kernel
theorem dX1_find_16 : decode cX1_find 16 = .ok (.aload_n 0, 1) := by decide +kernel
theorem dX1_find_17 : decode cX1_find 17 = .ok (.iload_n 2, 1) := by decide +kernel
theorem dX1_find_18 : decode cX1_find 18 = .ok (.invokevirtual 32, 3) := by decide +kernel
theorem dX1_find_21 : decode cX1_find 21 = .ok (.ifCond .eq 33, 3) := by decide +kernel
theorem dX1_find_24 : decode cX1_find 24 = .ok (.iload_n 1, 1) := by decide +kernel
theorem dX1_find_25 : decode cX1_find 25 = .ok (.iload_n 3, 1) := by decide +kernel
theorem dX1_find_26 : decode cX1_find 26 = .ok (.iconst (-1), 1) := by decide +kernel
theorem dX1_find_27 : decode cX1_find 27 = .ok (.ixor, 1) := by decide +kernel
theorem dX1_find_28 : decode cX1_find 28 = .ok (.iand, 1) := by decide +kernel
theorem dX1_find_29 : decode cX1_find 29 = .ok (.ifCond .ne 19, 3) := by decide +kernel
theorem dX1_find_32 : decode cX1_find 32 = .ok (.iload_n 2, 1) := by decide +kernel
theorem dX1_find_33 : decode cX1_find 33 = .ok (.iload_n 3, 1) := by decide +kernel
theorem dX1_find_34 : decode cX1_find 34 = .ok (.iand, 1) := by decide +kernel
theorem dX1_find_35 : decode cX1_find 35 = .ok (.ifCond .ne 13, 3) := by decide +kernel
theorem dX1_find_38 : decode cX1_find 38 = .ok (.aload_n 0, 1) := by decide +kernel
theorem dX1_find_39 : decode cX1_find 39 = .ok (.iload_n 3, 1) := by decide +kernel
theorem dX1_find_40 : decode cX1_find 40 = .ok (.invokevirtual 44, 3) := by decide +kernel
theorem dX1_find_43 : decode cX1_find 43 = .ok (.ifCond .eq 5, 3) := by decide +kernel
theorem dX1_find_46 : decode cX1_find 46 = .ok (.iload_n 3, 1) := by decide +kernel
theorem dX1_find_47 : decode cX1_find 47 = .ok (.ireturn, 1) := by decide +kernel
theorem dX1_find_48 : decode cX1_find 48 = .ok (.iinc 3 1, 3) := by decide +kernel
theorem dX1_find_51 : decode cX1_find 51 = .ok (.goto (-49), 3) := by decide +kernel
theorem dX1_find_54 : decode cX1_find 54 = .ok (.iconst (-1), 1) := by decide +kernel
theorem dX1_find_55 : decode cX1_find 55 = .ok (.ireturn, 1) := by decide +kernel
theorem dX1_fewest_0 : decode cX1_fewest 0 = .ok (.iconst (-1), 1) := by decide +kernel
theorem dX1_fewest_1 : decode cX1_fewest 1 = .ok (.istore_n 1, 1) := by decide +kernel
theorem dX1_fewest_2 : decode cX1_fewest 2 = .ok (.iconst 0, 1) := by decide +kernel
theorem dX1_fewest_3 : decode cX1_fewest 3 = .ok (.istore_n 2, 1) := by decide +kernel
theorem dX1_fewest_4 : decode cX1_fewest 4 = .ok (.iload_n 2, 1) := by decide +kernel
theorem dX1_fewest_5 : decode cX1_fewest 5 = .ok (.bipush 64, 2) := by decide +kernel
theorem dX1_fewest_7 : decode cX1_fewest 7 = .ok (.if_icmp .ge 38, 3) := by decide +kernel
theorem dX1_fewest_10 : decode cX1_fewest 10 = .ok (.aload_n 0, 1) := by decide +kernel
theorem dX1_fewest_11 : decode cX1_fewest 11 = .ok (.iload_n 2, 1) := by decide +kernel
theorem dX1_fewest_12 : decode cX1_fewest 12 = .ok (.invokevirtual 47, 3) := by decide +kernel
theorem dX1_fewest_15 : decode cX1_fewest 15 = .ok (.istore_n 3, 1) := by decide +kernel
theorem dX1_fewest_16 : decode cX1_fewest 16 = .ok (.aload_n 0, 1) := by decide +kernel
theorem dX1_fewest_17 : decode cX1_fewest 17 = .ok (.iload_n 2, 1) := by decide +kernel
theorem dX1_fewest_18 : decode cX1_fewest 18 = .ok (.invokevirtual 44, 3) := by decide +kernel
theorem dX1_fewest_21 : decode cX1_fewest 21 = .ok (.ifCond .eq 16, 3) := by decide +kernel
theorem dX1_fewest_24 : decode cX1_fewest 24 = .ok (.iload_n 1, 1) := by decide +kernel
theorem dX1_fewest_25 : decode cX1_fewest 25 = .ok (.ifCond .lt 8, 3) := by decide +kernel
theorem dX1_fewest_28 : decode cX1_fewest 28 = .ok (.iload_n 3, 1) := by decide +kernel
theorem dX1_fewest_29 : decode cX1_fewest 29 = .ok (.iload_n 1, 1) := by decide +kernel
theorem dX1_fewest_30 : decode cX1_fewest 30 = .ok (.if_icmp .ge 7, 3) := by decide +kernel
theorem dX1_fewest_33 : decode cX1_fewest 33 = .ok (.iload_n 3, 1) := by decide +kernel
theorem dX1_fewest_34 : decode cX1_fewest 34 = .ok (.goto 4, 3) := by decide +kernel
theorem dX1_fewest_37 : decode cX1_fewest 37 = .ok (.iload_n 1, 1) := by decide +kernel
theorem dX1_fewest_38 : decode cX1_fewest 38 = .ok (.istore_n 1, 1) := by decide +kernel
theorem dX1_fewest_39 : decode cX1_fewest 39 = .ok (.iinc 2 1, 3) := by decide +kernel
theorem dX1_fewest_42 : decode cX1_fewest 42 = .ok (.goto (-38), 3) := by decide +kernel
theorem dX1_fewest_45 : decode cX1_fewest 45 = .ok (.iload_n 1, 1) := by decide +kernel
theorem dX1_fewest_46 : decode cX1_fewest 46 = .ok (.ireturn, 1) := by decide +kernel
theorem dX1_ones_0 : decode cX1_ones 0 = .ok (.iconst 0, 1) := by decide +kernel
theorem dX1_ones_1 : decode cX1_ones 1 = .ok (.istore_n 2, 1) := by decide +kernel
theorem dX1_ones_2 : decode cX1_ones 2 = .ok (.iconst 0, 1) := by decide +kernel
theorem dX1_ones_3 : decode cX1_ones 3 = .ok (.istore_n 3, 1) := by decide +kernel
theorem dX1_ones_4 : decode cX1_ones 4 = .ok (.iload_n 3, 1) := by decide +kernel
theorem dX1_ones_5 : decode cX1_ones 5 = .ok (.bipush 6, 2) := by decide +kernel
theorem dX1_ones_7 : decode cX1_ones 7 = .ok (.if_icmp .ge 17, 3) := by decide +kernel
theorem dX1_ones_10 : decode cX1_ones 10 = .ok (.iload_n 2, 1) := by decide +kernel
theorem dX1_ones_11 : decode cX1_ones 11 = .ok (.iload_n 1, 1) := by decide +kernel
theorem dX1_ones_12 : decode cX1_ones 12 = .ok (.iload_n 3, 1) := by decide +kernel
theorem dX1_ones_13 : decode cX1_ones 13 = .ok (.ishr, 1) := by decide +kernel
theorem dX1_ones_14 : decode cX1_ones 14 = .ok (.iconst 1, 1) := by decide +kernel
theorem dX1_ones_15 : decode cX1_ones 15 = .ok (.iand, 1) := by decide +kernel
theorem dX1_ones_16 : decode cX1_ones 16 = .ok (.iadd, 1) := by decide +kernel
theorem dX1_ones_17 : decode cX1_ones 17 = .ok (.istore_n 2, 1) := by decide +kernel
theorem dX1_ones_18 : decode cX1_ones 18 = .ok (.iinc 3 1, 3) := by decide +kernel
theorem dX1_ones_21 : decode cX1_ones 21 = .ok (.goto (-17), 3) := by decide +kernel
theorem dX1_ones_24 : decode cX1_ones 24 = .ok (.iload_n 2, 1) := by decide +kernel
theorem dX1_ones_25 : decode cX1_ones 25 = .ok (.ireturn, 1) := by decide +kernel
theorem dX1_maximal_0 : decode cX1_maximal 0 = .ok (.aload_n 0, 1) := by decide +kernel
theorem dX1_maximal_1 : decode cX1_maximal 1 = .ok (.invokevirtual 50, 3) := by decide +kernel
theorem dX1_maximal_4 : decode cX1_maximal 4 = .ok (.iconst 0, 1) := by decide +kernel
theorem dX1_maximal_5 : decode cX1_maximal 5 = .ok (.istore_n 1, 1) := by decide +kernel
theorem dX1_maximal_6 : decode cX1_maximal 6 = .ok (.iconst 0, 1) := by decide +kernel
theorem dX1_maximal_7 : decode cX1_maximal 7 = .ok (.istore_n 2, 1) := by decide +kernel
theorem dX1_maximal_8 : decode cX1_maximal 8 = .ok (.iload_n 2, 1) := by decide +kernel
theorem dX1_maximal_9 : decode cX1_maximal 9 = .ok (.bipush 64, 2) := by decide +kernel
theorem dX1_maximal_11 : decode cX1_maximal 11 = .ok (.if_icmp .ge 79, 3) := by decide +kernel
theorem dX1_maximal_14 : decode cX1_maximal 14 = .ok (.aload_n 0, 1) := by decide +kernel
theorem dX1_maximal_15 : decode cX1_maximal 15 = .ok (.getfield 26, 3) := by decide +kernel
theorem dX1_maximal_18 : decode cX1_maximal 18 = .ok (.iload_n 2, 1) := by decide +kernel
theorem dX1_maximal_19 : decode cX1_maximal 19 = .ok (.baload, 1) := by decide +kernel
theorem dX1_maximal_20 : decode cX1_maximal 20 = .ok (.istore_n 3, 1) := by decide +kernel
theorem dX1_maximal_21 : decode cX1_maximal 21 = .ok (.iconst 0, 1) := by decide +kernel
theorem dX1_maximal_22 : decode cX1_maximal 22 = .ok (.istore 4, 2) := by decide +kernel
theorem dX1_maximal_24 : decode cX1_maximal 24 = .ok (.iload 4, 2) := by decide +kernel
theorem dX1_maximal_26 : decode cX1_maximal 26 = .ok (.bipush 64, 2) := by decide +kernel
theorem dX1_maximal_28 : decode cX1_maximal 28 = .ok (.if_icmp .ge 44, 3) := by decide +kernel
theorem dX1_maximal_31 : decode cX1_maximal 31 = .ok (.iload_n 3, 1) := by decide +kernel
theorem dX1_maximal_32 : decode cX1_maximal 32 = .ok (.ifCond .eq 32, 3) := by decide +kernel
theorem dX1_maximal_35 : decode cX1_maximal 35 = .ok (.aload_n 0, 1) := by decide +kernel
theorem dX1_maximal_36 : decode cX1_maximal 36 = .ok (.getfield 26, 3) := by decide +kernel
theorem dX1_maximal_39 : decode cX1_maximal 39 = .ok (.iload 4, 2) := by decide +kernel
theorem dX1_maximal_41 : decode cX1_maximal 41 = .ok (.baload, 1) := by decide +kernel
theorem dX1_maximal_42 : decode cX1_maximal 42 = .ok (.ifCond .eq 18, 3) := by decide +kernel
theorem dX1_maximal_45 : decode cX1_maximal 45 = .ok (.iload 4, 2) := by decide +kernel
theorem dX1_maximal_47 : decode cX1_maximal 47 = .ok (.iload_n 2, 1) := by decide +kernel
theorem dX1_maximal_48 : decode cX1_maximal 48 = .ok (.if_icmp .eq 12, 3) := by decide +kernel
theorem dX1_maximal_51 : decode cX1_maximal 51 = .ok (.iload_n 2, 1) := by decide +kernel
theorem dX1_maximal_52 : decode cX1_maximal 52 = .ok (.iload 4, 2) := by decide +kernel
theorem dX1_maximal_54 : decode cX1_maximal 54 = .ok (.iconst (-1), 1) := by decide +kernel
theorem dX1_maximal_55 : decode cX1_maximal 55 = .ok (.ixor, 1) := by decide +kernel
theorem dX1_maximal_56 : decode cX1_maximal 56 = .ok (.iand, 1) := by decide +kernel
theorem dX1_maximal_57 : decode cX1_maximal 57 = .ok (.ifCond .eq 7, 3) := by decide +kernel
theorem dX1_maximal_60 : decode cX1_maximal 60 = .ok (.iconst 1, 1) := by decide +kernel
theorem dX1_maximal_61 : decode cX1_maximal 61 = .ok (.goto 4, 3) := by decide +kernel
theorem dX1_maximal_64 : decode cX1_maximal 64 = .ok (.iconst 0, 1) := by decide +kernel
theorem dX1_maximal_65 : decode cX1_maximal 65 = .ok (.istore_n 3, 1) := by decide +kernel
theorem dX1_maximal_66 : decode cX1_maximal 66 = .ok (.iinc 4 1, 3) := by decide +kernel
theorem dX1_maximal_69 : decode cX1_maximal 69 = .ok (.goto (-45), 3) := by decide +kernel
theorem dX1_maximal_72 : decode cX1_maximal 72 = .ok (.iload_n 3, 1) := by decide +kernel
theorem dX1_maximal_73 : decode cX1_maximal 73 = .ok (.ifCond .eq 9, 3) := by decide +kernel
theorem dX1_maximal_76 : decode cX1_maximal 76 = .ok (.iload_n 1, 1) := by decide +kernel
theorem dX1_maximal_77 : decode cX1_maximal 77 = .ok (.iconst 1, 1) := by decide +kernel
theorem dX1_maximal_78 : decode cX1_maximal 78 = .ok (.iadd, 1) := by decide +kernel
theorem dX1_maximal_79 : decode cX1_maximal 79 = .ok (.goto 4, 3) := by decide +kernel
theorem dX1_maximal_82 : decode cX1_maximal 82 = .ok (.iload_n 1, 1) := by decide +kernel
theorem dX1_maximal_83 : decode cX1_maximal 83 = .ok (.istore_n 1, 1) := by decide +kernel
theorem dX1_maximal_84 : decode cX1_maximal 84 = .ok (.iinc 2 1, 3) := by decide +kernel
theorem dX1_maximal_87 : decode cX1_maximal 87 = .ok (.goto (-79), 3) := by decide +kernel
theorem dX1_maximal_90 : decode cX1_maximal 90 = .ok (.iload_n 1, 1) := by decide +kernel
theorem dX1_maximal_91 : decode cX1_maximal 91 = .ok (.ireturn, 1) := by decide +kernel
theorem dX1_work_0 : decode cX1_work 0 = .ok (.iconst 0, 1) := by decide +kernel
theorem dX1_work_1 : decode cX1_work 1 = .ok (.istore_n 1, 1) := by decide +kernel
theorem dX1_work_2 : decode cX1_work 2 = .ok (.iload_n 1, 1) := by decide +kernel
theorem dX1_work_3 : decode cX1_work 3 = .ok (.bipush 64, 2) := by decide +kernel
theorem dX1_work_5 : decode cX1_work 5 = .ok (.if_icmp .ge 20, 3) := by decide +kernel
theorem dX1_work_8 : decode cX1_work 8 = .ok (.aload_n 0, 1) := by decide +kernel
theorem dX1_work_9 : decode cX1_work 9 = .ok (.getfield 26, 3) := by decide +kernel
theorem dX1_work_12 : decode cX1_work 12 = .ok (.iload_n 1, 1) := by decide +kernel
theorem dX1_work_13 : decode cX1_work 13 = .ok (.aload_n 0, 1) := by decide +kernel
theorem dX1_work_14 : decode cX1_work 14 = .ok (.iload_n 1, 1) := by decide +kernel
theorem dX1_work_15 : decode cX1_work 15 = .ok (.invokevirtual 44, 3) := by decide +kernel
theorem dX1_work_18 : decode cX1_work 18 = .ok (.bastore, 1) := by decide +kernel
theorem dX1_work_19 : decode cX1_work 19 = .ok (.iinc 1 1, 3) := by decide +kernel
theorem dX1_work_22 : decode cX1_work 22 = .ok (.goto (-20), 3) := by decide +kernel
theorem dX1_work_25 : decode cX1_work 25 = .ok (.return_, 1) := by decide +kernel
theorem dX1_matters_0 : decode cX1_matters 0 = .ok (.iload_n 1, 1) := by decide +kernel
theorem dX1_matters_1 : decode cX1_matters 1 = .ok (.ifCond .lt 18, 3) := by decide +kernel
theorem dX1_matters_4 : decode cX1_matters 4 = .ok (.iload_n 1, 1) := by decide +kernel
theorem dX1_matters_5 : decode cX1_matters 5 = .ok (.bipush 9, 2) := by decide +kernel
theorem dX1_matters_7 : decode cX1_matters 7 = .ok (.if_icmp .gt 12, 3) := by decide +kernel
theorem dX1_matters_10 : decode cX1_matters 10 = .ok (.aload_n 0, 1) := by decide +kernel
theorem dX1_matters_11 : decode cX1_matters 11 = .ok (.getfield 7, 3) := by decide +kernel
theorem dX1_matters_14 : decode cX1_matters 14 = .ok (.iload_n 1, 1) := by decide +kernel
theorem dX1_matters_15 : decode cX1_matters 15 = .ok (.baload, 1) := by decide +kernel
theorem dX1_matters_16 : decode cX1_matters 16 = .ok (.ifCond .ne 5, 3) := by decide +kernel
theorem dX1_matters_19 : decode cX1_matters 19 = .ok (.iconst 0, 1) := by decide +kernel
theorem dX1_matters_20 : decode cX1_matters 20 = .ok (.ireturn, 1) := by decide +kernel
theorem dX1_matters_21 : decode cX1_matters 21 = .ok (.aload_n 0, 1) := by decide +kernel
theorem dX1_matters_22 : decode cX1_matters 22 = .ok (.invokevirtual 50, 3) := by decide +kernel
theorem dX1_matters_25 : decode cX1_matters 25 = .ok (.iconst 0, 1) := by decide +kernel
theorem dX1_matters_26 : decode cX1_matters 26 = .ok (.istore_n 2, 1) := by decide +kernel
theorem dX1_matters_27 : decode cX1_matters 27 = .ok (.iload_n 2, 1) := by decide +kernel
theorem dX1_matters_28 : decode cX1_matters 28 = .ok (.bipush 64, 2) := by decide +kernel
theorem dX1_matters_30 : decode cX1_matters 30 = .ok (.if_icmp .ge 21, 3) := by decide +kernel
theorem dX1_matters_33 : decode cX1_matters 33 = .ok (.aload_n 0, 1) := by decide +kernel
theorem dX1_matters_34 : decode cX1_matters 34 = .ok (.getfield 29, 3) := by decide +kernel
theorem dX1_matters_37 : decode cX1_matters 37 = .ok (.iload_n 2, 1) := by decide +kernel
theorem dX1_matters_38 : decode cX1_matters 38 = .ok (.aload_n 0, 1) := by decide +kernel
theorem dX1_matters_39 : decode cX1_matters 39 = .ok (.getfield 26, 3) := by decide +kernel
theorem dX1_matters_42 : decode cX1_matters 42 = .ok (.iload_n 2, 1) := by decide +kernel
theorem dX1_matters_43 : decode cX1_matters 43 = .ok (.baload, 1) := by decide +kernel
theorem dX1_matters_44 : decode cX1_matters 44 = .ok (.bastore, 1) := by decide +kernel
theorem dX1_matters_45 : decode cX1_matters 45 = .ok (.iinc 2 1, 3) := by decide +kernel
theorem dX1_matters_48 : decode cX1_matters 48 = .ok (.goto (-21), 3) := by decide +kernel
theorem dX1_matters_51 : decode cX1_matters 51 = .ok (.aload_n 0, 1) := by decide +kernel
theorem dX1_matters_52 : decode cX1_matters 52 = .ok (.getfield 7, 3) := by decide +kernel
theorem dX1_matters_55 : decode cX1_matters 55 = .ok (.iload_n 1, 1) := by decide +kernel
theorem dX1_matters_56 : decode cX1_matters 56 = .ok (.iconst 0, 1) := by decide +kernel
theorem dX1_matters_57 : decode cX1_matters 57 = .ok (.bastore, 1) := by decide +kernel
theorem dX1_matters_58 : decode cX1_matters 58 = .ok (.aload_n 0, 1) := by decide +kernel
theorem dX1_matters_59 : decode cX1_matters 59 = .ok (.invokevirtual 50, 3) := by decide +kernel
theorem dX1_matters_62 : decode cX1_matters 62 = .ok (.aload_n 0, 1) := by decide +kernel
theorem dX1_matters_63 : decode cX1_matters 63 = .ok (.getfield 7, 3) := by decide +kernel
theorem dX1_matters_66 : decode cX1_matters 66 = .ok (.iload_n 1, 1) := by decide +kernel
theorem dX1_matters_67 : decode cX1_matters 67 = .ok (.iconst 1, 1) := by decide +kernel
theorem dX1_matters_68 : decode cX1_matters 68 = .ok (.bastore, 1) := by decide +kernel
theorem dX1_matters_69 : decode cX1_matters 69 = .ok (.iconst 0, 1) := by decide +kernel
theorem dX1_matters_70 : decode cX1_matters 70 = .ok (.istore_n 2, 1) := by decide +kernel
theorem dX1_matters_71 : decode cX1_matters 71 = .ok (.iconst 0, 1) := by decide +kernel
theorem dX1_matters_72 : decode cX1_matters 72 = .ok (.istore_n 3, 1) := by decide +kernel
theorem dX1_matters_73 : decode cX1_matters 73 = .ok (.iload_n 3, 1) := by decide +kernel
theorem dX1_matters_74 : decode cX1_matters 74 = .ok (.bipush 64, 2) := by decide +kernel
theorem dX1_matters_76 : decode cX1_matters 76 = .ok (.if_icmp .ge 34, 3) := by decide +kernel
theorem dX1_matters_79 : decode cX1_matters 79 = .ok (.iload_n 2, 1) := by decide +kernel
theorem dX1_matters_80 : decode cX1_matters 80 = .ok (.ifCond .ne 18, 3) := by decide +kernel
theorem dX1_matters_83 : decode cX1_matters 83 = .ok (.aload_n 0, 1) := by decide +kernel
theorem dX1_matters_84 : decode cX1_matters 84 = .ok (.getfield 26, 3) := by decide +kernel
theorem dX1_matters_87 : decode cX1_matters 87 = .ok (.iload_n 3, 1) := by decide +kernel
theorem dX1_matters_88 : decode cX1_matters 88 = .ok (.baload, 1) := by decide +kernel
theorem dX1_matters_89 : decode cX1_matters 89 = .ok (.aload_n 0, 1) := by decide +kernel
theorem dX1_matters_90 : decode cX1_matters 90 = .ok (.getfield 29, 3) := by decide +kernel
theorem dX1_matters_93 : decode cX1_matters 93 = .ok (.iload_n 3, 1) := by decide +kernel
theorem dX1_matters_94 : decode cX1_matters 94 = .ok (.baload, 1) := by decide +kernel
theorem dX1_matters_95 : decode cX1_matters 95 = .ok (.if_icmp .eq 7, 3) := by decide +kernel
theorem dX1_matters_98 : decode cX1_matters 98 = .ok (.iconst 1, 1) := by decide +kernel
theorem dX1_matters_99 : decode cX1_matters 99 = .ok (.goto 4, 3) := by decide +kernel
theorem dX1_matters_102 : decode cX1_matters 102 = .ok (.iconst 0, 1) := by decide +kernel
theorem dX1_matters_103 : decode cX1_matters 103 = .ok (.istore_n 2, 1) := by decide +kernel
theorem dX1_matters_104 : decode cX1_matters 104 = .ok (.iinc 3 1, 3) := by decide +kernel
theorem dX1_matters_107 : decode cX1_matters 107 = .ok (.goto (-34), 3) := by decide +kernel
theorem dX1_matters_110 : decode cX1_matters 110 = .ok (.iload_n 2, 1) := by decide +kernel
theorem dX1_matters_111 : decode cX1_matters 111 = .ok (.ireturn, 1) := by decide +kernel
theorem dJ0_init_0 : decode cJ0_init 0 = .ok (.return_, 1) := by decide +kernel
end
section
set_option maxRecDepth 100000
/-! the law's own entry -/
abbrev cL_law : ByteArray := code
theorem dL_law_0 : decode cL_law 0 = .ok (.new 7, 3) := by decide +kernel
theorem dL_law_3 : decode cL_law 3 = .ok (.dup, 1) := by decide +kernel
theorem dL_law_4 : decode cL_law 4 = .ok (.invokespecial 9, 3) := by decide +kernel
theorem dL_law_7 : decode cL_law 7 = .ok (.astore_n 1, 1) := by decide +kernel
theorem dL_law_8 : decode cL_law 8 = .ok (.new 10, 3) := by decide +kernel
theorem dL_law_11 : decode cL_law 11 = .ok (.dup, 1) := by decide +kernel
theorem dL_law_12 : decode cL_law 12 = .ok (.invokespecial 12, 3) := by decide +kernel
theorem dL_law_15 : decode cL_law 15 = .ok (.astore_n 2, 1) := by decide +kernel
theorem dL_law_16 : decode cL_law 16 = .ok (.iconst 0, 1) := by decide +kernel
theorem dL_law_17 : decode cL_law 17 = .ok (.istore_n 3, 1) := by decide +kernel
theorem dL_law_18 : decode cL_law 18 = .ok (.iload_n 3, 1) := by decide +kernel
theorem dL_law_19 : decode cL_law 19 = .ok (.aload_n 0, 1) := by decide +kernel
theorem dL_law_20 : decode cL_law 20 = .ok (.arraylength, 1) := by decide +kernel
theorem dL_law_21 : decode cL_law 21 = .ok (.iconst 5, 1) := by decide +kernel
theorem dL_law_22 : decode cL_law 22 = .ok (.isub, 1) := by decide +kernel
theorem dL_law_23 : decode cL_law 23 = .ok (.if_icmp .gt 362, 3) := by decide +kernel
theorem dL_law_26 : decode cL_law 26 = .ok (.aload_n 0, 1) := by decide +kernel
theorem dL_law_27 : decode cL_law 27 = .ok (.iload_n 3, 1) := by decide +kernel
theorem dL_law_28 : decode cL_law 28 = .ok (.iaload, 1) := by decide +kernel
theorem dL_law_29 : decode cL_law 29 = .ok (.bipush 15, 2) := by decide +kernel
theorem dL_law_31 : decode cL_law 31 = .ok (.iand, 1) := by decide +kernel
theorem dL_law_32 : decode cL_law 32 = .ok (.tableswitch 347 0 12 #[68, 121, 144, 157, 180, 203, 216, 239, 252, 265, 298, 311, 324], 68) := by decide +kernel
theorem dL_law_100 : decode cL_law 100 = .ok (.aload_n 1, 1) := by decide +kernel
theorem dL_law_101 : decode cL_law 101 = .ok (.aload_n 0, 1) := by decide +kernel
theorem dL_law_102 : decode cL_law 102 = .ok (.iload_n 3, 1) := by decide +kernel
theorem dL_law_103 : decode cL_law 103 = .ok (.iconst 1, 1) := by decide +kernel
theorem dL_law_104 : decode cL_law 104 = .ok (.iadd, 1) := by decide +kernel
theorem dL_law_105 : decode cL_law 105 = .ok (.iaload, 1) := by decide +kernel
theorem dL_law_106 : decode cL_law 106 = .ok (.aload_n 0, 1) := by decide +kernel
theorem dL_law_107 : decode cL_law 107 = .ok (.iload_n 3, 1) := by decide +kernel
theorem dL_law_108 : decode cL_law 108 = .ok (.iconst 2, 1) := by decide +kernel
theorem dL_law_109 : decode cL_law 109 = .ok (.iadd, 1) := by decide +kernel
theorem dL_law_110 : decode cL_law 110 = .ok (.iaload, 1) := by decide +kernel
theorem dL_law_111 : decode cL_law 111 = .ok (.aload_n 0, 1) := by decide +kernel
theorem dL_law_112 : decode cL_law 112 = .ok (.iload_n 3, 1) := by decide +kernel
theorem dL_law_113 : decode cL_law 113 = .ok (.iconst 3, 1) := by decide +kernel
theorem dL_law_114 : decode cL_law 114 = .ok (.iadd, 1) := by decide +kernel
theorem dL_law_115 : decode cL_law 115 = .ok (.iaload, 1) := by decide +kernel
theorem dL_law_116 : decode cL_law 116 = .ok (.aload_n 0, 1) := by decide +kernel
theorem dL_law_117 : decode cL_law 117 = .ok (.iload_n 3, 1) := by decide +kernel
theorem dL_law_118 : decode cL_law 118 = .ok (.iconst 4, 1) := by decide +kernel
theorem dL_law_119 : decode cL_law 119 = .ok (.iadd, 1) := by decide +kernel
theorem dL_law_120 : decode cL_law 120 = .ok (.iaload, 1) := by decide +kernel
theorem dL_law_121 : decode cL_law 121 = .ok (.invokevirtual 13, 3) := by decide +kernel
theorem dL_law_124 : decode cL_law 124 = .ok (.aload_n 2, 1) := by decide +kernel
theorem dL_law_125 : decode cL_law 125 = .ok (.aload_n 0, 1) := by decide +kernel
theorem dL_law_126 : decode cL_law 126 = .ok (.iload_n 3, 1) := by decide +kernel
theorem dL_law_127 : decode cL_law 127 = .ok (.iconst 1, 1) := by decide +kernel
theorem dL_law_128 : decode cL_law 128 = .ok (.iadd, 1) := by decide +kernel
theorem dL_law_129 : decode cL_law 129 = .ok (.iaload, 1) := by decide +kernel
theorem dL_law_130 : decode cL_law 130 = .ok (.aload_n 0, 1) := by decide +kernel
theorem dL_law_131 : decode cL_law 131 = .ok (.iload_n 3, 1) := by decide +kernel
theorem dL_law_132 : decode cL_law 132 = .ok (.iconst 2, 1) := by decide +kernel
theorem dL_law_133 : decode cL_law 133 = .ok (.iadd, 1) := by decide +kernel
theorem dL_law_134 : decode cL_law 134 = .ok (.iaload, 1) := by decide +kernel
theorem dL_law_135 : decode cL_law 135 = .ok (.aload_n 0, 1) := by decide +kernel
theorem dL_law_136 : decode cL_law 136 = .ok (.iload_n 3, 1) := by decide +kernel
theorem dL_law_137 : decode cL_law 137 = .ok (.iconst 3, 1) := by decide +kernel
theorem dL_law_138 : decode cL_law 138 = .ok (.iadd, 1) := by decide +kernel
theorem dL_law_139 : decode cL_law 139 = .ok (.iaload, 1) := by decide +kernel
theorem dL_law_140 : decode cL_law 140 = .ok (.aload_n 0, 1) := by decide +kernel
theorem dL_law_141 : decode cL_law 141 = .ok (.iload_n 3, 1) := by decide +kernel
theorem dL_law_142 : decode cL_law 142 = .ok (.iconst 4, 1) := by decide +kernel
theorem dL_law_143 : decode cL_law 143 = .ok (.iadd, 1) := by decide +kernel
theorem dL_law_144 : decode cL_law 144 = .ok (.iaload, 1) := by decide +kernel
theorem dL_law_145 : decode cL_law 145 = .ok (.invokevirtual 17, 3) := by decide +kernel
theorem dL_law_148 : decode cL_law 148 = .ok (.if_icmp .eq 231, 3) := by decide +kernel
theorem dL_law_151 : decode cL_law 151 = .ok (.iconst 0, 1) := by decide +kernel
theorem dL_law_152 : decode cL_law 152 = .ok (.ireturn, 1) := by decide +kernel
theorem dL_law_153 : decode cL_law 153 = .ok (.aload_n 1, 1) := by decide +kernel
theorem dL_law_154 : decode cL_law 154 = .ok (.aload_n 0, 1) := by decide +kernel
theorem dL_law_155 : decode cL_law 155 = .ok (.iload_n 3, 1) := by decide +kernel
theorem dL_law_156 : decode cL_law 156 = .ok (.iconst 1, 1) := by decide +kernel
theorem dL_law_157 : decode cL_law 157 = .ok (.iadd, 1) := by decide +kernel
theorem dL_law_158 : decode cL_law 158 = .ok (.iaload, 1) := by decide +kernel
theorem dL_law_159 : decode cL_law 159 = .ok (.invokevirtual 18, 3) := by decide +kernel
theorem dL_law_162 : decode cL_law 162 = .ok (.aload_n 2, 1) := by decide +kernel
theorem dL_law_163 : decode cL_law 163 = .ok (.aload_n 0, 1) := by decide +kernel
theorem dL_law_164 : decode cL_law 164 = .ok (.iload_n 3, 1) := by decide +kernel
theorem dL_law_165 : decode cL_law 165 = .ok (.iconst 1, 1) := by decide +kernel
theorem dL_law_166 : decode cL_law 166 = .ok (.iadd, 1) := by decide +kernel
theorem dL_law_167 : decode cL_law 167 = .ok (.iaload, 1) := by decide +kernel
theorem dL_law_168 : decode cL_law 168 = .ok (.invokevirtual 22, 3) := by decide +kernel
theorem dL_law_171 : decode cL_law 171 = .ok (.if_icmp .eq 208, 3) := by decide +kernel
theorem dL_law_174 : decode cL_law 174 = .ok (.iconst 0, 1) := by decide +kernel
theorem dL_law_175 : decode cL_law 175 = .ok (.ireturn, 1) := by decide +kernel
theorem dL_law_176 : decode cL_law 176 = .ok (.aload_n 1, 1) := by decide +kernel
theorem dL_law_177 : decode cL_law 177 = .ok (.invokevirtual 23, 3) := by decide +kernel
theorem dL_law_180 : decode cL_law 180 = .ok (.aload_n 2, 1) := by decide +kernel
theorem dL_law_181 : decode cL_law 181 = .ok (.invokevirtual 27, 3) := by decide +kernel
theorem dL_law_184 : decode cL_law 184 = .ok (.if_icmp .eq 195, 3) := by decide +kernel
theorem dL_law_187 : decode cL_law 187 = .ok (.iconst 0, 1) := by decide +kernel
theorem dL_law_188 : decode cL_law 188 = .ok (.ireturn, 1) := by decide +kernel
theorem dL_law_189 : decode cL_law 189 = .ok (.aload_n 1, 1) := by decide +kernel
theorem dL_law_190 : decode cL_law 190 = .ok (.aload_n 0, 1) := by decide +kernel
theorem dL_law_191 : decode cL_law 191 = .ok (.iload_n 3, 1) := by decide +kernel
theorem dL_law_192 : decode cL_law 192 = .ok (.iconst 1, 1) := by decide +kernel
theorem dL_law_193 : decode cL_law 193 = .ok (.iadd, 1) := by decide +kernel
theorem dL_law_194 : decode cL_law 194 = .ok (.iaload, 1) := by decide +kernel
theorem dL_law_195 : decode cL_law 195 = .ok (.invokevirtual 28, 3) := by decide +kernel
theorem dL_law_198 : decode cL_law 198 = .ok (.aload_n 2, 1) := by decide +kernel
theorem dL_law_199 : decode cL_law 199 = .ok (.aload_n 0, 1) := by decide +kernel
theorem dL_law_200 : decode cL_law 200 = .ok (.iload_n 3, 1) := by decide +kernel
theorem dL_law_201 : decode cL_law 201 = .ok (.iconst 1, 1) := by decide +kernel
theorem dL_law_202 : decode cL_law 202 = .ok (.iadd, 1) := by decide +kernel
theorem dL_law_203 : decode cL_law 203 = .ok (.iaload, 1) := by decide +kernel
theorem dL_law_204 : decode cL_law 204 = .ok (.invokevirtual 32, 3) := by decide +kernel
theorem dL_law_207 : decode cL_law 207 = .ok (.if_icmp .eq 172, 3) := by decide +kernel
theorem dL_law_210 : decode cL_law 210 = .ok (.iconst 0, 1) := by decide +kernel
theorem dL_law_211 : decode cL_law 211 = .ok (.ireturn, 1) := by decide +kernel
theorem dL_law_212 : decode cL_law 212 = .ok (.aload_n 1, 1) := by decide +kernel
theorem dL_law_213 : decode cL_law 213 = .ok (.aload_n 0, 1) := by decide +kernel
theorem dL_law_214 : decode cL_law 214 = .ok (.iload_n 3, 1) := by decide +kernel
theorem dL_law_215 : decode cL_law 215 = .ok (.iconst 1, 1) := by decide +kernel
theorem dL_law_216 : decode cL_law 216 = .ok (.iadd, 1) := by decide +kernel
theorem dL_law_217 : decode cL_law 217 = .ok (.iaload, 1) := by decide +kernel
theorem dL_law_218 : decode cL_law 218 = .ok (.invokevirtual 33, 3) := by decide +kernel
theorem dL_law_221 : decode cL_law 221 = .ok (.aload_n 2, 1) := by decide +kernel
theorem dL_law_222 : decode cL_law 222 = .ok (.aload_n 0, 1) := by decide +kernel
theorem dL_law_223 : decode cL_law 223 = .ok (.iload_n 3, 1) := by decide +kernel
theorem dL_law_224 : decode cL_law 224 = .ok (.iconst 1, 1) := by decide +kernel
theorem dL_law_225 : decode cL_law 225 = .ok (.iadd, 1) := by decide +kernel
theorem dL_law_226 : decode cL_law 226 = .ok (.iaload, 1) := by decide +kernel
theorem dL_law_227 : decode cL_law 227 = .ok (.invokevirtual 36, 3) := by decide +kernel
theorem dL_law_230 : decode cL_law 230 = .ok (.if_icmp .eq 149, 3) := by decide +kernel
theorem dL_law_233 : decode cL_law 233 = .ok (.iconst 0, 1) := by decide +kernel
theorem dL_law_234 : decode cL_law 234 = .ok (.ireturn, 1) := by decide +kernel
theorem dL_law_235 : decode cL_law 235 = .ok (.aload_n 1, 1) := by decide +kernel
theorem dL_law_236 : decode cL_law 236 = .ok (.invokevirtual 37, 3) := by decide +kernel
theorem dL_law_239 : decode cL_law 239 = .ok (.aload_n 2, 1) := by decide +kernel
theorem dL_law_240 : decode cL_law 240 = .ok (.invokevirtual 40, 3) := by decide +kernel
theorem dL_law_243 : decode cL_law 243 = .ok (.if_icmp .eq 136, 3) := by decide +kernel
theorem dL_law_246 : decode cL_law 246 = .ok (.iconst 0, 1) := by decide +kernel
theorem dL_law_247 : decode cL_law 247 = .ok (.ireturn, 1) := by decide +kernel
theorem dL_law_248 : decode cL_law 248 = .ok (.aload_n 1, 1) := by decide +kernel
theorem dL_law_249 : decode cL_law 249 = .ok (.aload_n 0, 1) := by decide +kernel
theorem dL_law_250 : decode cL_law 250 = .ok (.iload_n 3, 1) := by decide +kernel
theorem dL_law_251 : decode cL_law 251 = .ok (.iconst 1, 1) := by decide +kernel
theorem dL_law_252 : decode cL_law 252 = .ok (.iadd, 1) := by decide +kernel
theorem dL_law_253 : decode cL_law 253 = .ok (.iaload, 1) := by decide +kernel
theorem dL_law_254 : decode cL_law 254 = .ok (.invokevirtual 41, 3) := by decide +kernel
theorem dL_law_257 : decode cL_law 257 = .ok (.aload_n 2, 1) := by decide +kernel
theorem dL_law_258 : decode cL_law 258 = .ok (.aload_n 0, 1) := by decide +kernel
theorem dL_law_259 : decode cL_law 259 = .ok (.iload_n 3, 1) := by decide +kernel
theorem dL_law_260 : decode cL_law 260 = .ok (.iconst 1, 1) := by decide +kernel
theorem dL_law_261 : decode cL_law 261 = .ok (.iadd, 1) := by decide +kernel
theorem dL_law_262 : decode cL_law 262 = .ok (.iaload, 1) := by decide +kernel
theorem dL_law_263 : decode cL_law 263 = .ok (.invokevirtual 44, 3) := by decide +kernel
theorem dL_law_266 : decode cL_law 266 = .ok (.if_icmp .eq 113, 3) := by decide +kernel
theorem dL_law_269 : decode cL_law 269 = .ok (.iconst 0, 1) := by decide +kernel
theorem dL_law_270 : decode cL_law 270 = .ok (.ireturn, 1) := by decide +kernel
theorem dL_law_271 : decode cL_law 271 = .ok (.aload_n 1, 1) := by decide +kernel
theorem dL_law_272 : decode cL_law 272 = .ok (.invokevirtual 45, 3) := by decide +kernel
theorem dL_law_275 : decode cL_law 275 = .ok (.aload_n 2, 1) := by decide +kernel
theorem dL_law_276 : decode cL_law 276 = .ok (.invokevirtual 48, 3) := by decide +kernel
theorem dL_law_279 : decode cL_law 279 = .ok (.if_icmp .eq 100, 3) := by decide +kernel
theorem dL_law_282 : decode cL_law 282 = .ok (.iconst 0, 1) := by decide +kernel
theorem dL_law_283 : decode cL_law 283 = .ok (.ireturn, 1) := by decide +kernel
theorem dL_law_284 : decode cL_law 284 = .ok (.aload_n 1, 1) := by decide +kernel
theorem dL_law_285 : decode cL_law 285 = .ok (.invokevirtual 49, 3) := by decide +kernel
theorem dL_law_288 : decode cL_law 288 = .ok (.aload_n 2, 1) := by decide +kernel
theorem dL_law_289 : decode cL_law 289 = .ok (.invokevirtual 52, 3) := by decide +kernel
theorem dL_law_292 : decode cL_law 292 = .ok (.if_icmp .eq 87, 3) := by decide +kernel
theorem dL_law_295 : decode cL_law 295 = .ok (.iconst 0, 1) := by decide +kernel
theorem dL_law_296 : decode cL_law 296 = .ok (.ireturn, 1) := by decide +kernel
theorem dL_law_297 : decode cL_law 297 = .ok (.aload_n 1, 1) := by decide +kernel
theorem dL_law_298 : decode cL_law 298 = .ok (.aload_n 0, 1) := by decide +kernel
theorem dL_law_299 : decode cL_law 299 = .ok (.iload_n 3, 1) := by decide +kernel
theorem dL_law_300 : decode cL_law 300 = .ok (.iconst 1, 1) := by decide +kernel
theorem dL_law_301 : decode cL_law 301 = .ok (.iadd, 1) := by decide +kernel
theorem dL_law_302 : decode cL_law 302 = .ok (.iaload, 1) := by decide +kernel
theorem dL_law_303 : decode cL_law 303 = .ok (.aload_n 0, 1) := by decide +kernel
theorem dL_law_304 : decode cL_law 304 = .ok (.iload_n 3, 1) := by decide +kernel
theorem dL_law_305 : decode cL_law 305 = .ok (.iconst 2, 1) := by decide +kernel
theorem dL_law_306 : decode cL_law 306 = .ok (.iadd, 1) := by decide +kernel
theorem dL_law_307 : decode cL_law 307 = .ok (.iaload, 1) := by decide +kernel
theorem dL_law_308 : decode cL_law 308 = .ok (.invokevirtual 53, 3) := by decide +kernel
theorem dL_law_311 : decode cL_law 311 = .ok (.aload_n 2, 1) := by decide +kernel
theorem dL_law_312 : decode cL_law 312 = .ok (.aload_n 0, 1) := by decide +kernel
theorem dL_law_313 : decode cL_law 313 = .ok (.iload_n 3, 1) := by decide +kernel
theorem dL_law_314 : decode cL_law 314 = .ok (.iconst 1, 1) := by decide +kernel
theorem dL_law_315 : decode cL_law 315 = .ok (.iadd, 1) := by decide +kernel
theorem dL_law_316 : decode cL_law 316 = .ok (.iaload, 1) := by decide +kernel
theorem dL_law_317 : decode cL_law 317 = .ok (.aload_n 0, 1) := by decide +kernel
theorem dL_law_318 : decode cL_law 318 = .ok (.iload_n 3, 1) := by decide +kernel
theorem dL_law_319 : decode cL_law 319 = .ok (.iconst 2, 1) := by decide +kernel
theorem dL_law_320 : decode cL_law 320 = .ok (.iadd, 1) := by decide +kernel
theorem dL_law_321 : decode cL_law 321 = .ok (.iaload, 1) := by decide +kernel
theorem dL_law_322 : decode cL_law 322 = .ok (.invokevirtual 57, 3) := by decide +kernel
theorem dL_law_325 : decode cL_law 325 = .ok (.if_icmp .eq 54, 3) := by decide +kernel
theorem dL_law_328 : decode cL_law 328 = .ok (.iconst 0, 1) := by decide +kernel
theorem dL_law_329 : decode cL_law 329 = .ok (.ireturn, 1) := by decide +kernel
theorem dL_law_330 : decode cL_law 330 = .ok (.aload_n 1, 1) := by decide +kernel
theorem dL_law_331 : decode cL_law 331 = .ok (.invokevirtual 58, 3) := by decide +kernel
theorem dL_law_334 : decode cL_law 334 = .ok (.aload_n 2, 1) := by decide +kernel
theorem dL_law_335 : decode cL_law 335 = .ok (.invokevirtual 61, 3) := by decide +kernel
theorem dL_law_338 : decode cL_law 338 = .ok (.if_icmp .eq 41, 3) := by decide +kernel
theorem dL_law_341 : decode cL_law 341 = .ok (.iconst 0, 1) := by decide +kernel
theorem dL_law_342 : decode cL_law 342 = .ok (.ireturn, 1) := by decide +kernel
theorem dL_law_343 : decode cL_law 343 = .ok (.aload_n 1, 1) := by decide +kernel
theorem dL_law_344 : decode cL_law 344 = .ok (.invokevirtual 62, 3) := by decide +kernel
theorem dL_law_347 : decode cL_law 347 = .ok (.aload_n 2, 1) := by decide +kernel
theorem dL_law_348 : decode cL_law 348 = .ok (.invokevirtual 65, 3) := by decide +kernel
theorem dL_law_351 : decode cL_law 351 = .ok (.if_icmp .eq 28, 3) := by decide +kernel
theorem dL_law_354 : decode cL_law 354 = .ok (.iconst 0, 1) := by decide +kernel
theorem dL_law_355 : decode cL_law 355 = .ok (.ireturn, 1) := by decide +kernel
theorem dL_law_356 : decode cL_law 356 = .ok (.aload_n 1, 1) := by decide +kernel
theorem dL_law_357 : decode cL_law 357 = .ok (.aload_n 0, 1) := by decide +kernel
theorem dL_law_358 : decode cL_law 358 = .ok (.iload_n 3, 1) := by decide +kernel
theorem dL_law_359 : decode cL_law 359 = .ok (.iconst 1, 1) := by decide +kernel
theorem dL_law_360 : decode cL_law 360 = .ok (.iadd, 1) := by decide +kernel
theorem dL_law_361 : decode cL_law 361 = .ok (.iaload, 1) := by decide +kernel
theorem dL_law_362 : decode cL_law 362 = .ok (.invokevirtual 66, 3) := by decide +kernel
theorem dL_law_365 : decode cL_law 365 = .ok (.aload_n 2, 1) := by decide +kernel
theorem dL_law_366 : decode cL_law 366 = .ok (.aload_n 0, 1) := by decide +kernel
theorem dL_law_367 : decode cL_law 367 = .ok (.iload_n 3, 1) := by decide +kernel
theorem dL_law_368 : decode cL_law 368 = .ok (.iconst 1, 1) := by decide +kernel
theorem dL_law_369 : decode cL_law 369 = .ok (.iadd, 1) := by decide +kernel
theorem dL_law_370 : decode cL_law 370 = .ok (.iaload, 1) := by decide +kernel
theorem dL_law_371 : decode cL_law 371 = .ok (.invokevirtual 69, 3) := by decide +kernel
theorem dL_law_374 : decode cL_law 374 = .ok (.if_icmp .eq 5, 3) := by decide +kernel
theorem dL_law_377 : decode cL_law 377 = .ok (.iconst 0, 1) := by decide +kernel
theorem dL_law_378 : decode cL_law 378 = .ok (.ireturn, 1) := by decide +kernel
theorem dL_law_379 : decode cL_law 379 = .ok (.iinc 3 5, 3) := by decide +kernel
theorem dL_law_382 : decode cL_law 382 = .ok (.goto (-364), 3) := by decide +kernel
theorem dL_law_385 : decode cL_law 385 = .ok (.iconst 1, 1) := by decide +kernel
theorem dL_law_386 : decode cL_law 386 = .ok (.ireturn, 1) := by decide +kernel
end
section
set_option maxRecDepth 100000
/-! the worlds of the two objects, their field and array rows, the contracts' forms -/
def b2i : Bool → Int32
  | true => 1
  | false => 0
theorem b2i_z {b : Bool} : b2i b = 0 ↔ b = false := by cases b <;> decide
theorem b2i_nz {b : Bool} : ¬ b2i b = 0 ↔ b = true := by cases b <;> decide
theorem b2i_or0 (b : Bool) : b2i b ||| 0 = b2i b := by cases b <;> decide
theorem b2i_or1 (b : Bool) : b2i b ||| 1 = b2i true := by cases b <;> decide
theorem b2i_nar (b : Bool) : narrow .boolean (.int (b2i b)) = .int (b2i b) := by cases b <;> rfl
theorem b2i_vnar (b : Bool) : vp_nar .boolean (b2i b) = b2i b := by cases b <;> rfl
theorem b2i_fit (b : Bool) : fits .boolean (.int (b2i b)) = true := by cases b <;> rfl
theorem b2i_inj {a b : Bool} (h : b2i a = b2i b) : a = b := by revert h; cases a <;> cases b <;> decide
abbrev vwCl : List vw_C := [(RX0, TX0, 15), (RX1, TX1, 7)]
abbrev tyA (dB dZ dJ : ClassId) : List (ClassId × FieldType) := [(dB, .byte), (dZ, .boolean), (dJ, .int)]
/-- a StableModels at q 0 with its eight arrays -/
def XW (dB : ClassId) (q : Nat → Nat) (pr : Int32) (kd hd ps ng : Nat → Int32) (si so : Int32) (br mv : Bool) (li lo la lt : Nat → Int32) (kn : Bool) (ms : Int64) : va_W :=
  [(q 0, .inr (0, [.int pr, .ref (q 1), .ref (q 2), .ref (q 3), .ref (q 4), .int si, .int so, .int (b2i br), .int (b2i mv), .ref (q 5), .ref (q 6), .ref (q 7), .ref (q 8), .int (b2i kn), .long ms])),
   (q 1, .inl (dB, 10, .inl kd)), (q 2, .inl (dB, 10, .inl hd)), (q 3, .inl (dB, 10, .inl ps)), (q 4, .inl (dB, 10, .inl ng)),
   (q 5, .inl (dB, 8, .inl li)), (q 6, .inl (dB, 8, .inl lo)), (q 7, .inl (dB, 8, .inl la)), (q 8, .inl (dB, 8, .inl lt))]
/-- a StableModelsModel at q 0 with its seven arrays -/
def MW (dZ dJ : ClassId) (q : Nat → Nat) (th : Nat → Bool) (kd hd ps ng : Nat → Int32) (fd bf : Nat → Bool) : va_W :=
  [(q 0, .inr (1, [.ref (q 1), .ref (q 2), .ref (q 3), .ref (q 4), .ref (q 5), .ref (q 6), .ref (q 7)])),
   (q 1, .inl (dZ, 10, .inl (fun j => b2i (th j)))), (q 2, .inl (dJ, 10, .inl kd)), (q 3, .inl (dJ, 10, .inl hd)), (q 4, .inl (dJ, 10, .inl ps)), (q 5, .inl (dJ, 10, .inl ng)),
   (q 6, .inl (dZ, 64, .inl (fun j => b2i (fd j)))), (q 7, .inl (dZ, 64, .inl (fun j => b2i (bf j))))]
/-- what stays through a method -/
def Fx (own : String) (D : va_G) (dB dZ dJ : ClassId) (p : Program) (m : MethodId) (c : Code) (cc : ByteArray) (nL : Nat) (s : State) (args : Array Value) : Prop :=
  CallFix p m c cc nL s args lw_all own ∧ va_K D vwCl (tyA dB dZ dJ) s
/-- a world that a method may write -/
def XS (D : va_G) (A : Nat → Prop) (s : State) (ws : va_W) (H : Heap) (locs : List Loc) : Prop :=
  va_P D vwCl ws H ∧ va_D A ws ∧ va_S A s.heap H locs ∧ ∀ q : Nat, s.heap.size ≤ q → A q
def updB (f : Nat → Bool) (k : Nat) (x : Bool) : Nat → Bool := fun j => if j = k then x else f j
theorem upd_b2i (f : Nat → Bool) (k : Nat) (x : Bool) : upd (fun j => b2i (f j)) k (b2i x) = fun j => b2i (updB f k x j) := by
  funext j
  unfold upd updB
  by_cases h : j = k
  · simp [h]
  · simp [h]
/-- the addresses alone -/
theorem va_D_adr {A : Nat → Prop} {w w' : va_W} (h : va_D A w) (e : w'.map (fun q => q.1) = w.map (fun q => q.1)) : va_D A w' := by
  have key : ∀ (k : Nat) (q : Nat × va_E), w'[k]? = some q → ∃ q0, w[k]? = some q0 ∧ q0.1 = q.1 := by
    intro k q hk
    have h1 : (w'.map (fun q => q.1))[k]? = some q.1 := by rw [List.getElem?_map, hk]; rfl
    rw [e, List.getElem?_map] at h1
    cases hq : w[k]? with
    | none => rw [hq] at h1; cases h1
    | some q0 => rw [hq] at h1; exact ⟨q0, rfl, Option.some.inj h1⟩
  refine ⟨fun i j x y hi hj hxy => ?_, fun k q hk => ?_⟩
  · obtain ⟨x0, a1, a2⟩ := key i x hi
    obtain ⟨y0, b1, b2⟩ := key j y hj
    exact h.1 i j x0 y0 a1 b1 (a2.trans (hxy.trans b2.symm))
  · obtain ⟨q0, a1, a2⟩ := key k q hk
    rw [← a2]
    exact h.2 k q0 a1
section FR
variable {p : Program} {l : Launch} {e : Env} {R : Room} {s : State} {m : MethodId} {args : Array Value} {below : List Frame} {meth : Method} {c : Code} {H : Heap} {locs : List Loc} {cells slots : Nat} {Q : State → Prop}
variable {cc : ByteArray} {pc nL : Nat} {ls : Array Slot} {rest : List Value} {D : va_G} {dB dZ dJ : ClassId} {A : Nat → Prop} {q : Nat → Nat}
variable {pr : Int32} {kd hd ps ng : Nat → Int32} {si so : Int32} {br mv : Bool} {li lo la lt : Nat → Int32} {kn : Bool} {ms : Int64}
variable {th fd bf : Nat → Bool}
theorem xg_pr (F : Fx RX0 D dB dZ dJ p m c cc nL s args) (hP : va_P D vwCl (XW dB q pr kd hd ps ng si so br mv li lo la lt kn ms) H) (hdg : decode cc pc = .ok (.getfield 34, 3)) (kk : W p l e R s m args below meth c H locs cells slots Q (F0 m (pc + 3) ls (.int pr :: rest))) : W p l e R s m args below meth c H locs cells slots Q (F0 m pc ls (.ref (q 0) :: rest)) :=
  va_get (D := D) (ci := 0) (v := .int pr) (C := RX0) (T := TX0) (N := 15) F.1.1 F.1.2.1 F.1.2.2.2.2 in_X0 F.1.2.2.2.1 F.2 hP 0 rfl rfl 0 (by decide) (F.1.2.2.2.2 _ q30) (fun _ h9 => h9) rfl hdg kk
theorem xp_pr (F : Fx RX0 D dB dZ dJ p m c cc nL s args) (hZ : XS D A s (XW dB q pr kd hd ps ng si so br mv li lo la lt kn ms) H locs) {x : Int32} (hdg : decode cc pc = .ok (.putfield 34, 3)) (kk : ∀ (H1 : Heap) (locs1 : List Loc), XS D A s (XW dB q x kd hd ps ng si so br mv li lo la lt kn ms) H1 locs1 → W p l e R s m args below meth c H1 locs1 cells slots Q (F0 m (pc + 3) ls rest)) : W p l e R s m args below meth c H locs cells slots Q (F0 m pc ls (.int x :: .ref (q 0) :: rest)) := 
  va_put (D := D) (ci := 0) (v := .int x) (ty := .int) (C := RX0) (T := TX0) (N := 15) F.1.1 F.1.2.1 F.1.2.2.2.2 in_X0 tyX0 tyX0_ok nmX0 F.1.2.2.2.1 F.2 hZ.1 hZ.2.1 hZ.2.2.1 0 rfl rfl 0 (by decide) (F.1.2.2.2.2 _ q30) (fun _ h9 => h9) rfl (by decide +kernel) (rfl) (rfl) (Nat.le_of_ble_eq_true rfl) hdg (fun H1 locs1 hP hD hS => kk H1 locs1 ⟨hP, hD, hS, hZ.2.2.2⟩)
theorem xg_kd (F : Fx RX0 D dB dZ dJ p m c cc nL s args) (hP : va_P D vwCl (XW dB q pr kd hd ps ng si so br mv li lo la lt kn ms) H) (hdg : decode cc pc = .ok (.getfield 7, 3)) (kk : W p l e R s m args below meth c H locs cells slots Q (F0 m (pc + 3) ls (.ref (q 1) :: rest))) : W p l e R s m args below meth c H locs cells slots Q (F0 m pc ls (.ref (q 0) :: rest)) :=
  va_get (D := D) (ci := 0) (v := .ref (q 1)) (C := RX0) (T := TX0) (N := 15) F.1.1 F.1.2.1 F.1.2.2.2.2 in_X0 F.1.2.2.2.1 F.2 hP 0 rfl rfl 1 (by decide) (F.1.2.2.2.2 _ q31) (fun _ h9 => h9) rfl hdg kk
theorem xg_hd (F : Fx RX0 D dB dZ dJ p m c cc nL s args) (hP : va_P D vwCl (XW dB q pr kd hd ps ng si so br mv li lo la lt kn ms) H) (hdg : decode cc pc = .ok (.getfield 13, 3)) (kk : W p l e R s m args below meth c H locs cells slots Q (F0 m (pc + 3) ls (.ref (q 2) :: rest))) : W p l e R s m args below meth c H locs cells slots Q (F0 m pc ls (.ref (q 0) :: rest)) :=
  va_get (D := D) (ci := 0) (v := .ref (q 2)) (C := RX0) (T := TX0) (N := 15) F.1.1 F.1.2.1 F.1.2.2.2.2 in_X0 F.1.2.2.2.1 F.2 hP 0 rfl rfl 2 (by decide) (F.1.2.2.2.2 _ q32) (fun _ h9 => h9) rfl hdg kk
theorem xg_ps (F : Fx RX0 D dB dZ dJ p m c cc nL s args) (hP : va_P D vwCl (XW dB q pr kd hd ps ng si so br mv li lo la lt kn ms) H) (hdg : decode cc pc = .ok (.getfield 16, 3)) (kk : W p l e R s m args below meth c H locs cells slots Q (F0 m (pc + 3) ls (.ref (q 3) :: rest))) : W p l e R s m args below meth c H locs cells slots Q (F0 m pc ls (.ref (q 0) :: rest)) :=
  va_get (D := D) (ci := 0) (v := .ref (q 3)) (C := RX0) (T := TX0) (N := 15) F.1.1 F.1.2.1 F.1.2.2.2.2 in_X0 F.1.2.2.2.1 F.2 hP 0 rfl rfl 3 (by decide) (F.1.2.2.2.2 _ q33) (fun _ h9 => h9) rfl hdg kk
theorem xg_ng (F : Fx RX0 D dB dZ dJ p m c cc nL s args) (hP : va_P D vwCl (XW dB q pr kd hd ps ng si so br mv li lo la lt kn ms) H) (hdg : decode cc pc = .ok (.getfield 19, 3)) (kk : W p l e R s m args below meth c H locs cells slots Q (F0 m (pc + 3) ls (.ref (q 4) :: rest))) : W p l e R s m args below meth c H locs cells slots Q (F0 m pc ls (.ref (q 0) :: rest)) :=
  va_get (D := D) (ci := 0) (v := .ref (q 4)) (C := RX0) (T := TX0) (N := 15) F.1.1 F.1.2.1 F.1.2.2.2.2 in_X0 F.1.2.2.2.1 F.2 hP 0 rfl rfl 4 (by decide) (F.1.2.2.2.2 _ q34) (fun _ h9 => h9) rfl hdg kk
theorem xg_si (F : Fx RX0 D dB dZ dJ p m c cc nL s args) (hP : va_P D vwCl (XW dB q pr kd hd ps ng si so br mv li lo la lt kn ms) H) (hdg : decode cc pc = .ok (.getfield 53, 3)) (kk : W p l e R s m args below meth c H locs cells slots Q (F0 m (pc + 3) ls (.int si :: rest))) : W p l e R s m args below meth c H locs cells slots Q (F0 m pc ls (.ref (q 0) :: rest)) :=
  va_get (D := D) (ci := 0) (v := .int si) (C := RX0) (T := TX0) (N := 15) F.1.1 F.1.2.1 F.1.2.2.2.2 in_X0 F.1.2.2.2.1 F.2 hP 0 rfl rfl 5 (by decide) (F.1.2.2.2.2 _ q35) (fun _ h9 => h9) rfl hdg kk
theorem xp_si (F : Fx RX0 D dB dZ dJ p m c cc nL s args) (hZ : XS D A s (XW dB q pr kd hd ps ng si so br mv li lo la lt kn ms) H locs) {x : Int32} (hdg : decode cc pc = .ok (.putfield 53, 3)) (kk : ∀ (H1 : Heap) (locs1 : List Loc), XS D A s (XW dB q pr kd hd ps ng x so br mv li lo la lt kn ms) H1 locs1 → W p l e R s m args below meth c H1 locs1 cells slots Q (F0 m (pc + 3) ls rest)) : W p l e R s m args below meth c H locs cells slots Q (F0 m pc ls (.int x :: .ref (q 0) :: rest)) := 
  va_put (D := D) (ci := 0) (v := .int x) (ty := .int) (C := RX0) (T := TX0) (N := 15) F.1.1 F.1.2.1 F.1.2.2.2.2 in_X0 tyX0 tyX0_ok nmX0 F.1.2.2.2.1 F.2 hZ.1 hZ.2.1 hZ.2.2.1 0 rfl rfl 5 (by decide) (F.1.2.2.2.2 _ q35) (fun _ h9 => h9) rfl (by decide +kernel) (rfl) (rfl) (Nat.le_of_ble_eq_true rfl) hdg (fun H1 locs1 hP hD hS => kk H1 locs1 ⟨hP, hD, hS, hZ.2.2.2⟩)
theorem xg_so (F : Fx RX0 D dB dZ dJ p m c cc nL s args) (hP : va_P D vwCl (XW dB q pr kd hd ps ng si so br mv li lo la lt kn ms) H) (hdg : decode cc pc = .ok (.getfield 62, 3)) (kk : W p l e R s m args below meth c H locs cells slots Q (F0 m (pc + 3) ls (.int so :: rest))) : W p l e R s m args below meth c H locs cells slots Q (F0 m pc ls (.ref (q 0) :: rest)) :=
  va_get (D := D) (ci := 0) (v := .int so) (C := RX0) (T := TX0) (N := 15) F.1.1 F.1.2.1 F.1.2.2.2.2 in_X0 F.1.2.2.2.1 F.2 hP 0 rfl rfl 6 (by decide) (F.1.2.2.2.2 _ q36) (fun _ h9 => h9) rfl hdg kk
theorem xp_so (F : Fx RX0 D dB dZ dJ p m c cc nL s args) (hZ : XS D A s (XW dB q pr kd hd ps ng si so br mv li lo la lt kn ms) H locs) {x : Int32} (hdg : decode cc pc = .ok (.putfield 62, 3)) (kk : ∀ (H1 : Heap) (locs1 : List Loc), XS D A s (XW dB q pr kd hd ps ng si x br mv li lo la lt kn ms) H1 locs1 → W p l e R s m args below meth c H1 locs1 cells slots Q (F0 m (pc + 3) ls rest)) : W p l e R s m args below meth c H locs cells slots Q (F0 m pc ls (.int x :: .ref (q 0) :: rest)) := 
  va_put (D := D) (ci := 0) (v := .int x) (ty := .int) (C := RX0) (T := TX0) (N := 15) F.1.1 F.1.2.1 F.1.2.2.2.2 in_X0 tyX0 tyX0_ok nmX0 F.1.2.2.2.1 F.2 hZ.1 hZ.2.1 hZ.2.2.1 0 rfl rfl 6 (by decide) (F.1.2.2.2.2 _ q36) (fun _ h9 => h9) rfl (by decide +kernel) (rfl) (rfl) (Nat.le_of_ble_eq_true rfl) hdg (fun H1 locs1 hP hD hS => kk H1 locs1 ⟨hP, hD, hS, hZ.2.2.2⟩)
theorem xg_br (F : Fx RX0 D dB dZ dJ p m c cc nL s args) (hP : va_P D vwCl (XW dB q pr kd hd ps ng si so br mv li lo la lt kn ms) H) (hdg : decode cc pc = .ok (.getfield 59, 3)) (kk : W p l e R s m args below meth c H locs cells slots Q (F0 m (pc + 3) ls (.int (b2i br) :: rest))) : W p l e R s m args below meth c H locs cells slots Q (F0 m pc ls (.ref (q 0) :: rest)) :=
  va_get (D := D) (ci := 0) (v := .int (b2i br)) (C := RX0) (T := TX0) (N := 15) F.1.1 F.1.2.1 F.1.2.2.2.2 in_X0 F.1.2.2.2.1 F.2 hP 0 rfl rfl 7 (by decide) (F.1.2.2.2.2 _ q37) (fun _ h9 => h9) rfl hdg kk
theorem xp_br (F : Fx RX0 D dB dZ dJ p m c cc nL s args) (hZ : XS D A s (XW dB q pr kd hd ps ng si so br mv li lo la lt kn ms) H locs) {x : Int32} {B : Bool} (hv : x = b2i B) (hdg : decode cc pc = .ok (.putfield 59, 3)) (kk : ∀ (H1 : Heap) (locs1 : List Loc), XS D A s (XW dB q pr kd hd ps ng si so B mv li lo la lt kn ms) H1 locs1 → W p l e R s m args below meth c H1 locs1 cells slots Q (F0 m (pc + 3) ls rest)) : W p l e R s m args below meth c H locs cells slots Q (F0 m pc ls (.int x :: .ref (q 0) :: rest)) := by
  subst hv
  exact va_put (D := D) (ci := 0) (v := .int (b2i B)) (ty := .boolean) (C := RX0) (T := TX0) (N := 15) F.1.1 F.1.2.1 F.1.2.2.2.2 in_X0 tyX0 tyX0_ok nmX0 F.1.2.2.2.1 F.2 hZ.1 hZ.2.1 hZ.2.2.1 0 rfl rfl 7 (by decide) (F.1.2.2.2.2 _ q37) (fun _ h9 => h9) rfl (by decide +kernel) (b2i_nar _) (b2i_fit _) (Nat.le_of_ble_eq_true rfl) hdg (fun H1 locs1 hP hD hS => kk H1 locs1 ⟨hP, hD, hS, hZ.2.2.2⟩)
theorem xg_mv (F : Fx RX0 D dB dZ dJ p m c cc nL s args) (hP : va_P D vwCl (XW dB q pr kd hd ps ng si so br mv li lo la lt kn ms) H) (hdg : decode cc pc = .ok (.getfield 56, 3)) (kk : W p l e R s m args below meth c H locs cells slots Q (F0 m (pc + 3) ls (.int (b2i mv) :: rest))) : W p l e R s m args below meth c H locs cells slots Q (F0 m pc ls (.ref (q 0) :: rest)) :=
  va_get (D := D) (ci := 0) (v := .int (b2i mv)) (C := RX0) (T := TX0) (N := 15) F.1.1 F.1.2.1 F.1.2.2.2.2 in_X0 F.1.2.2.2.1 F.2 hP 0 rfl rfl 8 (by decide) (F.1.2.2.2.2 _ q38) (fun _ h9 => h9) rfl hdg kk
theorem xp_mv (F : Fx RX0 D dB dZ dJ p m c cc nL s args) (hZ : XS D A s (XW dB q pr kd hd ps ng si so br mv li lo la lt kn ms) H locs) {x : Int32} {B : Bool} (hv : x = b2i B) (hdg : decode cc pc = .ok (.putfield 56, 3)) (kk : ∀ (H1 : Heap) (locs1 : List Loc), XS D A s (XW dB q pr kd hd ps ng si so br B li lo la lt kn ms) H1 locs1 → W p l e R s m args below meth c H1 locs1 cells slots Q (F0 m (pc + 3) ls rest)) : W p l e R s m args below meth c H locs cells slots Q (F0 m pc ls (.int x :: .ref (q 0) :: rest)) := by
  subst hv
  exact va_put (D := D) (ci := 0) (v := .int (b2i B)) (ty := .boolean) (C := RX0) (T := TX0) (N := 15) F.1.1 F.1.2.1 F.1.2.2.2.2 in_X0 tyX0 tyX0_ok nmX0 F.1.2.2.2.1 F.2 hZ.1 hZ.2.1 hZ.2.2.1 0 rfl rfl 8 (by decide) (F.1.2.2.2.2 _ q38) (fun _ h9 => h9) rfl (by decide +kernel) (b2i_nar _) (b2i_fit _) (Nat.le_of_ble_eq_true rfl) hdg (fun H1 locs1 hP hD hS => kk H1 locs1 ⟨hP, hD, hS, hZ.2.2.2⟩)
theorem xg_li (F : Fx RX0 D dB dZ dJ p m c cc nL s args) (hP : va_P D vwCl (XW dB q pr kd hd ps ng si so br mv li lo la lt kn ms) H) (hdg : decode cc pc = .ok (.getfield 22, 3)) (kk : W p l e R s m args below meth c H locs cells slots Q (F0 m (pc + 3) ls (.ref (q 5) :: rest))) : W p l e R s m args below meth c H locs cells slots Q (F0 m pc ls (.ref (q 0) :: rest)) :=
  va_get (D := D) (ci := 0) (v := .ref (q 5)) (C := RX0) (T := TX0) (N := 15) F.1.1 F.1.2.1 F.1.2.2.2.2 in_X0 F.1.2.2.2.1 F.2 hP 0 rfl rfl 9 (by decide) (F.1.2.2.2.2 _ q39) (fun _ h9 => h9) rfl hdg kk
theorem xg_lo (F : Fx RX0 D dB dZ dJ p m c cc nL s args) (hP : va_P D vwCl (XW dB q pr kd hd ps ng si so br mv li lo la lt kn ms) H) (hdg : decode cc pc = .ok (.getfield 25, 3)) (kk : W p l e R s m args below meth c H locs cells slots Q (F0 m (pc + 3) ls (.ref (q 6) :: rest))) : W p l e R s m args below meth c H locs cells slots Q (F0 m pc ls (.ref (q 0) :: rest)) :=
  va_get (D := D) (ci := 0) (v := .ref (q 6)) (C := RX0) (T := TX0) (N := 15) F.1.1 F.1.2.1 F.1.2.2.2.2 in_X0 F.1.2.2.2.1 F.2 hP 0 rfl rfl 10 (by decide) (F.1.2.2.2.2 _ q40) (fun _ h9 => h9) rfl hdg kk
theorem xg_la (F : Fx RX0 D dB dZ dJ p m c cc nL s args) (hP : va_P D vwCl (XW dB q pr kd hd ps ng si so br mv li lo la lt kn ms) H) (hdg : decode cc pc = .ok (.getfield 28, 3)) (kk : W p l e R s m args below meth c H locs cells slots Q (F0 m (pc + 3) ls (.ref (q 7) :: rest))) : W p l e R s m args below meth c H locs cells slots Q (F0 m pc ls (.ref (q 0) :: rest)) :=
  va_get (D := D) (ci := 0) (v := .ref (q 7)) (C := RX0) (T := TX0) (N := 15) F.1.1 F.1.2.1 F.1.2.2.2.2 in_X0 F.1.2.2.2.1 F.2 hP 0 rfl rfl 11 (by decide) (F.1.2.2.2.2 _ q41) (fun _ h9 => h9) rfl hdg kk
theorem xg_lt (F : Fx RX0 D dB dZ dJ p m c cc nL s args) (hP : va_P D vwCl (XW dB q pr kd hd ps ng si so br mv li lo la lt kn ms) H) (hdg : decode cc pc = .ok (.getfield 31, 3)) (kk : W p l e R s m args below meth c H locs cells slots Q (F0 m (pc + 3) ls (.ref (q 8) :: rest))) : W p l e R s m args below meth c H locs cells slots Q (F0 m pc ls (.ref (q 0) :: rest)) :=
  va_get (D := D) (ci := 0) (v := .ref (q 8)) (C := RX0) (T := TX0) (N := 15) F.1.1 F.1.2.1 F.1.2.2.2.2 in_X0 F.1.2.2.2.1 F.2 hP 0 rfl rfl 12 (by decide) (F.1.2.2.2.2 _ q42) (fun _ h9 => h9) rfl hdg kk
theorem xg_kn (F : Fx RX0 D dB dZ dJ p m c cc nL s args) (hP : va_P D vwCl (XW dB q pr kd hd ps ng si so br mv li lo la lt kn ms) H) (hdg : decode cc pc = .ok (.getfield 45, 3)) (kk : W p l e R s m args below meth c H locs cells slots Q (F0 m (pc + 3) ls (.int (b2i kn) :: rest))) : W p l e R s m args below meth c H locs cells slots Q (F0 m pc ls (.ref (q 0) :: rest)) :=
  va_get (D := D) (ci := 0) (v := .int (b2i kn)) (C := RX0) (T := TX0) (N := 15) F.1.1 F.1.2.1 F.1.2.2.2.2 in_X0 F.1.2.2.2.1 F.2 hP 0 rfl rfl 13 (by decide) (F.1.2.2.2.2 _ q43) (fun _ h9 => h9) rfl hdg kk
theorem xp_kn (F : Fx RX0 D dB dZ dJ p m c cc nL s args) (hZ : XS D A s (XW dB q pr kd hd ps ng si so br mv li lo la lt kn ms) H locs) {x : Int32} {B : Bool} (hv : x = b2i B) (hdg : decode cc pc = .ok (.putfield 45, 3)) (kk : ∀ (H1 : Heap) (locs1 : List Loc), XS D A s (XW dB q pr kd hd ps ng si so br mv li lo la lt B ms) H1 locs1 → W p l e R s m args below meth c H1 locs1 cells slots Q (F0 m (pc + 3) ls rest)) : W p l e R s m args below meth c H locs cells slots Q (F0 m pc ls (.int x :: .ref (q 0) :: rest)) := by
  subst hv
  exact va_put (D := D) (ci := 0) (v := .int (b2i B)) (ty := .boolean) (C := RX0) (T := TX0) (N := 15) F.1.1 F.1.2.1 F.1.2.2.2.2 in_X0 tyX0 tyX0_ok nmX0 F.1.2.2.2.1 F.2 hZ.1 hZ.2.1 hZ.2.2.1 0 rfl rfl 13 (by decide) (F.1.2.2.2.2 _ q43) (fun _ h9 => h9) rfl (by decide +kernel) (b2i_nar _) (b2i_fit _) (Nat.le_of_ble_eq_true rfl) hdg (fun H1 locs1 hP hD hS => kk H1 locs1 ⟨hP, hD, hS, hZ.2.2.2⟩)
theorem xg_ms (F : Fx RX0 D dB dZ dJ p m c cc nL s args) (hP : va_P D vwCl (XW dB q pr kd hd ps ng si so br mv li lo la lt kn ms) H) (hdg : decode cc pc = .ok (.getfield 91, 3)) (kk : W p l e R s m args below meth c H locs cells slots Q (F0 m (pc + 3) ls (.long ms :: rest))) : W p l e R s m args below meth c H locs cells slots Q (F0 m pc ls (.ref (q 0) :: rest)) :=
  va_get (D := D) (ci := 0) (v := .long ms) (C := RX0) (T := TX0) (N := 15) F.1.1 F.1.2.1 F.1.2.2.2.2 in_X0 F.1.2.2.2.1 F.2 hP 0 rfl rfl 14 (by decide) (F.1.2.2.2.2 _ q44) (fun _ h9 => h9) rfl hdg kk
theorem xp_ms (F : Fx RX0 D dB dZ dJ p m c cc nL s args) (hZ : XS D A s (XW dB q pr kd hd ps ng si so br mv li lo la lt kn ms) H locs) {x : Int64} (hdg : decode cc pc = .ok (.putfield 91, 3)) (kk : ∀ (H1 : Heap) (locs1 : List Loc), XS D A s (XW dB q pr kd hd ps ng si so br mv li lo la lt kn x) H1 locs1 → W p l e R s m args below meth c H1 locs1 cells slots Q (F0 m (pc + 3) ls rest)) : W p l e R s m args below meth c H locs cells slots Q (F0 m pc ls (.long x :: .ref (q 0) :: rest)) := 
  va_put (D := D) (ci := 0) (v := .long x) (ty := .long) (C := RX0) (T := TX0) (N := 15) F.1.1 F.1.2.1 F.1.2.2.2.2 in_X0 tyX0 tyX0_ok nmX0 F.1.2.2.2.1 F.2 hZ.1 hZ.2.1 hZ.2.2.1 0 rfl rfl 14 (by decide) (F.1.2.2.2.2 _ q44) (fun _ h9 => h9) rfl (by decide +kernel) (rfl) (rfl) (Nat.le_of_ble_eq_true rfl) hdg (fun H1 locs1 hP hD hS => kk H1 locs1 ⟨hP, hD, hS, hZ.2.2.2⟩)
theorem xa_kd (F : Fx RX0 D dB dZ dJ p m c cc nL s args) (hP : va_P D vwCl (XW dB q pr kd hd ps ng si so br mv li lo la lt kn ms) H) {j : Nat} (hj : j < 10) (hdg : decode cc pc = .ok (.baload, 1)) (kk : W p l e R s m args below meth c H locs cells slots Q (F0 m (pc + 1) ls (.int (kd j) :: rest))) : W p l e R s m args below meth c H locs cells slots Q (F0 m pc ls (.int (nI j) :: .ref (q 1) :: rest)) := by
  refine va_bald F.1.1 F.1.2.1 F.2 hP 1 0 rfl rfl (vp_in_nI hj (by decide)) hdg ?_
  rw [nI_clamp (n := j) (by omega)]
  exact kk
theorem xs_kd (F : Fx RX0 D dB dZ dJ p m c cc nL s args) (hZ : XS D A s (XW dB q pr kd hd ps ng si so br mv li lo la lt kn ms) H locs) {j : Nat} (hj : j < 10) {x : Int32} (hx8 : x.toInt8.toInt32 = x) (hdg : decode cc pc = .ok (.bastore, 1)) (kk : ∀ (H1 : Heap) (locs1 : List Loc), XS D A s (XW dB q pr (upd kd j x) hd ps ng si so br mv li lo la lt kn ms) H1 locs1 → W p l e R s m args below meth c H1 locs1 cells slots Q (F0 m (pc + 1) ls rest)) : W p l e R s m args below meth c H locs cells slots Q (F0 m pc ls (.int x :: .int (nI j) :: .ref (q 1) :: rest)) := by
  refine va_bast F.1.1 F.1.2.1 F.2 hZ.1 hZ.2.1 hZ.2.2.1 1 0 rfl rfl (vp_in_nI hj (by decide)) hdg (fun H1 locs1 hP hD hS => ?_)
  rw [nI_clamp (n := j) (by omega), vp_nar_byte, hx8] at hP hD
  exact kk H1 locs1 ⟨hP, hD, hS, hZ.2.2.2⟩
theorem xa_hd (F : Fx RX0 D dB dZ dJ p m c cc nL s args) (hP : va_P D vwCl (XW dB q pr kd hd ps ng si so br mv li lo la lt kn ms) H) {j : Nat} (hj : j < 10) (hdg : decode cc pc = .ok (.baload, 1)) (kk : W p l e R s m args below meth c H locs cells slots Q (F0 m (pc + 1) ls (.int (hd j) :: rest))) : W p l e R s m args below meth c H locs cells slots Q (F0 m pc ls (.int (nI j) :: .ref (q 2) :: rest)) := by
  refine va_bald F.1.1 F.1.2.1 F.2 hP 2 0 rfl rfl (vp_in_nI hj (by decide)) hdg ?_
  rw [nI_clamp (n := j) (by omega)]
  exact kk
theorem xs_hd (F : Fx RX0 D dB dZ dJ p m c cc nL s args) (hZ : XS D A s (XW dB q pr kd hd ps ng si so br mv li lo la lt kn ms) H locs) {j : Nat} (hj : j < 10) {x : Int32} (hx8 : x.toInt8.toInt32 = x) (hdg : decode cc pc = .ok (.bastore, 1)) (kk : ∀ (H1 : Heap) (locs1 : List Loc), XS D A s (XW dB q pr kd (upd hd j x) ps ng si so br mv li lo la lt kn ms) H1 locs1 → W p l e R s m args below meth c H1 locs1 cells slots Q (F0 m (pc + 1) ls rest)) : W p l e R s m args below meth c H locs cells slots Q (F0 m pc ls (.int x :: .int (nI j) :: .ref (q 2) :: rest)) := by
  refine va_bast F.1.1 F.1.2.1 F.2 hZ.1 hZ.2.1 hZ.2.2.1 2 0 rfl rfl (vp_in_nI hj (by decide)) hdg (fun H1 locs1 hP hD hS => ?_)
  rw [nI_clamp (n := j) (by omega), vp_nar_byte, hx8] at hP hD
  exact kk H1 locs1 ⟨hP, hD, hS, hZ.2.2.2⟩
theorem xa_ps (F : Fx RX0 D dB dZ dJ p m c cc nL s args) (hP : va_P D vwCl (XW dB q pr kd hd ps ng si so br mv li lo la lt kn ms) H) {j : Nat} (hj : j < 10) (hdg : decode cc pc = .ok (.baload, 1)) (kk : W p l e R s m args below meth c H locs cells slots Q (F0 m (pc + 1) ls (.int (ps j) :: rest))) : W p l e R s m args below meth c H locs cells slots Q (F0 m pc ls (.int (nI j) :: .ref (q 3) :: rest)) := by
  refine va_bald F.1.1 F.1.2.1 F.2 hP 3 0 rfl rfl (vp_in_nI hj (by decide)) hdg ?_
  rw [nI_clamp (n := j) (by omega)]
  exact kk
theorem xs_ps (F : Fx RX0 D dB dZ dJ p m c cc nL s args) (hZ : XS D A s (XW dB q pr kd hd ps ng si so br mv li lo la lt kn ms) H locs) {j : Nat} (hj : j < 10) {x : Int32} (hx8 : x.toInt8.toInt32 = x) (hdg : decode cc pc = .ok (.bastore, 1)) (kk : ∀ (H1 : Heap) (locs1 : List Loc), XS D A s (XW dB q pr kd hd (upd ps j x) ng si so br mv li lo la lt kn ms) H1 locs1 → W p l e R s m args below meth c H1 locs1 cells slots Q (F0 m (pc + 1) ls rest)) : W p l e R s m args below meth c H locs cells slots Q (F0 m pc ls (.int x :: .int (nI j) :: .ref (q 3) :: rest)) := by
  refine va_bast F.1.1 F.1.2.1 F.2 hZ.1 hZ.2.1 hZ.2.2.1 3 0 rfl rfl (vp_in_nI hj (by decide)) hdg (fun H1 locs1 hP hD hS => ?_)
  rw [nI_clamp (n := j) (by omega), vp_nar_byte, hx8] at hP hD
  exact kk H1 locs1 ⟨hP, hD, hS, hZ.2.2.2⟩
theorem xa_ng (F : Fx RX0 D dB dZ dJ p m c cc nL s args) (hP : va_P D vwCl (XW dB q pr kd hd ps ng si so br mv li lo la lt kn ms) H) {j : Nat} (hj : j < 10) (hdg : decode cc pc = .ok (.baload, 1)) (kk : W p l e R s m args below meth c H locs cells slots Q (F0 m (pc + 1) ls (.int (ng j) :: rest))) : W p l e R s m args below meth c H locs cells slots Q (F0 m pc ls (.int (nI j) :: .ref (q 4) :: rest)) := by
  refine va_bald F.1.1 F.1.2.1 F.2 hP 4 0 rfl rfl (vp_in_nI hj (by decide)) hdg ?_
  rw [nI_clamp (n := j) (by omega)]
  exact kk
theorem xs_ng (F : Fx RX0 D dB dZ dJ p m c cc nL s args) (hZ : XS D A s (XW dB q pr kd hd ps ng si so br mv li lo la lt kn ms) H locs) {j : Nat} (hj : j < 10) {x : Int32} (hx8 : x.toInt8.toInt32 = x) (hdg : decode cc pc = .ok (.bastore, 1)) (kk : ∀ (H1 : Heap) (locs1 : List Loc), XS D A s (XW dB q pr kd hd ps (upd ng j x) si so br mv li lo la lt kn ms) H1 locs1 → W p l e R s m args below meth c H1 locs1 cells slots Q (F0 m (pc + 1) ls rest)) : W p l e R s m args below meth c H locs cells slots Q (F0 m pc ls (.int x :: .int (nI j) :: .ref (q 4) :: rest)) := by
  refine va_bast F.1.1 F.1.2.1 F.2 hZ.1 hZ.2.1 hZ.2.2.1 4 0 rfl rfl (vp_in_nI hj (by decide)) hdg (fun H1 locs1 hP hD hS => ?_)
  rw [nI_clamp (n := j) (by omega), vp_nar_byte, hx8] at hP hD
  exact kk H1 locs1 ⟨hP, hD, hS, hZ.2.2.2⟩
theorem xa_li (F : Fx RX0 D dB dZ dJ p m c cc nL s args) (hP : va_P D vwCl (XW dB q pr kd hd ps ng si so br mv li lo la lt kn ms) H) {j : Nat} (hj : j < 8) (hdg : decode cc pc = .ok (.baload, 1)) (kk : W p l e R s m args below meth c H locs cells slots Q (F0 m (pc + 1) ls (.int (li j) :: rest))) : W p l e R s m args below meth c H locs cells slots Q (F0 m pc ls (.int (nI j) :: .ref (q 5) :: rest)) := by
  refine va_bald F.1.1 F.1.2.1 F.2 hP 5 0 rfl rfl (vp_in_nI hj (by decide)) hdg ?_
  rw [nI_clamp (n := j) (by omega)]
  exact kk
theorem xs_li (F : Fx RX0 D dB dZ dJ p m c cc nL s args) (hZ : XS D A s (XW dB q pr kd hd ps ng si so br mv li lo la lt kn ms) H locs) {j : Nat} (hj : j < 8) {x : Int32} (hx8 : x.toInt8.toInt32 = x) (hdg : decode cc pc = .ok (.bastore, 1)) (kk : ∀ (H1 : Heap) (locs1 : List Loc), XS D A s (XW dB q pr kd hd ps ng si so br mv (upd li j x) lo la lt kn ms) H1 locs1 → W p l e R s m args below meth c H1 locs1 cells slots Q (F0 m (pc + 1) ls rest)) : W p l e R s m args below meth c H locs cells slots Q (F0 m pc ls (.int x :: .int (nI j) :: .ref (q 5) :: rest)) := by
  refine va_bast F.1.1 F.1.2.1 F.2 hZ.1 hZ.2.1 hZ.2.2.1 5 0 rfl rfl (vp_in_nI hj (by decide)) hdg (fun H1 locs1 hP hD hS => ?_)
  rw [nI_clamp (n := j) (by omega), vp_nar_byte, hx8] at hP hD
  exact kk H1 locs1 ⟨hP, hD, hS, hZ.2.2.2⟩
theorem xa_lo (F : Fx RX0 D dB dZ dJ p m c cc nL s args) (hP : va_P D vwCl (XW dB q pr kd hd ps ng si so br mv li lo la lt kn ms) H) {j : Nat} (hj : j < 8) (hdg : decode cc pc = .ok (.baload, 1)) (kk : W p l e R s m args below meth c H locs cells slots Q (F0 m (pc + 1) ls (.int (lo j) :: rest))) : W p l e R s m args below meth c H locs cells slots Q (F0 m pc ls (.int (nI j) :: .ref (q 6) :: rest)) := by
  refine va_bald F.1.1 F.1.2.1 F.2 hP 6 0 rfl rfl (vp_in_nI hj (by decide)) hdg ?_
  rw [nI_clamp (n := j) (by omega)]
  exact kk
theorem xs_lo (F : Fx RX0 D dB dZ dJ p m c cc nL s args) (hZ : XS D A s (XW dB q pr kd hd ps ng si so br mv li lo la lt kn ms) H locs) {j : Nat} (hj : j < 8) {x : Int32} (hx8 : x.toInt8.toInt32 = x) (hdg : decode cc pc = .ok (.bastore, 1)) (kk : ∀ (H1 : Heap) (locs1 : List Loc), XS D A s (XW dB q pr kd hd ps ng si so br mv li (upd lo j x) la lt kn ms) H1 locs1 → W p l e R s m args below meth c H1 locs1 cells slots Q (F0 m (pc + 1) ls rest)) : W p l e R s m args below meth c H locs cells slots Q (F0 m pc ls (.int x :: .int (nI j) :: .ref (q 6) :: rest)) := by
  refine va_bast F.1.1 F.1.2.1 F.2 hZ.1 hZ.2.1 hZ.2.2.1 6 0 rfl rfl (vp_in_nI hj (by decide)) hdg (fun H1 locs1 hP hD hS => ?_)
  rw [nI_clamp (n := j) (by omega), vp_nar_byte, hx8] at hP hD
  exact kk H1 locs1 ⟨hP, hD, hS, hZ.2.2.2⟩
theorem xa_la (F : Fx RX0 D dB dZ dJ p m c cc nL s args) (hP : va_P D vwCl (XW dB q pr kd hd ps ng si so br mv li lo la lt kn ms) H) {j : Nat} (hj : j < 8) (hdg : decode cc pc = .ok (.baload, 1)) (kk : W p l e R s m args below meth c H locs cells slots Q (F0 m (pc + 1) ls (.int (la j) :: rest))) : W p l e R s m args below meth c H locs cells slots Q (F0 m pc ls (.int (nI j) :: .ref (q 7) :: rest)) := by
  refine va_bald F.1.1 F.1.2.1 F.2 hP 7 0 rfl rfl (vp_in_nI hj (by decide)) hdg ?_
  rw [nI_clamp (n := j) (by omega)]
  exact kk
theorem xs_la (F : Fx RX0 D dB dZ dJ p m c cc nL s args) (hZ : XS D A s (XW dB q pr kd hd ps ng si so br mv li lo la lt kn ms) H locs) {j : Nat} (hj : j < 8) {x : Int32} (hx8 : x.toInt8.toInt32 = x) (hdg : decode cc pc = .ok (.bastore, 1)) (kk : ∀ (H1 : Heap) (locs1 : List Loc), XS D A s (XW dB q pr kd hd ps ng si so br mv li lo (upd la j x) lt kn ms) H1 locs1 → W p l e R s m args below meth c H1 locs1 cells slots Q (F0 m (pc + 1) ls rest)) : W p l e R s m args below meth c H locs cells slots Q (F0 m pc ls (.int x :: .int (nI j) :: .ref (q 7) :: rest)) := by
  refine va_bast F.1.1 F.1.2.1 F.2 hZ.1 hZ.2.1 hZ.2.2.1 7 0 rfl rfl (vp_in_nI hj (by decide)) hdg (fun H1 locs1 hP hD hS => ?_)
  rw [nI_clamp (n := j) (by omega), vp_nar_byte, hx8] at hP hD
  exact kk H1 locs1 ⟨hP, hD, hS, hZ.2.2.2⟩
theorem xa_lt (F : Fx RX0 D dB dZ dJ p m c cc nL s args) (hP : va_P D vwCl (XW dB q pr kd hd ps ng si so br mv li lo la lt kn ms) H) {j : Nat} (hj : j < 8) (hdg : decode cc pc = .ok (.baload, 1)) (kk : W p l e R s m args below meth c H locs cells slots Q (F0 m (pc + 1) ls (.int (lt j) :: rest))) : W p l e R s m args below meth c H locs cells slots Q (F0 m pc ls (.int (nI j) :: .ref (q 8) :: rest)) := by
  refine va_bald F.1.1 F.1.2.1 F.2 hP 8 0 rfl rfl (vp_in_nI hj (by decide)) hdg ?_
  rw [nI_clamp (n := j) (by omega)]
  exact kk
theorem xs_lt (F : Fx RX0 D dB dZ dJ p m c cc nL s args) (hZ : XS D A s (XW dB q pr kd hd ps ng si so br mv li lo la lt kn ms) H locs) {j : Nat} (hj : j < 8) {x : Int32} (hx8 : x.toInt8.toInt32 = x) (hdg : decode cc pc = .ok (.bastore, 1)) (kk : ∀ (H1 : Heap) (locs1 : List Loc), XS D A s (XW dB q pr kd hd ps ng si so br mv li lo la (upd lt j x) kn ms) H1 locs1 → W p l e R s m args below meth c H1 locs1 cells slots Q (F0 m (pc + 1) ls rest)) : W p l e R s m args below meth c H locs cells slots Q (F0 m pc ls (.int x :: .int (nI j) :: .ref (q 8) :: rest)) := by
  refine va_bast F.1.1 F.1.2.1 F.2 hZ.1 hZ.2.1 hZ.2.2.1 8 0 rfl rfl (vp_in_nI hj (by decide)) hdg (fun H1 locs1 hP hD hS => ?_)
  rw [nI_clamp (n := j) (by omega), vp_nar_byte, hx8] at hP hD
  exact kk H1 locs1 ⟨hP, hD, hS, hZ.2.2.2⟩
theorem mg_th (F : Fx RX1 D dB dZ dJ p m c cc nL s args) (hP : va_P D vwCl (MW dZ dJ q th kd hd ps ng fd bf) H) (hdg : decode cc pc = .ok (.getfield 7, 3)) (kk : W p l e R s m args below meth c H locs cells slots Q (F0 m (pc + 3) ls (.ref (q 1) :: rest))) : W p l e R s m args below meth c H locs cells slots Q (F0 m pc ls (.ref (q 0) :: rest)) :=
  va_get (D := D) (ci := 1) (v := .ref (q 1)) (C := RX1) (T := TX1) (N := 7) F.1.1 F.1.2.1 F.1.2.2.2.2 in_X1 F.1.2.2.2.1 F.2 hP 0 rfl rfl 0 (by decide) (F.1.2.2.2.2 _ q201) (fun _ h9 => h9) rfl hdg kk
theorem mg_kd (F : Fx RX1 D dB dZ dJ p m c cc nL s args) (hP : va_P D vwCl (MW dZ dJ q th kd hd ps ng fd bf) H) (hdg : decode cc pc = .ok (.getfield 13, 3)) (kk : W p l e R s m args below meth c H locs cells slots Q (F0 m (pc + 3) ls (.ref (q 2) :: rest))) : W p l e R s m args below meth c H locs cells slots Q (F0 m pc ls (.ref (q 0) :: rest)) :=
  va_get (D := D) (ci := 1) (v := .ref (q 2)) (C := RX1) (T := TX1) (N := 7) F.1.1 F.1.2.1 F.1.2.2.2.2 in_X1 F.1.2.2.2.1 F.2 hP 0 rfl rfl 1 (by decide) (F.1.2.2.2.2 _ q202) (fun _ h9 => h9) rfl hdg kk
theorem mg_hd (F : Fx RX1 D dB dZ dJ p m c cc nL s args) (hP : va_P D vwCl (MW dZ dJ q th kd hd ps ng fd bf) H) (hdg : decode cc pc = .ok (.getfield 17, 3)) (kk : W p l e R s m args below meth c H locs cells slots Q (F0 m (pc + 3) ls (.ref (q 3) :: rest))) : W p l e R s m args below meth c H locs cells slots Q (F0 m pc ls (.ref (q 0) :: rest)) :=
  va_get (D := D) (ci := 1) (v := .ref (q 3)) (C := RX1) (T := TX1) (N := 7) F.1.1 F.1.2.1 F.1.2.2.2.2 in_X1 F.1.2.2.2.1 F.2 hP 0 rfl rfl 2 (by decide) (F.1.2.2.2.2 _ q203) (fun _ h9 => h9) rfl hdg kk
theorem mg_ps (F : Fx RX1 D dB dZ dJ p m c cc nL s args) (hP : va_P D vwCl (MW dZ dJ q th kd hd ps ng fd bf) H) (hdg : decode cc pc = .ok (.getfield 20, 3)) (kk : W p l e R s m args below meth c H locs cells slots Q (F0 m (pc + 3) ls (.ref (q 4) :: rest))) : W p l e R s m args below meth c H locs cells slots Q (F0 m pc ls (.ref (q 0) :: rest)) :=
  va_get (D := D) (ci := 1) (v := .ref (q 4)) (C := RX1) (T := TX1) (N := 7) F.1.1 F.1.2.1 F.1.2.2.2.2 in_X1 F.1.2.2.2.1 F.2 hP 0 rfl rfl 3 (by decide) (F.1.2.2.2.2 _ q204) (fun _ h9 => h9) rfl hdg kk
theorem mg_ng (F : Fx RX1 D dB dZ dJ p m c cc nL s args) (hP : va_P D vwCl (MW dZ dJ q th kd hd ps ng fd bf) H) (hdg : decode cc pc = .ok (.getfield 23, 3)) (kk : W p l e R s m args below meth c H locs cells slots Q (F0 m (pc + 3) ls (.ref (q 5) :: rest))) : W p l e R s m args below meth c H locs cells slots Q (F0 m pc ls (.ref (q 0) :: rest)) :=
  va_get (D := D) (ci := 1) (v := .ref (q 5)) (C := RX1) (T := TX1) (N := 7) F.1.1 F.1.2.1 F.1.2.2.2.2 in_X1 F.1.2.2.2.1 F.2 hP 0 rfl rfl 4 (by decide) (F.1.2.2.2.2 _ q205) (fun _ h9 => h9) rfl hdg kk
theorem mg_fd (F : Fx RX1 D dB dZ dJ p m c cc nL s args) (hP : va_P D vwCl (MW dZ dJ q th kd hd ps ng fd bf) H) (hdg : decode cc pc = .ok (.getfield 26, 3)) (kk : W p l e R s m args below meth c H locs cells slots Q (F0 m (pc + 3) ls (.ref (q 6) :: rest))) : W p l e R s m args below meth c H locs cells slots Q (F0 m pc ls (.ref (q 0) :: rest)) :=
  va_get (D := D) (ci := 1) (v := .ref (q 6)) (C := RX1) (T := TX1) (N := 7) F.1.1 F.1.2.1 F.1.2.2.2.2 in_X1 F.1.2.2.2.1 F.2 hP 0 rfl rfl 5 (by decide) (F.1.2.2.2.2 _ q206) (fun _ h9 => h9) rfl hdg kk
theorem mg_bf (F : Fx RX1 D dB dZ dJ p m c cc nL s args) (hP : va_P D vwCl (MW dZ dJ q th kd hd ps ng fd bf) H) (hdg : decode cc pc = .ok (.getfield 29, 3)) (kk : W p l e R s m args below meth c H locs cells slots Q (F0 m (pc + 3) ls (.ref (q 7) :: rest))) : W p l e R s m args below meth c H locs cells slots Q (F0 m pc ls (.ref (q 0) :: rest)) :=
  va_get (D := D) (ci := 1) (v := .ref (q 7)) (C := RX1) (T := TX1) (N := 7) F.1.1 F.1.2.1 F.1.2.2.2.2 in_X1 F.1.2.2.2.1 F.2 hP 0 rfl rfl 6 (by decide) (F.1.2.2.2.2 _ q207) (fun _ h9 => h9) rfl hdg kk
theorem ma_th (F : Fx RX1 D dB dZ dJ p m c cc nL s args) (hP : va_P D vwCl (MW dZ dJ q th kd hd ps ng fd bf) H) {j : Nat} (hj : j < 10) (hdg : decode cc pc = .ok (.baload, 1)) (kk : W p l e R s m args below meth c H locs cells slots Q (F0 m (pc + 1) ls (.int (b2i (th j)) :: rest))) : W p l e R s m args below meth c H locs cells slots Q (F0 m pc ls (.int (nI j) :: .ref (q 1) :: rest)) := by
  refine va_zald F.1.1 F.1.2.1 F.2 hP 1 1 rfl rfl (vp_in_nI hj (by decide)) hdg ?_
  rw [nI_clamp (n := j) (by omega)]
  exact kk
theorem mt_th (F : Fx RX1 D dB dZ dJ p m c cc nL s args) (hZ : XS D A s (MW dZ dJ q th kd hd ps ng fd bf) H locs) {j : Nat} (hj : j < 10) {x : Int32} {B : Bool} (hv : x = b2i B) (hdg : decode cc pc = .ok (.bastore, 1)) (kk : ∀ (H1 : Heap) (locs1 : List Loc), XS D A s (MW dZ dJ q (updB th j B) kd hd ps ng fd bf) H1 locs1 → W p l e R s m args below meth c H1 locs1 cells slots Q (F0 m (pc + 1) ls rest)) : W p l e R s m args below meth c H locs cells slots Q (F0 m pc ls (.int x :: .int (nI j) :: .ref (q 1) :: rest)) := by
  subst hv
  refine va_zast F.1.1 F.1.2.1 F.2 hZ.1 hZ.2.1 hZ.2.2.1 1 1 rfl rfl (vp_in_nI hj (by decide)) hdg (fun H1 locs1 hP hD hS => ?_)
  rw [nI_clamp (n := j) (by omega), b2i_vnar, upd_b2i] at hP hD
  exact kk H1 locs1 ⟨hP, hD, hS, hZ.2.2.2⟩
theorem ma_kd (F : Fx RX1 D dB dZ dJ p m c cc nL s args) (hP : va_P D vwCl (MW dZ dJ q th kd hd ps ng fd bf) H) {j : Nat} (hj : j < 10) (hdg : decode cc pc = .ok (.iaload, 1)) (kk : W p l e R s m args below meth c H locs cells slots Q (F0 m (pc + 1) ls (.int (kd j) :: rest))) : W p l e R s m args below meth c H locs cells slots Q (F0 m pc ls (.int (nI j) :: .ref (q 2) :: rest)) := by
  refine va_iald F.1.1 F.1.2.1 F.2 hP 2 2 rfl rfl (vp_in_nI hj (by decide)) hdg ?_
  rw [nI_clamp (n := j) (by omega)]
  exact kk
theorem mt_kd (F : Fx RX1 D dB dZ dJ p m c cc nL s args) (hZ : XS D A s (MW dZ dJ q th kd hd ps ng fd bf) H locs) {j : Nat} (hj : j < 10) {x : Int32} (hdg : decode cc pc = .ok (.iastore, 1)) (kk : ∀ (H1 : Heap) (locs1 : List Loc), XS D A s (MW dZ dJ q th (upd kd j x) hd ps ng fd bf) H1 locs1 → W p l e R s m args below meth c H1 locs1 cells slots Q (F0 m (pc + 1) ls rest)) : W p l e R s m args below meth c H locs cells slots Q (F0 m pc ls (.int x :: .int (nI j) :: .ref (q 2) :: rest)) := by
  refine va_iast F.1.1 F.1.2.1 F.2 hZ.1 hZ.2.1 hZ.2.2.1 2 2 rfl rfl (vp_in_nI hj (by decide)) hdg (fun H1 locs1 hP hD hS => ?_)
  rw [nI_clamp (n := j) (by omega)] at hP hD
  exact kk H1 locs1 ⟨hP, hD, hS, hZ.2.2.2⟩
theorem ma_hd (F : Fx RX1 D dB dZ dJ p m c cc nL s args) (hP : va_P D vwCl (MW dZ dJ q th kd hd ps ng fd bf) H) {j : Nat} (hj : j < 10) (hdg : decode cc pc = .ok (.iaload, 1)) (kk : W p l e R s m args below meth c H locs cells slots Q (F0 m (pc + 1) ls (.int (hd j) :: rest))) : W p l e R s m args below meth c H locs cells slots Q (F0 m pc ls (.int (nI j) :: .ref (q 3) :: rest)) := by
  refine va_iald F.1.1 F.1.2.1 F.2 hP 3 2 rfl rfl (vp_in_nI hj (by decide)) hdg ?_
  rw [nI_clamp (n := j) (by omega)]
  exact kk
theorem mt_hd (F : Fx RX1 D dB dZ dJ p m c cc nL s args) (hZ : XS D A s (MW dZ dJ q th kd hd ps ng fd bf) H locs) {j : Nat} (hj : j < 10) {x : Int32} (hdg : decode cc pc = .ok (.iastore, 1)) (kk : ∀ (H1 : Heap) (locs1 : List Loc), XS D A s (MW dZ dJ q th kd (upd hd j x) ps ng fd bf) H1 locs1 → W p l e R s m args below meth c H1 locs1 cells slots Q (F0 m (pc + 1) ls rest)) : W p l e R s m args below meth c H locs cells slots Q (F0 m pc ls (.int x :: .int (nI j) :: .ref (q 3) :: rest)) := by
  refine va_iast F.1.1 F.1.2.1 F.2 hZ.1 hZ.2.1 hZ.2.2.1 3 2 rfl rfl (vp_in_nI hj (by decide)) hdg (fun H1 locs1 hP hD hS => ?_)
  rw [nI_clamp (n := j) (by omega)] at hP hD
  exact kk H1 locs1 ⟨hP, hD, hS, hZ.2.2.2⟩
theorem ma_ps (F : Fx RX1 D dB dZ dJ p m c cc nL s args) (hP : va_P D vwCl (MW dZ dJ q th kd hd ps ng fd bf) H) {j : Nat} (hj : j < 10) (hdg : decode cc pc = .ok (.iaload, 1)) (kk : W p l e R s m args below meth c H locs cells slots Q (F0 m (pc + 1) ls (.int (ps j) :: rest))) : W p l e R s m args below meth c H locs cells slots Q (F0 m pc ls (.int (nI j) :: .ref (q 4) :: rest)) := by
  refine va_iald F.1.1 F.1.2.1 F.2 hP 4 2 rfl rfl (vp_in_nI hj (by decide)) hdg ?_
  rw [nI_clamp (n := j) (by omega)]
  exact kk
theorem mt_ps (F : Fx RX1 D dB dZ dJ p m c cc nL s args) (hZ : XS D A s (MW dZ dJ q th kd hd ps ng fd bf) H locs) {j : Nat} (hj : j < 10) {x : Int32} (hdg : decode cc pc = .ok (.iastore, 1)) (kk : ∀ (H1 : Heap) (locs1 : List Loc), XS D A s (MW dZ dJ q th kd hd (upd ps j x) ng fd bf) H1 locs1 → W p l e R s m args below meth c H1 locs1 cells slots Q (F0 m (pc + 1) ls rest)) : W p l e R s m args below meth c H locs cells slots Q (F0 m pc ls (.int x :: .int (nI j) :: .ref (q 4) :: rest)) := by
  refine va_iast F.1.1 F.1.2.1 F.2 hZ.1 hZ.2.1 hZ.2.2.1 4 2 rfl rfl (vp_in_nI hj (by decide)) hdg (fun H1 locs1 hP hD hS => ?_)
  rw [nI_clamp (n := j) (by omega)] at hP hD
  exact kk H1 locs1 ⟨hP, hD, hS, hZ.2.2.2⟩
theorem ma_ng (F : Fx RX1 D dB dZ dJ p m c cc nL s args) (hP : va_P D vwCl (MW dZ dJ q th kd hd ps ng fd bf) H) {j : Nat} (hj : j < 10) (hdg : decode cc pc = .ok (.iaload, 1)) (kk : W p l e R s m args below meth c H locs cells slots Q (F0 m (pc + 1) ls (.int (ng j) :: rest))) : W p l e R s m args below meth c H locs cells slots Q (F0 m pc ls (.int (nI j) :: .ref (q 5) :: rest)) := by
  refine va_iald F.1.1 F.1.2.1 F.2 hP 5 2 rfl rfl (vp_in_nI hj (by decide)) hdg ?_
  rw [nI_clamp (n := j) (by omega)]
  exact kk
theorem mt_ng (F : Fx RX1 D dB dZ dJ p m c cc nL s args) (hZ : XS D A s (MW dZ dJ q th kd hd ps ng fd bf) H locs) {j : Nat} (hj : j < 10) {x : Int32} (hdg : decode cc pc = .ok (.iastore, 1)) (kk : ∀ (H1 : Heap) (locs1 : List Loc), XS D A s (MW dZ dJ q th kd hd ps (upd ng j x) fd bf) H1 locs1 → W p l e R s m args below meth c H1 locs1 cells slots Q (F0 m (pc + 1) ls rest)) : W p l e R s m args below meth c H locs cells slots Q (F0 m pc ls (.int x :: .int (nI j) :: .ref (q 5) :: rest)) := by
  refine va_iast F.1.1 F.1.2.1 F.2 hZ.1 hZ.2.1 hZ.2.2.1 5 2 rfl rfl (vp_in_nI hj (by decide)) hdg (fun H1 locs1 hP hD hS => ?_)
  rw [nI_clamp (n := j) (by omega)] at hP hD
  exact kk H1 locs1 ⟨hP, hD, hS, hZ.2.2.2⟩
theorem ma_fd (F : Fx RX1 D dB dZ dJ p m c cc nL s args) (hP : va_P D vwCl (MW dZ dJ q th kd hd ps ng fd bf) H) {j : Nat} (hj : j < 64) (hdg : decode cc pc = .ok (.baload, 1)) (kk : W p l e R s m args below meth c H locs cells slots Q (F0 m (pc + 1) ls (.int (b2i (fd j)) :: rest))) : W p l e R s m args below meth c H locs cells slots Q (F0 m pc ls (.int (nI j) :: .ref (q 6) :: rest)) := by
  refine va_zald F.1.1 F.1.2.1 F.2 hP 6 1 rfl rfl (vp_in_nI hj (by decide)) hdg ?_
  rw [nI_clamp (n := j) (by omega)]
  exact kk
theorem mt_fd (F : Fx RX1 D dB dZ dJ p m c cc nL s args) (hZ : XS D A s (MW dZ dJ q th kd hd ps ng fd bf) H locs) {j : Nat} (hj : j < 64) {x : Int32} {B : Bool} (hv : x = b2i B) (hdg : decode cc pc = .ok (.bastore, 1)) (kk : ∀ (H1 : Heap) (locs1 : List Loc), XS D A s (MW dZ dJ q th kd hd ps ng (updB fd j B) bf) H1 locs1 → W p l e R s m args below meth c H1 locs1 cells slots Q (F0 m (pc + 1) ls rest)) : W p l e R s m args below meth c H locs cells slots Q (F0 m pc ls (.int x :: .int (nI j) :: .ref (q 6) :: rest)) := by
  subst hv
  refine va_zast F.1.1 F.1.2.1 F.2 hZ.1 hZ.2.1 hZ.2.2.1 6 1 rfl rfl (vp_in_nI hj (by decide)) hdg (fun H1 locs1 hP hD hS => ?_)
  rw [nI_clamp (n := j) (by omega), b2i_vnar, upd_b2i] at hP hD
  exact kk H1 locs1 ⟨hP, hD, hS, hZ.2.2.2⟩
theorem ma_bf (F : Fx RX1 D dB dZ dJ p m c cc nL s args) (hP : va_P D vwCl (MW dZ dJ q th kd hd ps ng fd bf) H) {j : Nat} (hj : j < 64) (hdg : decode cc pc = .ok (.baload, 1)) (kk : W p l e R s m args below meth c H locs cells slots Q (F0 m (pc + 1) ls (.int (b2i (bf j)) :: rest))) : W p l e R s m args below meth c H locs cells slots Q (F0 m pc ls (.int (nI j) :: .ref (q 7) :: rest)) := by
  refine va_zald F.1.1 F.1.2.1 F.2 hP 7 1 rfl rfl (vp_in_nI hj (by decide)) hdg ?_
  rw [nI_clamp (n := j) (by omega)]
  exact kk
theorem mt_bf (F : Fx RX1 D dB dZ dJ p m c cc nL s args) (hZ : XS D A s (MW dZ dJ q th kd hd ps ng fd bf) H locs) {j : Nat} (hj : j < 64) {x : Int32} {B : Bool} (hv : x = b2i B) (hdg : decode cc pc = .ok (.bastore, 1)) (kk : ∀ (H1 : Heap) (locs1 : List Loc), XS D A s (MW dZ dJ q th kd hd ps ng fd (updB bf j B)) H1 locs1 → W p l e R s m args below meth c H1 locs1 cells slots Q (F0 m (pc + 1) ls rest)) : W p l e R s m args below meth c H locs cells slots Q (F0 m pc ls (.int x :: .int (nI j) :: .ref (q 7) :: rest)) := by
  subst hv
  refine va_zast F.1.1 F.1.2.1 F.2 hZ.1 hZ.2.1 hZ.2.2.1 7 1 rfl rfl (vp_in_nI hj (by decide)) hdg (fun H1 locs1 hP hD hS => ?_)
  rw [nI_clamp (n := j) (by omega), b2i_vnar, upd_b2i] at hP hD
  exact kk H1 locs1 ⟨hP, hD, hS, hZ.2.2.2⟩
/-- iinc of a loop's number -/
theorem lv_incN {lv lv' : List (Nat × Value)} {i nL k j : Nat} (hx : p.tables.exec = Jvm.exec) (hb : c.code = cc) (hdg : decode cc pc = .ok (.iinc i 1, 3)) (h : lv_has ls nL lv) (hk : lv[k]? = some (i, .int (nI j))) (hn : i < nL) (hl : (i, Value.int (nI (j + 1))) :: lv.filter (fun q => !(q.1 == i) && !(q.1 + 1 == i && q.2.category == 2)) = lv') (kk : ∀ ls' : Array Slot, lv_has ls' nL lv' → W p l e R s m args below meth c H locs cells slots Q (F0 m (pc + 3) ls' rest)) : W p l e R s m args below meth c H locs cells slots Q (F0 m pc ls rest) :=
  lv_iinc (v := nI (j + 1)) hx hb hdg h hk (nI_1 j) hn hl kk
theorem lv_incX {lv lv' : List (Nat × Value)} {i nL k : Nat} {x : Int32} (hx : p.tables.exec = Jvm.exec) (hb : c.code = cc) (hdg : decode cc pc = .ok (.iinc i 1, 3)) (h : lv_has ls nL lv) (hk : lv[k]? = some (i, .int x)) (hn : i < nL) (hl : (i, Value.int (x + 1)) :: lv.filter (fun q => !(q.1 == i) && !(q.1 + 1 == i && q.2.category == 2)) = lv') (kk : ∀ ls' : Array Slot, lv_has ls' nL lv' → W p l e R s m args below meth c H locs cells slots Q (F0 m (pc + 3) ls' rest)) : W p l e R s m args below meth c H locs cells slots Q (F0 m pc ls rest) :=
  lv_iinc (v := x + 1) hx hb hdg h hk rfl hn hl kk
end FR
theorem lp_ge {j N : Nat} (hN : N < 2 ^ 31) (h : j ≤ N) (c : nI N ≤ nI j) : j = N := by
  rcases Nat.lt_or_ge j N with q | q
  · exact absurd c (nI_ge q hN)
  · omega
theorem lp_lt {j N : Nat} (hN : N < 2 ^ 31) (h : j ≤ N) (c : ¬ nI N ≤ nI j) : j < N := by
  rcases Nat.lt_or_ge j N with q | q
  · exact q
  · have e : j = N := by omega
    subst e
    exact absurd (nI_le (Nat.le_refl j) hN) c
theorem lp_gt {j N : Nat} (hN : N + 1 < 2 ^ 31) (h : j ≤ N + 1) (c : nI N < nI j) : j = N + 1 := by
  rcases Nat.lt_or_ge N j with q | q
  · omega
  · exact absurd c (nI_nlt q (by omega))
theorem lp_ngt {j N : Nat} (hN : N + 1 < 2 ^ 31) (h : j ≤ N + 1) (c : ¬ nI N < nI j) : j < N + 1 := by
  rcases Nat.lt_or_ge N j with q | q
  · exact absurd (nI_lt q (by omega)) c
  · omega
/-! contracts' forms: MRd: reads alone, the answer r; MSt: a static one; MVd: void, the world behind it; MId: an int, and the world behind it -/
def MRd (l : Launch) (y : MethodName) (ws : List Cond) (rm : Room) (D : va_G) (dB dZ dJ : ClassId) (av : List Value) (wl : va_W) (r : Int32) : Prop :=
  Met l y ws rm (va_Pc av (fun U => va_P D vwCl wl U.heap ∧ va_K D vwCl (tyA dB dZ dJ) U)) (QcRead r) 0 0 (fun _ => False)
def MSt (l : Launch) (y : MethodName) (ws : List Cond) (rm : Room) (av : List Value) (r : Int32) : Prop :=
  Met l y ws rm (fun v _ => v = av.toArray) (QcRead r) 0 0 (fun _ => False)
def MVd (l : Launch) (y : MethodName) (ws : List Cond) (rm : Room) (D : va_G) (dB dZ dJ : ClassId) (av : List Value) (wl : va_W) {S : Type} (post : S → Prop) (wl' : S → va_W) : Prop :=
  ∀ sz : Nat, Met l y ws rm (va_Pc av (fun U => U.heap.size = sz ∧ va_P D vwCl wl U.heap ∧ va_K D vwCl (tyA dB dZ dJ) U ∧ va_D (fun _ => True) wl)) (va_Qv post (fun u t => va_P D vwCl (wl' u) t.heap) (va_A wl sz)) 0 0 (va_A wl sz)
def MId (l : Launch) (y : MethodName) (ws : List Cond) (rm : Room) (D : va_G) (dB dZ dJ : ClassId) (av : List Value) (wl : va_W) {S : Type} (post : Int32 → S → Prop) (wl' : S → va_W) : Prop :=
  ∀ sz : Nat, Met l y ws rm (va_Pc av (fun U => U.heap.size = sz ∧ va_P D vwCl wl U.heap ∧ va_K D vwCl (tyA dB dZ dJ) U ∧ va_D (fun _ => True) wl)) (va_Qi post (fun u t => va_P D vwCl (wl' u) t.heap) (va_A wl sz)) 0 0 (va_A wl sz)
set_option maxHeartbeats 4000000 in
theorem MSt.of {l : Launch} {y : MethodName} {rm : Room} {av : List Value} {r : Int32} {cc : ByteArray} {nL : Nat} {ty : FieldType} (hy : plainName y.cls = true) (hn : narrow ty (.int r) = .int r) (hlen : (lg_sl av).length ≤ nL)
    (body : ∀ (p : Program) (e : Env) (s : State) (m : MethodId) (args : Array Value) (below : List Frame) (meth : Method) (c : Code) (Q : State → Prop), CallFix p m c cc nL s args lw_all y.cls → (∀ {pc : Nat} {ls : Array Slot} {v : Int32}, decode cc pc = .ok (.ireturn, 1) → v = r → W p l e rm s m args below meth c s.heap [] 0 0 Q (F0 m pc ls [.int v])) → ∀ ls : Array Slot, lv_has ls nL (lv_args 0 av) → W p l e rm s m args below meth c s.heap [] 0 0 Q (F0 m 0 ls [])) : MSt l y (ws_ y cc nL (some ty)) rm av r := by
  refine Met.ofW (cc := cc) (maxL := nL) (ret := some ty) hy rfl ?_
  intro p e s m args below meth c s₁ B hml hv
  subst hv
  have hts := atoms_spec (ws := ws_ y cc nL (some ty)) B.pre
  have hts : ∀ w ∈ lw_all, w.before _ s = true := fun w h => hts w (List.mem_cons_of_mem _ h)
  have hown : s.vm.findClass y.cls = some m.cls := findClass_of_methodNamed B.named
  have hl := lv_entry av (n := nL) hlen
  rw [lg_entry_eq]
  generalize (lg_sl av ++ List.replicate (nL - (lg_sl av).length) Slot.unset).toArray = ls at hl ⊢
  refine body p e s m _ below meth c _ ⟨B.exec, B.bytes, hml, hown, hts⟩ ?_ ls hl
  intro pc ls v hdg hv
  subst hv
  exact W.zret B.exec B.bytes B.returns hn (fun t ht hW => ⟨rfl, ht⟩) (fun q h => by cases h) hdg
set_option maxHeartbeats 4000000 in
theorem MRd.of {l : Launch} {y : MethodName} {rm : Room} {D : va_G} {dB dZ dJ : ClassId} {av : List Value} {wl : va_W} {r : Int32} {cc : ByteArray} {nL : Nat} {ty : FieldType} (hy : plainName y.cls = true) (hn : narrow ty (.int r) = .int r) (hlen : (lg_sl av).length ≤ nL)
    (body : ∀ (p : Program) (e : Env) (s : State) (m : MethodId) (args : Array Value) (below : List Frame) (meth : Method) (c : Code) (Q : State → Prop), Fx y.cls D dB dZ dJ p m c cc nL s args → va_P D vwCl wl s.heap → (∀ {pc : Nat} {ls : Array Slot} {v : Int32}, decode cc pc = .ok (.ireturn, 1) → v = r → W p l e rm s m args below meth c s.heap [] 0 0 Q (F0 m pc ls [.int v])) → ∀ ls : Array Slot, lv_has ls nL (lv_args 0 av) → W p l e rm s m args below meth c s.heap [] 0 0 Q (F0 m 0 ls [])) : MRd l y (ws_ y cc nL (some ty)) rm D dB dZ dJ av wl r := by
  refine Met.ofW (cc := cc) (maxL := nL) (ret := some ty) hy rfl ?_
  intro p e s m args below meth c s₁ B hml hv
  obtain ⟨rfl, hP, hK⟩ := hv
  have hts := atoms_spec (ws := ws_ y cc nL (some ty)) B.pre
  have hts : ∀ w ∈ lw_all, w.before _ s = true := fun w h => hts w (List.mem_cons_of_mem _ h)
  have hown : s.vm.findClass y.cls = some m.cls := findClass_of_methodNamed B.named
  have hl := lv_entry av (n := nL) hlen
  rw [lg_entry_eq]
  generalize (lg_sl av ++ List.replicate (nL - (lg_sl av).length) Slot.unset).toArray = ls at hl ⊢
  refine body p e s m _ below meth c _ ⟨⟨B.exec, B.bytes, hml, hown, hts⟩, hK⟩ hP ?_ ls hl
  intro pc ls v hdg hv
  subst hv
  exact W.zret B.exec B.bytes B.returns hn (fun t ht hW => ⟨rfl, ht⟩) (fun q h => by cases h) hdg
set_option maxHeartbeats 4000000 in
theorem MVd.of {l : Launch} {y : MethodName} {rm : Room} {D : va_G} {dB dZ dJ : ClassId} {av : List Value} {wl : va_W} {S : Type} {post : S → Prop} {wl' : S → va_W} {cc : ByteArray} {nL : Nat} (hy : plainName y.cls = true) (hlen : (lg_sl av).length ≤ nL)
    (body : ∀ (p : Program) (e : Env) (s : State) (m : MethodId) (args : Array Value) (below : List Frame) (meth : Method) (c : Code) (Q : State → Prop) (A : Nat → Prop), Fx y.cls D dB dZ dJ p m c cc nL s args → XS D A s wl s.heap [] → (∀ {pc : Nat} {ls : Array Slot} {H : Heap} {locs : List Loc} (u : S), decode cc pc = .ok (.return_, 1) → post u → XS D A s (wl' u) H locs → W p l e rm s m args below meth c H locs 0 0 Q (F0 m pc ls [])) → ∀ ls : Array Slot, lv_has ls nL (lv_args 0 av) → W p l e rm s m args below meth c s.heap [] 0 0 Q (F0 m 0 ls [])) : MVd l y (ws_ y cc nL none) rm D dB dZ dJ av wl post wl' := by
  intro sz
  refine Met.ofW (cc := cc) (maxL := nL) (ret := none) hy rfl ?_
  intro p e s m args below meth c s₁ B hml hv
  obtain ⟨rfl, hsz, hP, hK, hD0⟩ := hv
  have hts := atoms_spec (ws := ws_ y cc nL none) B.pre
  have hts : ∀ w ∈ lw_all, w.before _ s = true := fun w h => hts w (List.mem_cons_of_mem _ h)
  have hown : s.vm.findClass y.cls = some m.cls := findClass_of_methodNamed B.named
  subst hsz
  have hD := hD0.self (sz := s.heap.size)
  have hl := lv_entry av (n := nL) hlen
  rw [lg_entry_eq]
  generalize (lg_sl av ++ List.replicate (nL - (lg_sl av).length) Slot.unset).toArray = ls at hl ⊢
  refine body p e s m _ below meth c _ (va_A wl s.heap.size) ⟨⟨B.exec, B.bytes, hml, hown, hts⟩, hK⟩ ⟨hP, hD, va_S.rf, fun q h => Or.inr h⟩ ?_ ls hl
  intro pc ls H locs u hdg hu hZ
  exact W.vret B.exec B.bytes B.returns (fun t ht hW => ⟨⟨u, rfl, hu, by show va_P D vwCl (wl' u) t.heap; rw [ht]; exact hZ.1⟩, hZ.2.2.1.F ht⟩) hZ.2.2.1.2.2 hdg
set_option maxHeartbeats 4000000 in
theorem MId.of {l : Launch} {y : MethodName} {rm : Room} {D : va_G} {dB dZ dJ : ClassId} {av : List Value} {wl : va_W} {S : Type} {post : Int32 → S → Prop} {wl' : S → va_W} {cc : ByteArray} {nL : Nat} {ty : FieldType} (hy : plainName y.cls = true) (hlen : (lg_sl av).length ≤ nL)
    (body : ∀ (p : Program) (e : Env) (s : State) (m : MethodId) (args : Array Value) (below : List Frame) (meth : Method) (c : Code) (Q : State → Prop) (A : Nat → Prop), Fx y.cls D dB dZ dJ p m c cc nL s args → XS D A s wl s.heap [] → (∀ {pc : Nat} {ls : Array Slot} {H : Heap} {locs : List Loc} {v : Int32} (u : S), decode cc pc = .ok (.ireturn, 1) → post v u → narrow ty (.int v) = .int v → XS D A s (wl' u) H locs → W p l e rm s m args below meth c H locs 0 0 Q (F0 m pc ls [.int v])) → ∀ ls : Array Slot, lv_has ls nL (lv_args 0 av) → W p l e rm s m args below meth c s.heap [] 0 0 Q (F0 m 0 ls [])) : MId l y (ws_ y cc nL (some ty)) rm D dB dZ dJ av wl post wl' := by
  intro sz
  refine Met.ofW (cc := cc) (maxL := nL) (ret := some ty) hy rfl ?_
  intro p e s m args below meth c s₁ B hml hv
  obtain ⟨rfl, hsz, hP, hK, hD0⟩ := hv
  have hts := atoms_spec (ws := ws_ y cc nL (some ty)) B.pre
  have hts : ∀ w ∈ lw_all, w.before _ s = true := fun w h => hts w (List.mem_cons_of_mem _ h)
  have hown : s.vm.findClass y.cls = some m.cls := findClass_of_methodNamed B.named
  subst hsz
  have hD := hD0.self (sz := s.heap.size)
  have hl := lv_entry av (n := nL) hlen
  rw [lg_entry_eq]
  generalize (lg_sl av ++ List.replicate (nL - (lg_sl av).length) Slot.unset).toArray = ls at hl ⊢
  refine body p e s m _ below meth c _ (va_A wl s.heap.size) ⟨⟨B.exec, B.bytes, hml, hown, hts⟩, hK⟩ ⟨hP, hD, va_S.rf, fun q h => Or.inr h⟩ ?_ ls hl
  intro pc ls H locs v u hdg hu hn hZ
  exact W.zret B.exec B.bytes B.returns hn (fun t ht hW => ⟨⟨v, u, rfl, hu, by show va_P D vwCl (wl' u) t.heap; rw [ht]; exact hZ.1⟩, hZ.2.2.1.F ht⟩) hZ.2.2.1.2.2 hdg
section CL
variable {p : Program} {l : Launch} {e : Env} {R : Room} {s : State} {m : MethodId} {args : Array Value} {below : List Frame} {meth : Method} {c : Code} {H : Heap} {locs : List Loc} {cells slots : Nat} {Q : State → Prop}
variable {cc : ByteArray} {pc nL : Nat} {ls : Array Slot} {rest : List Value} {D : va_G} {dB dZ dJ : ClassId} {A : Nat → Prop}
variable {y : MethodName} {bytes : ByteArray} {maxL idx n : Nat} {ty : FieldType} {rm : Room} {own : String} {a : Nat} {As st : List Value} {wl : va_W}
/-- a call of a method that reads alone -/
theorem cl_R {q0 ci : Nat} {fs : List Value} {T : u_T} {N : Nat} {r : Int32} (F : Fx own D dB dZ dJ p m c cc nL s args) (hP : va_P D vwCl wl H) (hM : MRd l y (ws_ y bytes maxL (some ty)) rm D dB dZ dJ (.ref a :: As) wl r)
    (he : wl[q0]? = some (a, .inr (ci, fs))) (hc : vwCl[ci]? = some (y.cls, T, N)) (hw : GoodIn lw_all (wsV own idx y.cls y (ws_ y bytes maxL (some ty))))
    (hd : y.cls = y.cls ∧ y.cls ≠ "java/lang/invoke/MethodHandle" ∧ y.cls ≠ "java/lang/invoke/VarHandle" ∧ (parseMethodDescriptor y.desc).map (fun d => d.parameters.length) = some n) (hn : As.length = n) (hrm : rm.cells = 0 ∧ rm.slots = 0)
    (hR : rm.frames + 1 ≤ R.frames ∧ 8 + (maxL + 11) + rm.locals ≤ R.locals) (hsz : ls.size = nL) (hst : st = As.reverse ++ .ref a :: rest) (hroom : (rest.map fun v => v.category).sum ≤ 8) (hdg : decode cc pc = .ok (.invokevirtual idx, 3)) (hf : cells ≤ R.cells ∧ slots ≤ R.slots)
    (kk : W p l e R s m args below meth c H locs cells slots Q (F0 m (pc + 3) ls (.int r :: rest))) : W p l e R s m args below meth c H locs cells slots Q (F0 m pc ls st) := by
  subst hst
  exact W.callR (W.runV (As := As) (rest := rest) F.1 hM (cwV n F.1.2.2.2.2 hw rfl hrm.1 hrm.2 hd hR) ⟨fun a U g mk q => by obtain ⟨q0, qP, qK⟩ := q; exact ⟨q0, qP, va_K.moved (u := U) (U := U.calling g mk a) (Vm.Alike.refl U.vm) qK⟩, va_recv F.2 hP hc he, fun U hU hW => ⟨rfl, by rw [hU]; exact hP, va_K.moved hW.alike F.2⟩⟩ rfl hn hsz rfl (lv_room hroom) hdg hf) kk
/-- a static call that reads alone -/
theorem cl_S {r : Int32} (F : CallFix p m c cc nL s args lw_all own) (hM : MSt l y (ws_ y bytes maxL (some ty)) rm As r)
    (hw : GoodIn lw_all (va_wsS own idx y (ws_ y bytes maxL (some ty))))
    (hd : y.cls ≠ "java/lang/invoke/MethodHandle" ∧ y.cls ≠ "java/lang/invoke/VarHandle" ∧ (parseMethodDescriptor y.desc).map (fun d => d.parameters.length) = some n) (hn : As.length = n) (hrm : rm.cells = 0 ∧ rm.slots = 0)
    (hR : rm.frames + 1 ≤ R.frames ∧ 8 + (maxL + 11) + rm.locals ≤ R.locals) (hsz : ls.size = nL) (hst : st = As.reverse ++ rest) (hroom : (rest.map fun v => v.category).sum ≤ 8) (hdg : decode cc pc = .ok (.invokestatic idx, 3)) (hf : cells ≤ R.cells ∧ slots ≤ R.slots)
    (kk : W p l e R s m args below meth c H locs cells slots Q (F0 m (pc + 3) ls (.int r :: rest))) : W p l e R s m args below meth c H locs cells slots Q (F0 m pc ls st) := by
  subst hst
  exact W.callR (W.runS (As := As) (rest := rest) F hM (va_cwS n F.2.2.2.2 hw rfl hrm.1 hrm.2 hd hR) preEq rfl hn hsz rfl (lv_room hroom) hdg hf) kk
/-- a call of a void method on the whole world -/
theorem cl_V {q0 ci : Nat} {fs : List Value} {T : u_T} {N : Nat} {S : Type} {post : S → Prop} {wl' : S → va_W} (F : Fx own D dB dZ dJ p m c cc nL s args) (hZ : XS D A s wl H locs) (hM : MVd l y (ws_ y bytes maxL none) rm D dB dZ dJ (.ref a :: As) wl post wl')
    (hadr : ∀ u, (wl' u).map (fun q => q.1) = wl.map (fun q => q.1)) (he : wl[q0]? = some (a, .inr (ci, fs))) (hc : vwCl[ci]? = some (y.cls, T, N)) (hw : GoodIn lw_all (wsV own idx y.cls y (ws_ y bytes maxL none)))
    (hd : y.cls = y.cls ∧ y.cls ≠ "java/lang/invoke/MethodHandle" ∧ y.cls ≠ "java/lang/invoke/VarHandle" ∧ (parseMethodDescriptor y.desc).map (fun d => d.parameters.length) = some n) (hn : As.length = n) (hrm : rm.cells = 0 ∧ rm.slots = 0)
    (hR : rm.frames + 1 ≤ R.frames ∧ 8 + (maxL + 11) + rm.locals ≤ R.locals) (hsz : ls.size = nL) (hst : st = As.reverse ++ .ref a :: rest) (hroom : (rest.map fun v => v.category).sum ≤ 8) (hdg : decode cc pc = .ok (.invokevirtual idx, 3)) (hf : cells ≤ R.cells ∧ slots ≤ R.slots)
    (kk : ∀ (u : S) (H1 : Heap) (locs1 : List Loc), post u → XS D A s (wl' u) H1 locs1 → W p l e R s m args below meth c H1 locs1 cells slots Q (F0 m (pc + 3) ls rest)) : W p l e R s m args below meth c H locs cells slots Q (F0 m pc ls st) := by
  subst hst
  obtain ⟨hP, hD, hS, hA⟩ := hZ
  have hFc : ∀ q, va_A wl H.size q → A q := by
    intro q h
    rcases h with ⟨k, e, h⟩ | h
    · exact hD.2 k (q, e) h
    · exact hA q (Nat.le_trans hS.1 h)
  refine va_callv (va_runV (As := As) (rest := rest) F.1 (hM H.size) (cwV n F.1.2.2.2.2 hw rfl hrm.1 hrm.2 hd hR) ⟨fun a U g mk q => by obtain ⟨q0, q1, qP, qK, qD⟩ := q; exact ⟨q0, q1, qP, va_K.moved (u := U) (U := U.calling g mk a) (Vm.Alike.refl U.vm) qK, qD⟩, va_recv F.2 hP hc he, fun U hU hW => ⟨rfl, by rw [hU], by rw [hU]; exact hP, va_K.moved hW.alike F.2, hD.weaken (fun _ _ _ _ => trivial)⟩⟩ rfl hn hsz rfl (lv_room hroom) hdg hf) hS (fun q _ h => hFc q h) hFc (fun u t H1 locs1 ht hvm hu hB hz1 hk1 hS1 => ?_)
  exact kk u H1 locs1 hu ⟨by rw [← ht]; exact hB, va_D_adr hD (hadr u), hS1, hA⟩
/-- a call of a method with an int answer on the whole world -/
theorem cl_I {q0 ci : Nat} {fs : List Value} {T : u_T} {N : Nat} {S : Type} {post : Int32 → S → Prop} {wl' : S → va_W} (F : Fx own D dB dZ dJ p m c cc nL s args) (hZ : XS D A s wl H locs) (hM : MId l y (ws_ y bytes maxL (some ty)) rm D dB dZ dJ (.ref a :: As) wl post wl')
    (hadr : ∀ u, (wl' u).map (fun q => q.1) = wl.map (fun q => q.1)) (he : wl[q0]? = some (a, .inr (ci, fs))) (hc : vwCl[ci]? = some (y.cls, T, N)) (hw : GoodIn lw_all (wsV own idx y.cls y (ws_ y bytes maxL (some ty))))
    (hd : y.cls = y.cls ∧ y.cls ≠ "java/lang/invoke/MethodHandle" ∧ y.cls ≠ "java/lang/invoke/VarHandle" ∧ (parseMethodDescriptor y.desc).map (fun d => d.parameters.length) = some n) (hn : As.length = n) (hrm : rm.cells = 0 ∧ rm.slots = 0)
    (hR : rm.frames + 1 ≤ R.frames ∧ 8 + (maxL + 11) + rm.locals ≤ R.locals) (hsz : ls.size = nL) (hst : st = As.reverse ++ .ref a :: rest) (hroom : (rest.map fun v => v.category).sum ≤ 8) (hdg : decode cc pc = .ok (.invokevirtual idx, 3)) (hf : cells ≤ R.cells ∧ slots ≤ R.slots)
    (kk : ∀ (r : Int32) (u : S) (H1 : Heap) (locs1 : List Loc), post r u → XS D A s (wl' u) H1 locs1 → W p l e R s m args below meth c H1 locs1 cells slots Q (F0 m (pc + 3) ls (.int r :: rest))) : W p l e R s m args below meth c H locs cells slots Q (F0 m pc ls st) := by
  subst hst
  obtain ⟨hP, hD, hS, hA⟩ := hZ
  have hFc : ∀ q, va_A wl H.size q → A q := by
    intro q h
    rcases h with ⟨k, e, h⟩ | h
    · exact hD.2 k (q, e) h
    · exact hA q (Nat.le_trans hS.1 h)
  refine va_calli (va_runV (As := As) (rest := rest) F.1 (hM H.size) (cwV n F.1.2.2.2.2 hw rfl hrm.1 hrm.2 hd hR) ⟨fun a U g mk q => by obtain ⟨q0, q1, qP, qK, qD⟩ := q; exact ⟨q0, q1, qP, va_K.moved (u := U) (U := U.calling g mk a) (Vm.Alike.refl U.vm) qK, qD⟩, va_recv F.2 hP hc he, fun U hU hW => ⟨rfl, by rw [hU], by rw [hU]; exact hP, va_K.moved hW.alike F.2, hD.weaken (fun _ _ _ _ => trivial)⟩⟩ rfl hn hsz rfl (lv_room hroom) hdg hf) hS (fun q _ h => hFc q h) hFc (fun r u t H1 locs1 ht hvm hu hB hz1 hk1 hS1 => ?_)
  exact kk r u H1 locs1 hu ⟨by rw [← ht]; exact hB, va_D_adr hD (hadr u), hS1, hA⟩
end CL
end
section
set_option maxRecDepth 100000
/-! ===== Int32 by its bits: bt x i ===== -/
def bt (x : Int32) (i : Nat) : Bool := x.toBitVec.getLsbD i
theorem b_ext {x y : Int32} (h : ∀ i, i < 32 → bt x i = bt y i) : x = y := Int32.toBitVec_inj.mp (BitVec.eq_of_getLsbD_eq (fun i hi => h i hi))
theorem b_or (x y : Int32) (i : Nat) : bt (x ||| y) i = (bt x i || bt y i) := by unfold bt; rw [Int32.toBitVec_or, BitVec.getLsbD_or]
theorem b_and (x y : Int32) (i : Nat) : bt (x &&& y) i = (bt x i && bt y i) := by unfold bt; rw [Int32.toBitVec_and, BitVec.getLsbD_and]
theorem b_xor (x y : Int32) (i : Nat) : bt (x ^^^ y) i = (bt x i ^^ bt y i) := by unfold bt; rw [Int32.toBitVec_xor, BitVec.getLsbD_xor]
theorem b_big {x : Int32} {i : Nat} (h : 32 ≤ i) : bt x i = false := BitVec.getLsbD_of_ge _ _ h
theorem b_255 (i : Nat) : bt 255 i = decide (i < 8) := by
  rcases Nat.lt_or_ge i 32 with h | h
  · exact (by decide +kernel : ∀ i, i < 32 → bt 255 i = decide (i < 8)) i h
  · rw [b_big h, decide_eq_false (by omega)]
theorem b_65535 (i : Nat) : bt 65535 i = decide (i < 16) := by
  rcases Nat.lt_or_ge i 32 with h | h
  · exact (by decide +kernel : ∀ i, i < 32 → bt 65535 i = decide (i < 16)) i h
  · rw [b_big h, decide_eq_false (by omega)]
theorem b_m1 : ∀ i, i < 32 → bt (-1) i = true := by decide +kernel
theorem b_0 (i : Nat) : bt 0 i = false := BitVec.getLsbD_zero
theorem s_l : ∀ n, n < 32 → ((nI n &&& 31).toBitVec.smod 32).toNat = n := by decide +kernel
theorem s_u : ∀ n, n < 32 → (((nI n).toUInt32 &&& Int32.toUInt32 31).toBitVec % 32).toNat = n := by decide +kernel
theorem b_shl (n : Nat) (hn : n < 32) (x : Int32) {i : Nat} (hi : i < 32) : bt (x <<< (nI n &&& 31)) i = (decide (n ≤ i) && bt x (i - n)) := by
  unfold bt
  rw [Int32.toBitVec_shiftLeft]
  show (x.toBitVec <<< ((nI n &&& 31).toBitVec.smod 32).toNat).getLsbD i = _
  rw [s_l n hn, BitVec.getLsbD_shiftLeft]
  rcases Nat.lt_or_ge i n with h | h
  · simp [h, Nat.not_le.mpr h]
  · simp [hi, h, Nat.not_lt.mpr h]
theorem b_ushr (n : Nat) (hn : n < 32) (x : Int32) (i : Nat) : bt ((x.toUInt32 >>> ((nI n).toUInt32 &&& Int32.toUInt32 31)).toInt32) i = bt x (n + i) := by
  show (x.toUInt32 >>> ((nI n).toUInt32 &&& Int32.toUInt32 31)).toBitVec.getLsbD i = x.toUInt32.toBitVec.getLsbD (n + i)
  rw [UInt32.toBitVec_shiftRight]
  show (x.toUInt32.toBitVec >>> (((nI n).toUInt32 &&& Int32.toUInt32 31).toBitVec % 32).toNat).getLsbD i = _
  rw [s_u n hn, BitVec.getLsbD_ushiftRight]
theorem b_sshr (n : Nat) (hn : n < 32) (x : Int32) {i : Nat} (hi : i < 32) : bt (x >>> (nI n &&& 31)) i = if n + i < 32 then bt x (n + i) else bt x 31 := by
  unfold bt
  rw [Int32.toBitVec_shiftRight]
  show (x.toBitVec.sshiftRight ((nI n &&& 31).toBitVec.smod 32).toNat).getLsbD i = _
  rw [s_l n hn, BitVec.getLsbD_sshiftRight, BitVec.msb_eq_getLsbD_last]
  simp [hi]
theorem b_shl8 (x : Int32) {i : Nat} (hi : i < 32) : bt (x <<< ((8 : Int32) &&& 31)) i = (decide (8 ≤ i) && bt x (i - 8)) := b_shl 8 (by omega) x hi
theorem b_shl16 (x : Int32) {i : Nat} (hi : i < 32) : bt (x <<< ((16 : Int32) &&& 31)) i = (decide (16 ≤ i) && bt x (i - 16)) := b_shl 16 (by omega) x hi
theorem b_shl24 (x : Int32) {i : Nat} (hi : i < 32) : bt (x <<< ((24 : Int32) &&& 31)) i = (decide (24 ≤ i) && bt x (i - 24)) := b_shl 24 (by omega) x hi
theorem b_sshr8 (x : Int32) {i : Nat} (hi : i < 32) : bt (x >>> ((8 : Int32) &&& 31)) i = if 8 + i < 32 then bt x (8 + i) else bt x 31 := b_sshr 8 (by omega) x hi

/-! what each method computes, as its bytecode has it -/
theorem nar01 {r : Int32} (h : r = 0 ∨ r = 1) : narrow .boolean (.int r) = .int r := by
  rcases h with h | h <;> subst h <;> rfl
def hasI (pr x : Int32) : Int32 := if x < 0 then 0 else if 10 ≤ x then 0 else if ((pr >>> (x &&& 31)) &&& 1) = 0 then 0 else 1
theorem hasI_01 (pr x : Int32) : hasI pr x = 0 ∨ hasI pr x = 1 := by
  unfold hasI; split
  · exact Or.inl rfl
  · split
    · exact Or.inl rfl
    · split
      · exact Or.inl rfl
      · exact Or.inr rfl
def setI (x : Int32) : Int32 := if x < 0 then 0 else if 63 < x then 0 else 1
theorem setI_01 (x : Int32) : setI x = 0 ∨ setI x = 1 := by
  unfold setI; split
  · exact Or.inl rfl
  · split
    · exact Or.inl rfl
    · exact Or.inr rfl
def onesN (x : Int32) : Nat → Int32
  | 0 => 0
  | a + 1 => onesN x a + ((x >>> (nI a &&& 31)) &&& 1)
def supS (pr : Int32) (kd hd ps ng : Nat → Int32) (mm : Int32) (j : Nat) (s : Int32) : Int32 :=
  if hasI pr (nI j) = 0 then s else if kd j = 2 then s else if (ng j &&& mm) = 0 then
    (if (ps j &&& (s ^^^ (-1))) = 0 then (if kd j = 0 then s ||| ((1 : Int32) <<< (hd j &&& 31)) else if ((mm >>> (hd j &&& 31)) &&& 1) = 0 then s else s ||| ((1 : Int32) <<< (hd j &&& 31))) else s) else s
def supI (pr : Int32) (kd hd ps ng : Nat → Int32) (mm : Int32) (s : Int32) : Nat → Int32
  | 0 => s
  | j + 1 => supS pr kd hd ps ng mm j (supI pr kd hd ps ng mm s j)
def supR (pr : Int32) (kd hd ps ng : Nat → Int32) (mm : Int32) : Nat → Int32
  | 0 => 0
  | t + 1 => supI pr kd hd ps ng mm (supR pr kd hd ps ng mm t) 10
abbrev Q4 : Type := Int32 × Int32 × Bool × Bool
def pIn (x i o : Int32) (b mv : Bool) : Q4 :=
  if (x &&& (i ^^^ (-1))) = 0 then (if (i &&& o) = 0 then (i, o, b, mv) else (i, o, true, mv))
  else if ((i ||| x) &&& o) = 0 then (i ||| x, o, b, true) else (i ||| x, o, true, true)
def pOut (x i o : Int32) (b mv : Bool) : Q4 :=
  if (x &&& (o ^^^ (-1))) = 0 then (if (i &&& o) = 0 then (i, o, b, mv) else (i, o, true, mv))
  else if (i &&& (o ||| x)) = 0 then (i, o ||| x, b, true) else (i, o ||| x, true, true)
def hldI (ps ng : Nat → Int32) (i o : Int32) (j : Nat) : Int32 :=
  if (ps j &&& (i ^^^ (-1))) = 0 then (if (ng j &&& (o ^^^ (-1))) = 0 then 1 else 0) else 0
theorem hldI_01 (ps ng : Nat → Int32) (i o : Int32) (j : Nat) : hldI ps ng i o j = 0 ∨ hldI ps ng i o j = 1 := by
  unfold hldI; split
  · split
    · exact Or.inr rfl
    · exact Or.inl rfl
  · exact Or.inl rfl
def flsI (ps ng : Nat → Int32) (i o : Int32) (j : Nat) : Int32 :=
  if (ps j &&& o) = 0 then (if (ng j &&& i) = 0 then 0 else 1) else 1
theorem flsI_01 (ps ng : Nat → Int32) (i o : Int32) (j : Nat) : flsI ps ng i o j = 0 ∨ flsI ps ng i o j = 1 := by
  unfold flsI; split
  · split
    · exact Or.inl rfl
    · exact Or.inr rfl
  · exact Or.inr rfl
/-- a body that must not hold, but for one atom: settle it -/
def fwS (ps ng : Nat → Int32) (j : Nat) (i o : Int32) (b mv : Bool) : Q4 :=
  if flsI ps ng i o j = 0 then
    (if (onesN (ps j &&& (i ^^^ (-1))) 6 + onesN (ng j &&& (o ^^^ (-1))) 6) = 1 then
      pIn (ng j &&& (o ^^^ (-1))) (pOut (ps j &&& (i ^^^ (-1))) i o b mv).1 (pOut (ps j &&& (i ^^^ (-1))) i o b mv).2.1 (pOut (ps j &&& (i ^^^ (-1))) i o b mv).2.2.1 (pOut (ps j &&& (i ^^^ (-1))) i o b mv).2.2.2
    else (i, o, b, mv)) else (i, o, b, mv)
/-- a body that holds -/
def fwH (kd hd : Nat → Int32) (j : Nat) (i o : Int32) (b mv : Bool) : Q4 :=
  if kd j = 0 then pIn ((1 : Int32) <<< (hd j &&& 31)) i o b mv else if kd j = 2 then (i, o, true, mv) else (i, o, b, mv)
def fwd (kd hd ps ng : Nat → Int32) (j : Nat) (i o : Int32) (b mv : Bool) : Q4 :=
  if hldI ps ng i o j = 0 then
    (if kd j = 2 then fwS ps ng j i o b mv else if kd j = 0 then (if ((o >>> (hd j &&& 31)) &&& 1) = 0 then (i, o, b, mv) else fwS ps ng j i o b mv) else (i, o, b, mv))
  else fwH kd hd j i o b mv
def bokI (pr : Int32) (kd hd ps ng : Nat → Int32) (i o : Int32) (a j : Nat) : Bool :=
  if hasI pr (nI j) = 0 then false else if kd j = 2 then false else if hd j = nI a then (if flsI ps ng i o j = 0 then true else false) else false
def bwL (f : Nat → Bool) : Nat → Nat × Nat
  | 0 => (0, 0)
  | j + 1 => if f j = true then ((bwL f j).1 + 1, j) else bwL f j
def bwd (pr : Int32) (kd hd ps ng : Nat → Int32) (a : Nat) (i o : Int32) (b mv : Bool) : Q4 :=
  if ((i >>> (nI a &&& 31)) &&& 1) = 0 then (i, o, b, mv)
  else if (bwL (bokI pr kd hd ps ng i o a) 10).1 = 0 then (i, o, true, mv)
  else if (bwL (bokI pr kd hd ps ng i o a) 10).1 = 1 then
    pOut (ng (bwL (bokI pr kd hd ps ng i o a) 10).2) (pIn (ps (bwL (bokI pr kd hd ps ng i o a) 10).2) i o b mv).1 (pIn (ps (bwL (bokI pr kd hd ps ng i o a) 10).2) i o b mv).2.1 (pIn (ps (bwL (bokI pr kd hd ps ng i o a) 10).2) i o b mv).2.2.1 (pIn (ps (bwL (bokI pr kd hd ps ng i o a) 10).2) i o b mv).2.2.2
  else (i, o, b, mv)
def fdS (pr : Int32) (kd hd ps ng : Nat → Int32) (i o : Int32) (j : Nat) (s : Int32) : Int32 :=
  if hasI pr (nI j) = 0 then s else if kd j = 2 then s else if flsI ps ng i o j = 0 then
    (if ((o >>> (hd j &&& 31)) &&& 1) = 0 then (if (ps j &&& (s ^^^ (-1))) = 0 then s ||| ((1 : Int32) <<< (hd j &&& 31)) else s) else s) else s
def fdI (pr : Int32) (kd hd ps ng : Nat → Int32) (i o : Int32) (s : Int32) : Nat → Int32
  | 0 => s
  | j + 1 => fdS pr kd hd ps ng i o j (fdI pr kd hd ps ng i o s j)
def fdR (pr : Int32) (kd hd ps ng : Nat → Int32) (i o : Int32) : Nat → Int32
  | 0 => 0
  | t + 1 => fdI pr kd hd ps ng i o (fdR pr kd hd ps ng i o t) 10
def cl1 (pr : Int32) (kd hd ps ng : Nat → Int32) (z : Q4) : Nat → Q4
  | 0 => z
  | j + 1 => if hasI pr (nI j) = 0 then cl1 pr kd hd ps ng z j else fwd kd hd ps ng j (cl1 pr kd hd ps ng z j).1 (cl1 pr kd hd ps ng z j).2.1 (cl1 pr kd hd ps ng z j).2.2.1 (cl1 pr kd hd ps ng z j).2.2.2
def cl2 (pr : Int32) (kd hd ps ng : Nat → Int32) (z : Q4) : Nat → Q4
  | 0 => z
  | a + 1 => bwd pr kd hd ps ng a (cl2 pr kd hd ps ng z a).1 (cl2 pr kd hd ps ng z a).2.1 (cl2 pr kd hd ps ng z a).2.2.1 (cl2 pr kd hd ps ng z a).2.2.2
def cl3 (pr : Int32) (kd hd ps ng : Nat → Int32) (z : Q4) : Q4 := pOut (63 &&& (fdR pr kd hd ps ng z.1 z.2.1 6 ^^^ (-1))) z.1 z.2.1 z.2.2.1 z.2.2.2
def clR (pr : Int32) (kd hd ps ng : Nat → Int32) (z : Q4) : Q4 := cl3 pr kd hd ps ng (cl2 pr kd hd ps ng (cl1 pr kd hd ps ng (z.1, z.2.1, z.2.2.1, false) 10) 6)
def cnc (pr : Int32) (kd hd ps ng : Nat → Int32) : Nat → Q4 → Q4
  | 0, z => z
  | n + 1, z => if b2i z.2.2.2 = 0 then z else if b2i z.2.2.1 = 0 then cnc pr kd hd ps ng n (clR pr kd hd ps ng z) else z
def isM (ms : Int64) (x : Int32) : Int32 := if (lg_cmp ((ms.toUInt64 >>> (x.toInt64.toUInt64 &&& Int64.toUInt64 63)).toInt64 &&& 1) 0) = 0 then 0 else 1
theorem isM_01 (ms : Int64) (x : Int32) : isM ms x = 0 ∨ isM ms x = 1 := by
  unfold isM; split
  · exact Or.inl rfl
  · exact Or.inr rfl
/-! the model's -/
def tkI (th : Nat → Bool) (kd hd ng : Nat → Int32) (j : Nat) (mm : Int32) : Int32 :=
  if b2i (th j) = 0 then 0 else if (ng j &&& mm) = 0 then (if kd j = 0 then 1 else if kd j = 1 then (if ((mm >>> (hd j &&& 31)) &&& 1) = 1 then 1 else 0) else 0) else 0
theorem tkI_01 (th : Nat → Bool) (kd hd ng : Nat → Int32) (j : Nat) (mm : Int32) : tkI th kd hd ng j mm = 0 ∨ tkI th kd hd ng j mm = 1 := by
  unfold tkI; split
  · exact Or.inl rfl
  · split
    · split
      · exact Or.inr rfl
      · split
        · split
          · exact Or.inr rfl
          · exact Or.inl rfl
        · exact Or.inl rfl
    · exact Or.inl rfl
def msS (th : Nat → Bool) (kd hd ps ng : Nat → Int32) (mm : Int32) (j : Nat) (s : Int32) : Int32 :=
  if tkI th kd hd ng j mm = 0 then s else if (ps j &&& (s ^^^ (-1))) = 0 then s ||| ((1 : Int32) <<< (hd j &&& 31)) else s
def msI (th : Nat → Bool) (kd hd ps ng : Nat → Int32) (mm : Int32) (s : Int32) : Nat → Int32
  | 0 => s
  | j + 1 => msS th kd hd ps ng mm j (msI th kd hd ps ng mm s j)
def msR (th : Nat → Bool) (kd hd ps ng : Nat → Int32) (mm : Int32) : Nat → Int32
  | 0 => 0
  | t + 1 => msI th kd hd ps ng mm (msR th kd hd ps ng mm t) 10
def mSup (th : Nat → Bool) (kd hd ps ng : Nat → Int32) (mm : Int32) : Int32 := if setI mm = 0 then -1 else msR th kd hd ps ng mm 6
def banI (th : Nat → Bool) (kd ps ng : Nat → Int32) (mm : Int32) (j : Nat) : Bool :=
  if b2i (th j) = 0 then false else if kd j = 2 then (if (ps j &&& (mm ^^^ (-1))) = 0 then (if (ng j &&& mm) = 0 then true else false) else false) else false
def stL (th : Nat → Bool) (kd hd ps ng : Nat → Int32) (mm : Int32) : Nat → Bool
  | 0 => if setI mm = 0 then false else if mSup th kd hd ps ng mm = mm then true else false
  | j + 1 => if b2i (stL th kd hd ps ng mm j) = 0 then false else if banI th kd ps ng mm j = true then false else true
/-- the plain form's test -/
def stb (th : Nat → Bool) (kd hd ps ng : Nat → Int32) (mm : Int32) : Bool := stL th kd hd ps ng mm 10
def rlI (th : Nat → Bool) : Nat → Int32
  | 0 => 0
  | j + 1 => if b2i (th j) = 0 then rlI th j else rlI th j ||| ((1 : Int32) <<< (nI j &&& 31))
/-! answers over the sets that are models (f m: m is one), alike in both -/
def aCnt (f : Nat → Bool) : Nat → Int32
  | 0 => 0
  | j + 1 => if b2i (f j) = 0 then aCnt f j else aCnt f j + 1
def aMdl (f : Nat → Bool) (k : Int32) : Nat → Int32 → Int32
  | 0, _ => -1
  | r + 1, n => if b2i (f (63 - r)) = 0 then aMdl f k r n else if n = k then nI (63 - r) else aMdl f k r (n + 1)
def aBrv (f : Nat → Bool) : Nat → Int32
  | 0 => 0
  | j + 1 => if b2i (f j) = 0 then aBrv f j else aBrv f j ||| nI j
def aCau (f : Nat → Bool) : Nat → Int32
  | 0 => 63
  | j + 1 => if b2i (f j) = 0 then aCau f j else aCau f j &&& nI j
def aCauX (f : Nat → Bool) : Nat → Int32
  | 0 => 63
  | j + 1 => if b2i (f j) = 0 then aCauX f j &&& 63 else aCauX f j &&& nI j
def aFnd (f : Nat → Bool) (a b : Int32) : Nat → Int32
  | 0 => -1
  | r + 1 => if b2i (f (63 - r)) = 0 then aFnd f a b r else if (a &&& (nI (63 - r) ^^^ (-1))) = 0 then (if (b &&& nI (63 - r)) = 0 then nI (63 - r) else aFnd f a b r) else aFnd f a b r
def aFew (f : Nat → Bool) : Nat → Int32
  | 0 => -1
  | j + 1 => if b2i (f j) = 0 then aFew f j else if aFew f j < 0 then onesN (nI j) 6 else if aFew f j ≤ onesN (nI j) 6 then aFew f j else onesN (nI j) 6
/-- no model above m, from other on (r sets left) -/
def mxX (f : Nat → Bool) (mm : Nat) : Nat → Int32
  | 0 => 1
  | r + 1 => if b2i (f (63 - r)) = 0 then mxX f mm r else if (nI mm &&& (nI (63 - r) ^^^ (-1))) = 0 then 0 else mxX f mm r
def aMaxX (f : Nat → Bool) : Nat → Int32
  | 0 => 0
  | j + 1 => if b2i (f j) = 0 then aMaxX f j else if mxX f j (63 - j) = 0 then aMaxX f j else aMaxX f j + 1
def mxM (f : Nat → Bool) (mm : Nat) : Nat → Bool
  | 0 => f mm
  | k + 1 => if b2i (mxM f mm k) = 0 then false else if b2i (f k) = 0 then true else if nI k = nI mm then true else if (nI mm &&& (nI k ^^^ (-1))) = 0 then false else true
def aMaxM (f : Nat → Bool) : Nat → Int32
  | 0 => 0
  | j + 1 => if b2i (mxM f j 64) = 0 then aMaxM f j else aMaxM f j + 1
def dif (f g : Nat → Bool) : Nat → Bool
  | 0 => false
  | j + 1 => if b2i (dif f g j) = 0 then (if b2i (f j) = b2i (g j) then false else true) else true
def wkF (fd F : Nat → Bool) : Nat → (Nat → Bool)
  | 0 => fd
  | j + 1 => updB (wkF fd F j) j (F j)
def stG (th : Nat → Bool) (kd hd ps ng : Nat → Int32) : Nat → Bool := fun m => stb th kd hd ps ng (nI m)
def yHas (th : Nat → Bool) (x : Int32) : Int32 := if x < 0 then 0 else if 9 < x then 0 else if b2i (th x.toNatClampNeg) = 0 then 0 else 1
def yRem (th : Nat → Bool) (x : Int32) : Nat → Bool := if yHas th x = 0 then th else updB th x.toNatClampNeg false
def yMat (th : Nat → Bool) (kd hd ps ng : Nat → Int32) (x : Int32) : Int32 := if yHas th x = 0 then 0 else b2i (dif (stG (updB th x.toNatClampNeg false) kd hd ps ng) (stG th kd hd ps ng) 64)
/-- add: the first free place -/
def ffr (f : Nat → Bool) : Nat → Nat
  | 0 => 10
  | r + 1 => if f (9 - r) = true then ffr f r else 9 - r
def addOk (kind head pos neg : Int32) : Bool := if kind < 0 then false else if 2 < kind then false else if kind = 2 then (if setI pos = 0 then false else if setI neg = 0 then false else true) else if head < 0 then false else if 5 < head then false else if setI pos = 0 then false else if setI neg = 0 then false else true
abbrev CM : Type := (Nat → Bool) × (Nat → Int32) × (Nat → Int32) × (Nat → Int32) × (Nat → Int32)
def addG (th : Nat → Bool) (kd hd ps ng : Nat → Int32) (kind head pos neg : Int32) : Int32 × CM :=
  if addOk kind head pos neg = true then
    (if ffr th 10 = 10 then (-2, th, kd, hd, ps, ng)
     else (nI (ffr th 10), updB th (ffr th 10) true, upd kd (ffr th 10) kind, upd hd (ffr th 10) (if kind = 2 then 0 else head), upd ps (ffr th 10) pos, upd ng (ffr th 10) neg))
  else (-1, th, kd, hd, ps, ng)
end
section
set_option maxRecDepth 100000
theorem ts_nf {x : Bool} (h : ¬ x = false) : x = true := by cases x <;> first | rfl | exact absurd rfl h
theorem ts_nt {x : Bool} (h : ¬ x = true) : x = false := by cases x <;> first | rfl | exact absurd rfl h
theorem ts_bit {w : Int64} {s : UInt64} {j : Nat} (hj : j < 64) (hs : s.toNat = j) : ((w.toUInt64 >>> s).toInt64 &&& 1) = 0 ↔ w.toBitVec.getLsbD j = false := by
  have e : (w.toUInt64 >>> s).toInt64.toBitVec = w.toBitVec >>> j := by
    apply BitVec.eq_of_toNat_eq
    show (w.toUInt64 >>> s).toNat = _
    rw [UInt64.toNat_shiftRight, hs, Nat.mod_eq_of_lt hj, BitVec.toNat_ushiftRight]
    rfl
  rw [← Int64.toBitVec_inj, Int64.toBitVec_and, e]
  show w.toBitVec >>> j &&& 1#64 = 0#64 ↔ _
  constructor
  · intro h
    have t := congrArg (fun x => x.getLsbD 0) h
    simpa using t
  · intro h
    apply BitVec.eq_of_getLsbD_eq
    intro i hi
    cases i with
    | zero => simp [h]
    | succ i => simp

def lb (ms : Int64) (j : Nat) : Bool := ms.toBitVec.getLsbD j
theorem lg_cmp0 (v : Int64) : lg_cmp v 0 = 0 ↔ v = 0 := by
  unfold lg_cmp
  constructor
  · intro h
    split at h
    · exact absurd h (by decide)
    · split at h
      · assumption
      · exact absurd h (by decide)
  · intro h
    subst h
    decide
theorem sh64 : ∀ j, j < 64 → ((nI j).toInt64.toUInt64 &&& Int64.toUInt64 63).toNat = j := by decide +kernel
theorem isM_lb (ms : Int64) {j : Nat} (hj : j < 64) : isM ms (nI j) = b2i (lb ms j) := by
  have h := ts_bit (w := ms) hj (sh64 j hj)
  unfold isM lb
  by_cases c : ms.toBitVec.getLsbD j = false
  · rw [if_pos ((lg_cmp0 _).mpr (h.mpr c)), c]; rfl
  · rw [if_neg (fun q => c (h.mp ((lg_cmp0 _).mp q)))]
    cases hb : ms.toBitVec.getLsbD j with
    | false => exact absurd hb c
    | true => rfl
theorem mxX_01 (f : Nat → Bool) (mm : Nat) : ∀ r, mxX f mm r = 0 ∨ mxX f mm r = 1
  | 0 => Or.inr rfl
  | r + 1 => by
    rw [mxX]
    split
    · exact mxX_01 f mm r
    · split
      · exact Or.inl rfl
      · exact mxX_01 f mm r
theorem nI_8 : ∀ a, a < 64 → (nI a).toInt8.toInt32 = nI a := by decide +kernel
def S6 (x : Int32) : Prop := ∀ i, 6 ≤ i → bt x i = false
def sbs (x y : Int32) : Prop := ∀ i, i < 6 → bt x i = true → bt y i = true
def dsj (x y : Int32) : Prop := ∀ i, i < 6 → bt x i = true → bt y i = false
def Ext (i o M : Int32) : Prop := sbs i M ∧ dsj o M
def cnt (x : Int32) : Nat := (bt x 0).toNat + (bt x 1).toNat + (bt x 2).toNat + (bt x 3).toNat + (bt x 4).toNat + (bt x 5).toNat
def WF (kd hd ps ng : Nat → Int32) : Prop := ∀ j, j < 10 → (kd j = 0 ∨ kd j = 1 ∨ kd j = 2) ∧ (∃ a, a < 6 ∧ hd j = nI a) ∧ S6 (ps j) ∧ S6 (ng j)
def St (pr : Int32) (kd hd ps ng : Nat → Int32) (M : Int32) : Prop := stb (bt pr) kd hd ps ng M = true
def MSok (pr : Int32) (kd hd ps ng : Nat → Int32) (ms : Int64) : Prop := ∀ m, m < 64 → lb ms m = stb (bt pr) kd hd ps ng (nI m)
/-- what is left of a level's two tries, and what one try may cost -/
def rmn (x : Int32) : Nat := if x = 2 then 0 else if x = 1 then 1 else 2
def wgt (l : Nat) : Nat := 2 ^ (6 - l) - 1
def mu (lt : Nat → Int32) : Nat → Nat
  | 0 => 0
  | l + 1 => mu lt l + rmn (lt l) * wgt l
/-- a level: what was known before its atom, its atom, free there -/
def Lvl (l : Nat) (li lo la lt : Nat → Int32) : Prop := S6 (li l) ∧ S6 (lo l) ∧ dsj (li l) (lo l) ∧ (∃ a, a < 6 ∧ la l = nI a ∧ bt (li l) a = false ∧ bt (lo l) a = false) ∧ (lt l = 0 ∨ lt l = 1 ∨ lt l = 2) ∧ l ≤ cnt (li l ||| lo l)
/-- a set that a level has still to come to -/
def Pnd (li lo la lt : Nat → Int32) (l : Nat) (M : Int32) : Prop := Ext (li l) (lo l) M ∧ (lt l = 0 ∨ (lt l = 1 ∧ ∀ a, a < 6 → la l = nI a → bt M a = true))
/-- behind a trial: round t, lv levels, the current (i, o, b) -/
def SI (pr : Int32) (kd hd ps ng : Nat → Int32) (t lv : Nat) (li lo la lt : Nat → Int32) (i o : Int32) (b : Bool) (ms : Int64) : Prop :=
  lv ≤ 6 ∧ t + mu lt lv + 2 * wgt lv ≤ 126 ∧ (∀ l, l < lv → Lvl l li lo la lt) ∧ (S6 i ∧ S6 o ∧ (b = false → dsj i o ∧ lv ≤ cnt (i ||| o) ∧ ((i ||| o) = 63 → St pr kd hd ps ng i))) ∧
  (∀ m, m < 64 → lb ms m = true → St pr kd hd ps ng (nI m)) ∧
  (∀ m, m < 64 → St pr kd hd ps ng (nI m) → lb ms m = true ∨ (b = false ∧ Ext i o (nI m)) ∨ ∃ l, l < lv ∧ Pnd li lo la lt l (nI m))
/-- ahead of the next trial -/
def SJ (pr : Int32) (kd hd ps ng : Nat → Int32) (t lv : Nat) (li lo la lt : Nat → Int32) (ms : Int64) : Prop :=
  lv ≤ 6 ∧ t + mu lt lv ≤ 126 ∧ (∀ l, l < lv → Lvl l li lo la lt) ∧
  (∀ m, m < 64 → lb ms m = true → St pr kd hd ps ng (nI m)) ∧
  (∀ m, m < 64 → St pr kd hd ps ng (nI m) → lb ms m = true ∨ ∃ l, l < lv ∧ Pnd li lo la lt l (nI m))
/-- what a trial begins with -/
def tnz (li lo la lt : Nat → Int32) (lv : Nat) : Int32 × Int32 := if lt lv = 0 then (li lv, lo lv ||| ((1 : Int32) <<< (la lv &&& 31))) else (li lv ||| ((1 : Int32) <<< (la lv &&& 31)), lo lv)
end
section
set_option maxRecDepth 100000
section XA1
variable {p : Program} {l : Launch} {e : Env} {R : Room} {s : State} {m : MethodId} {args : Array Value} {below : List Frame} {meth : Method} {c : Code} {H : Heap} {locs : List Loc} {Q : State → Prop}
variable {cc : ByteArray} {pc nL : Nat} {ls : Array Slot} {rest : List Value} {D : va_G} {dB dZ dJ : ClassId} {A : Nat → Prop} {q : Nat → Nat}
variable {pr : Int32} {kd hd ps ng : Nat → Int32} {si so : Int32} {br mv : Bool} {li lo la lt : Nat → Int32} {kn : Bool} {ms : Int64}
variable {th fd bf : Nat → Bool}
abbrev rx_isSet : Room := { frames := 0, cells := 0, slots := 0, locals := 0 }
set_option maxHeartbeats 4000000 in
set_option maxRecDepth 100000 in
theorem cx_isSet (l : Launch) (x : Int32) : MSt l yX0_isSet (ws_ yX0_isSet cX0_isSet 1 (some .boolean)) rx_isSet [.int x] (setI x) := by
  refine MSt.of (by decide) (nar01 (setI_01 _)) (Nat.le_of_ble_eq_true rfl) (fun p e s m args below meth c Q F hret ls hl => ?_)
  obtain ⟨hx, hb, hml, hown, hts⟩ := id F
  have hl : lv_has ls 1 [(0, .int x)] := hl
  refine lv_iload_n hx hb dX0_isSet_0 rfl (lv_at hl 0 rfl) ?_
  refine lv_if_lt (tgt := 14) hx hb dX0_isSet_1 (by decide) (fun c_1 => ?_) (fun c_1 => ?_)
  · skip
    refine lv_iconst (v := 0) hx hb dX0_isSet_14 (by decide) ?_
    exact hret dX0_isSet_15 (by simp only [setI, if_pos c_1])
  · skip
    refine lv_iload_n hx hb dX0_isSet_4 rfl (lv_at hl 0 rfl) ?_
    refine lv_bipush (v := 63) hx hb dX0_isSet_5 (by decide) ?_
    refine lv_icmp_gt (tgt := 14) hx hb dX0_isSet_7 (by decide) (fun c_2 => ?_) (fun c_2 => ?_)
    · skip
      refine lv_iconst (v := 0) hx hb dX0_isSet_14 (by decide) ?_
      exact hret dX0_isSet_15 (by simp only [setI, if_neg c_1, if_pos c_2])
    · skip
      refine lv_iconst (v := 1) hx hb dX0_isSet_10 (by decide) ?_
      refine lv_goto (tgt := 15) hx hb dX0_isSet_11 (by decide) ?_
      exact hret dX0_isSet_15 (by simp only [setI, if_neg c_1, if_neg c_2])
theorem kx_isSet {x : Int32} (F : CallFix p m c cc nL s args lw_all RX0)  (hsz : ls.size = nL) (hR : rx_isSet.frames + 1 ≤ R.frames ∧ 8 + (1 + 11) + rx_isSet.locals ≤ R.locals) (hroom : (rest.map fun v => v.category).sum ≤ 8) (hdg : decode cc pc = .ok (.invokestatic 38, 3)) (kk : W p l e R s m args below meth c H locs 0 0 Q (F0 m (pc + 3) ls (.int (setI x) :: rest))) : W p l e R s m args below meth c H locs 0 0 Q (F0 m pc ls (.int x :: rest)) :=
  cl_S (n := 1) (As := [.int x]) F (cx_isSet l x) (lw_S q81 q82 q20 q83) (by decide +kernel) rfl ⟨rfl, rfl⟩ hR hsz rfl hroom hdg ⟨Nat.zero_le _, Nat.zero_le _⟩ kk
abbrev rx_ones : Room := { frames := 0, cells := 0, slots := 0, locals := 0 }
set_option maxHeartbeats 4000000 in
set_option maxRecDepth 100000 in
theorem cx_ones (l : Launch) (x : Int32) : MSt l yX0_ones (ws_ yX0_ones cX0_ones 3 (some .int)) rx_ones [.int x] (onesN x 6) := by
  refine MSt.of (by decide) rfl (Nat.le_of_ble_eq_true rfl) (fun p e s m args below meth c Q F hret ls hl => ?_)
  obtain ⟨hx, hb, hml, hown, hts⟩ := id F
  have hl : lv_has ls 3 [(0, .int x)] := hl
  refine lv_iconst (v := 0) hx hb dX0_ones_0 (by decide) ?_
  refine lv_istore_n (lv' := [(1, .int 0), (0, .int x)]) hx hb dX0_ones_1 rfl hl (by decide) rfl (fun ls hl => ?_)
  refine lv_iconst (v := 0) hx hb dX0_ones_2 (by decide) ?_
  refine lv_istore_n (lv' := [(2, .int 0), (1, .int 0), (0, .int x)]) hx hb dX0_ones_3 rfl hl (by decide) rfl (fun ls hl => ?_)
  have lp4 : ∀ (nf a : Nat) (x1 : Int32), a ≤ 6 → 6 < a + nf → x1 = onesN x a → ∀ (ls : Array Slot), lv_has ls 3 [(0, .int x), (1, .int x1), (2, .int (nI a))] → W p l e rx_ones s m args below meth c s.heap [] 0 0 Q (F0 m 4 ls []) := by
    intro nf
    induction nf with
    | zero =>
      intro a x1 h1 h2
      exact absurd h2 (by omega)
    | succ nf ih4 =>
      intro a x1 ha0 han ea0 ls hl
      refine lv_iload_n hx hb dX0_ones_4 rfl (lv_at hl 2 rfl) ?_
      refine lv_bipush (v := 6) hx hb dX0_ones_5 (by decide) ?_
      refine lv_icmp_ge (tgt := 24) hx hb dX0_ones_7 (by decide) (fun c_1 => ?_) (fun c_1 => ?_)
      · skip
        have ha : a = 6 := lp_ge (N := 6) (by decide) ha0 c_1
        subst ha
        refine lv_iload_n hx hb dX0_ones_24 rfl (lv_at hl 1 rfl) ?_
        exact hret dX0_ones_25 ea0
      · skip
        have ha : a < 6 := lp_lt (N := 6) (by decide) ha0 c_1
        refine lv_iload_n hx hb dX0_ones_10 rfl (lv_at hl 1 rfl) ?_
        refine lv_iload_n hx hb dX0_ones_11 rfl (lv_at hl 0 rfl) ?_
        refine lv_iload_n hx hb dX0_ones_12 rfl (lv_at hl 2 rfl) ?_
        refine lv_ishr hx hb dX0_ones_13 ?_
        refine lv_iconst (v := 1) hx hb dX0_ones_14 (by decide) ?_
        refine lv_iand hx hb dX0_ones_15 ?_
        refine lv_iadd hx hb dX0_ones_16 ?_
        refine lv_istore_n (lv' := [(1, .int (x1 + ((x >>> ((nI a) &&& 31)) &&& 1))), (0, .int x), (2, .int (nI a))]) hx hb dX0_ones_17 rfl hl (by decide) rfl (fun ls hl => ?_)
        refine lv_incN (k := 2) (lv' := [(2, .int (nI (a + 1))), (1, .int (x1 + ((x >>> ((nI a) &&& 31)) &&& 1))), (0, .int x)]) hx hb dX0_ones_18 hl rfl (by decide) rfl (fun ls hl => ?_)
        refine lv_goto (tgt := 4) hx hb dX0_ones_21 (by decide) ?_
        exact ih4 (a + 1) (x1 + ((x >>> ((nI a) &&& 31)) &&& 1)) (by omega) (by omega) (by rw [onesN, ← ea0]) ls (lv_sub hl [2, 1, 0] rfl)
  exact lp4 7 0 0 (by omega) (by omega) rfl ls (lv_sub hl [2, 1, 0] rfl)
theorem kx_ones {x : Int32} (F : CallFix p m c cc nL s args lw_all RX0)  (hsz : ls.size = nL) (hR : rx_ones.frames + 1 ≤ R.frames ∧ 8 + (3 + 11) + rx_ones.locals ≤ R.locals) (hroom : (rest.map fun v => v.category).sum ≤ 8) (hdg : decode cc pc = .ok (.invokestatic 88, 3)) (kk : W p l e R s m args below meth c H locs 0 0 Q (F0 m (pc + 3) ls (.int (onesN x 6) :: rest))) : W p l e R s m args below meth c H locs 0 0 Q (F0 m pc ls (.int x :: rest)) :=
  cl_S (n := 1) (As := [.int x]) F (cx_ones l x) (lw_S q132 q133 q20 q134) (by decide +kernel) rfl ⟨rfl, rfl⟩ hR hsz rfl hroom hdg ⟨Nat.zero_le _, Nat.zero_le _⟩ kk
abbrev rx_has : Room := { frames := 0, cells := 0, slots := 0, locals := 0 }
set_option maxHeartbeats 4000000 in
set_option maxRecDepth 100000 in
theorem cx_has (l : Launch) (D : va_G) (dB dZ dJ : ClassId) (q : Nat → Nat) (pr : Int32) (kd hd ps ng : Nat → Int32) (si so : Int32) (br mv : Bool) (li lo la lt : Nat → Int32) (kn : Bool) (ms : Int64) (x : Int32) : MRd l yX0_has (ws_ yX0_has cX0_has 2 (some .boolean)) rx_has D dB dZ dJ [.ref (q 0), .int x] (XW dB q pr kd hd ps ng si so br mv li lo la lt kn ms) (hasI pr x) := by
  refine MRd.of (by decide) (nar01 (hasI_01 _ _)) (Nat.le_of_ble_eq_true rfl) (fun p e s m args below meth c Q F hP hret ls hl => ?_)
  obtain ⟨hx, hb, hml, hown, hts⟩ := id F.1
  have hl : lv_has ls 2 [(0, .ref (q 0)), (1, .int x)] := hl
  refine lv_iload_n hx hb dX0_has_0 rfl (lv_at hl 1 rfl) ?_
  refine lv_if_lt (tgt := 25) hx hb dX0_has_1 (by decide) (fun c_1 => ?_) (fun c_1 => ?_)
  · skip
    refine lv_iconst (v := 0) hx hb dX0_has_25 (by decide) ?_
    exact hret dX0_has_26 (by simp only [hasI, if_pos c_1])
  · skip
    refine lv_iload_n hx hb dX0_has_4 rfl (lv_at hl 1 rfl) ?_
    refine lv_bipush (v := 10) hx hb dX0_has_5 (by decide) ?_
    refine lv_icmp_ge (tgt := 25) hx hb dX0_has_7 (by decide) (fun c_2 => ?_) (fun c_2 => ?_)
    · skip
      refine lv_iconst (v := 0) hx hb dX0_has_25 (by decide) ?_
      exact hret dX0_has_26 (by simp only [hasI, if_neg c_1, if_pos c_2])
    · skip
      refine lv_aload_n hx hb dX0_has_10 rfl (lv_at hl 0 rfl) ?_
      refine xg_pr F hP dX0_has_11 ?_
      refine lv_iload_n hx hb dX0_has_14 rfl (lv_at hl 1 rfl) ?_
      refine lv_ishr hx hb dX0_has_15 ?_
      refine lv_iconst (v := 1) hx hb dX0_has_16 (by decide) ?_
      refine lv_iand hx hb dX0_has_17 ?_
      refine lv_if_eq (tgt := 25) hx hb dX0_has_18 (by decide) (fun c_3 => ?_) (fun c_3 => ?_)
      · skip
        refine lv_iconst (v := 0) hx hb dX0_has_25 (by decide) ?_
        exact hret dX0_has_26 (by simp only [hasI, if_neg c_1, if_neg c_2, if_pos c_3])
      · skip
        refine lv_iconst (v := 1) hx hb dX0_has_21 (by decide) ?_
        refine lv_goto (tgt := 26) hx hb dX0_has_22 (by decide) ?_
        exact hret dX0_has_26 (by simp only [hasI, if_neg c_1, if_neg c_2, if_neg c_3])
theorem kx_has {x : Int32} (F : Fx RX0 D dB dZ dJ p m c cc nL s args) (hP : va_P D vwCl (XW dB q pr kd hd ps ng si so br mv li lo la lt kn ms) H)  (hsz : ls.size = nL) (hR : rx_has.frames + 1 ≤ R.frames ∧ 8 + (2 + 11) + rx_has.locals ≤ R.locals) (hroom : (rest.map fun v => v.category).sum ≤ 8) (hdg : decode cc pc = .ok (.invokevirtual 42, 3)) (kk : W p l e R s m args below meth c H locs 0 0 Q (F0 m (pc + 3) ls (.int (hasI pr x) :: rest))) : W p l e R s m args below meth c H locs 0 0 Q (F0 m pc ls (.int x :: .ref (q 0) :: rest)) :=
  cl_R (q0 := 0) (ci := 0) (n := 1) (As := [.int x]) F hP (cx_has l D dB dZ dJ q pr kd hd ps ng si so br mv li lo la lt kn ms x) rfl rfl (lw_V q84 q86 qs0 q20 q87) (by decide +kernel) rfl ⟨rfl, rfl⟩ hR hsz rfl hroom hdg ⟨Nat.zero_le _, Nat.zero_le _⟩ kk
abbrev rx_rules : Room := { frames := 0, cells := 0, slots := 0, locals := 0 }
set_option maxHeartbeats 4000000 in
set_option maxRecDepth 100000 in
theorem cx_rules (l : Launch) (D : va_G) (dB dZ dJ : ClassId) (q : Nat → Nat) (pr : Int32) (kd hd ps ng : Nat → Int32) (si so : Int32) (br mv : Bool) (li lo la lt : Nat → Int32) (kn : Bool) (ms : Int64) : MRd l yX0_rules (ws_ yX0_rules cX0_rules 1 (some .int)) rx_rules D dB dZ dJ [.ref (q 0)] (XW dB q pr kd hd ps ng si so br mv li lo la lt kn ms) (pr) := by
  refine MRd.of (by decide) rfl (Nat.le_of_ble_eq_true rfl) (fun p e s m args below meth c Q F hP hret ls hl => ?_)
  obtain ⟨hx, hb, hml, hown, hts⟩ := id F.1
  have hl : lv_has ls 1 [(0, .ref (q 0))] := hl
  refine lv_aload_n hx hb dX0_rules_0 rfl (lv_at hl 0 rfl) ?_
  refine xg_pr F hP dX0_rules_1 ?_
  exact hret dX0_rules_4 rfl
abbrev rx_supportOf : Room := { frames := 1, cells := 0, slots := 0, locals := 21 }
set_option maxHeartbeats 4000000 in
set_option maxRecDepth 100000 in
theorem cx_supportOf (l : Launch) (D : va_G) (dB dZ dJ : ClassId) (q : Nat → Nat) (pr : Int32) (kd hd ps ng : Nat → Int32) (si so : Int32) (br mv : Bool) (li lo la lt : Nat → Int32) (kn : Bool) (ms : Int64) (mm : Int32) : MRd l yX0_supportOf (ws_ yX0_supportOf cX0_supportOf 6 (some .int)) rx_supportOf D dB dZ dJ [.ref (q 0), .int mm] (XW dB q pr kd hd ps ng si so br mv li lo la lt kn ms) (supR pr kd hd ps ng mm 6) := by
  refine MRd.of (by decide) rfl (Nat.le_of_ble_eq_true rfl) (fun p e s m args below meth c Q F hP hret ls hl => ?_)
  obtain ⟨hx, hb, hml, hown, hts⟩ := id F.1
  have hl : lv_has ls 6 [(0, .ref (q 0)), (1, .int mm)] := hl
  refine lv_iconst (v := 0) hx hb dX0_supportOf_0 (by decide) ?_
  refine lv_istore_n (lv' := [(2, .int 0), (0, .ref (q 0)), (1, .int mm)]) hx hb dX0_supportOf_1 rfl hl (by decide) rfl (fun ls hl => ?_)
  refine lv_iconst (v := 0) hx hb dX0_supportOf_2 (by decide) ?_
  refine lv_istore_n (lv' := [(3, .int 0), (2, .int 0), (0, .ref (q 0)), (1, .int mm)]) hx hb dX0_supportOf_3 rfl hl (by decide) rfl (fun ls hl => ?_)
  have lp4 : ∀ (nf t : Nat) (x2 : Int32), t ≤ 6 → 6 < t + nf → x2 = supR pr kd hd ps ng mm t → ∀ (ls : Array Slot), lv_has ls 6 [(0, .ref (q 0)), (1, .int mm), (2, .int x2), (3, .int (nI t))] → W p l e rx_supportOf s m args below meth c s.heap [] 0 0 Q (F0 m 4 ls []) := by
    intro nf
    induction nf with
    | zero =>
      intro t x2 h1 h2
      exact absurd h2 (by omega)
    | succ nf ih4 =>
      intro t x2 ht0 htn et0 ls hl
      refine lv_iload_n hx hb dX0_supportOf_4 rfl (lv_at hl 3 rfl) ?_
      refine lv_bipush (v := 6) hx hb dX0_supportOf_5 (by decide) ?_
      refine lv_icmp_ge (tgt := 126) hx hb dX0_supportOf_7 (by decide) (fun c_1 => ?_) (fun c_1 => ?_)
      · skip
        have ht : t = 6 := lp_ge (N := 6) (by decide) ht0 c_1
        subst ht
        refine lv_iload_n hx hb dX0_supportOf_126 rfl (lv_at hl 2 rfl) ?_
        exact hret dX0_supportOf_127 et0
      · skip
        have ht : t < 6 := lp_lt (N := 6) (by decide) ht0 c_1
        refine lv_iconst (v := 0) hx hb dX0_supportOf_10 (by decide) ?_
        refine lv_istore (lv' := [(4, .int 0), (0, .ref (q 0)), (1, .int mm), (2, .int x2), (3, .int (nI t))]) hx hb dX0_supportOf_11 hl (by decide) rfl (fun ls hl => ?_)
        have lp13 : ∀ (nf j : Nat) (y2 : Int32), j ≤ 10 → 10 < j + nf → y2 = supI pr kd hd ps ng mm x2 j → ∀ (ls : Array Slot), lv_has ls 6 [(0, .ref (q 0)), (1, .int mm), (2, .int y2), (3, .int (nI t)), (4, .int (nI j))] → W p l e rx_supportOf s m args below meth c s.heap [] 0 0 Q (F0 m 13 ls []) := by
          intro nf
          induction nf with
          | zero =>
            intro j y2 h1 h2
            exact absurd h2 (by omega)
          | succ nf ih13 =>
            intro j y2 hj0 hjn ej0 ls hl
            refine lv_iload hx hb dX0_supportOf_13 (lv_at hl 4 rfl) ?_
            refine lv_bipush (v := 10) hx hb dX0_supportOf_15 (by decide) ?_
            refine lv_icmp_ge (tgt := 120) hx hb dX0_supportOf_17 (by decide) (fun c_2 => ?_) (fun c_2 => ?_)
            · skip
              have hj : j = 10 := lp_ge (N := 10) (by decide) hj0 c_2
              refine lv_incN (k := 3) (lv' := [(3, .int (nI (t + 1))), (0, .ref (q 0)), (1, .int mm), (2, .int y2), (4, .int (nI j))]) hx hb dX0_supportOf_120 hl rfl (by decide) rfl (fun ls hl => ?_)
              refine lv_goto (tgt := 4) hx hb dX0_supportOf_123 (by decide) ?_
              exact ih4 (t + 1) y2 (by omega) (by omega) (by rw [supR, ← et0, ej0, hj]) ls (lv_sub hl [1, 2, 3, 0] rfl)
            · skip
              have hj : j < 10 := lp_lt (N := 10) (by decide) hj0 c_2
              refine lv_aload_n hx hb dX0_supportOf_20 rfl (lv_at hl 0 rfl) ?_
              refine lv_iload hx hb dX0_supportOf_21 (lv_at hl 4 rfl) ?_
              refine kx_has F hP hl.1 ⟨Nat.le_of_ble_eq_true rfl, Nat.le_of_ble_eq_true rfl⟩ (Nat.le_of_ble_eq_true rfl) dX0_supportOf_23 ?_
              refine lv_if_eq (tgt := 70) hx hb dX0_supportOf_26 (by decide) (fun c_3 => ?_) (fun c_3 => ?_)
              · skip
                refine lv_iconst (v := 0) hx hb dX0_supportOf_70 (by decide) ?_
                refine lv_istore (lv' := [(5, .int 0), (0, .ref (q 0)), (1, .int mm), (2, .int y2), (3, .int (nI t)), (4, .int (nI j))]) hx hb dX0_supportOf_71 hl (by decide) rfl (fun ls hl => ?_)
                refine lv_iload hx hb dX0_supportOf_73 (lv_at hl 0 rfl) ?_
                refine lv_if_eq (tgt := 114) hx hb dX0_supportOf_75 (by decide) (fun _ => ?_) (fun c9 => absurd (by decide) c9)
                refine lv_incN (k := 5) (lv' := [(4, .int (nI (j + 1))), (5, .int 0), (0, .ref (q 0)), (1, .int mm), (2, .int y2), (3, .int (nI t))]) hx hb dX0_supportOf_114 hl rfl (by decide) rfl (fun ls hl => ?_)
                refine lv_goto (tgt := 13) hx hb dX0_supportOf_117 (by decide) ?_
                exact ih13 (j + 1) y2 (by omega) (by omega) (by rw [supI, ← ej0]; simp only [supS, if_pos c_3]) ls (lv_sub hl [2, 3, 4, 5, 0] rfl)
              · skip
                refine lv_aload_n hx hb dX0_supportOf_29 rfl (lv_at hl 0 rfl) ?_
                refine xg_kd F hP dX0_supportOf_30 ?_
                refine lv_iload hx hb dX0_supportOf_33 (lv_at hl 4 rfl) ?_
                refine xa_kd F hP hj dX0_supportOf_35 ?_
                refine lv_iconst (v := 2) hx hb dX0_supportOf_36 (by decide) ?_
                refine lv_icmp_eq (tgt := 70) hx hb dX0_supportOf_37 (by decide) (fun c_4 => ?_) (fun c_4 => ?_)
                · skip
                  refine lv_iconst (v := 0) hx hb dX0_supportOf_70 (by decide) ?_
                  refine lv_istore (lv' := [(5, .int 0), (0, .ref (q 0)), (1, .int mm), (2, .int y2), (3, .int (nI t)), (4, .int (nI j))]) hx hb dX0_supportOf_71 hl (by decide) rfl (fun ls hl => ?_)
                  refine lv_iload hx hb dX0_supportOf_73 (lv_at hl 0 rfl) ?_
                  refine lv_if_eq (tgt := 114) hx hb dX0_supportOf_75 (by decide) (fun _ => ?_) (fun c9 => absurd (by decide) c9)
                  refine lv_incN (k := 5) (lv' := [(4, .int (nI (j + 1))), (5, .int 0), (0, .ref (q 0)), (1, .int mm), (2, .int y2), (3, .int (nI t))]) hx hb dX0_supportOf_114 hl rfl (by decide) rfl (fun ls hl => ?_)
                  refine lv_goto (tgt := 13) hx hb dX0_supportOf_117 (by decide) ?_
                  exact ih13 (j + 1) y2 (by omega) (by omega) (by rw [supI, ← ej0]; simp only [supS, if_neg c_3, if_pos c_4]) ls (lv_sub hl [2, 3, 4, 5, 0] rfl)
                · skip
                  refine lv_aload_n hx hb dX0_supportOf_40 rfl (lv_at hl 0 rfl) ?_
                  refine xg_ng F hP dX0_supportOf_41 ?_
                  refine lv_iload hx hb dX0_supportOf_44 (lv_at hl 4 rfl) ?_
                  refine xa_ng F hP hj dX0_supportOf_46 ?_
                  refine lv_iload_n hx hb dX0_supportOf_47 rfl (lv_at hl 1 rfl) ?_
                  refine lv_iand hx hb dX0_supportOf_48 ?_
                  refine lv_if_ne (tgt := 70) hx hb dX0_supportOf_49 (by decide) (fun c_5 => ?_) (fun c_5 => ?_)
                  · skip
                    refine lv_iconst (v := 0) hx hb dX0_supportOf_70 (by decide) ?_
                    refine lv_istore (lv' := [(5, .int 0), (0, .ref (q 0)), (1, .int mm), (2, .int y2), (3, .int (nI t)), (4, .int (nI j))]) hx hb dX0_supportOf_71 hl (by decide) rfl (fun ls hl => ?_)
                    refine lv_iload hx hb dX0_supportOf_73 (lv_at hl 0 rfl) ?_
                    refine lv_if_eq (tgt := 114) hx hb dX0_supportOf_75 (by decide) (fun _ => ?_) (fun c9 => absurd (by decide) c9)
                    refine lv_incN (k := 5) (lv' := [(4, .int (nI (j + 1))), (5, .int 0), (0, .ref (q 0)), (1, .int mm), (2, .int y2), (3, .int (nI t))]) hx hb dX0_supportOf_114 hl rfl (by decide) rfl (fun ls hl => ?_)
                    refine lv_goto (tgt := 13) hx hb dX0_supportOf_117 (by decide) ?_
                    exact ih13 (j + 1) y2 (by omega) (by omega) (by rw [supI, ← ej0]; simp only [supS, if_neg c_3, if_neg c_4, if_neg c_5]) ls (lv_sub hl [2, 3, 4, 5, 0] rfl)
                  · skip
                    refine lv_aload_n hx hb dX0_supportOf_52 rfl (lv_at hl 0 rfl) ?_
                    refine xg_ps F hP dX0_supportOf_53 ?_
                    refine lv_iload hx hb dX0_supportOf_56 (lv_at hl 4 rfl) ?_
                    refine xa_ps F hP hj dX0_supportOf_58 ?_
                    refine lv_iload_n hx hb dX0_supportOf_59 rfl (lv_at hl 2 rfl) ?_
                    refine lv_iconst (v := (-1)) hx hb dX0_supportOf_60 (by decide) ?_
                    refine lv_ixor hx hb dX0_supportOf_61 ?_
                    refine lv_iand hx hb dX0_supportOf_62 ?_
                    refine lv_if_ne (tgt := 70) hx hb dX0_supportOf_63 (by decide) (fun c_6 => ?_) (fun c_6 => ?_)
                    · skip
                      refine lv_iconst (v := 0) hx hb dX0_supportOf_70 (by decide) ?_
                      refine lv_istore (lv' := [(5, .int 0), (0, .ref (q 0)), (1, .int mm), (2, .int y2), (3, .int (nI t)), (4, .int (nI j))]) hx hb dX0_supportOf_71 hl (by decide) rfl (fun ls hl => ?_)
                      refine lv_iload hx hb dX0_supportOf_73 (lv_at hl 0 rfl) ?_
                      refine lv_if_eq (tgt := 114) hx hb dX0_supportOf_75 (by decide) (fun _ => ?_) (fun c9 => absurd (by decide) c9)
                      refine lv_incN (k := 5) (lv' := [(4, .int (nI (j + 1))), (5, .int 0), (0, .ref (q 0)), (1, .int mm), (2, .int y2), (3, .int (nI t))]) hx hb dX0_supportOf_114 hl rfl (by decide) rfl (fun ls hl => ?_)
                      refine lv_goto (tgt := 13) hx hb dX0_supportOf_117 (by decide) ?_
                      exact ih13 (j + 1) y2 (by omega) (by omega) (by rw [supI, ← ej0]; simp only [supS, if_neg c_3, if_neg c_4, if_pos c_5, if_neg c_6]) ls (lv_sub hl [2, 3, 4, 5, 0] rfl)
                    · skip
                      refine lv_iconst (v := 1) hx hb dX0_supportOf_66 (by decide) ?_
                      refine lv_goto (tgt := 71) hx hb dX0_supportOf_67 (by decide) ?_
                      refine lv_istore (lv' := [(5, .int 1), (0, .ref (q 0)), (1, .int mm), (2, .int y2), (3, .int (nI t)), (4, .int (nI j))]) hx hb dX0_supportOf_71 hl (by decide) rfl (fun ls hl => ?_)
                      refine lv_iload hx hb dX0_supportOf_73 (lv_at hl 0 rfl) ?_
                      refine lv_if_eq (tgt := 114) hx hb dX0_supportOf_75 (by decide) (fun c9 => absurd c9 (by decide)) (fun _ => ?_)
                      refine lv_aload_n hx hb dX0_supportOf_78 rfl (lv_at hl 1 rfl) ?_
                      refine xg_kd F hP dX0_supportOf_79 ?_
                      refine lv_iload hx hb dX0_supportOf_82 (lv_at hl 5 rfl) ?_
                      refine xa_kd F hP hj dX0_supportOf_84 ?_
                      refine lv_if_eq (tgt := 102) hx hb dX0_supportOf_85 (by decide) (fun c_7 => ?_) (fun c_7 => ?_)
                      · skip
                        refine lv_iload_n hx hb dX0_supportOf_102 rfl (lv_at hl 3 rfl) ?_
                        refine lv_iconst (v := 1) hx hb dX0_supportOf_103 (by decide) ?_
                        refine lv_aload_n hx hb dX0_supportOf_104 rfl (lv_at hl 1 rfl) ?_
                        refine xg_hd F hP dX0_supportOf_105 ?_
                        refine lv_iload hx hb dX0_supportOf_108 (lv_at hl 5 rfl) ?_
                        refine xa_hd F hP hj dX0_supportOf_110 ?_
                        refine lv_ishl hx hb dX0_supportOf_111 ?_
                        refine lv_ior hx hb dX0_supportOf_112 ?_
                        refine lv_istore_n (lv' := [(2, .int (y2 ||| ((1 : Int32) <<< ((hd j) &&& 31)))), (5, .int 1), (0, .ref (q 0)), (1, .int mm), (3, .int (nI t)), (4, .int (nI j))]) hx hb dX0_supportOf_113 rfl hl (by decide) rfl (fun ls hl => ?_)
                        refine lv_incN (k := 5) (lv' := [(4, .int (nI (j + 1))), (2, .int (y2 ||| ((1 : Int32) <<< ((hd j) &&& 31)))), (5, .int 1), (0, .ref (q 0)), (1, .int mm), (3, .int (nI t))]) hx hb dX0_supportOf_114 hl rfl (by decide) rfl (fun ls hl => ?_)
                        refine lv_goto (tgt := 13) hx hb dX0_supportOf_117 (by decide) ?_
                        exact ih13 (j + 1) (y2 ||| ((1 : Int32) <<< ((hd j) &&& 31))) (by omega) (by omega) (by rw [supI, ← ej0]; simp only [supS, if_neg c_3, if_neg c_4, if_pos c_5, if_pos c_6, if_pos c_7]) ls (lv_sub hl [3, 4, 1, 5, 0] rfl)
                      · skip
                        refine lv_iload_n hx hb dX0_supportOf_88 rfl (lv_at hl 2 rfl) ?_
                        refine lv_aload_n hx hb dX0_supportOf_89 rfl (lv_at hl 1 rfl) ?_
                        refine xg_hd F hP dX0_supportOf_90 ?_
                        refine lv_iload hx hb dX0_supportOf_93 (lv_at hl 5 rfl) ?_
                        refine xa_hd F hP hj dX0_supportOf_95 ?_
                        refine lv_ishr hx hb dX0_supportOf_96 ?_
                        refine lv_iconst (v := 1) hx hb dX0_supportOf_97 (by decide) ?_
                        refine lv_iand hx hb dX0_supportOf_98 ?_
                        refine lv_if_eq (tgt := 114) hx hb dX0_supportOf_99 (by decide) (fun c_8 => ?_) (fun c_8 => ?_)
                        · skip
                          refine lv_incN (k := 5) (lv' := [(4, .int (nI (j + 1))), (5, .int 1), (0, .ref (q 0)), (1, .int mm), (2, .int y2), (3, .int (nI t))]) hx hb dX0_supportOf_114 hl rfl (by decide) rfl (fun ls hl => ?_)
                          refine lv_goto (tgt := 13) hx hb dX0_supportOf_117 (by decide) ?_
                          exact ih13 (j + 1) y2 (by omega) (by omega) (by rw [supI, ← ej0]; simp only [supS, if_neg c_3, if_neg c_4, if_pos c_5, if_pos c_6, if_neg c_7, if_pos c_8]) ls (lv_sub hl [2, 3, 4, 5, 0] rfl)
                        · skip
                          refine lv_iload_n hx hb dX0_supportOf_102 rfl (lv_at hl 3 rfl) ?_
                          refine lv_iconst (v := 1) hx hb dX0_supportOf_103 (by decide) ?_
                          refine lv_aload_n hx hb dX0_supportOf_104 rfl (lv_at hl 1 rfl) ?_
                          refine xg_hd F hP dX0_supportOf_105 ?_
                          refine lv_iload hx hb dX0_supportOf_108 (lv_at hl 5 rfl) ?_
                          refine xa_hd F hP hj dX0_supportOf_110 ?_
                          refine lv_ishl hx hb dX0_supportOf_111 ?_
                          refine lv_ior hx hb dX0_supportOf_112 ?_
                          refine lv_istore_n (lv' := [(2, .int (y2 ||| ((1 : Int32) <<< ((hd j) &&& 31)))), (5, .int 1), (0, .ref (q 0)), (1, .int mm), (3, .int (nI t)), (4, .int (nI j))]) hx hb dX0_supportOf_113 rfl hl (by decide) rfl (fun ls hl => ?_)
                          refine lv_incN (k := 5) (lv' := [(4, .int (nI (j + 1))), (2, .int (y2 ||| ((1 : Int32) <<< ((hd j) &&& 31)))), (5, .int 1), (0, .ref (q 0)), (1, .int mm), (3, .int (nI t))]) hx hb dX0_supportOf_114 hl rfl (by decide) rfl (fun ls hl => ?_)
                          refine lv_goto (tgt := 13) hx hb dX0_supportOf_117 (by decide) ?_
                          exact ih13 (j + 1) (y2 ||| ((1 : Int32) <<< ((hd j) &&& 31))) (by omega) (by omega) (by rw [supI, ← ej0]; simp only [supS, if_neg c_3, if_neg c_4, if_pos c_5, if_pos c_6, if_neg c_7, if_neg c_8]) ls (lv_sub hl [3, 4, 1, 5, 0] rfl)
        exact lp13 11 0 x2 (by omega) (by omega) rfl ls (lv_sub hl [1, 2, 3, 4, 0] rfl)
  exact lp4 7 0 0 (by omega) (by omega) rfl ls (lv_sub hl [2, 3, 1, 0] rfl)
theorem kx_supportOf {mm : Int32} (F : Fx RX0 D dB dZ dJ p m c cc nL s args) (hP : va_P D vwCl (XW dB q pr kd hd ps ng si so br mv li lo la lt kn ms) H)  (hsz : ls.size = nL) (hR : rx_supportOf.frames + 1 ≤ R.frames ∧ 8 + (6 + 11) + rx_supportOf.locals ≤ R.locals) (hroom : (rest.map fun v => v.category).sum ≤ 8) (hdg : decode cc pc = .ok (.invokevirtual 49, 3)) (kk : W p l e R s m args below meth c H locs 0 0 Q (F0 m (pc + 3) ls (.int (supR pr kd hd ps ng mm 6) :: rest))) : W p l e R s m args below meth c H locs 0 0 Q (F0 m pc ls (.int mm :: .ref (q 0) :: rest)) :=
  cl_R (q0 := 0) (ci := 0) (n := 1) (As := [.int mm]) F hP (cx_supportOf l D dB dZ dJ q pr kd hd ps ng si so br mv li lo la lt kn ms mm) rfl rfl (lw_V q100 q102 qs1 q20 q103) (by decide +kernel) rfl ⟨rfl, rfl⟩ hR hsz rfl hroom hdg ⟨Nat.zero_le _, Nat.zero_le _⟩ kk
def xSup (pr : Int32) (kd hd ps ng : Nat → Int32) (mm : Int32) : Int32 := if setI mm = 0 then -1 else supR pr kd hd ps ng mm 6
abbrev rx_support : Room := { frames := 2, cells := 0, slots := 0, locals := 46 }
set_option maxHeartbeats 4000000 in
set_option maxRecDepth 100000 in
theorem cx_support (l : Launch) (D : va_G) (dB dZ dJ : ClassId) (q : Nat → Nat) (pr : Int32) (kd hd ps ng : Nat → Int32) (si so : Int32) (br mv : Bool) (li lo la lt : Nat → Int32) (kn : Bool) (ms : Int64) (mm : Int32) : MRd l yX0_support (ws_ yX0_support cX0_support 2 (some .int)) rx_support D dB dZ dJ [.ref (q 0), .int mm] (XW dB q pr kd hd ps ng si so br mv li lo la lt kn ms) (xSup pr kd hd ps ng mm) := by
  refine MRd.of (by decide) rfl (Nat.le_of_ble_eq_true rfl) (fun p e s m args below meth c Q F hP hret ls hl => ?_)
  obtain ⟨hx, hb, hml, hown, hts⟩ := id F.1
  have hl : lv_has ls 2 [(0, .ref (q 0)), (1, .int mm)] := hl
  refine lv_iload_n hx hb dX0_support_0 rfl (lv_at hl 1 rfl) ?_
  refine kx_isSet F.1 hl.1 ⟨Nat.le_of_ble_eq_true rfl, Nat.le_of_ble_eq_true rfl⟩ (Nat.le_of_ble_eq_true rfl) dX0_support_1 ?_
  refine lv_if_eq (tgt := 15) hx hb dX0_support_4 (by decide) (fun c_1 => ?_) (fun c_1 => ?_)
  · skip
    refine lv_iconst (v := (-1)) hx hb dX0_support_15 (by decide) ?_
    exact hret dX0_support_16 (by simp only [xSup, if_pos c_1])
  · skip
    refine lv_aload_n hx hb dX0_support_7 rfl (lv_at hl 0 rfl) ?_
    refine lv_iload_n hx hb dX0_support_8 rfl (lv_at hl 1 rfl) ?_
    refine kx_supportOf F hP hl.1 ⟨Nat.le_of_ble_eq_true rfl, Nat.le_of_ble_eq_true rfl⟩ (Nat.le_of_ble_eq_true rfl) dX0_support_9 ?_
    refine lv_goto (tgt := 16) hx hb dX0_support_12 (by decide) ?_
    exact hret dX0_support_16 (by simp only [xSup, if_neg c_1])
abbrev rx_putIn : Room := { frames := 0, cells := 0, slots := 0, locals := 0 }
set_option maxHeartbeats 4000000 in
set_option maxRecDepth 100000 in
theorem cx_putIn (l : Launch) (D : va_G) (dB dZ dJ : ClassId) (q : Nat → Nat) (pr : Int32) (kd hd ps ng : Nat → Int32) (si so : Int32) (br mv : Bool) (li lo la lt : Nat → Int32) (kn : Bool) (ms : Int64) (x : Int32) : MVd l yX0_putIn (ws_ yX0_putIn cX0_putIn 2 none) rx_putIn D dB dZ dJ [.ref (q 0), .int x] (XW dB q pr kd hd ps ng si so br mv li lo la lt kn ms) (fun u : Q4 => u = pIn x si so br mv) (fun u : Q4 => XW dB q pr kd hd ps ng u.1 u.2.1 u.2.2.1 u.2.2.2 li lo la lt kn ms) := by
  refine MVd.of (by decide) (Nat.le_of_ble_eq_true rfl) (fun p e s m args below meth c Q A F hZ hret ls hl => ?_)
  obtain ⟨hx, hb, hml, hown, hts⟩ := id F.1
  have hl : lv_has ls 2 [(0, .ref (q 0)), (1, .int x)] := hl
  refine lv_iload_n hx hb dX0_putIn_0 rfl (lv_at hl 1 rfl) ?_
  refine lv_aload_n hx hb dX0_putIn_1 rfl (lv_at hl 0 rfl) ?_
  refine xg_si F hZ.1 dX0_putIn_2 ?_
  refine lv_iconst (v := (-1)) hx hb dX0_putIn_5 (by decide) ?_
  refine lv_ixor hx hb dX0_putIn_6 ?_
  refine lv_iand hx hb dX0_putIn_7 ?_
  refine lv_if_eq (tgt := 26) hx hb dX0_putIn_8 (by decide) (fun c_1 => ?_) (fun c_1 => ?_)
  · skip
    refine lv_aload_n hx hb dX0_putIn_26 rfl (lv_at hl 0 rfl) ?_
    refine lv_dup hx hb dX0_putIn_27 rfl ?_
    refine xg_br F hZ.1 dX0_putIn_28 ?_
    refine lv_aload_n hx hb dX0_putIn_31 rfl (lv_at hl 0 rfl) ?_
    refine xg_si F hZ.1 dX0_putIn_32 ?_
    refine lv_aload_n hx hb dX0_putIn_35 rfl (lv_at hl 0 rfl) ?_
    refine xg_so F hZ.1 dX0_putIn_36 ?_
    refine lv_iand hx hb dX0_putIn_39 ?_
    refine lv_if_eq (tgt := 47) hx hb dX0_putIn_40 (by decide) (fun c_2 => ?_) (fun c_2 => ?_)
    · skip
      refine lv_iconst (v := 0) hx hb dX0_putIn_47 (by decide) ?_
      refine lv_ior hx hb dX0_putIn_48 ?_
      refine xp_br F hZ (B := br) (b2i_or0 _) dX0_putIn_49 (fun H locs hZ => ?_)
      exact hret (si, so, br, mv) dX0_putIn_52 (by simp only [pIn, if_pos c_1, if_pos c_2]) hZ
    · skip
      refine lv_iconst (v := 1) hx hb dX0_putIn_43 (by decide) ?_
      refine lv_goto (tgt := 48) hx hb dX0_putIn_44 (by decide) ?_
      refine lv_ior hx hb dX0_putIn_48 ?_
      refine xp_br F hZ (B := true) (b2i_or1 _) dX0_putIn_49 (fun H locs hZ => ?_)
      exact hret (si, so, true, mv) dX0_putIn_52 (by simp only [pIn, if_pos c_1, if_neg c_2]) hZ
  · skip
    refine lv_aload_n hx hb dX0_putIn_11 rfl (lv_at hl 0 rfl) ?_
    refine lv_dup hx hb dX0_putIn_12 rfl ?_
    refine xg_si F hZ.1 dX0_putIn_13 ?_
    refine lv_iload_n hx hb dX0_putIn_16 rfl (lv_at hl 1 rfl) ?_
    refine lv_ior hx hb dX0_putIn_17 ?_
    refine xp_si F hZ dX0_putIn_18 (fun H locs hZ => ?_)
    refine lv_aload_n hx hb dX0_putIn_21 rfl (lv_at hl 0 rfl) ?_
    refine lv_iconst (v := 1) hx hb dX0_putIn_22 (by decide) ?_
    refine xp_mv F hZ (B := true) rfl dX0_putIn_23 (fun H locs hZ => ?_)
    refine lv_aload_n hx hb dX0_putIn_26 rfl (lv_at hl 0 rfl) ?_
    refine lv_dup hx hb dX0_putIn_27 rfl ?_
    refine xg_br F hZ.1 dX0_putIn_28 ?_
    refine lv_aload_n hx hb dX0_putIn_31 rfl (lv_at hl 0 rfl) ?_
    refine xg_si F hZ.1 dX0_putIn_32 ?_
    refine lv_aload_n hx hb dX0_putIn_35 rfl (lv_at hl 0 rfl) ?_
    refine xg_so F hZ.1 dX0_putIn_36 ?_
    refine lv_iand hx hb dX0_putIn_39 ?_
    refine lv_if_eq (tgt := 47) hx hb dX0_putIn_40 (by decide) (fun c_3 => ?_) (fun c_3 => ?_)
    · skip
      refine lv_iconst (v := 0) hx hb dX0_putIn_47 (by decide) ?_
      refine lv_ior hx hb dX0_putIn_48 ?_
      refine xp_br F hZ (B := br) (b2i_or0 _) dX0_putIn_49 (fun H locs hZ => ?_)
      exact hret ((si ||| x), so, br, true) dX0_putIn_52 (by simp only [pIn, if_neg c_1, if_pos c_3]) hZ
    · skip
      refine lv_iconst (v := 1) hx hb dX0_putIn_43 (by decide) ?_
      refine lv_goto (tgt := 48) hx hb dX0_putIn_44 (by decide) ?_
      refine lv_ior hx hb dX0_putIn_48 ?_
      refine xp_br F hZ (B := true) (b2i_or1 _) dX0_putIn_49 (fun H locs hZ => ?_)
      exact hret ((si ||| x), so, true, true) dX0_putIn_52 (by simp only [pIn, if_neg c_1, if_neg c_3]) hZ
theorem kx_putIn {x : Int32} (F : Fx RX0 D dB dZ dJ p m c cc nL s args) (hZ : XS D A s (XW dB q pr kd hd ps ng si so br mv li lo la lt kn ms) H locs)  (hsz : ls.size = nL) (hR : rx_putIn.frames + 1 ≤ R.frames ∧ 8 + (2 + 11) + rx_putIn.locals ≤ R.locals) (hroom : (rest.map fun v => v.category).sum ≤ 8) (hdg : decode cc pc = .ok (.invokevirtual 82, 3)) (kk : ∀ (i1 o1 : Int32) (b1 m1 : Bool) (H1 : Heap) (locs1 : List Loc), (i1, o1, b1, m1) = pIn x si so br mv → XS D A s (XW dB q pr kd hd ps ng i1 o1 b1 m1 li lo la lt kn ms) H1 locs1 → W p l e R s m args below meth c H1 locs1 0 0 Q (F0 m (pc + 3) ls rest)) : W p l e R s m args below meth c H locs 0 0 Q (F0 m pc ls (.int x :: .ref (q 0) :: rest)) :=
  cl_V (q0 := 0) (ci := 0) (n := 1) (As := [.int x]) F hZ (cx_putIn l D dB dZ dJ q pr kd hd ps ng si so br mv li lo la lt kn ms x) (fun _ => rfl) rfl rfl (lw_V q124 q126 qs6 q20 q127) (by decide +kernel) rfl ⟨rfl, rfl⟩ hR hsz rfl hroom hdg ⟨Nat.zero_le _, Nat.zero_le _⟩ (fun u H1 locs1 hu hZ => kk u.1 u.2.1 u.2.2.1 u.2.2.2 H1 locs1 hu hZ)
abbrev rx_putOut : Room := { frames := 0, cells := 0, slots := 0, locals := 0 }
set_option maxHeartbeats 4000000 in
set_option maxRecDepth 100000 in
theorem cx_putOut (l : Launch) (D : va_G) (dB dZ dJ : ClassId) (q : Nat → Nat) (pr : Int32) (kd hd ps ng : Nat → Int32) (si so : Int32) (br mv : Bool) (li lo la lt : Nat → Int32) (kn : Bool) (ms : Int64) (x : Int32) : MVd l yX0_putOut (ws_ yX0_putOut cX0_putOut 2 none) rx_putOut D dB dZ dJ [.ref (q 0), .int x] (XW dB q pr kd hd ps ng si so br mv li lo la lt kn ms) (fun u : Q4 => u = pOut x si so br mv) (fun u : Q4 => XW dB q pr kd hd ps ng u.1 u.2.1 u.2.2.1 u.2.2.2 li lo la lt kn ms) := by
  refine MVd.of (by decide) (Nat.le_of_ble_eq_true rfl) (fun p e s m args below meth c Q A F hZ hret ls hl => ?_)
  obtain ⟨hx, hb, hml, hown, hts⟩ := id F.1
  have hl : lv_has ls 2 [(0, .ref (q 0)), (1, .int x)] := hl
  refine lv_iload_n hx hb dX0_putOut_0 rfl (lv_at hl 1 rfl) ?_
  refine lv_aload_n hx hb dX0_putOut_1 rfl (lv_at hl 0 rfl) ?_
  refine xg_so F hZ.1 dX0_putOut_2 ?_
  refine lv_iconst (v := (-1)) hx hb dX0_putOut_5 (by decide) ?_
  refine lv_ixor hx hb dX0_putOut_6 ?_
  refine lv_iand hx hb dX0_putOut_7 ?_
  refine lv_if_eq (tgt := 26) hx hb dX0_putOut_8 (by decide) (fun c_1 => ?_) (fun c_1 => ?_)
  · skip
    refine lv_aload_n hx hb dX0_putOut_26 rfl (lv_at hl 0 rfl) ?_
    refine lv_dup hx hb dX0_putOut_27 rfl ?_
    refine xg_br F hZ.1 dX0_putOut_28 ?_
    refine lv_aload_n hx hb dX0_putOut_31 rfl (lv_at hl 0 rfl) ?_
    refine xg_si F hZ.1 dX0_putOut_32 ?_
    refine lv_aload_n hx hb dX0_putOut_35 rfl (lv_at hl 0 rfl) ?_
    refine xg_so F hZ.1 dX0_putOut_36 ?_
    refine lv_iand hx hb dX0_putOut_39 ?_
    refine lv_if_eq (tgt := 47) hx hb dX0_putOut_40 (by decide) (fun c_2 => ?_) (fun c_2 => ?_)
    · skip
      refine lv_iconst (v := 0) hx hb dX0_putOut_47 (by decide) ?_
      refine lv_ior hx hb dX0_putOut_48 ?_
      refine xp_br F hZ (B := br) (b2i_or0 _) dX0_putOut_49 (fun H locs hZ => ?_)
      exact hret (si, so, br, mv) dX0_putOut_52 (by simp only [pOut, if_pos c_1, if_pos c_2]) hZ
    · skip
      refine lv_iconst (v := 1) hx hb dX0_putOut_43 (by decide) ?_
      refine lv_goto (tgt := 48) hx hb dX0_putOut_44 (by decide) ?_
      refine lv_ior hx hb dX0_putOut_48 ?_
      refine xp_br F hZ (B := true) (b2i_or1 _) dX0_putOut_49 (fun H locs hZ => ?_)
      exact hret (si, so, true, mv) dX0_putOut_52 (by simp only [pOut, if_pos c_1, if_neg c_2]) hZ
  · skip
    refine lv_aload_n hx hb dX0_putOut_11 rfl (lv_at hl 0 rfl) ?_
    refine lv_dup hx hb dX0_putOut_12 rfl ?_
    refine xg_so F hZ.1 dX0_putOut_13 ?_
    refine lv_iload_n hx hb dX0_putOut_16 rfl (lv_at hl 1 rfl) ?_
    refine lv_ior hx hb dX0_putOut_17 ?_
    refine xp_so F hZ dX0_putOut_18 (fun H locs hZ => ?_)
    refine lv_aload_n hx hb dX0_putOut_21 rfl (lv_at hl 0 rfl) ?_
    refine lv_iconst (v := 1) hx hb dX0_putOut_22 (by decide) ?_
    refine xp_mv F hZ (B := true) rfl dX0_putOut_23 (fun H locs hZ => ?_)
    refine lv_aload_n hx hb dX0_putOut_26 rfl (lv_at hl 0 rfl) ?_
    refine lv_dup hx hb dX0_putOut_27 rfl ?_
    refine xg_br F hZ.1 dX0_putOut_28 ?_
    refine lv_aload_n hx hb dX0_putOut_31 rfl (lv_at hl 0 rfl) ?_
    refine xg_si F hZ.1 dX0_putOut_32 ?_
    refine lv_aload_n hx hb dX0_putOut_35 rfl (lv_at hl 0 rfl) ?_
    refine xg_so F hZ.1 dX0_putOut_36 ?_
    refine lv_iand hx hb dX0_putOut_39 ?_
    refine lv_if_eq (tgt := 47) hx hb dX0_putOut_40 (by decide) (fun c_3 => ?_) (fun c_3 => ?_)
    · skip
      refine lv_iconst (v := 0) hx hb dX0_putOut_47 (by decide) ?_
      refine lv_ior hx hb dX0_putOut_48 ?_
      refine xp_br F hZ (B := br) (b2i_or0 _) dX0_putOut_49 (fun H locs hZ => ?_)
      exact hret (si, (so ||| x), br, true) dX0_putOut_52 (by simp only [pOut, if_neg c_1, if_pos c_3]) hZ
    · skip
      refine lv_iconst (v := 1) hx hb dX0_putOut_43 (by decide) ?_
      refine lv_goto (tgt := 48) hx hb dX0_putOut_44 (by decide) ?_
      refine lv_ior hx hb dX0_putOut_48 ?_
      refine xp_br F hZ (B := true) (b2i_or1 _) dX0_putOut_49 (fun H locs hZ => ?_)
      exact hret (si, (so ||| x), true, true) dX0_putOut_52 (by simp only [pOut, if_neg c_1, if_neg c_3]) hZ
theorem kx_putOut {x : Int32} (F : Fx RX0 D dB dZ dJ p m c cc nL s args) (hZ : XS D A s (XW dB q pr kd hd ps ng si so br mv li lo la lt kn ms) H locs)  (hsz : ls.size = nL) (hR : rx_putOut.frames + 1 ≤ R.frames ∧ 8 + (2 + 11) + rx_putOut.locals ≤ R.locals) (hroom : (rest.map fun v => v.category).sum ≤ 8) (hdg : decode cc pc = .ok (.invokevirtual 76, 3)) (kk : ∀ (i1 o1 : Int32) (b1 m1 : Bool) (H1 : Heap) (locs1 : List Loc), (i1, o1, b1, m1) = pOut x si so br mv → XS D A s (XW dB q pr kd hd ps ng i1 o1 b1 m1 li lo la lt kn ms) H1 locs1 → W p l e R s m args below meth c H1 locs1 0 0 Q (F0 m (pc + 3) ls rest)) : W p l e R s m args below meth c H locs 0 0 Q (F0 m pc ls (.int x :: .ref (q 0) :: rest)) :=
  cl_V (q0 := 0) (ci := 0) (n := 1) (As := [.int x]) F hZ (cx_putOut l D dB dZ dJ q pr kd hd ps ng si so br mv li lo la lt kn ms x) (fun _ => rfl) rfl rfl (lw_V q135 q137 qs8 q20 q138) (by decide +kernel) rfl ⟨rfl, rfl⟩ hR hsz rfl hroom hdg ⟨Nat.zero_le _, Nat.zero_le _⟩ (fun u H1 locs1 hu hZ => kk u.1 u.2.1 u.2.2.1 u.2.2.2 H1 locs1 hu hZ)
abbrev rx_bodyHolds : Room := { frames := 0, cells := 0, slots := 0, locals := 0 }
set_option maxHeartbeats 4000000 in
set_option maxRecDepth 100000 in
theorem cx_bodyHolds (l : Launch) (D : va_G) (dB dZ dJ : ClassId) (q : Nat → Nat) (pr : Int32) (kd hd ps ng : Nat → Int32) (si so : Int32) (br mv : Bool) (li lo la lt : Nat → Int32) (kn : Bool) (ms : Int64) (j : Nat) (hj : j < 10) : MRd l yX0_bodyHolds (ws_ yX0_bodyHolds cX0_bodyHolds 2 (some .boolean)) rx_bodyHolds D dB dZ dJ [.ref (q 0), .int (nI j)] (XW dB q pr kd hd ps ng si so br mv li lo la lt kn ms) (hldI ps ng si so j) := by
  refine MRd.of (by decide) (nar01 (hldI_01 _ _ _ _ _)) (Nat.le_of_ble_eq_true rfl) (fun p e s m args below meth c Q F hP hret ls hl => ?_)
  obtain ⟨hx, hb, hml, hown, hts⟩ := id F.1
  have hl : lv_has ls 2 [(0, .ref (q 0)), (1, .int (nI j))] := hl
  refine lv_aload_n hx hb dX0_bodyHolds_0 rfl (lv_at hl 0 rfl) ?_
  refine xg_ps F hP dX0_bodyHolds_1 ?_
  refine lv_iload_n hx hb dX0_bodyHolds_4 rfl (lv_at hl 1 rfl) ?_
  refine xa_ps F hP hj dX0_bodyHolds_5 ?_
  refine lv_aload_n hx hb dX0_bodyHolds_6 rfl (lv_at hl 0 rfl) ?_
  refine xg_si F hP dX0_bodyHolds_7 ?_
  refine lv_iconst (v := (-1)) hx hb dX0_bodyHolds_10 (by decide) ?_
  refine lv_ixor hx hb dX0_bodyHolds_11 ?_
  refine lv_iand hx hb dX0_bodyHolds_12 ?_
  refine lv_if_ne (tgt := 36) hx hb dX0_bodyHolds_13 (by decide) (fun c_1 => ?_) (fun c_1 => ?_)
  · skip
    refine lv_iconst (v := 0) hx hb dX0_bodyHolds_36 (by decide) ?_
    exact hret dX0_bodyHolds_37 (by simp only [hldI, if_neg c_1])
  · skip
    refine lv_aload_n hx hb dX0_bodyHolds_16 rfl (lv_at hl 0 rfl) ?_
    refine xg_ng F hP dX0_bodyHolds_17 ?_
    refine lv_iload_n hx hb dX0_bodyHolds_20 rfl (lv_at hl 1 rfl) ?_
    refine xa_ng F hP hj dX0_bodyHolds_21 ?_
    refine lv_aload_n hx hb dX0_bodyHolds_22 rfl (lv_at hl 0 rfl) ?_
    refine xg_so F hP dX0_bodyHolds_23 ?_
    refine lv_iconst (v := (-1)) hx hb dX0_bodyHolds_26 (by decide) ?_
    refine lv_ixor hx hb dX0_bodyHolds_27 ?_
    refine lv_iand hx hb dX0_bodyHolds_28 ?_
    refine lv_if_ne (tgt := 36) hx hb dX0_bodyHolds_29 (by decide) (fun c_2 => ?_) (fun c_2 => ?_)
    · skip
      refine lv_iconst (v := 0) hx hb dX0_bodyHolds_36 (by decide) ?_
      exact hret dX0_bodyHolds_37 (by simp only [hldI, if_pos c_1, if_neg c_2])
    · skip
      refine lv_iconst (v := 1) hx hb dX0_bodyHolds_32 (by decide) ?_
      refine lv_goto (tgt := 37) hx hb dX0_bodyHolds_33 (by decide) ?_
      exact hret dX0_bodyHolds_37 (by simp only [hldI, if_pos c_1, if_pos c_2])
theorem kx_bodyHolds {j : Nat} (F : Fx RX0 D dB dZ dJ p m c cc nL s args) (hP : va_P D vwCl (XW dB q pr kd hd ps ng si so br mv li lo la lt kn ms) H) (hj : j < 10) (hsz : ls.size = nL) (hR : rx_bodyHolds.frames + 1 ≤ R.frames ∧ 8 + (2 + 11) + rx_bodyHolds.locals ≤ R.locals) (hroom : (rest.map fun v => v.category).sum ≤ 8) (hdg : decode cc pc = .ok (.invokevirtual 79, 3)) (kk : W p l e R s m args below meth c H locs 0 0 Q (F0 m (pc + 3) ls (.int (hldI ps ng si so j) :: rest))) : W p l e R s m args below meth c H locs 0 0 Q (F0 m pc ls (.int (nI j) :: .ref (q 0) :: rest)) :=
  cl_R (q0 := 0) (ci := 0) (n := 1) (As := [.int (nI j)]) F hP (cx_bodyHolds l D dB dZ dJ q pr kd hd ps ng si so br mv li lo la lt kn ms j hj) rfl rfl (lw_V q120 q122 qs5 q20 q123) (by decide +kernel) rfl ⟨rfl, rfl⟩ hR hsz rfl hroom hdg ⟨Nat.zero_le _, Nat.zero_le _⟩ kk
abbrev rx_bodyFails : Room := { frames := 0, cells := 0, slots := 0, locals := 0 }
set_option maxHeartbeats 4000000 in
set_option maxRecDepth 100000 in
theorem cx_bodyFails (l : Launch) (D : va_G) (dB dZ dJ : ClassId) (q : Nat → Nat) (pr : Int32) (kd hd ps ng : Nat → Int32) (si so : Int32) (br mv : Bool) (li lo la lt : Nat → Int32) (kn : Bool) (ms : Int64) (j : Nat) (hj : j < 10) : MRd l yX0_bodyFails (ws_ yX0_bodyFails cX0_bodyFails 2 (some .boolean)) rx_bodyFails D dB dZ dJ [.ref (q 0), .int (nI j)] (XW dB q pr kd hd ps ng si so br mv li lo la lt kn ms) (flsI ps ng si so j) := by
  refine MRd.of (by decide) (nar01 (flsI_01 _ _ _ _ _)) (Nat.le_of_ble_eq_true rfl) (fun p e s m args below meth c Q F hP hret ls hl => ?_)
  obtain ⟨hx, hb, hml, hown, hts⟩ := id F.1
  have hl : lv_has ls 2 [(0, .ref (q 0)), (1, .int (nI j))] := hl
  refine lv_aload_n hx hb dX0_bodyFails_0 rfl (lv_at hl 0 rfl) ?_
  refine xg_ps F hP dX0_bodyFails_1 ?_
  refine lv_iload_n hx hb dX0_bodyFails_4 rfl (lv_at hl 1 rfl) ?_
  refine xa_ps F hP hj dX0_bodyFails_5 ?_
  refine lv_aload_n hx hb dX0_bodyFails_6 rfl (lv_at hl 0 rfl) ?_
  refine xg_so F hP dX0_bodyFails_7 ?_
  refine lv_iand hx hb dX0_bodyFails_10 ?_
  refine lv_if_ne (tgt := 28) hx hb dX0_bodyFails_11 (by decide) (fun c_1 => ?_) (fun c_1 => ?_)
  · skip
    refine lv_iconst (v := 1) hx hb dX0_bodyFails_28 (by decide) ?_
    refine lv_goto (tgt := 33) hx hb dX0_bodyFails_29 (by decide) ?_
    exact hret dX0_bodyFails_33 (by simp only [flsI, if_neg c_1])
  · skip
    refine lv_aload_n hx hb dX0_bodyFails_14 rfl (lv_at hl 0 rfl) ?_
    refine xg_ng F hP dX0_bodyFails_15 ?_
    refine lv_iload_n hx hb dX0_bodyFails_18 rfl (lv_at hl 1 rfl) ?_
    refine xa_ng F hP hj dX0_bodyFails_19 ?_
    refine lv_aload_n hx hb dX0_bodyFails_20 rfl (lv_at hl 0 rfl) ?_
    refine xg_si F hP dX0_bodyFails_21 ?_
    refine lv_iand hx hb dX0_bodyFails_24 ?_
    refine lv_if_eq (tgt := 32) hx hb dX0_bodyFails_25 (by decide) (fun c_2 => ?_) (fun c_2 => ?_)
    · skip
      refine lv_iconst (v := 0) hx hb dX0_bodyFails_32 (by decide) ?_
      exact hret dX0_bodyFails_33 (by simp only [flsI, if_pos c_1, if_pos c_2])
    · skip
      refine lv_iconst (v := 1) hx hb dX0_bodyFails_28 (by decide) ?_
      refine lv_goto (tgt := 33) hx hb dX0_bodyFails_29 (by decide) ?_
      exact hret dX0_bodyFails_33 (by simp only [flsI, if_pos c_1, if_neg c_2])
theorem kx_bodyFails {j : Nat} (F : Fx RX0 D dB dZ dJ p m c cc nL s args) (hP : va_P D vwCl (XW dB q pr kd hd ps ng si so br mv li lo la lt kn ms) H) (hj : j < 10) (hsz : ls.size = nL) (hR : rx_bodyFails.frames + 1 ≤ R.frames ∧ 8 + (2 + 11) + rx_bodyFails.locals ≤ R.locals) (hroom : (rest.map fun v => v.category).sum ≤ 8) (hdg : decode cc pc = .ok (.invokevirtual 85, 3)) (kk : W p l e R s m args below meth c H locs 0 0 Q (F0 m (pc + 3) ls (.int (flsI ps ng si so j) :: rest))) : W p l e R s m args below meth c H locs 0 0 Q (F0 m pc ls (.int (nI j) :: .ref (q 0) :: rest)) :=
  cl_R (q0 := 0) (ci := 0) (n := 1) (As := [.int (nI j)]) F hP (cx_bodyFails l D dB dZ dJ q pr kd hd ps ng si so br mv li lo la lt kn ms j hj) rfl rfl (lw_V q128 q130 qs7 q20 q131) (by decide +kernel) rfl ⟨rfl, rfl⟩ hR hsz rfl hroom hdg ⟨Nat.zero_le _, Nat.zero_le _⟩ kk
abbrev rx_founded : Room := { frames := 1, cells := 0, slots := 0, locals := 21 }
set_option maxHeartbeats 4000000 in
set_option maxRecDepth 100000 in
theorem cx_founded (l : Launch) (D : va_G) (dB dZ dJ : ClassId) (q : Nat → Nat) (pr : Int32) (kd hd ps ng : Nat → Int32) (si so : Int32) (br mv : Bool) (li lo la lt : Nat → Int32) (kn : Bool) (ms : Int64) : MRd l yX0_founded (ws_ yX0_founded cX0_founded 5 (some .int)) rx_founded D dB dZ dJ [.ref (q 0)] (XW dB q pr kd hd ps ng si so br mv li lo la lt kn ms) (fdR pr kd hd ps ng si so 6) := by
  refine MRd.of (by decide) rfl (Nat.le_of_ble_eq_true rfl) (fun p e s m args below meth c Q F hP hret ls hl => ?_)
  obtain ⟨hx, hb, hml, hown, hts⟩ := id F.1
  have hl : lv_has ls 5 [(0, .ref (q 0))] := hl
  refine lv_iconst (v := 0) hx hb dX0_founded_0 (by decide) ?_
  refine lv_istore_n (lv' := [(1, .int 0), (0, .ref (q 0))]) hx hb dX0_founded_1 rfl hl (by decide) rfl (fun ls hl => ?_)
  refine lv_iconst (v := 0) hx hb dX0_founded_2 (by decide) ?_
  refine lv_istore_n (lv' := [(2, .int 0), (1, .int 0), (0, .ref (q 0))]) hx hb dX0_founded_3 rfl hl (by decide) rfl (fun ls hl => ?_)
  have lp4 : ∀ (nf t : Nat) (x1 : Int32), t ≤ 6 → 6 < t + nf → x1 = fdR pr kd hd ps ng si so t → ∀ (ls : Array Slot), lv_has ls 5 [(0, .ref (q 0)), (1, .int x1), (2, .int (nI t))] → W p l e rx_founded s m args below meth c s.heap [] 0 0 Q (F0 m 4 ls []) := by
    intro nf
    induction nf with
    | zero =>
      intro t x1 h1 h2
      exact absurd h2 (by omega)
    | succ nf ih4 =>
      intro t x1 ht0 htn et0 ls hl
      refine lv_iload_n hx hb dX0_founded_4 rfl (lv_at hl 2 rfl) ?_
      refine lv_bipush (v := 6) hx hb dX0_founded_5 (by decide) ?_
      refine lv_icmp_ge (tgt := 108) hx hb dX0_founded_7 (by decide) (fun c_1 => ?_) (fun c_1 => ?_)
      · skip
        have ht : t = 6 := lp_ge (N := 6) (by decide) ht0 c_1
        subst ht
        refine lv_iload_n hx hb dX0_founded_108 rfl (lv_at hl 1 rfl) ?_
        exact hret dX0_founded_109 et0
      · skip
        have ht : t < 6 := lp_lt (N := 6) (by decide) ht0 c_1
        refine lv_iconst (v := 0) hx hb dX0_founded_10 (by decide) ?_
        refine lv_istore_n (lv' := [(3, .int 0), (0, .ref (q 0)), (1, .int x1), (2, .int (nI t))]) hx hb dX0_founded_11 rfl hl (by decide) rfl (fun ls hl => ?_)
        have lp12 : ∀ (nf j : Nat) (y1 : Int32), j ≤ 10 → 10 < j + nf → y1 = fdI pr kd hd ps ng si so x1 j → ∀ (ls : Array Slot), lv_has ls 5 [(0, .ref (q 0)), (1, .int y1), (2, .int (nI t)), (3, .int (nI j))] → W p l e rx_founded s m args below meth c s.heap [] 0 0 Q (F0 m 12 ls []) := by
          intro nf
          induction nf with
          | zero =>
            intro j y1 h1 h2
            exact absurd h2 (by omega)
          | succ nf ih12 =>
            intro j y1 hj0 hjn ej0 ls hl
            refine lv_iload_n hx hb dX0_founded_12 rfl (lv_at hl 3 rfl) ?_
            refine lv_bipush (v := 10) hx hb dX0_founded_13 (by decide) ?_
            refine lv_icmp_ge (tgt := 102) hx hb dX0_founded_15 (by decide) (fun c_2 => ?_) (fun c_2 => ?_)
            · skip
              have hj : j = 10 := lp_ge (N := 10) (by decide) hj0 c_2
              refine lv_incN (k := 2) (lv' := [(2, .int (nI (t + 1))), (0, .ref (q 0)), (1, .int y1), (3, .int (nI j))]) hx hb dX0_founded_102 hl rfl (by decide) rfl (fun ls hl => ?_)
              refine lv_goto (tgt := 4) hx hb dX0_founded_105 (by decide) ?_
              exact ih4 (t + 1) y1 (by omega) (by omega) (by rw [fdR, ← et0, ej0, hj]) ls (lv_sub hl [1, 2, 0] rfl)
            · skip
              have hj : j < 10 := lp_lt (N := 10) (by decide) hj0 c_2
              refine lv_aload_n hx hb dX0_founded_18 rfl (lv_at hl 0 rfl) ?_
              refine lv_iload_n hx hb dX0_founded_19 rfl (lv_at hl 3 rfl) ?_
              refine kx_has F hP hl.1 ⟨Nat.le_of_ble_eq_true rfl, Nat.le_of_ble_eq_true rfl⟩ (Nat.le_of_ble_eq_true rfl) dX0_founded_20 ?_
              refine lv_if_eq (tgt := 64) hx hb dX0_founded_23 (by decide) (fun c_3 => ?_) (fun c_3 => ?_)
              · skip
                refine lv_iconst (v := 0) hx hb dX0_founded_64 (by decide) ?_
                refine lv_istore (lv' := [(4, .int 0), (0, .ref (q 0)), (1, .int y1), (2, .int (nI t)), (3, .int (nI j))]) hx hb dX0_founded_65 hl (by decide) rfl (fun ls hl => ?_)
                refine lv_iload hx hb dX0_founded_67 (lv_at hl 0 rfl) ?_
                refine lv_if_eq (tgt := 96) hx hb dX0_founded_69 (by decide) (fun _ => ?_) (fun c9 => absurd (by decide) c9)
                refine lv_incN (k := 4) (lv' := [(3, .int (nI (j + 1))), (4, .int 0), (0, .ref (q 0)), (1, .int y1), (2, .int (nI t))]) hx hb dX0_founded_96 hl rfl (by decide) rfl (fun ls hl => ?_)
                refine lv_goto (tgt := 12) hx hb dX0_founded_99 (by decide) ?_
                exact ih12 (j + 1) y1 (by omega) (by omega) (by rw [fdI, ← ej0]; simp only [fdS, if_pos c_3]) ls (lv_sub hl [2, 3, 4, 0] rfl)
              · skip
                refine lv_aload_n hx hb dX0_founded_26 rfl (lv_at hl 0 rfl) ?_
                refine xg_kd F hP dX0_founded_27 ?_
                refine lv_iload_n hx hb dX0_founded_30 rfl (lv_at hl 3 rfl) ?_
                refine xa_kd F hP hj dX0_founded_31 ?_
                refine lv_iconst (v := 2) hx hb dX0_founded_32 (by decide) ?_
                refine lv_icmp_eq (tgt := 64) hx hb dX0_founded_33 (by decide) (fun c_4 => ?_) (fun c_4 => ?_)
                · skip
                  refine lv_iconst (v := 0) hx hb dX0_founded_64 (by decide) ?_
                  refine lv_istore (lv' := [(4, .int 0), (0, .ref (q 0)), (1, .int y1), (2, .int (nI t)), (3, .int (nI j))]) hx hb dX0_founded_65 hl (by decide) rfl (fun ls hl => ?_)
                  refine lv_iload hx hb dX0_founded_67 (lv_at hl 0 rfl) ?_
                  refine lv_if_eq (tgt := 96) hx hb dX0_founded_69 (by decide) (fun _ => ?_) (fun c9 => absurd (by decide) c9)
                  refine lv_incN (k := 4) (lv' := [(3, .int (nI (j + 1))), (4, .int 0), (0, .ref (q 0)), (1, .int y1), (2, .int (nI t))]) hx hb dX0_founded_96 hl rfl (by decide) rfl (fun ls hl => ?_)
                  refine lv_goto (tgt := 12) hx hb dX0_founded_99 (by decide) ?_
                  exact ih12 (j + 1) y1 (by omega) (by omega) (by rw [fdI, ← ej0]; simp only [fdS, if_neg c_3, if_pos c_4]) ls (lv_sub hl [2, 3, 4, 0] rfl)
                · skip
                  refine lv_aload_n hx hb dX0_founded_36 rfl (lv_at hl 0 rfl) ?_
                  refine lv_iload_n hx hb dX0_founded_37 rfl (lv_at hl 3 rfl) ?_
                  refine kx_bodyFails F hP hj hl.1 ⟨Nat.le_of_ble_eq_true rfl, Nat.le_of_ble_eq_true rfl⟩ (Nat.le_of_ble_eq_true rfl) dX0_founded_38 ?_
                  refine lv_if_ne (tgt := 64) hx hb dX0_founded_41 (by decide) (fun c_5 => ?_) (fun c_5 => ?_)
                  · skip
                    refine lv_iconst (v := 0) hx hb dX0_founded_64 (by decide) ?_
                    refine lv_istore (lv' := [(4, .int 0), (0, .ref (q 0)), (1, .int y1), (2, .int (nI t)), (3, .int (nI j))]) hx hb dX0_founded_65 hl (by decide) rfl (fun ls hl => ?_)
                    refine lv_iload hx hb dX0_founded_67 (lv_at hl 0 rfl) ?_
                    refine lv_if_eq (tgt := 96) hx hb dX0_founded_69 (by decide) (fun _ => ?_) (fun c9 => absurd (by decide) c9)
                    refine lv_incN (k := 4) (lv' := [(3, .int (nI (j + 1))), (4, .int 0), (0, .ref (q 0)), (1, .int y1), (2, .int (nI t))]) hx hb dX0_founded_96 hl rfl (by decide) rfl (fun ls hl => ?_)
                    refine lv_goto (tgt := 12) hx hb dX0_founded_99 (by decide) ?_
                    exact ih12 (j + 1) y1 (by omega) (by omega) (by rw [fdI, ← ej0]; simp only [fdS, if_neg c_3, if_neg c_4, if_neg c_5]) ls (lv_sub hl [2, 3, 4, 0] rfl)
                  · skip
                    refine lv_aload_n hx hb dX0_founded_44 rfl (lv_at hl 0 rfl) ?_
                    refine xg_so F hP dX0_founded_45 ?_
                    refine lv_aload_n hx hb dX0_founded_48 rfl (lv_at hl 0 rfl) ?_
                    refine xg_hd F hP dX0_founded_49 ?_
                    refine lv_iload_n hx hb dX0_founded_52 rfl (lv_at hl 3 rfl) ?_
                    refine xa_hd F hP hj dX0_founded_53 ?_
                    refine lv_ishr hx hb dX0_founded_54 ?_
                    refine lv_iconst (v := 1) hx hb dX0_founded_55 (by decide) ?_
                    refine lv_iand hx hb dX0_founded_56 ?_
                    refine lv_if_ne (tgt := 64) hx hb dX0_founded_57 (by decide) (fun c_6 => ?_) (fun c_6 => ?_)
                    · skip
                      refine lv_iconst (v := 0) hx hb dX0_founded_64 (by decide) ?_
                      refine lv_istore (lv' := [(4, .int 0), (0, .ref (q 0)), (1, .int y1), (2, .int (nI t)), (3, .int (nI j))]) hx hb dX0_founded_65 hl (by decide) rfl (fun ls hl => ?_)
                      refine lv_iload hx hb dX0_founded_67 (lv_at hl 0 rfl) ?_
                      refine lv_if_eq (tgt := 96) hx hb dX0_founded_69 (by decide) (fun _ => ?_) (fun c9 => absurd (by decide) c9)
                      refine lv_incN (k := 4) (lv' := [(3, .int (nI (j + 1))), (4, .int 0), (0, .ref (q 0)), (1, .int y1), (2, .int (nI t))]) hx hb dX0_founded_96 hl rfl (by decide) rfl (fun ls hl => ?_)
                      refine lv_goto (tgt := 12) hx hb dX0_founded_99 (by decide) ?_
                      exact ih12 (j + 1) y1 (by omega) (by omega) (by rw [fdI, ← ej0]; simp only [fdS, if_neg c_3, if_neg c_4, if_pos c_5, if_neg c_6]) ls (lv_sub hl [2, 3, 4, 0] rfl)
                    · skip
                      refine lv_iconst (v := 1) hx hb dX0_founded_60 (by decide) ?_
                      refine lv_goto (tgt := 65) hx hb dX0_founded_61 (by decide) ?_
                      refine lv_istore (lv' := [(4, .int 1), (0, .ref (q 0)), (1, .int y1), (2, .int (nI t)), (3, .int (nI j))]) hx hb dX0_founded_65 hl (by decide) rfl (fun ls hl => ?_)
                      refine lv_iload hx hb dX0_founded_67 (lv_at hl 0 rfl) ?_
                      refine lv_if_eq (tgt := 96) hx hb dX0_founded_69 (by decide) (fun c9 => absurd c9 (by decide)) (fun _ => ?_)
                      refine lv_aload_n hx hb dX0_founded_72 rfl (lv_at hl 1 rfl) ?_
                      refine xg_ps F hP dX0_founded_73 ?_
                      refine lv_iload_n hx hb dX0_founded_76 rfl (lv_at hl 4 rfl) ?_
                      refine xa_ps F hP hj dX0_founded_77 ?_
                      refine lv_iload_n hx hb dX0_founded_78 rfl (lv_at hl 2 rfl) ?_
                      refine lv_iconst (v := (-1)) hx hb dX0_founded_79 (by decide) ?_
                      refine lv_ixor hx hb dX0_founded_80 ?_
                      refine lv_iand hx hb dX0_founded_81 ?_
                      refine lv_if_ne (tgt := 96) hx hb dX0_founded_82 (by decide) (fun c_7 => ?_) (fun c_7 => ?_)
                      · skip
                        refine lv_incN (k := 4) (lv' := [(3, .int (nI (j + 1))), (4, .int 1), (0, .ref (q 0)), (1, .int y1), (2, .int (nI t))]) hx hb dX0_founded_96 hl rfl (by decide) rfl (fun ls hl => ?_)
                        refine lv_goto (tgt := 12) hx hb dX0_founded_99 (by decide) ?_
                        exact ih12 (j + 1) y1 (by omega) (by omega) (by rw [fdI, ← ej0]; simp only [fdS, if_neg c_3, if_neg c_4, if_pos c_5, if_pos c_6, if_neg c_7]) ls (lv_sub hl [2, 3, 4, 0] rfl)
                      · skip
                        refine lv_iload_n hx hb dX0_founded_85 rfl (lv_at hl 2 rfl) ?_
                        refine lv_iconst (v := 1) hx hb dX0_founded_86 (by decide) ?_
                        refine lv_aload_n hx hb dX0_founded_87 rfl (lv_at hl 1 rfl) ?_
                        refine xg_hd F hP dX0_founded_88 ?_
                        refine lv_iload_n hx hb dX0_founded_91 rfl (lv_at hl 4 rfl) ?_
                        refine xa_hd F hP hj dX0_founded_92 ?_
                        refine lv_ishl hx hb dX0_founded_93 ?_
                        refine lv_ior hx hb dX0_founded_94 ?_
                        refine lv_istore_n (lv' := [(1, .int (y1 ||| ((1 : Int32) <<< ((hd j) &&& 31)))), (4, .int 1), (0, .ref (q 0)), (2, .int (nI t)), (3, .int (nI j))]) hx hb dX0_founded_95 rfl hl (by decide) rfl (fun ls hl => ?_)
                        refine lv_incN (k := 4) (lv' := [(3, .int (nI (j + 1))), (1, .int (y1 ||| ((1 : Int32) <<< ((hd j) &&& 31)))), (4, .int 1), (0, .ref (q 0)), (2, .int (nI t))]) hx hb dX0_founded_96 hl rfl (by decide) rfl (fun ls hl => ?_)
                        refine lv_goto (tgt := 12) hx hb dX0_founded_99 (by decide) ?_
                        exact ih12 (j + 1) (y1 ||| ((1 : Int32) <<< ((hd j) &&& 31))) (by omega) (by omega) (by rw [fdI, ← ej0]; simp only [fdS, if_neg c_3, if_neg c_4, if_pos c_5, if_pos c_6, if_pos c_7]) ls (lv_sub hl [3, 1, 4, 0] rfl)
        exact lp12 11 0 x1 (by omega) (by omega) rfl ls (lv_sub hl [1, 2, 3, 0] rfl)
  exact lp4 7 0 0 (by omega) (by omega) rfl ls (lv_sub hl [2, 1, 0] rfl)
theorem kx_founded (F : Fx RX0 D dB dZ dJ p m c cc nL s args) (hP : va_P D vwCl (XW dB q pr kd hd ps ng si so br mv li lo la lt kn ms) H)  (hsz : ls.size = nL) (hR : rx_founded.frames + 1 ≤ R.frames ∧ 8 + (5 + 11) + rx_founded.locals ≤ R.locals) (hroom : (rest.map fun v => v.category).sum ≤ 8) (hdg : decode cc pc = .ok (.invokevirtual 72, 3)) (kk : W p l e R s m args below meth c H locs 0 0 Q (F0 m (pc + 3) ls (.int (fdR pr kd hd ps ng si so 6) :: rest))) : W p l e R s m args below meth c H locs 0 0 Q (F0 m pc ls (.ref (q 0) :: rest)) :=
  cl_R (q0 := 0) (ci := 0) (n := 0) (As := []) F hP (cx_founded l D dB dZ dJ q pr kd hd ps ng si so br mv li lo la lt kn ms) rfl rfl (lw_V q143 q145 qs10 q20 q146) (by decide +kernel) rfl ⟨rfl, rfl⟩ hR hsz rfl hroom hdg ⟨Nat.zero_le _, Nat.zero_le _⟩ kk
abbrev rx_forward : Room := { frames := 1, cells := 0, slots := 0, locals := 22 }
set_option maxHeartbeats 4000000 in
set_option maxRecDepth 100000 in
theorem cx_forward (l : Launch) (D : va_G) (dB dZ dJ : ClassId) (q : Nat → Nat) (pr : Int32) (kd hd ps ng : Nat → Int32) (si so : Int32) (br mv : Bool) (li lo la lt : Nat → Int32) (kn : Bool) (ms : Int64) (j : Nat) (hj : j < 10) : MVd l yX0_forward (ws_ yX0_forward cX0_forward 5 none) rx_forward D dB dZ dJ [.ref (q 0), .int (nI j)] (XW dB q pr kd hd ps ng si so br mv li lo la lt kn ms) (fun u : Q4 => u = fwd kd hd ps ng j si so br mv) (fun u : Q4 => XW dB q pr kd hd ps ng u.1 u.2.1 u.2.2.1 u.2.2.2 li lo la lt kn ms) := by
  refine MVd.of (by decide) (Nat.le_of_ble_eq_true rfl) (fun p e s m args below meth c Q A F hZ hret ls hl => ?_)
  obtain ⟨hx, hb, hml, hown, hts⟩ := id F.1
  have hl : lv_has ls 5 [(0, .ref (q 0)), (1, .int (nI j))] := hl
  refine lv_aload_n hx hb dX0_forward_0 rfl (lv_at hl 0 rfl) ?_
  refine lv_iload_n hx hb dX0_forward_1 rfl (lv_at hl 1 rfl) ?_
  refine kx_bodyHolds F hZ.1 hj hl.1 ⟨Nat.le_of_ble_eq_true rfl, Nat.le_of_ble_eq_true rfl⟩ (Nat.le_of_ble_eq_true rfl) dX0_forward_2 ?_
  refine lv_if_eq (tgt := 54) hx hb dX0_forward_5 (by decide) (fun c_1 => ?_) (fun c_1 => ?_)
  · skip
    refine lv_aload_n hx hb dX0_forward_54 rfl (lv_at hl 0 rfl) ?_
    refine xg_kd F hZ.1 dX0_forward_55 ?_
    refine lv_iload_n hx hb dX0_forward_58 rfl (lv_at hl 1 rfl) ?_
    refine xa_kd F hZ.1 hj dX0_forward_59 ?_
    refine lv_iconst (v := 2) hx hb dX0_forward_60 (by decide) ?_
    refine lv_icmp_eq (tgt := 89) hx hb dX0_forward_61 (by decide) (fun c_2 => ?_) (fun c_2 => ?_)
    · skip
      refine lv_iconst (v := 1) hx hb dX0_forward_89 (by decide) ?_
      refine lv_goto (tgt := 94) hx hb dX0_forward_90 (by decide) ?_
      refine lv_istore_n (lv' := [(2, .int 1), (0, .ref (q 0)), (1, .int (nI j))]) hx hb dX0_forward_94 rfl hl (by decide) rfl (fun ls hl => ?_)
      refine lv_aload_n hx hb dX0_forward_95 rfl (lv_at hl 1 rfl) ?_
      refine xg_ps F hZ.1 dX0_forward_96 ?_
      refine lv_iload_n hx hb dX0_forward_99 rfl (lv_at hl 2 rfl) ?_
      refine xa_ps F hZ.1 hj dX0_forward_100 ?_
      refine lv_aload_n hx hb dX0_forward_101 rfl (lv_at hl 1 rfl) ?_
      refine xg_si F hZ.1 dX0_forward_102 ?_
      refine lv_iconst (v := (-1)) hx hb dX0_forward_105 (by decide) ?_
      refine lv_ixor hx hb dX0_forward_106 ?_
      refine lv_iand hx hb dX0_forward_107 ?_
      refine lv_istore_n (lv' := [(3, .int ((ps j) &&& (si ^^^ (-1)))), (2, .int 1), (0, .ref (q 0)), (1, .int (nI j))]) hx hb dX0_forward_108 rfl hl (by decide) rfl (fun ls hl => ?_)
      refine lv_aload_n hx hb dX0_forward_109 rfl (lv_at hl 2 rfl) ?_
      refine xg_ng F hZ.1 dX0_forward_110 ?_
      refine lv_iload_n hx hb dX0_forward_113 rfl (lv_at hl 3 rfl) ?_
      refine xa_ng F hZ.1 hj dX0_forward_114 ?_
      refine lv_aload_n hx hb dX0_forward_115 rfl (lv_at hl 2 rfl) ?_
      refine xg_so F hZ.1 dX0_forward_116 ?_
      refine lv_iconst (v := (-1)) hx hb dX0_forward_119 (by decide) ?_
      refine lv_ixor hx hb dX0_forward_120 ?_
      refine lv_iand hx hb dX0_forward_121 ?_
      refine lv_istore (lv' := [(4, .int ((ng j) &&& (so ^^^ (-1)))), (3, .int ((ps j) &&& (si ^^^ (-1)))), (2, .int 1), (0, .ref (q 0)), (1, .int (nI j))]) hx hb dX0_forward_122 hl (by decide) rfl (fun ls hl => ?_)
      refine lv_iload_n hx hb dX0_forward_124 rfl (lv_at hl 2 rfl) ?_
      refine lv_if_eq (tgt := 161) hx hb dX0_forward_125 (by decide) (fun c9 => absurd c9 (by decide)) (fun _ => ?_)
      refine lv_aload_n hx hb dX0_forward_128 rfl (lv_at hl 3 rfl) ?_
      refine lv_iload_n hx hb dX0_forward_129 rfl (lv_at hl 4 rfl) ?_
      refine kx_bodyFails F hZ.1 hj hl.1 ⟨Nat.le_of_ble_eq_true rfl, Nat.le_of_ble_eq_true rfl⟩ (Nat.le_of_ble_eq_true rfl) dX0_forward_130 ?_
      refine lv_if_ne (tgt := 161) hx hb dX0_forward_133 (by decide) (fun c_3 => ?_) (fun c_3 => ?_)
      · skip
        exact hret (si, so, br, mv) dX0_forward_161 (by simp only [fwd, fwS, fwH, if_pos c_1, if_pos c_2, if_neg c_3]) hZ
      · skip
        refine lv_iload_n hx hb dX0_forward_136 rfl (lv_at hl 1 rfl) ?_
        refine kx_ones F.1 hl.1 ⟨Nat.le_of_ble_eq_true rfl, Nat.le_of_ble_eq_true rfl⟩ (Nat.le_of_ble_eq_true rfl) dX0_forward_137 ?_
        refine lv_iload hx hb dX0_forward_140 (lv_at hl 0 rfl) ?_
        refine kx_ones F.1 hl.1 ⟨Nat.le_of_ble_eq_true rfl, Nat.le_of_ble_eq_true rfl⟩ (Nat.le_of_ble_eq_true rfl) dX0_forward_142 ?_
        refine lv_iadd hx hb dX0_forward_145 ?_
        refine lv_iconst (v := 1) hx hb dX0_forward_146 (by decide) ?_
        refine lv_icmp_ne (tgt := 161) hx hb dX0_forward_147 (by decide) (fun c_4 => ?_) (fun c_4 => ?_)
        · skip
          exact hret (si, so, br, mv) dX0_forward_161 (by simp only [fwd, fwS, fwH, if_pos c_1, if_pos c_2, if_pos c_3, if_neg c_4]) hZ
        · skip
          refine lv_aload_n hx hb dX0_forward_150 rfl (lv_at hl 3 rfl) ?_
          refine lv_iload_n hx hb dX0_forward_151 rfl (lv_at hl 1 rfl) ?_
          refine kx_putOut F hZ hl.1 ⟨Nat.le_of_ble_eq_true rfl, Nat.le_of_ble_eq_true rfl⟩ (Nat.le_of_ble_eq_true rfl) dX0_forward_152 (fun i5 o5 b5 m5 H locs hu5 hZ => ?_)
          refine lv_aload_n hx hb dX0_forward_155 rfl (lv_at hl 3 rfl) ?_
          refine lv_iload hx hb dX0_forward_156 (lv_at hl 0 rfl) ?_
          refine kx_putIn F hZ hl.1 ⟨Nat.le_of_ble_eq_true rfl, Nat.le_of_ble_eq_true rfl⟩ (Nat.le_of_ble_eq_true rfl) dX0_forward_158 (fun i6 o6 b6 m6 H locs hu6 hZ => ?_)
          exact hret (i6, o6, b6, m6) dX0_forward_161 (by simp only [fwd, fwS, fwH, if_pos c_1, if_pos c_2, if_pos c_3, if_pos c_4]; rw [← hu5]; exact hu6) hZ
    · skip
      refine lv_aload_n hx hb dX0_forward_64 rfl (lv_at hl 0 rfl) ?_
      refine xg_kd F hZ.1 dX0_forward_65 ?_
      refine lv_iload_n hx hb dX0_forward_68 rfl (lv_at hl 1 rfl) ?_
      refine xa_kd F hZ.1 hj dX0_forward_69 ?_
      refine lv_if_ne (tgt := 93) hx hb dX0_forward_70 (by decide) (fun c_7 => ?_) (fun c_7 => ?_)
      · skip
        refine lv_iconst (v := 0) hx hb dX0_forward_93 (by decide) ?_
        refine lv_istore_n (lv' := [(2, .int 0), (0, .ref (q 0)), (1, .int (nI j))]) hx hb dX0_forward_94 rfl hl (by decide) rfl (fun ls hl => ?_)
        refine lv_aload_n hx hb dX0_forward_95 rfl (lv_at hl 1 rfl) ?_
        refine xg_ps F hZ.1 dX0_forward_96 ?_
        refine lv_iload_n hx hb dX0_forward_99 rfl (lv_at hl 2 rfl) ?_
        refine xa_ps F hZ.1 hj dX0_forward_100 ?_
        refine lv_aload_n hx hb dX0_forward_101 rfl (lv_at hl 1 rfl) ?_
        refine xg_si F hZ.1 dX0_forward_102 ?_
        refine lv_iconst (v := (-1)) hx hb dX0_forward_105 (by decide) ?_
        refine lv_ixor hx hb dX0_forward_106 ?_
        refine lv_iand hx hb dX0_forward_107 ?_
        refine lv_istore_n (lv' := [(3, .int ((ps j) &&& (si ^^^ (-1)))), (2, .int 0), (0, .ref (q 0)), (1, .int (nI j))]) hx hb dX0_forward_108 rfl hl (by decide) rfl (fun ls hl => ?_)
        refine lv_aload_n hx hb dX0_forward_109 rfl (lv_at hl 2 rfl) ?_
        refine xg_ng F hZ.1 dX0_forward_110 ?_
        refine lv_iload_n hx hb dX0_forward_113 rfl (lv_at hl 3 rfl) ?_
        refine xa_ng F hZ.1 hj dX0_forward_114 ?_
        refine lv_aload_n hx hb dX0_forward_115 rfl (lv_at hl 2 rfl) ?_
        refine xg_so F hZ.1 dX0_forward_116 ?_
        refine lv_iconst (v := (-1)) hx hb dX0_forward_119 (by decide) ?_
        refine lv_ixor hx hb dX0_forward_120 ?_
        refine lv_iand hx hb dX0_forward_121 ?_
        refine lv_istore (lv' := [(4, .int ((ng j) &&& (so ^^^ (-1)))), (3, .int ((ps j) &&& (si ^^^ (-1)))), (2, .int 0), (0, .ref (q 0)), (1, .int (nI j))]) hx hb dX0_forward_122 hl (by decide) rfl (fun ls hl => ?_)
        refine lv_iload_n hx hb dX0_forward_124 rfl (lv_at hl 2 rfl) ?_
        refine lv_if_eq (tgt := 161) hx hb dX0_forward_125 (by decide) (fun _ => ?_) (fun c9 => absurd (by decide) c9)
        exact hret (si, so, br, mv) dX0_forward_161 (by simp only [fwd, fwS, fwH, if_pos c_1, if_neg c_2, if_neg c_7]) hZ
      · skip
        refine lv_aload_n hx hb dX0_forward_73 rfl (lv_at hl 0 rfl) ?_
        refine xg_so F hZ.1 dX0_forward_74 ?_
        refine lv_aload_n hx hb dX0_forward_77 rfl (lv_at hl 0 rfl) ?_
        refine xg_hd F hZ.1 dX0_forward_78 ?_
        refine lv_iload_n hx hb dX0_forward_81 rfl (lv_at hl 1 rfl) ?_
        refine xa_hd F hZ.1 hj dX0_forward_82 ?_
        refine lv_ishr hx hb dX0_forward_83 ?_
        refine lv_iconst (v := 1) hx hb dX0_forward_84 (by decide) ?_
        refine lv_iand hx hb dX0_forward_85 ?_
        refine lv_if_eq (tgt := 93) hx hb dX0_forward_86 (by decide) (fun c_8 => ?_) (fun c_8 => ?_)
        · skip
          refine lv_iconst (v := 0) hx hb dX0_forward_93 (by decide) ?_
          refine lv_istore_n (lv' := [(2, .int 0), (0, .ref (q 0)), (1, .int (nI j))]) hx hb dX0_forward_94 rfl hl (by decide) rfl (fun ls hl => ?_)
          refine lv_aload_n hx hb dX0_forward_95 rfl (lv_at hl 1 rfl) ?_
          refine xg_ps F hZ.1 dX0_forward_96 ?_
          refine lv_iload_n hx hb dX0_forward_99 rfl (lv_at hl 2 rfl) ?_
          refine xa_ps F hZ.1 hj dX0_forward_100 ?_
          refine lv_aload_n hx hb dX0_forward_101 rfl (lv_at hl 1 rfl) ?_
          refine xg_si F hZ.1 dX0_forward_102 ?_
          refine lv_iconst (v := (-1)) hx hb dX0_forward_105 (by decide) ?_
          refine lv_ixor hx hb dX0_forward_106 ?_
          refine lv_iand hx hb dX0_forward_107 ?_
          refine lv_istore_n (lv' := [(3, .int ((ps j) &&& (si ^^^ (-1)))), (2, .int 0), (0, .ref (q 0)), (1, .int (nI j))]) hx hb dX0_forward_108 rfl hl (by decide) rfl (fun ls hl => ?_)
          refine lv_aload_n hx hb dX0_forward_109 rfl (lv_at hl 2 rfl) ?_
          refine xg_ng F hZ.1 dX0_forward_110 ?_
          refine lv_iload_n hx hb dX0_forward_113 rfl (lv_at hl 3 rfl) ?_
          refine xa_ng F hZ.1 hj dX0_forward_114 ?_
          refine lv_aload_n hx hb dX0_forward_115 rfl (lv_at hl 2 rfl) ?_
          refine xg_so F hZ.1 dX0_forward_116 ?_
          refine lv_iconst (v := (-1)) hx hb dX0_forward_119 (by decide) ?_
          refine lv_ixor hx hb dX0_forward_120 ?_
          refine lv_iand hx hb dX0_forward_121 ?_
          refine lv_istore (lv' := [(4, .int ((ng j) &&& (so ^^^ (-1)))), (3, .int ((ps j) &&& (si ^^^ (-1)))), (2, .int 0), (0, .ref (q 0)), (1, .int (nI j))]) hx hb dX0_forward_122 hl (by decide) rfl (fun ls hl => ?_)
          refine lv_iload_n hx hb dX0_forward_124 rfl (lv_at hl 2 rfl) ?_
          refine lv_if_eq (tgt := 161) hx hb dX0_forward_125 (by decide) (fun _ => ?_) (fun c9 => absurd (by decide) c9)
          exact hret (si, so, br, mv) dX0_forward_161 (by simp only [fwd, fwS, fwH, if_pos c_1, if_neg c_2, if_pos c_7, if_pos c_8]) hZ
        · skip
          refine lv_iconst (v := 1) hx hb dX0_forward_89 (by decide) ?_
          refine lv_goto (tgt := 94) hx hb dX0_forward_90 (by decide) ?_
          refine lv_istore_n (lv' := [(2, .int 1), (0, .ref (q 0)), (1, .int (nI j))]) hx hb dX0_forward_94 rfl hl (by decide) rfl (fun ls hl => ?_)
          refine lv_aload_n hx hb dX0_forward_95 rfl (lv_at hl 1 rfl) ?_
          refine xg_ps F hZ.1 dX0_forward_96 ?_
          refine lv_iload_n hx hb dX0_forward_99 rfl (lv_at hl 2 rfl) ?_
          refine xa_ps F hZ.1 hj dX0_forward_100 ?_
          refine lv_aload_n hx hb dX0_forward_101 rfl (lv_at hl 1 rfl) ?_
          refine xg_si F hZ.1 dX0_forward_102 ?_
          refine lv_iconst (v := (-1)) hx hb dX0_forward_105 (by decide) ?_
          refine lv_ixor hx hb dX0_forward_106 ?_
          refine lv_iand hx hb dX0_forward_107 ?_
          refine lv_istore_n (lv' := [(3, .int ((ps j) &&& (si ^^^ (-1)))), (2, .int 1), (0, .ref (q 0)), (1, .int (nI j))]) hx hb dX0_forward_108 rfl hl (by decide) rfl (fun ls hl => ?_)
          refine lv_aload_n hx hb dX0_forward_109 rfl (lv_at hl 2 rfl) ?_
          refine xg_ng F hZ.1 dX0_forward_110 ?_
          refine lv_iload_n hx hb dX0_forward_113 rfl (lv_at hl 3 rfl) ?_
          refine xa_ng F hZ.1 hj dX0_forward_114 ?_
          refine lv_aload_n hx hb dX0_forward_115 rfl (lv_at hl 2 rfl) ?_
          refine xg_so F hZ.1 dX0_forward_116 ?_
          refine lv_iconst (v := (-1)) hx hb dX0_forward_119 (by decide) ?_
          refine lv_ixor hx hb dX0_forward_120 ?_
          refine lv_iand hx hb dX0_forward_121 ?_
          refine lv_istore (lv' := [(4, .int ((ng j) &&& (so ^^^ (-1)))), (3, .int ((ps j) &&& (si ^^^ (-1)))), (2, .int 1), (0, .ref (q 0)), (1, .int (nI j))]) hx hb dX0_forward_122 hl (by decide) rfl (fun ls hl => ?_)
          refine lv_iload_n hx hb dX0_forward_124 rfl (lv_at hl 2 rfl) ?_
          refine lv_if_eq (tgt := 161) hx hb dX0_forward_125 (by decide) (fun c9 => absurd c9 (by decide)) (fun _ => ?_)
          refine lv_aload_n hx hb dX0_forward_128 rfl (lv_at hl 3 rfl) ?_
          refine lv_iload_n hx hb dX0_forward_129 rfl (lv_at hl 4 rfl) ?_
          refine kx_bodyFails F hZ.1 hj hl.1 ⟨Nat.le_of_ble_eq_true rfl, Nat.le_of_ble_eq_true rfl⟩ (Nat.le_of_ble_eq_true rfl) dX0_forward_130 ?_
          refine lv_if_ne (tgt := 161) hx hb dX0_forward_133 (by decide) (fun c_9 => ?_) (fun c_9 => ?_)
          · skip
            exact hret (si, so, br, mv) dX0_forward_161 (by simp only [fwd, fwS, fwH, if_pos c_1, if_neg c_2, if_pos c_7, if_neg c_8, if_neg c_9]) hZ
          · skip
            refine lv_iload_n hx hb dX0_forward_136 rfl (lv_at hl 1 rfl) ?_
            refine kx_ones F.1 hl.1 ⟨Nat.le_of_ble_eq_true rfl, Nat.le_of_ble_eq_true rfl⟩ (Nat.le_of_ble_eq_true rfl) dX0_forward_137 ?_
            refine lv_iload hx hb dX0_forward_140 (lv_at hl 0 rfl) ?_
            refine kx_ones F.1 hl.1 ⟨Nat.le_of_ble_eq_true rfl, Nat.le_of_ble_eq_true rfl⟩ (Nat.le_of_ble_eq_true rfl) dX0_forward_142 ?_
            refine lv_iadd hx hb dX0_forward_145 ?_
            refine lv_iconst (v := 1) hx hb dX0_forward_146 (by decide) ?_
            refine lv_icmp_ne (tgt := 161) hx hb dX0_forward_147 (by decide) (fun c_10 => ?_) (fun c_10 => ?_)
            · skip
              exact hret (si, so, br, mv) dX0_forward_161 (by simp only [fwd, fwS, fwH, if_pos c_1, if_neg c_2, if_pos c_7, if_neg c_8, if_pos c_9, if_neg c_10]) hZ
            · skip
              refine lv_aload_n hx hb dX0_forward_150 rfl (lv_at hl 3 rfl) ?_
              refine lv_iload_n hx hb dX0_forward_151 rfl (lv_at hl 1 rfl) ?_
              refine kx_putOut F hZ hl.1 ⟨Nat.le_of_ble_eq_true rfl, Nat.le_of_ble_eq_true rfl⟩ (Nat.le_of_ble_eq_true rfl) dX0_forward_152 (fun i11 o11 b11 m11 H locs hu11 hZ => ?_)
              refine lv_aload_n hx hb dX0_forward_155 rfl (lv_at hl 3 rfl) ?_
              refine lv_iload hx hb dX0_forward_156 (lv_at hl 0 rfl) ?_
              refine kx_putIn F hZ hl.1 ⟨Nat.le_of_ble_eq_true rfl, Nat.le_of_ble_eq_true rfl⟩ (Nat.le_of_ble_eq_true rfl) dX0_forward_158 (fun i12 o12 b12 m12 H locs hu12 hZ => ?_)
              exact hret (i12, o12, b12, m12) dX0_forward_161 (by simp only [fwd, fwS, fwH, if_pos c_1, if_neg c_2, if_pos c_7, if_neg c_8, if_pos c_9, if_pos c_10]; rw [← hu11]; exact hu12) hZ
  · skip
    refine lv_aload_n hx hb dX0_forward_8 rfl (lv_at hl 0 rfl) ?_
    refine xg_kd F hZ.1 dX0_forward_9 ?_
    refine lv_iload_n hx hb dX0_forward_12 rfl (lv_at hl 1 rfl) ?_
    refine xa_kd F hZ.1 hj dX0_forward_13 ?_
    refine lv_if_ne (tgt := 29) hx hb dX0_forward_14 (by decide) (fun c_13 => ?_) (fun c_13 => ?_)
    · skip
      refine lv_aload_n hx hb dX0_forward_29 rfl (lv_at hl 0 rfl) ?_
      refine lv_dup hx hb dX0_forward_30 rfl ?_
      refine xg_br F hZ.1 dX0_forward_31 ?_
      refine lv_aload_n hx hb dX0_forward_34 rfl (lv_at hl 0 rfl) ?_
      refine xg_kd F hZ.1 dX0_forward_35 ?_
      refine lv_iload_n hx hb dX0_forward_38 rfl (lv_at hl 1 rfl) ?_
      refine xa_kd F hZ.1 hj dX0_forward_39 ?_
      refine lv_iconst (v := 2) hx hb dX0_forward_40 (by decide) ?_
      refine lv_icmp_ne (tgt := 48) hx hb dX0_forward_41 (by decide) (fun c_14 => ?_) (fun c_14 => ?_)
      · skip
        refine lv_iconst (v := 0) hx hb dX0_forward_48 (by decide) ?_
        refine lv_ior hx hb dX0_forward_49 ?_
        refine xp_br F hZ (B := br) (b2i_or0 _) dX0_forward_50 (fun H locs hZ => ?_)
        exact hret (si, so, br, mv) dX0_forward_53 (by simp only [fwd, fwS, fwH, if_neg c_1, if_neg c_13, if_neg c_14]) hZ
      · skip
        refine lv_iconst (v := 1) hx hb dX0_forward_44 (by decide) ?_
        refine lv_goto (tgt := 49) hx hb dX0_forward_45 (by decide) ?_
        refine lv_ior hx hb dX0_forward_49 ?_
        refine xp_br F hZ (B := true) (b2i_or1 _) dX0_forward_50 (fun H locs hZ => ?_)
        exact hret (si, so, true, mv) dX0_forward_53 (by simp only [fwd, fwS, fwH, if_neg c_1, if_neg c_13, if_pos c_14]) hZ
    · skip
      refine lv_aload_n hx hb dX0_forward_17 rfl (lv_at hl 0 rfl) ?_
      refine lv_iconst (v := 1) hx hb dX0_forward_18 (by decide) ?_
      refine lv_aload_n hx hb dX0_forward_19 rfl (lv_at hl 0 rfl) ?_
      refine xg_hd F hZ.1 dX0_forward_20 ?_
      refine lv_iload_n hx hb dX0_forward_23 rfl (lv_at hl 1 rfl) ?_
      refine xa_hd F hZ.1 hj dX0_forward_24 ?_
      refine lv_ishl hx hb dX0_forward_25 ?_
      refine kx_putIn F hZ hl.1 ⟨Nat.le_of_ble_eq_true rfl, Nat.le_of_ble_eq_true rfl⟩ (Nat.le_of_ble_eq_true rfl) dX0_forward_26 (fun i15 o15 b15 m15 H locs hu15 hZ => ?_)
      refine lv_aload_n hx hb dX0_forward_29 rfl (lv_at hl 0 rfl) ?_
      refine lv_dup hx hb dX0_forward_30 rfl ?_
      refine xg_br F hZ.1 dX0_forward_31 ?_
      refine lv_aload_n hx hb dX0_forward_34 rfl (lv_at hl 0 rfl) ?_
      refine xg_kd F hZ.1 dX0_forward_35 ?_
      refine lv_iload_n hx hb dX0_forward_38 rfl (lv_at hl 1 rfl) ?_
      refine xa_kd F hZ.1 hj dX0_forward_39 ?_
      refine lv_iconst (v := 2) hx hb dX0_forward_40 (by decide) ?_
      refine lv_icmp_ne (tgt := 48) hx hb dX0_forward_41 (by decide) (fun _ => ?_) (fun c9 => absurd c9 (by rw [c_13]; decide))
      refine lv_iconst (v := 0) hx hb dX0_forward_48 (by decide) ?_
      refine lv_ior hx hb dX0_forward_49 ?_
      refine xp_br F hZ (B := b15) (b2i_or0 _) dX0_forward_50 (fun H locs hZ => ?_)
      exact hret (i15, o15, b15, m15) dX0_forward_53 (by simp only [fwd, fwS, fwH, if_neg c_1, if_pos c_13]; exact hu15) hZ
theorem kx_forward {j : Nat} (F : Fx RX0 D dB dZ dJ p m c cc nL s args) (hZ : XS D A s (XW dB q pr kd hd ps ng si so br mv li lo la lt kn ms) H locs) (hj : j < 10) (hsz : ls.size = nL) (hR : rx_forward.frames + 1 ≤ R.frames ∧ 8 + (5 + 11) + rx_forward.locals ≤ R.locals) (hroom : (rest.map fun v => v.category).sum ≤ 8) (hdg : decode cc pc = .ok (.invokevirtual 65, 3)) (kk : ∀ (i1 o1 : Int32) (b1 m1 : Bool) (H1 : Heap) (locs1 : List Loc), (i1, o1, b1, m1) = fwd kd hd ps ng j si so br mv → XS D A s (XW dB q pr kd hd ps ng i1 o1 b1 m1 li lo la lt kn ms) H1 locs1 → W p l e R s m args below meth c H1 locs1 0 0 Q (F0 m (pc + 3) ls rest)) : W p l e R s m args below meth c H locs 0 0 Q (F0 m pc ls (.int (nI j) :: .ref (q 0) :: rest)) :=
  cl_V (q0 := 0) (ci := 0) (n := 1) (As := [.int (nI j)]) F hZ (cx_forward l D dB dZ dJ q pr kd hd ps ng si so br mv li lo la lt kn ms j hj) (fun _ => rfl) rfl rfl (lw_V q116 q118 qs4 q20 q119) (by decide +kernel) rfl ⟨rfl, rfl⟩ hR hsz rfl hroom hdg ⟨Nat.zero_le _, Nat.zero_le _⟩ (fun u H1 locs1 hu hZ => kk u.1 u.2.1 u.2.2.1 u.2.2.2 H1 locs1 hu hZ)
theorem bwL_le (f : Nat → Bool) : ∀ j, (bwL f j).1 ≤ j
  | 0 => Nat.le_refl 0
  | j + 1 => by
    rw [bwL]
    split
    · exact Nat.succ_le_succ (bwL_le f j)
    · exact Nat.le_succ_of_le (bwL_le f j)
theorem bwL_in (f : Nat → Bool) : ∀ j, (bwL f j).1 ≠ 0 → (bwL f j).2 < j
  | 0 => fun h => absurd rfl h
  | j + 1 => by
    rw [bwL]
    split
    · exact fun _ => Nat.lt_succ_self j
    · exact fun h => Nat.lt_succ_of_lt (bwL_in f j h)
theorem bw_is {f : Nat → Bool} {x : Int32} {k : Nat} (e : x = nI (bwL f 10).1) (hk : k ≤ 10) : x = nI k ↔ (bwL f 10).1 = k := by
  have := bwL_le f 10
  rw [e]
  exact nI_eq (by omega) (by omega)
abbrev rx_backward : Room := { frames := 1, cells := 0, slots := 0, locals := 21 }
set_option maxHeartbeats 4000000 in
set_option maxRecDepth 100000 in
theorem cx_backward (l : Launch) (D : va_G) (dB dZ dJ : ClassId) (q : Nat → Nat) (pr : Int32) (kd hd ps ng : Nat → Int32) (si so : Int32) (br mv : Bool) (li lo la lt : Nat → Int32) (kn : Bool) (ms : Int64) (a : Nat) : MVd l yX0_backward (ws_ yX0_backward cX0_backward 5 none) rx_backward D dB dZ dJ [.ref (q 0), .int (nI a)] (XW dB q pr kd hd ps ng si so br mv li lo la lt kn ms) (fun u : Q4 => u = bwd pr kd hd ps ng a si so br mv) (fun u : Q4 => XW dB q pr kd hd ps ng u.1 u.2.1 u.2.2.1 u.2.2.2 li lo la lt kn ms) := by
  refine MVd.of (by decide) (Nat.le_of_ble_eq_true rfl) (fun p e s m args below meth c Q A F hZ hret ls hl => ?_)
  obtain ⟨hx, hb, hml, hown, hts⟩ := id F.1
  have hl : lv_has ls 5 [(0, .ref (q 0)), (1, .int (nI a))] := hl
  refine lv_aload_n hx hb dX0_backward_0 rfl (lv_at hl 0 rfl) ?_
  refine xg_si F hZ.1 dX0_backward_1 ?_
  refine lv_iload_n hx hb dX0_backward_4 rfl (lv_at hl 1 rfl) ?_
  refine lv_ishr hx hb dX0_backward_5 ?_
  refine lv_iconst (v := 1) hx hb dX0_backward_6 (by decide) ?_
  refine lv_iand hx hb dX0_backward_7 ?_
  refine lv_if_ne (tgt := 12) hx hb dX0_backward_8 (by decide) (fun c_1 => ?_) (fun c_1 => ?_)
  · skip
    refine lv_iconst (v := (-1)) hx hb dX0_backward_12 (by decide) ?_
    refine lv_istore_n (lv' := [(2, .int (-1)), (0, .ref (q 0)), (1, .int (nI a))]) hx hb dX0_backward_13 rfl hl (by decide) rfl (fun ls hl => ?_)
    refine lv_iconst (v := 0) hx hb dX0_backward_14 (by decide) ?_
    refine lv_istore_n (lv' := [(3, .int 0), (2, .int (-1)), (0, .ref (q 0)), (1, .int (nI a))]) hx hb dX0_backward_15 rfl hl (by decide) rfl (fun ls hl => ?_)
    refine lv_iconst (v := 0) hx hb dX0_backward_16 (by decide) ?_
    refine lv_istore (lv' := [(4, .int 0), (3, .int 0), (2, .int (-1)), (0, .ref (q 0)), (1, .int (nI a))]) hx hb dX0_backward_17 hl (by decide) rfl (fun ls hl => ?_)
    have lp19 : ∀ (nf j : Nat) (x2 : Int32) (x3 : Int32), j ≤ 10 → 10 < j + nf → x3 = nI (bwL (bokI pr kd hd ps ng si so a) j).1 → x2 = (if (bwL (bokI pr kd hd ps ng si so a) j).1 = 0 then -1 else nI (bwL (bokI pr kd hd ps ng si so a) j).2) → ∀ (H : Heap) (locs : List Loc), XS D A s (XW dB q pr kd hd ps ng si so br mv li lo la lt kn ms) H locs → ∀ (ls : Array Slot), lv_has ls 5 [(0, .ref (q 0)), (1, .int (nI a)), (2, .int x2), (3, .int x3), (4, .int (nI j))] → W p l e rx_backward s m args below meth c H locs 0 0 Q (F0 m 19 ls []) := by
      intro nf
      induction nf with
      | zero =>
        intro j x2 x3 h1 h2
        exact absurd h2 (by omega)
      | succ nf ih19 =>
        intro j x2 x3 hj0 hjn ej0 ej1 H locs hZ ls hl
        refine lv_iload hx hb dX0_backward_19 (lv_at hl 4 rfl) ?_
        refine lv_bipush (v := 10) hx hb dX0_backward_21 (by decide) ?_
        refine lv_icmp_ge (tgt := 78) hx hb dX0_backward_23 (by decide) (fun c_2 => ?_) (fun c_2 => ?_)
        · skip
          have hj : j = 10 := lp_ge (N := 10) (by decide) hj0 c_2
          subst hj
          refine lv_iload_n hx hb dX0_backward_78 rfl (lv_at hl 3 rfl) ?_
          refine lv_if_ne (tgt := 90) hx hb dX0_backward_79 (by decide) (fun c_3 => ?_) (fun c_3 => ?_)
          · skip
            refine lv_iload_n hx hb dX0_backward_90 rfl (lv_at hl 3 rfl) ?_
            refine lv_iconst (v := 1) hx hb dX0_backward_91 (by decide) ?_
            refine lv_icmp_ne (tgt := 115) hx hb dX0_backward_92 (by decide) (fun c_4 => ?_) (fun c_4 => ?_)
            · skip
              exact hret (si, so, br, mv) dX0_backward_115 (by rw [bwd, if_neg c_1, if_neg (fun h => c_3 ((bw_is (k := 0) ej0 (by decide)).mpr h)), if_neg (fun h => c_4 ((bw_is (k := 1) ej0 (by decide)).mpr h))]) hZ
            · skip
              have hct : (bwL (bokI pr kd hd ps ng si so a) 10).1 = 1 := (bw_is ej0 (by decide)).mp c_4
              have hlt : (bwL (bokI pr kd hd ps ng si so a) 10).2 < 10 := bwL_in _ 10 (by rw [hct]; decide)
              have hx2 : x2 = nI (bwL (bokI pr kd hd ps ng si so a) 10).2 := by rw [ej1, if_neg (by rw [hct]; decide)]
              subst hx2
              refine lv_aload_n hx hb dX0_backward_95 rfl (lv_at hl 0 rfl) ?_
              refine lv_aload_n hx hb dX0_backward_96 rfl (lv_at hl 0 rfl) ?_
              refine xg_ps F hZ.1 dX0_backward_97 ?_
              refine lv_iload_n hx hb dX0_backward_100 rfl (lv_at hl 2 rfl) ?_
              refine xa_ps F hZ.1 hlt dX0_backward_101 ?_
              refine kx_putIn F hZ hl.1 ⟨Nat.le_of_ble_eq_true rfl, Nat.le_of_ble_eq_true rfl⟩ (Nat.le_of_ble_eq_true rfl) dX0_backward_102 (fun i5 o5 b5 m5 H locs hu5 hZ => ?_)
              refine lv_aload_n hx hb dX0_backward_105 rfl (lv_at hl 0 rfl) ?_
              refine lv_aload_n hx hb dX0_backward_106 rfl (lv_at hl 0 rfl) ?_
              refine xg_ng F hZ.1 dX0_backward_107 ?_
              refine lv_iload_n hx hb dX0_backward_110 rfl (lv_at hl 2 rfl) ?_
              refine xa_ng F hZ.1 hlt dX0_backward_111 ?_
              refine kx_putOut F hZ hl.1 ⟨Nat.le_of_ble_eq_true rfl, Nat.le_of_ble_eq_true rfl⟩ (Nat.le_of_ble_eq_true rfl) dX0_backward_112 (fun i6 o6 b6 m6 H locs hu6 hZ => ?_)
              exact hret (i6, o6, b6, m6) dX0_backward_115 (by rw [bwd, if_neg c_1, if_neg (fun h => c_3 ((bw_is (k := 0) ej0 (by decide)).mpr h)), if_pos hct]; rw [← hu5]; exact hu6) hZ
          · skip
            refine lv_aload_n hx hb dX0_backward_82 rfl (lv_at hl 0 rfl) ?_
            refine lv_iconst (v := 1) hx hb dX0_backward_83 (by decide) ?_
            refine xp_br F hZ (B := true) rfl dX0_backward_84 (fun H locs hZ => ?_)
            refine lv_goto (tgt := 115) hx hb dX0_backward_87 (by decide) ?_
            exact hret (si, so, true, mv) dX0_backward_115 (by rw [bwd, if_neg c_1, if_pos ((bw_is (k := 0) ej0 (by decide)).mp c_3)]) hZ
        · skip
          have hj : j < 10 := lp_lt (N := 10) (by decide) hj0 c_2
          refine lv_aload_n hx hb dX0_backward_26 rfl (lv_at hl 0 rfl) ?_
          refine lv_iload hx hb dX0_backward_27 (lv_at hl 4 rfl) ?_
          refine kx_has F hZ.1 hl.1 ⟨Nat.le_of_ble_eq_true rfl, Nat.le_of_ble_eq_true rfl⟩ (Nat.le_of_ble_eq_true rfl) dX0_backward_29 ?_
          refine lv_if_eq (tgt := 72) hx hb dX0_backward_32 (by decide) (fun c_7 => ?_) (fun c_7 => ?_)
          · skip
            refine lv_incN (k := 4) (lv' := [(4, .int (nI (j + 1))), (0, .ref (q 0)), (1, .int (nI a)), (2, .int x2), (3, .int x3)]) hx hb dX0_backward_72 hl rfl (by decide) rfl (fun ls hl => ?_)
            refine lv_goto (tgt := 19) hx hb dX0_backward_75 (by decide) ?_
            exact ih19 (j + 1) x2 x3 (by omega) (by omega) (by rw [bwL, if_neg (show ¬ bokI pr kd hd ps ng si so a j = true by simp [bokI, if_neg c_1, if_pos c_7])]; exact ej0) (by rw [bwL, if_neg (show ¬ bokI pr kd hd ps ng si so a j = true by simp [bokI, if_neg c_1, if_pos c_7])]; exact ej1) _ _ hZ ls (lv_sub hl [1, 2, 3, 4, 0] rfl)
          · skip
            refine lv_aload_n hx hb dX0_backward_35 rfl (lv_at hl 0 rfl) ?_
            refine xg_kd F hZ.1 dX0_backward_36 ?_
            refine lv_iload hx hb dX0_backward_39 (lv_at hl 4 rfl) ?_
            refine xa_kd F hZ.1 hj dX0_backward_41 ?_
            refine lv_iconst (v := 2) hx hb dX0_backward_42 (by decide) ?_
            refine lv_icmp_eq (tgt := 72) hx hb dX0_backward_43 (by decide) (fun c_8 => ?_) (fun c_8 => ?_)
            · skip
              refine lv_incN (k := 4) (lv' := [(4, .int (nI (j + 1))), (0, .ref (q 0)), (1, .int (nI a)), (2, .int x2), (3, .int x3)]) hx hb dX0_backward_72 hl rfl (by decide) rfl (fun ls hl => ?_)
              refine lv_goto (tgt := 19) hx hb dX0_backward_75 (by decide) ?_
              exact ih19 (j + 1) x2 x3 (by omega) (by omega) (by rw [bwL, if_neg (show ¬ bokI pr kd hd ps ng si so a j = true by simp [bokI, if_neg c_1, if_neg c_7, if_pos c_8])]; exact ej0) (by rw [bwL, if_neg (show ¬ bokI pr kd hd ps ng si so a j = true by simp [bokI, if_neg c_1, if_neg c_7, if_pos c_8])]; exact ej1) _ _ hZ ls (lv_sub hl [1, 2, 3, 4, 0] rfl)
            · skip
              refine lv_aload_n hx hb dX0_backward_46 rfl (lv_at hl 0 rfl) ?_
              refine xg_hd F hZ.1 dX0_backward_47 ?_
              refine lv_iload hx hb dX0_backward_50 (lv_at hl 4 rfl) ?_
              refine xa_hd F hZ.1 hj dX0_backward_52 ?_
              refine lv_iload_n hx hb dX0_backward_53 rfl (lv_at hl 1 rfl) ?_
              refine lv_icmp_ne (tgt := 72) hx hb dX0_backward_54 (by decide) (fun c_9 => ?_) (fun c_9 => ?_)
              · skip
                refine lv_incN (k := 4) (lv' := [(4, .int (nI (j + 1))), (0, .ref (q 0)), (1, .int (nI a)), (2, .int x2), (3, .int x3)]) hx hb dX0_backward_72 hl rfl (by decide) rfl (fun ls hl => ?_)
                refine lv_goto (tgt := 19) hx hb dX0_backward_75 (by decide) ?_
                exact ih19 (j + 1) x2 x3 (by omega) (by omega) (by rw [bwL, if_neg (show ¬ bokI pr kd hd ps ng si so a j = true by simp [bokI, if_neg c_1, if_neg c_7, if_neg c_8, if_neg c_9])]; exact ej0) (by rw [bwL, if_neg (show ¬ bokI pr kd hd ps ng si so a j = true by simp [bokI, if_neg c_1, if_neg c_7, if_neg c_8, if_neg c_9])]; exact ej1) _ _ hZ ls (lv_sub hl [1, 2, 3, 4, 0] rfl)
              · skip
                refine lv_aload_n hx hb dX0_backward_57 rfl (lv_at hl 0 rfl) ?_
                refine lv_iload hx hb dX0_backward_58 (lv_at hl 4 rfl) ?_
                refine kx_bodyFails F hZ.1 hj hl.1 ⟨Nat.le_of_ble_eq_true rfl, Nat.le_of_ble_eq_true rfl⟩ (Nat.le_of_ble_eq_true rfl) dX0_backward_60 ?_
                refine lv_if_ne (tgt := 72) hx hb dX0_backward_63 (by decide) (fun c_10 => ?_) (fun c_10 => ?_)
                · skip
                  refine lv_incN (k := 4) (lv' := [(4, .int (nI (j + 1))), (0, .ref (q 0)), (1, .int (nI a)), (2, .int x2), (3, .int x3)]) hx hb dX0_backward_72 hl rfl (by decide) rfl (fun ls hl => ?_)
                  refine lv_goto (tgt := 19) hx hb dX0_backward_75 (by decide) ?_
                  exact ih19 (j + 1) x2 x3 (by omega) (by omega) (by rw [bwL, if_neg (show ¬ bokI pr kd hd ps ng si so a j = true by simp [bokI, if_neg c_1, if_neg c_7, if_neg c_8, if_pos c_9, if_neg c_10])]; exact ej0) (by rw [bwL, if_neg (show ¬ bokI pr kd hd ps ng si so a j = true by simp [bokI, if_neg c_1, if_neg c_7, if_neg c_8, if_pos c_9, if_neg c_10])]; exact ej1) _ _ hZ ls (lv_sub hl [1, 2, 3, 4, 0] rfl)
                · skip
                  refine lv_iload hx hb dX0_backward_66 (lv_at hl 4 rfl) ?_
                  refine lv_istore_n (lv' := [(2, .int (nI j)), (0, .ref (q 0)), (1, .int (nI a)), (3, .int x3), (4, .int (nI j))]) hx hb dX0_backward_68 rfl hl (by decide) rfl (fun ls hl => ?_)
                  refine lv_incX (k := 3) (lv' := [(3, .int (x3 + 1)), (2, .int (nI j)), (0, .ref (q 0)), (1, .int (nI a)), (4, .int (nI j))]) hx hb dX0_backward_69 hl rfl (by decide) rfl (fun ls hl => ?_)
                  refine lv_incN (k := 4) (lv' := [(4, .int (nI (j + 1))), (3, .int (x3 + 1)), (2, .int (nI j)), (0, .ref (q 0)), (1, .int (nI a))]) hx hb dX0_backward_72 hl rfl (by decide) rfl (fun ls hl => ?_)
                  refine lv_goto (tgt := 19) hx hb dX0_backward_75 (by decide) ?_
                  exact ih19 (j + 1) (nI j) (x3 + 1) (by omega) (by omega) (by rw [bwL, if_pos (show bokI pr kd hd ps ng si so a j = true by simp only [bokI, if_neg c_1, if_neg c_7, if_neg c_8, if_pos c_9, if_pos c_10])]; rw [ej0]; exact nI_1 _) (by rw [bwL, if_pos (show bokI pr kd hd ps ng si so a j = true by simp only [bokI, if_neg c_1, if_neg c_7, if_neg c_8, if_pos c_9, if_pos c_10])]; simp) _ _ hZ ls (lv_sub hl [3, 4, 2, 1, 0] rfl)
    exact lp19 11 0 (-1) 0 (by omega) (by omega) rfl rfl _ _ hZ ls (lv_sub hl [3, 4, 2, 1, 0] rfl)
  · skip
    exact hret (si, so, br, mv) dX0_backward_11 (by rw [bwd, if_pos c_1]) hZ
theorem kx_backward {a : Nat} (F : Fx RX0 D dB dZ dJ p m c cc nL s args) (hZ : XS D A s (XW dB q pr kd hd ps ng si so br mv li lo la lt kn ms) H locs)  (hsz : ls.size = nL) (hR : rx_backward.frames + 1 ≤ R.frames ∧ 8 + (5 + 11) + rx_backward.locals ≤ R.locals) (hroom : (rest.map fun v => v.category).sum ≤ 8) (hdg : decode cc pc = .ok (.invokevirtual 69, 3)) (kk : ∀ (i1 o1 : Int32) (b1 m1 : Bool) (H1 : Heap) (locs1 : List Loc), (i1, o1, b1, m1) = bwd pr kd hd ps ng a si so br mv → XS D A s (XW dB q pr kd hd ps ng i1 o1 b1 m1 li lo la lt kn ms) H1 locs1 → W p l e R s m args below meth c H1 locs1 0 0 Q (F0 m (pc + 3) ls rest)) : W p l e R s m args below meth c H locs 0 0 Q (F0 m pc ls (.int (nI a) :: .ref (q 0) :: rest)) :=
  cl_V (q0 := 0) (ci := 0) (n := 1) (As := [.int (nI a)]) F hZ (cx_backward l D dB dZ dJ q pr kd hd ps ng si so br mv li lo la lt kn ms a) (fun _ => rfl) rfl rfl (lw_V q139 q141 qs9 q20 q142) (by decide +kernel) rfl ⟨rfl, rfl⟩ hR hsz rfl hroom hdg ⟨Nat.zero_le _, Nat.zero_le _⟩ (fun u H1 locs1 hu hZ => kk u.1 u.2.1 u.2.2.1 u.2.2.2 H1 locs1 hu hZ)
abbrev rx_conclude : Room := { frames := 2, cells := 0, slots := 0, locals := 46 }
set_option maxHeartbeats 4000000 in
set_option maxRecDepth 100000 in
theorem cx_conclude (l : Launch) (D : va_G) (dB dZ dJ : ClassId) (q : Nat → Nat) (pr : Int32) (kd hd ps ng : Nat → Int32) (si so : Int32) (br mv : Bool) (li lo la lt : Nat → Int32) (kn : Bool) (ms : Int64) : MVd l yX0_conclude (ws_ yX0_conclude cX0_conclude 3 none) rx_conclude D dB dZ dJ [.ref (q 0)] (XW dB q pr kd hd ps ng si so br mv li lo la lt kn ms) (fun u : Q4 => u = cnc pr kd hd ps ng 14 (si, so, br, true)) (fun u : Q4 => XW dB q pr kd hd ps ng u.1 u.2.1 u.2.2.1 u.2.2.2 li lo la lt kn ms) := by
  refine MVd.of (by decide) (Nat.le_of_ble_eq_true rfl) (fun p e s m args below meth c Q A F hZ hret ls hl => ?_)
  obtain ⟨hx, hb, hml, hown, hts⟩ := id F.1
  have hl : lv_has ls 3 [(0, .ref (q 0))] := hl
  refine lv_aload_n hx hb dX0_conclude_0 rfl (lv_at hl 0 rfl) ?_
  refine lv_iconst (v := 1) hx hb dX0_conclude_1 (by decide) ?_
  refine xp_mv F hZ (B := true) rfl dX0_conclude_2 (fun H locs hZ => ?_)
  refine lv_iconst (v := 0) hx hb dX0_conclude_5 (by decide) ?_
  refine lv_istore_n (lv' := [(1, .int 0), (0, .ref (q 0))]) hx hb dX0_conclude_6 rfl hl (by decide) rfl (fun ls hl => ?_)
  have lp7 : ∀ (nf t : Nat) (si1 : Int32) (so1 : Int32) (br1 : Bool) (mv1 : Bool), t ≤ 14 → 14 < t + nf → cnc pr kd hd ps ng (14 - t) (si1, so1, br1, mv1) = cnc pr kd hd ps ng 14 (si, so, br, true) → ∀ (H : Heap) (locs : List Loc), XS D A s (XW dB q pr kd hd ps ng si1 so1 br1 mv1 li lo la lt kn ms) H locs → ∀ (ls : Array Slot), lv_has ls 3 [(0, .ref (q 0)), (1, .int (nI t))] → W p l e rx_conclude s m args below meth c H locs 0 0 Q (F0 m 7 ls []) := by
    intro nf
    induction nf with
    | zero =>
      intro t si1 so1 br1 mv1 h1 h2
      exact absurd h2 (by omega)
    | succ nf ih7 =>
      intro t si1 so1 br1 mv1 ht0 htn et0 H locs hZ ls hl
      refine lv_iload_n hx hb dX0_conclude_7 rfl (lv_at hl 1 rfl) ?_
      refine lv_bipush (v := 14) hx hb dX0_conclude_8 (by decide) ?_
      refine lv_icmp_ge (tgt := 99) hx hb dX0_conclude_10 (by decide) (fun c_1 => ?_) (fun c_1 => ?_)
      · skip
        have ht : t = 14 := lp_ge (N := 14) (by decide) ht0 c_1
        exact hret (si1, so1, br1, mv1) dX0_conclude_99 (by subst ht; exact et0) hZ
      · skip
        have ht : t < 14 := lp_lt (N := 14) (by decide) ht0 c_1
        refine lv_aload_n hx hb dX0_conclude_13 rfl (lv_at hl 0 rfl) ?_
        refine xg_mv F hZ.1 dX0_conclude_14 ?_
        refine lv_if_eq (tgt := 99) hx hb dX0_conclude_17 (by decide) (fun c_2 => ?_) (fun c_2 => ?_)
        · skip
          exact hret (si1, so1, br1, mv1) dX0_conclude_99 (by rw [← et0, show 14 - t = (13 - t) + 1 by omega, cnc, if_pos c_2]) hZ
        · skip
          refine lv_aload_n hx hb dX0_conclude_20 rfl (lv_at hl 0 rfl) ?_
          refine xg_br F hZ.1 dX0_conclude_21 ?_
          refine lv_if_ne (tgt := 99) hx hb dX0_conclude_24 (by decide) (fun c_3 => ?_) (fun c_3 => ?_)
          · skip
            exact hret (si1, so1, br1, mv1) dX0_conclude_99 (by rw [← et0, show 14 - t = (13 - t) + 1 by omega, cnc, if_neg c_2, if_neg c_3]) hZ
          · skip
            refine lv_aload_n hx hb dX0_conclude_27 rfl (lv_at hl 0 rfl) ?_
            refine lv_iconst (v := 0) hx hb dX0_conclude_28 (by decide) ?_
            refine xp_mv F hZ (B := false) rfl dX0_conclude_29 (fun H locs hZ => ?_)
            refine lv_iconst (v := 0) hx hb dX0_conclude_32 (by decide) ?_
            refine lv_istore_n (lv' := [(2, .int 0), (0, .ref (q 0)), (1, .int (nI t))]) hx hb dX0_conclude_33 rfl hl (by decide) rfl (fun ls hl => ?_)
            have lp34 : ∀ (nf j : Nat) (si2 : Int32) (so2 : Int32) (br2 : Bool) (mv2 : Bool), j ≤ 10 → 10 < j + nf → (si2, so2, br2, mv2) = cl1 pr kd hd ps ng (si1, so1, br1, false) j → ∀ (H : Heap) (locs : List Loc), XS D A s (XW dB q pr kd hd ps ng si2 so2 br2 mv2 li lo la lt kn ms) H locs → ∀ (ls : Array Slot), lv_has ls 3 [(0, .ref (q 0)), (1, .int (nI t)), (2, .int (nI j))] → W p l e rx_conclude s m args below meth c H locs 0 0 Q (F0 m 34 ls []) := by
              intro nf
              induction nf with
              | zero =>
                intro j si2 so2 br2 mv2 h1 h2
                exact absurd h2 (by omega)
              | succ nf ih34 =>
                intro j si2 so2 br2 mv2 hj0 hjn ej0 H locs hZ ls hl
                refine lv_iload_n hx hb dX0_conclude_34 rfl (lv_at hl 2 rfl) ?_
                refine lv_bipush (v := 10) hx hb dX0_conclude_35 (by decide) ?_
                refine lv_icmp_ge (tgt := 59) hx hb dX0_conclude_37 (by decide) (fun c_4 => ?_) (fun c_4 => ?_)
                · skip
                  have hj : j = 10 := lp_ge (N := 10) (by decide) hj0 c_4
                  subst hj
                  refine lv_iconst (v := 0) hx hb dX0_conclude_59 (by decide) ?_
                  refine lv_istore_n (lv' := [(2, .int 0), (0, .ref (q 0)), (1, .int (nI t))]) hx hb dX0_conclude_60 rfl hl (by decide) rfl (fun ls hl => ?_)
                  have lp61 : ∀ (nf a : Nat) (si3 : Int32) (so3 : Int32) (br3 : Bool) (mv3 : Bool), a ≤ 6 → 6 < a + nf → (si3, so3, br3, mv3) = cl2 pr kd hd ps ng (si2, so2, br2, mv2) a → ∀ (H : Heap) (locs : List Loc), XS D A s (XW dB q pr kd hd ps ng si3 so3 br3 mv3 li lo la lt kn ms) H locs → ∀ (ls : Array Slot), lv_has ls 3 [(0, .ref (q 0)), (1, .int (nI t)), (2, .int (nI a))] → W p l e rx_conclude s m args below meth c H locs 0 0 Q (F0 m 61 ls []) := by
                    intro nf
                    induction nf with
                    | zero =>
                      intro a si3 so3 br3 mv3 h1 h2
                      exact absurd h2 (by omega)
                    | succ nf ih61 =>
                      intro a si3 so3 br3 mv3 ha0 han ea0 H locs hZ ls hl
                      refine lv_iload_n hx hb dX0_conclude_61 rfl (lv_at hl 2 rfl) ?_
                      refine lv_bipush (v := 6) hx hb dX0_conclude_62 (by decide) ?_
                      refine lv_icmp_ge (tgt := 78) hx hb dX0_conclude_64 (by decide) (fun c_5 => ?_) (fun c_5 => ?_)
                      · skip
                        have ha : a = 6 := lp_ge (N := 6) (by decide) ha0 c_5
                        subst ha
                        refine lv_bipush (v := 63) hx hb dX0_conclude_78 (by decide) ?_
                        refine lv_aload_n hx hb dX0_conclude_80 rfl (lv_at hl 0 rfl) ?_
                        refine kx_founded F hZ.1 hl.1 ⟨Nat.le_of_ble_eq_true rfl, Nat.le_of_ble_eq_true rfl⟩ (Nat.le_of_ble_eq_true rfl) dX0_conclude_81 ?_
                        refine lv_iconst (v := (-1)) hx hb dX0_conclude_84 (by decide) ?_
                        refine lv_ixor hx hb dX0_conclude_85 ?_
                        refine lv_iand hx hb dX0_conclude_86 ?_
                        refine lv_istore_n (lv' := [(2, .int (63 &&& ((fdR pr kd hd ps ng si3 so3 6) ^^^ (-1)))), (0, .ref (q 0)), (1, .int (nI t))]) hx hb dX0_conclude_87 rfl hl (by decide) rfl (fun ls hl => ?_)
                        refine lv_aload_n hx hb dX0_conclude_88 rfl (lv_at hl 1 rfl) ?_
                        refine lv_iload_n hx hb dX0_conclude_89 rfl (lv_at hl 0 rfl) ?_
                        refine kx_putOut F hZ hl.1 ⟨Nat.le_of_ble_eq_true rfl, Nat.le_of_ble_eq_true rfl⟩ (Nat.le_of_ble_eq_true rfl) dX0_conclude_90 (fun i6 o6 b6 m6 H locs hu6 hZ => ?_)
                        refine lv_incN (k := 2) (lv' := [(1, .int (nI (t + 1))), (2, .int (63 &&& ((fdR pr kd hd ps ng si3 so3 6) ^^^ (-1)))), (0, .ref (q 0))]) hx hb dX0_conclude_93 hl rfl (by decide) rfl (fun ls hl => ?_)
                        refine lv_goto (tgt := 7) hx hb dX0_conclude_96 (by decide) ?_
                        exact ih7 (t + 1) i6 o6 b6 m6 (by omega) (by omega) (by rw [← et0, show 14 - t = (14 - (t + 1)) + 1 by omega, cnc, if_neg c_2, if_pos c_3, clR]; rw [← ej0, ← ea0]; exact congrArg _ hu6) _ _ hZ ls (lv_sub hl [2, 0] rfl)
                      · skip
                        have ha : a < 6 := lp_lt (N := 6) (by decide) ha0 c_5
                        refine lv_aload_n hx hb dX0_conclude_67 rfl (lv_at hl 0 rfl) ?_
                        refine lv_iload_n hx hb dX0_conclude_68 rfl (lv_at hl 2 rfl) ?_
                        refine kx_backward F hZ hl.1 ⟨Nat.le_of_ble_eq_true rfl, Nat.le_of_ble_eq_true rfl⟩ (Nat.le_of_ble_eq_true rfl) dX0_conclude_69 (fun i7 o7 b7 m7 H locs hu7 hZ => ?_)
                        refine lv_incN (k := 2) (lv' := [(2, .int (nI (a + 1))), (0, .ref (q 0)), (1, .int (nI t))]) hx hb dX0_conclude_72 hl rfl (by decide) rfl (fun ls hl => ?_)
                        refine lv_goto (tgt := 61) hx hb dX0_conclude_75 (by decide) ?_
                        exact ih61 (a + 1) i7 o7 b7 m7 (by omega) (by omega) (by rw [cl2, ← ea0]; exact hu7) _ _ hZ ls (lv_sub hl [1, 2, 0] rfl)
                  exact lp61 7 0 si2 so2 br2 mv2 (by omega) (by omega) rfl _ _ hZ ls (lv_sub hl [1, 2, 0] rfl)
                · skip
                  have hj : j < 10 := lp_lt (N := 10) (by decide) hj0 c_4
                  refine lv_aload_n hx hb dX0_conclude_40 rfl (lv_at hl 0 rfl) ?_
                  refine lv_iload_n hx hb dX0_conclude_41 rfl (lv_at hl 2 rfl) ?_
                  refine kx_has F hZ.1 hl.1 ⟨Nat.le_of_ble_eq_true rfl, Nat.le_of_ble_eq_true rfl⟩ (Nat.le_of_ble_eq_true rfl) dX0_conclude_42 ?_
                  refine lv_if_eq (tgt := 53) hx hb dX0_conclude_45 (by decide) (fun c_8 => ?_) (fun c_8 => ?_)
                  · skip
                    refine lv_incN (k := 2) (lv' := [(2, .int (nI (j + 1))), (0, .ref (q 0)), (1, .int (nI t))]) hx hb dX0_conclude_53 hl rfl (by decide) rfl (fun ls hl => ?_)
                    refine lv_goto (tgt := 34) hx hb dX0_conclude_56 (by decide) ?_
                    exact ih34 (j + 1) si2 so2 br2 mv2 (by omega) (by omega) (by rw [cl1, if_pos c_8]; exact ej0) _ _ hZ ls (lv_sub hl [1, 2, 0] rfl)
                  · skip
                    refine lv_aload_n hx hb dX0_conclude_48 rfl (lv_at hl 0 rfl) ?_
                    refine lv_iload_n hx hb dX0_conclude_49 rfl (lv_at hl 2 rfl) ?_
                    refine kx_forward F hZ hj hl.1 ⟨Nat.le_of_ble_eq_true rfl, Nat.le_of_ble_eq_true rfl⟩ (Nat.le_of_ble_eq_true rfl) dX0_conclude_50 (fun i9 o9 b9 m9 H locs hu9 hZ => ?_)
                    refine lv_incN (k := 2) (lv' := [(2, .int (nI (j + 1))), (0, .ref (q 0)), (1, .int (nI t))]) hx hb dX0_conclude_53 hl rfl (by decide) rfl (fun ls hl => ?_)
                    refine lv_goto (tgt := 34) hx hb dX0_conclude_56 (by decide) ?_
                    exact ih34 (j + 1) i9 o9 b9 m9 (by omega) (by omega) (by rw [cl1, if_neg c_8, ← ej0]; exact hu9) _ _ hZ ls (lv_sub hl [1, 2, 0] rfl)
            exact lp34 11 0 si1 so1 br1 false (by omega) (by omega) rfl _ _ hZ ls (lv_sub hl [1, 2, 0] rfl)
  exact lp7 15 0 si so br true (by omega) (by omega) rfl _ _ hZ ls (lv_sub hl [1, 0] rfl)
theorem kx_conclude (F : Fx RX0 D dB dZ dJ p m c cc nL s args) (hZ : XS D A s (XW dB q pr kd hd ps ng si so br mv li lo la lt kn ms) H locs)  (hsz : ls.size = nL) (hR : rx_conclude.frames + 1 ≤ R.frames ∧ 8 + (3 + 11) + rx_conclude.locals ≤ R.locals) (hroom : (rest.map fun v => v.category).sum ≤ 8) (hdg : decode cc pc = .ok (.invokevirtual 95, 3)) (kk : ∀ (i1 o1 : Int32) (b1 m1 : Bool) (H1 : Heap) (locs1 : List Loc), (i1, o1, b1, m1) = cnc pr kd hd ps ng 14 (si, so, br, true) → XS D A s (XW dB q pr kd hd ps ng i1 o1 b1 m1 li lo la lt kn ms) H1 locs1 → W p l e R s m args below meth c H1 locs1 0 0 Q (F0 m (pc + 3) ls rest)) : W p l e R s m args below meth c H locs 0 0 Q (F0 m pc ls (.ref (q 0) :: rest)) :=
  cl_V (q0 := 0) (ci := 0) (n := 0) (As := []) F hZ (cx_conclude l D dB dZ dJ q pr kd hd ps ng si so br mv li lo la lt kn ms) (fun _ => rfl) rfl rfl (lw_V q112 q114 qs3 q20 q115) (by decide +kernel) rfl ⟨rfl, rfl⟩ hR hsz rfl hroom hdg ⟨Nat.zero_le _, Nat.zero_le _⟩ (fun u H1 locs1 hu hZ => kk u.1 u.2.1 u.2.2.1 u.2.2.2 H1 locs1 hu hZ)
end XA1
end
section
set_option maxRecDepth 100000
section XB1
variable {p : Program} {l : Launch} {e : Env} {R : Room} {s : State} {m : MethodId} {args : Array Value} {below : List Frame} {meth : Method} {c : Code} {H : Heap} {locs : List Loc} {Q : State → Prop}
variable {cc : ByteArray} {pc nL : Nat} {ls : Array Slot} {rest : List Value} {D : va_G} {dB dZ dJ : ClassId} {A : Nat → Prop} {q : Nat → Nat}
variable {pr : Int32} {kd hd ps ng : Nat → Int32} {si so : Int32} {br mv : Bool} {li lo la lt : Nat → Int32} {kn : Bool} {ms : Int64}
variable {th fd bf : Nat → Bool}
abbrev rx_isModel : Room := { frames := 0, cells := 0, slots := 0, locals := 0 }
set_option maxHeartbeats 4000000 in
set_option maxRecDepth 100000 in
theorem cx_isModel (l : Launch) (D : va_G) (dB dZ dJ : ClassId) (q : Nat → Nat) (pr : Int32) (kd hd ps ng : Nat → Int32) (si so : Int32) (br mv : Bool) (li lo la lt : Nat → Int32) (kn : Bool) (ms : Int64) (j : Nat) (hj : j < 64) : MRd l yX0_isModel (ws_ yX0_isModel cX0_isModel 2 (some .boolean)) rx_isModel D dB dZ dJ [.ref (q 0), .int (nI j)] (XW dB q pr kd hd ps ng si so br mv li lo la lt kn ms) (b2i (lb ms j)) := by
  refine MRd.of (by decide) (b2i_nar _) (Nat.le_of_ble_eq_true rfl) (fun p e s m args below meth c Q F hP hret ls hl => ?_)
  obtain ⟨hx, hb, hml, hown, hts⟩ := id F.1
  have hl : lv_has ls 2 [(0, .ref (q 0)), (1, .int (nI j))] := hl
  refine lv_aload_n hx hb dX0_isModel_0 rfl (lv_at hl 0 rfl) ?_
  refine xg_ms F hP dX0_isModel_1 ?_
  refine lv_iload_n hx hb dX0_isModel_4 rfl (lv_at hl 1 rfl) ?_
  refine lv_lushr hx hb dX0_isModel_5 rfl ?_
  refine lv_lconst (v := 1) hx hb dX0_isModel_6 (by decide) ?_
  refine lv_land hx hb dX0_isModel_7 ?_
  refine lv_lconst (v := 0) hx hb dX0_isModel_8 (by decide) ?_
  refine W.lcmp hx hb dX0_isModel_9 ?_
  refine lv_if_eq (tgt := 17) hx hb dX0_isModel_10 (by decide) (fun c_1 => ?_) (fun c_1 => ?_)
  · skip
    refine lv_iconst (v := 0) hx hb dX0_isModel_17 (by decide) ?_
    exact hret dX0_isModel_18 (by rw [← isM_lb _ hj]; simp only [isM, if_pos c_1])
  · skip
    refine lv_iconst (v := 1) hx hb dX0_isModel_13 (by decide) ?_
    refine lv_goto (tgt := 18) hx hb dX0_isModel_14 (by decide) ?_
    exact hret dX0_isModel_18 (by rw [← isM_lb _ hj]; simp only [isM, if_neg c_1])
theorem kx_isModel {j : Nat} (F : Fx RX0 D dB dZ dJ p m c cc nL s args) (hP : va_P D vwCl (XW dB q pr kd hd ps ng si so br mv li lo la lt kn ms) H) (hj : j < 64) (hsz : ls.size = nL) (hR : rx_isModel.frames + 1 ≤ R.frames ∧ 8 + (2 + 11) + rx_isModel.locals ≤ R.locals) (hroom : (rest.map fun v => v.category).sum ≤ 8) (hdg : decode cc pc = .ok (.invokevirtual 107, 3)) (kk : W p l e R s m args below meth c H locs 0 0 Q (F0 m (pc + 3) ls (.int (b2i (lb ms j)) :: rest))) : W p l e R s m args below meth c H locs 0 0 Q (F0 m pc ls (.int (nI j) :: .ref (q 0) :: rest)) :=
  cl_R (q0 := 0) (ci := 0) (n := 1) (As := [.int (nI j)]) F hP (cx_isModel l D dB dZ dJ q pr kd hd ps ng si so br mv li lo la lt kn ms j hj) rfl rfl (lw_V q155 q157 qs13 q20 q158) (by decide +kernel) rfl ⟨rfl, rfl⟩ hR hsz rfl hroom hdg ⟨Nat.zero_le _, Nat.zero_le _⟩ kk
abbrev rx_isMaximal : Room := { frames := 1, cells := 0, slots := 0, locals := 21 }
set_option maxHeartbeats 4000000 in
set_option maxRecDepth 100000 in
theorem cx_isMaximal (l : Launch) (D : va_G) (dB dZ dJ : ClassId) (q : Nat → Nat) (pr : Int32) (kd hd ps ng : Nat → Int32) (si so : Int32) (br mv : Bool) (li lo la lt : Nat → Int32) (kn : Bool) (ms : Int64) (mm : Nat) (hm : mm < 64) : MRd l yX0_isMaximal (ws_ yX0_isMaximal cX0_isMaximal 3 (some .boolean)) rx_isMaximal D dB dZ dJ [.ref (q 0), .int (nI mm)] (XW dB q pr kd hd ps ng si so br mv li lo la lt kn ms) (mxX (lb ms) mm (63 - mm)) := by
  refine MRd.of (by decide) (nar01 (mxX_01 _ _ _)) (Nat.le_of_ble_eq_true rfl) (fun p e s m args below meth c Q F hP hret ls hl => ?_)
  obtain ⟨hx, hb, hml, hown, hts⟩ := id F.1
  have hl : lv_has ls 3 [(0, .ref (q 0)), (1, .int (nI mm))] := hl
  refine lv_iload_n hx hb dX0_isMaximal_0 rfl (lv_at hl 1 rfl) ?_
  refine lv_iconst (v := 1) hx hb dX0_isMaximal_1 (by decide) ?_
  refine lv_iadd hx hb dX0_isMaximal_2 ?_
  rw [nI_1 mm]
  refine lv_istore_n (lv' := [(2, .int (nI (mm + 1))), (0, .ref (q 0)), (1, .int (nI mm))]) hx hb dX0_isMaximal_3 rfl hl (by decide) rfl (fun ls hl => ?_)
  have lp4 : ∀ (nf j : Nat), j ≤ 64 → 64 < j + nf → mxX (lb ms) mm (64 - j) = mxX (lb ms) mm (63 - mm) → ∀ (ls : Array Slot), lv_has ls 3 [(0, .ref (q 0)), (1, .int (nI mm)), (2, .int (nI j))] → W p l e rx_isMaximal s m args below meth c s.heap [] 0 0 Q (F0 m 4 ls []) := by
    intro nf
    induction nf with
    | zero =>
      intro j h1 h2
      exact absurd h2 (by omega)
    | succ nf ih4 =>
      intro j hj0 hjn ej0 ls hl
      refine lv_iload_n hx hb dX0_isMaximal_4 rfl (lv_at hl 2 rfl) ?_
      refine lv_bipush (v := 63) hx hb dX0_isMaximal_5 (by decide) ?_
      refine lv_icmp_gt (tgt := 34) hx hb dX0_isMaximal_7 (by decide) (fun c_1 => ?_) (fun c_1 => ?_)
      · skip
        have hj : j = 64 := lp_gt (N := 63) (by decide) hj0 c_1
        subst hj
        refine lv_iconst (v := 1) hx hb dX0_isMaximal_34 (by decide) ?_
        exact hret dX0_isMaximal_35 ej0
      · skip
        have hj : j < 64 := lp_ngt (N := 63) (by decide) hj0 c_1
        refine lv_aload_n hx hb dX0_isMaximal_10 rfl (lv_at hl 0 rfl) ?_
        refine lv_iload_n hx hb dX0_isMaximal_11 rfl (lv_at hl 2 rfl) ?_
        refine kx_isModel F hP hj hl.1 ⟨Nat.le_of_ble_eq_true rfl, Nat.le_of_ble_eq_true rfl⟩ (Nat.le_of_ble_eq_true rfl) dX0_isMaximal_12 ?_
        refine lv_if_eq (tgt := 28) hx hb dX0_isMaximal_15 (by decide) (fun c_2 => ?_) (fun c_2 => ?_)
        · skip
          refine lv_incN (k := 2) (lv' := [(2, .int (nI (j + 1))), (0, .ref (q 0)), (1, .int (nI mm))]) hx hb dX0_isMaximal_28 hl rfl (by decide) rfl (fun ls hl => ?_)
          refine lv_goto (tgt := 4) hx hb dX0_isMaximal_31 (by decide) ?_
          exact ih4 (j + 1) (by omega) (by omega) (by rw [show 64 - j = (63 - j) + 1 by omega, mxX, show 63 - (63 - j) = j by omega, if_pos c_2] at ej0; rw [show 64 - (j + 1) = 63 - j by omega]; exact ej0) ls (lv_sub hl [1, 2, 0] rfl)
        · skip
          refine lv_iload_n hx hb dX0_isMaximal_18 rfl (lv_at hl 1 rfl) ?_
          refine lv_iload_n hx hb dX0_isMaximal_19 rfl (lv_at hl 2 rfl) ?_
          refine lv_iconst (v := (-1)) hx hb dX0_isMaximal_20 (by decide) ?_
          refine lv_ixor hx hb dX0_isMaximal_21 ?_
          refine lv_iand hx hb dX0_isMaximal_22 ?_
          refine lv_if_ne (tgt := 28) hx hb dX0_isMaximal_23 (by decide) (fun c_3 => ?_) (fun c_3 => ?_)
          · skip
            refine lv_incN (k := 2) (lv' := [(2, .int (nI (j + 1))), (0, .ref (q 0)), (1, .int (nI mm))]) hx hb dX0_isMaximal_28 hl rfl (by decide) rfl (fun ls hl => ?_)
            refine lv_goto (tgt := 4) hx hb dX0_isMaximal_31 (by decide) ?_
            exact ih4 (j + 1) (by omega) (by omega) (by rw [show 64 - j = (63 - j) + 1 by omega, mxX, show 63 - (63 - j) = j by omega, if_neg c_2, if_neg c_3] at ej0; rw [show 64 - (j + 1) = 63 - j by omega]; exact ej0) ls (lv_sub hl [1, 2, 0] rfl)
          · skip
            refine lv_iconst (v := 0) hx hb dX0_isMaximal_26 (by decide) ?_
            exact hret dX0_isMaximal_27 (by rw [← ej0, show 64 - j = (63 - j) + 1 by omega, mxX, show 63 - (63 - j) = j by omega, if_neg c_2, if_pos c_3])
  exact lp4 65 (mm + 1) (by omega) (by omega) (by rw [show 64 - (mm + 1) = 63 - mm by omega]) ls (lv_sub hl [1, 2, 0] rfl)
theorem kx_isMaximal {mm : Nat} (F : Fx RX0 D dB dZ dJ p m c cc nL s args) (hP : va_P D vwCl (XW dB q pr kd hd ps ng si so br mv li lo la lt kn ms) H) (hm : mm < 64) (hsz : ls.size = nL) (hR : rx_isMaximal.frames + 1 ≤ R.frames ∧ 8 + (3 + 11) + rx_isMaximal.locals ≤ R.locals) (hroom : (rest.map fun v => v.category).sum ≤ 8) (hdg : decode cc pc = .ok (.invokevirtual 110, 3)) (kk : W p l e R s m args below meth c H locs 0 0 Q (F0 m (pc + 3) ls (.int (mxX (lb ms) mm (63 - mm)) :: rest))) : W p l e R s m args below meth c H locs 0 0 Q (F0 m pc ls (.int (nI mm) :: .ref (q 0) :: rest)) :=
  cl_R (q0 := 0) (ci := 0) (n := 1) (As := [.int (nI mm)]) F hP (cx_isMaximal l D dB dZ dJ q pr kd hd ps ng si so br mv li lo la lt kn ms mm hm) rfl rfl (lw_V q187 q189 qs14 q20 q190) (by decide +kernel) rfl ⟨rfl, rfl⟩ hR hsz rfl hroom hdg ⟨Nat.zero_le _, Nat.zero_le _⟩ kk
abbrev rx_open : Room := { frames := 0, cells := 0, slots := 0, locals := 0 }
set_option maxHeartbeats 4000000 in
set_option maxRecDepth 100000 in
theorem cx_open (l : Launch) (D : va_G) (dB dZ dJ : ClassId) (q : Nat → Nat) (pr : Int32) (kd hd ps ng : Nat → Int32) (si so : Int32) (br mv : Bool) (li lo la lt : Nat → Int32) (kn : Bool) (ms : Int64) (lv : Nat) (hlv : lv < 8) (h8i : si.toInt8.toInt32 = si) (h8o : so.toInt8.toInt32 = so) (a0 : Nat) (ha9 : a0 < 6) (hf : (((si ||| so) >>> (nI a0 &&& 31)) &&& 1) = 0) : MVd l yX0_open (ws_ yX0_open cX0_open 3 none) rx_open D dB dZ dJ [.ref (q 0), .int (nI lv)] (XW dB q pr kd hd ps ng si so br mv li lo la lt kn ms) (fun a : Nat => a < 6 ∧ (((si ||| so) >>> (nI a &&& 31)) &&& 1) = 0) (fun a : Nat => XW dB q pr kd hd ps ng si so br mv (upd li lv si) (upd lo lv so) (upd la lv (nI a)) (upd lt lv 0) kn ms) := by
  refine MVd.of (by decide) (Nat.le_of_ble_eq_true rfl) (fun p e s m args below meth c Q A F hZ hret ls hl => ?_)
  obtain ⟨hx, hb, hml, hown, hts⟩ := id F.1
  have hl : lv_has ls 3 [(0, .ref (q 0)), (1, .int (nI lv))] := hl
  refine lv_aload_n hx hb dX0_open_0 rfl (lv_at hl 0 rfl) ?_
  refine xg_li F hZ.1 dX0_open_1 ?_
  refine lv_iload_n hx hb dX0_open_4 rfl (lv_at hl 1 rfl) ?_
  refine lv_aload_n hx hb dX0_open_5 rfl (lv_at hl 0 rfl) ?_
  refine xg_si F hZ.1 dX0_open_6 ?_
  refine lv_i2b (v := si) hx hb dX0_open_9 h8i ?_
  refine xs_li F hZ hlv h8i dX0_open_10 (fun H locs hZ => ?_)
  refine lv_aload_n hx hb dX0_open_11 rfl (lv_at hl 0 rfl) ?_
  refine xg_lo F hZ.1 dX0_open_12 ?_
  refine lv_iload_n hx hb dX0_open_15 rfl (lv_at hl 1 rfl) ?_
  refine lv_aload_n hx hb dX0_open_16 rfl (lv_at hl 0 rfl) ?_
  refine xg_so F hZ.1 dX0_open_17 ?_
  refine lv_i2b (v := so) hx hb dX0_open_20 h8o ?_
  refine xs_lo F hZ hlv h8o dX0_open_21 (fun H locs hZ => ?_)
  refine lv_aload_n hx hb dX0_open_22 rfl (lv_at hl 0 rfl) ?_
  refine xg_lt F hZ.1 dX0_open_23 ?_
  refine lv_iload_n hx hb dX0_open_26 rfl (lv_at hl 1 rfl) ?_
  refine lv_iconst (v := 0) hx hb dX0_open_27 (by decide) ?_
  refine xs_lt F hZ hlv (by decide) dX0_open_28 (fun H locs hZ => ?_)
  refine lv_iconst (v := 0) hx hb dX0_open_29 (by decide) ?_
  refine lv_istore_n (lv' := [(2, .int 0), (0, .ref (q 0)), (1, .int (nI lv))]) hx hb dX0_open_30 rfl hl (by decide) rfl (fun ls hl => ?_)
  have lp31 : ∀ (nf a : Nat), a ≤ a0 → a0 < a + nf → ∀ (H : Heap) (locs : List Loc), XS D A s (XW dB q pr kd hd ps ng si so br mv (upd li lv si) (upd lo lv so) la (upd lt lv 0) kn ms) H locs → ∀ (ls : Array Slot), lv_has ls 3 [(0, .ref (q 0)), (1, .int (nI lv)), (2, .int (nI a))] → W p l e rx_open s m args below meth c H locs 0 0 Q (F0 m 31 ls []) := by
    intro nf
    induction nf with
    | zero =>
      intro a h1 h2
      exact absurd h2 (by omega)
    | succ nf ih31 =>
      intro a ha0 han H locs hZ ls hl
      refine lv_aload_n hx hb dX0_open_31 rfl (lv_at hl 0 rfl) ?_
      refine xg_si F hZ.1 dX0_open_32 ?_
      refine lv_aload_n hx hb dX0_open_35 rfl (lv_at hl 0 rfl) ?_
      refine xg_so F hZ.1 dX0_open_36 ?_
      refine lv_ior hx hb dX0_open_39 ?_
      refine lv_iload_n hx hb dX0_open_40 rfl (lv_at hl 2 rfl) ?_
      refine lv_ishr hx hb dX0_open_41 ?_
      refine lv_iconst (v := 1) hx hb dX0_open_42 (by decide) ?_
      refine lv_iand hx hb dX0_open_43 ?_
      refine lv_if_eq (tgt := 53) hx hb dX0_open_44 (by decide) (fun c_1 => ?_) (fun c_1 => ?_)
      · skip
        refine lv_aload_n hx hb dX0_open_53 rfl (lv_at hl 0 rfl) ?_
        refine xg_la F hZ.1 dX0_open_54 ?_
        refine lv_iload_n hx hb dX0_open_57 rfl (lv_at hl 1 rfl) ?_
        refine lv_iload_n hx hb dX0_open_58 rfl (lv_at hl 2 rfl) ?_
        refine lv_i2b (v := (nI a)) hx hb dX0_open_59 (nI_8 a (by omega)) ?_
        refine xs_la F hZ hlv (nI_8 a (by omega)) dX0_open_60 (fun H locs hZ => ?_)
        exact hret a dX0_open_61 ⟨by omega, c_1⟩ hZ
      · skip
        have hne : a ≠ a0 := fun h => c_1 (by rw [h]; exact hf)
        refine lv_incN (k := 2) (lv' := [(2, .int (nI (a + 1))), (0, .ref (q 0)), (1, .int (nI lv))]) hx hb dX0_open_47 hl rfl (by decide) rfl (fun ls hl => ?_)
        refine lv_goto (tgt := 31) hx hb dX0_open_50 (by decide) ?_
        exact ih31 (a + 1) (by omega) (by omega) _ _ hZ ls (lv_sub hl [1, 2, 0] rfl)
  exact lp31 (a0 + 1) 0 (by omega) (by omega) _ _ hZ ls (lv_sub hl [1, 2, 0] rfl)
theorem kx_open {lv : Nat} (F : Fx RX0 D dB dZ dJ p m c cc nL s args) (hZ : XS D A s (XW dB q pr kd hd ps ng si so br mv li lo la lt kn ms) H locs) (hlv : lv < 8) (h8i : si.toInt8.toInt32 = si) (h8o : so.toInt8.toInt32 = so) {a0 : Nat} (ha9 : a0 < 6) (hf : (((si ||| so) >>> (nI a0 &&& 31)) &&& 1) = 0) (hsz : ls.size = nL) (hR : rx_open.frames + 1 ≤ R.frames ∧ 8 + (3 + 11) + rx_open.locals ≤ R.locals) (hroom : (rest.map fun v => v.category).sum ≤ 8) (hdg : decode cc pc = .ok (.invokevirtual 98, 3)) (kk : ∀ (a : Nat) (H1 : Heap) (locs1 : List Loc), (a < 6 ∧ (((si ||| so) >>> (nI a &&& 31)) &&& 1) = 0) → XS D A s (XW dB q pr kd hd ps ng si so br mv (upd li lv si) (upd lo lv so) (upd la lv (nI a)) (upd lt lv 0) kn ms) H1 locs1 → W p l e R s m args below meth c H1 locs1 0 0 Q (F0 m (pc + 3) ls rest)) : W p l e R s m args below meth c H locs 0 0 Q (F0 m pc ls (.int (nI lv) :: .ref (q 0) :: rest)) :=
  cl_V (q0 := 0) (ci := 0) (n := 1) (As := [.int (nI lv)]) F hZ (cx_open l D dB dZ dJ q pr kd hd ps ng si so br mv li lo la lt kn ms lv hlv h8i h8o a0 ha9 hf) (fun _ => rfl) rfl rfl (lw_V q147 q149 qs11 q20 q150) (by decide +kernel) rfl ⟨rfl, rfl⟩ hR hsz rfl hroom hdg ⟨Nat.zero_le _, Nat.zero_le _⟩ (kk)
abbrev rx_tryNext : Room := { frames := 3, cells := 0, slots := 0, locals := 68 }
set_option maxHeartbeats 4000000 in
set_option maxRecDepth 100000 in
theorem cx_tryNext (l : Launch) (D : va_G) (dB dZ dJ : ClassId) (q : Nat → Nat) (pr : Int32) (kd hd ps ng : Nat → Int32) (si so : Int32) (br mv : Bool) (li lo la lt : Nat → Int32) (kn : Bool) (ms : Int64) (lv : Nat) (hlv : lv < 8) (h8 : (lt lv + 1).toInt8.toInt32 = lt lv + 1) : MVd l yX0_tryNext (ws_ yX0_tryNext cX0_tryNext 3 none) rx_tryNext D dB dZ dJ [.ref (q 0), .int (nI lv)] (XW dB q pr kd hd ps ng si so br mv li lo la lt kn ms) (fun u : Q4 => u = cnc pr kd hd ps ng 14 ((tnz li lo la lt lv).1, (tnz li lo la lt lv).2, false, true)) (fun u : Q4 => XW dB q pr kd hd ps ng u.1 u.2.1 u.2.2.1 u.2.2.2 li lo la (upd lt lv (lt lv + 1)) kn ms) := by
  refine MVd.of (by decide) (Nat.le_of_ble_eq_true rfl) (fun p e s m args below meth c Q A F hZ hret ls hl => ?_)
  obtain ⟨hx, hb, hml, hown, hts⟩ := id F.1
  have hl : lv_has ls 3 [(0, .ref (q 0)), (1, .int (nI lv))] := hl
  refine lv_aload_n hx hb dX0_tryNext_0 rfl (lv_at hl 0 rfl) ?_
  refine lv_aload_n hx hb dX0_tryNext_1 rfl (lv_at hl 0 rfl) ?_
  refine xg_li F hZ.1 dX0_tryNext_2 ?_
  refine lv_iload_n hx hb dX0_tryNext_5 rfl (lv_at hl 1 rfl) ?_
  refine xa_li F hZ.1 hlv dX0_tryNext_6 ?_
  refine xp_si F hZ dX0_tryNext_7 (fun H locs hZ => ?_)
  refine lv_aload_n hx hb dX0_tryNext_10 rfl (lv_at hl 0 rfl) ?_
  refine lv_aload_n hx hb dX0_tryNext_11 rfl (lv_at hl 0 rfl) ?_
  refine xg_lo F hZ.1 dX0_tryNext_12 ?_
  refine lv_iload_n hx hb dX0_tryNext_15 rfl (lv_at hl 1 rfl) ?_
  refine xa_lo F hZ.1 hlv dX0_tryNext_16 ?_
  refine xp_so F hZ dX0_tryNext_17 (fun H locs hZ => ?_)
  refine lv_aload_n hx hb dX0_tryNext_20 rfl (lv_at hl 0 rfl) ?_
  refine lv_iconst (v := 0) hx hb dX0_tryNext_21 (by decide) ?_
  refine xp_br F hZ (B := false) rfl dX0_tryNext_22 (fun H locs hZ => ?_)
  refine lv_iconst (v := 1) hx hb dX0_tryNext_25 (by decide) ?_
  refine lv_aload_n hx hb dX0_tryNext_26 rfl (lv_at hl 0 rfl) ?_
  refine xg_la F hZ.1 dX0_tryNext_27 ?_
  refine lv_iload_n hx hb dX0_tryNext_30 rfl (lv_at hl 1 rfl) ?_
  refine xa_la F hZ.1 hlv dX0_tryNext_31 ?_
  refine lv_ishl hx hb dX0_tryNext_32 ?_
  refine lv_istore_n (lv' := [(2, .int ((1 : Int32) <<< ((la lv) &&& 31))), (0, .ref (q 0)), (1, .int (nI lv))]) hx hb dX0_tryNext_33 rfl hl (by decide) rfl (fun ls hl => ?_)
  refine lv_aload_n hx hb dX0_tryNext_34 rfl (lv_at hl 1 rfl) ?_
  refine xg_lt F hZ.1 dX0_tryNext_35 ?_
  refine lv_iload_n hx hb dX0_tryNext_38 rfl (lv_at hl 2 rfl) ?_
  refine xa_lt F hZ.1 hlv dX0_tryNext_39 ?_
  refine lv_if_ne (tgt := 56) hx hb dX0_tryNext_40 (by decide) (fun c_1 => ?_) (fun c_1 => ?_)
  · skip
    refine lv_aload_n hx hb dX0_tryNext_56 rfl (lv_at hl 1 rfl) ?_
    refine lv_dup hx hb dX0_tryNext_57 rfl ?_
    refine xg_si F hZ.1 dX0_tryNext_58 ?_
    refine lv_iload_n hx hb dX0_tryNext_61 rfl (lv_at hl 0 rfl) ?_
    refine lv_ior hx hb dX0_tryNext_62 ?_
    refine xp_si F hZ dX0_tryNext_63 (fun H locs hZ => ?_)
    refine lv_aload_n hx hb dX0_tryNext_66 rfl (lv_at hl 1 rfl) ?_
    refine xg_lt F hZ.1 dX0_tryNext_67 ?_
    refine lv_iload_n hx hb dX0_tryNext_70 rfl (lv_at hl 2 rfl) ?_
    refine lv_dup2_11 hx hb dX0_tryNext_71 rfl rfl ?_
    refine xa_lt F hZ.1 hlv dX0_tryNext_72 ?_
    refine lv_iconst (v := 1) hx hb dX0_tryNext_73 (by decide) ?_
    refine lv_iadd hx hb dX0_tryNext_74 ?_
    refine lv_i2b (v := ((lt lv) + 1)) hx hb dX0_tryNext_75 h8 ?_
    refine xs_lt F hZ hlv h8 dX0_tryNext_76 (fun H locs hZ => ?_)
    refine lv_aload_n hx hb dX0_tryNext_77 rfl (lv_at hl 1 rfl) ?_
    refine kx_conclude F hZ hl.1 ⟨Nat.le_of_ble_eq_true rfl, Nat.le_of_ble_eq_true rfl⟩ (Nat.le_of_ble_eq_true rfl) dX0_tryNext_78 (fun i2 o2 b2 m2 H locs hu2 hZ => ?_)
    exact hret (i2, o2, b2, m2) dX0_tryNext_81 (by simp only [tnz, if_neg c_1]; exact hu2) hZ
  · skip
    refine lv_aload_n hx hb dX0_tryNext_43 rfl (lv_at hl 1 rfl) ?_
    refine lv_dup hx hb dX0_tryNext_44 rfl ?_
    refine xg_so F hZ.1 dX0_tryNext_45 ?_
    refine lv_iload_n hx hb dX0_tryNext_48 rfl (lv_at hl 0 rfl) ?_
    refine lv_ior hx hb dX0_tryNext_49 ?_
    refine xp_so F hZ dX0_tryNext_50 (fun H locs hZ => ?_)
    refine lv_goto (tgt := 66) hx hb dX0_tryNext_53 (by decide) ?_
    refine lv_aload_n hx hb dX0_tryNext_66 rfl (lv_at hl 1 rfl) ?_
    refine xg_lt F hZ.1 dX0_tryNext_67 ?_
    refine lv_iload_n hx hb dX0_tryNext_70 rfl (lv_at hl 2 rfl) ?_
    refine lv_dup2_11 hx hb dX0_tryNext_71 rfl rfl ?_
    refine xa_lt F hZ.1 hlv dX0_tryNext_72 ?_
    refine lv_iconst (v := 1) hx hb dX0_tryNext_73 (by decide) ?_
    refine lv_iadd hx hb dX0_tryNext_74 ?_
    refine lv_i2b (v := ((lt lv) + 1)) hx hb dX0_tryNext_75 h8 ?_
    refine xs_lt F hZ hlv h8 dX0_tryNext_76 (fun H locs hZ => ?_)
    refine lv_aload_n hx hb dX0_tryNext_77 rfl (lv_at hl 1 rfl) ?_
    refine kx_conclude F hZ hl.1 ⟨Nat.le_of_ble_eq_true rfl, Nat.le_of_ble_eq_true rfl⟩ (Nat.le_of_ble_eq_true rfl) dX0_tryNext_78 (fun i3 o3 b3 m3 H locs hu3 hZ => ?_)
    exact hret (i3, o3, b3, m3) dX0_tryNext_81 (by simp only [tnz, if_pos c_1]; exact hu3) hZ
theorem kx_tryNext {lv : Nat} (F : Fx RX0 D dB dZ dJ p m c cc nL s args) (hZ : XS D A s (XW dB q pr kd hd ps ng si so br mv li lo la lt kn ms) H locs) (hlv : lv < 8) (h8 : (lt lv + 1).toInt8.toInt32 = lt lv + 1) (hsz : ls.size = nL) (hR : rx_tryNext.frames + 1 ≤ R.frames ∧ 8 + (3 + 11) + rx_tryNext.locals ≤ R.locals) (hroom : (rest.map fun v => v.category).sum ≤ 8) (hdg : decode cc pc = .ok (.invokevirtual 101, 3)) (kk : ∀ (i1 o1 : Int32) (b1 m1 : Bool) (H1 : Heap) (locs1 : List Loc), (i1, o1, b1, m1) = cnc pr kd hd ps ng 14 ((tnz li lo la lt lv).1, (tnz li lo la lt lv).2, false, true) → XS D A s (XW dB q pr kd hd ps ng i1 o1 b1 m1 li lo la (upd lt lv (lt lv + 1)) kn ms) H1 locs1 → W p l e R s m args below meth c H1 locs1 0 0 Q (F0 m (pc + 3) ls rest)) : W p l e R s m args below meth c H locs 0 0 Q (F0 m pc ls (.int (nI lv) :: .ref (q 0) :: rest)) :=
  cl_V (q0 := 0) (ci := 0) (n := 1) (As := [.int (nI lv)]) F hZ (cx_tryNext l D dB dZ dJ q pr kd hd ps ng si so br mv li lo la lt kn ms lv hlv h8) (fun _ => rfl) rfl rfl (lw_V q151 q153 qs12 q20 q154) (by decide +kernel) rfl ⟨rfl, rfl⟩ hR hsz rfl hroom hdg ⟨Nat.zero_le _, Nat.zero_le _⟩ (fun u H1 locs1 hu hZ => kk u.1 u.2.1 u.2.2.1 u.2.2.2 H1 locs1 hu hZ)
end XB1
end
section
set_option maxRecDepth 100000
def stF (pr : Int32) (kd hd ps ng : Nat → Int32) : Nat → Bool := fun m => stb (bt pr) kd hd ps ng (nI m)
theorem nI_bit (pr : Int32) {j : Nat} (hj : j < 31) : ((pr >>> (nI j &&& 31)) &&& 1) = 0 ↔ bt pr j = false := by
  constructor
  · intro h
    have h1 : bt ((pr >>> (nI j &&& 31)) &&& 1) 0 = bt 0 0 := by rw [h]
    rw [b_and, b_sshr j (by omega) pr (by decide), b_0, if_pos (by omega)] at h1
    simpa [show bt 1 0 = true by decide] using h1
  · intro h
    apply b_ext
    intro i hi
    rw [b_and, b_0]
    by_cases h0 : i = 0
    · subst h0
      rw [b_sshr j (by omega) pr (by decide), if_pos (by omega)]
      simp [h]
    · rw [(by decide +kernel : ∀ i, i < 32 → i ≠ 0 → bt 1 i = false) i hi h0]
      simp
theorem has_bt {pr : Int32} {j : Nat} (hj : j < 10) : hasI pr (nI j) = 0 ↔ bt pr j = false := by
  unfold hasI
  rw [if_neg (nI_pos (by omega)), if_neg (show ¬ (10 : Int32) ≤ nI j from nI_ge (b := 10) hj (by decide)), ← nI_bit pr (by omega : j < 31)]
  constructor
  · intro h
    split at h
    · assumption
    · exact absurd h (by decide)
  · intro h
    rw [if_pos h]
theorem small_of {x : Int32} {n : Nat} (h0 : ¬ x < 0) (hn : n < 64) (h : ¬ nI n < x) : ∃ j, j ≤ n ∧ x = nI j := by
  obtain ⟨j, hj, e⟩ := nI_of h0
  subst e
  rcases Nat.lt_or_ge n j with q | q
  · exact absurd (nI_lt q hj) h
  · exact ⟨j, q, rfl⟩
theorem setI_nz {x : Int32} (h : ¬ setI x = 0) : ∃ j, j < 64 ∧ x = nI j := by
  unfold setI at h
  split at h
  · exact absurd rfl h
  · split at h
    · exact absurd rfl h
    · rename_i h1 h2
      obtain ⟨j, hj, e⟩ := small_of (n := 63) h1 (by decide) h2
      exact ⟨j, by omega, e⟩
theorem setI_nI {j : Nat} (h : j < 64) : setI (nI j) = 1 := by
  unfold setI
  rw [if_neg (nI_pos (by omega)), if_neg (show ¬ (63 : Int32) < nI j from nI_nlt (a := 63) (by omega) (by decide))]
theorem small8 {x : Int32} {n : Nat} (h0 : ¬ x < 0) (hn : n < 64) (h : ¬ nI n < x) : x.toInt8.toInt32 = x := by
  obtain ⟨j, hj, e⟩ := small_of h0 hn h
  subst e
  exact nI_8 j (by omega)
theorem small8' {x : Int32} {n : Nat} (h0 : ¬ x < 0) (hn : n < 64) (h : ¬ nI n ≤ x) : x.toInt8.toInt32 = x := by
  obtain ⟨j, hj, e⟩ := nI_of h0
  subst e
  rcases Nat.lt_or_ge j n with q | q
  · exact nI_8 j (by omega)
  · exact absurd (nI_le q hj) h
theorem setI_8 {x : Int32} (h : ¬ setI x = 0) : x.toInt8.toInt32 = x := by
  obtain ⟨j, hj, e⟩ := setI_nz h
  subst e
  exact nI_8 j hj
theorem bit1 (pr : Int32) {a : Nat} (ha : a < 32) {i : Nat} (hi : i < 32) : bt ((1 : Int32) <<< (nI a &&& 31)) i = decide (i = a) := by
  rw [b_shl a ha 1 hi]
  rcases Nat.lt_or_ge i a with h | h
  · simp [Nat.not_le.mpr h, Nat.ne_of_lt h]
  · by_cases e : i = a
    · subst e; simp [show bt 1 0 = true by decide]
    · rw [(by decide +kernel : ∀ i, i < 32 → i ≠ 0 → bt 1 i = false) (i - a) (by omega) (by omega)]
      simp [e]
theorem has_nI {pr x : Int32} (h : ¬ hasI pr x = 0) : ∃ j, j < 10 ∧ x = nI j ∧ bt pr j = true := by
  have h' := h
  unfold hasI at h
  split at h
  · exact absurd rfl h
  · split at h
    · exact absurd rfl h
    · rename_i h1 h2
      obtain ⟨j, hj, e⟩ := nI_of h1
      subst e
      have hlt : j < 10 := by
        rcases Nat.lt_or_ge j 10 with q | q
        · exact q
        · exact absurd (show nI 10 ≤ nI j from nI_le q hj) h2
      refine ⟨j, hlt, rfl, ?_⟩
      cases hb : bt pr j with
      | true => rfl
      | false => exact absurd ((has_bt hlt).mpr hb) h'
theorem has_back {pr x : Int32} (h : ¬ hasI pr x = 0) : ((pr &&& (((1 : Int32) <<< (x &&& 31)) ^^^ (-1))) ||| ((1 : Int32) <<< (x &&& 31))) = pr := by
  obtain ⟨j, hj, e, hb⟩ := has_nI h
  subst e
  apply b_ext
  intro i hi
  rw [b_or, b_and, b_xor, bit1 pr (by omega) hi, b_m1 i hi]
  by_cases e : i = j
  · subst e; simp [hb]
  · simp [e]
/-- answers -/
def xStb (pr : Int32) (kd hd ps ng : Nat → Int32) (x : Int32) : Int32 := if setI x = 0 then 0 else b2i (stb (bt pr) kd hd ps ng x)
def xFnd (f : Nat → Bool) (a b : Int32) : Int32 := if setI a = 0 then -1 else if setI b = 0 then -1 else aFnd f a b 64
def remP (pr x : Int32) : Int32 := if hasI pr x = 0 then pr else pr &&& (((1 : Int32) <<< (x &&& 31)) ^^^ (-1))
def xMat (pr : Int32) (kd hd ps ng : Nat → Int32) (x : Int32) : Int32 := if hasI pr x = 0 then 0 else b2i (dif (stF (remP pr x) kd hd ps ng) (stF pr kd hd ps ng) 64)
def addOkX (kind head pos neg : Int32) : Bool :=
  if kind = 2 then (if kind < 0 then false else if 2 < kind then false else if setI pos = 0 then false else if setI neg = 0 then false else true)
  else if head < 0 then false else if 6 ≤ head then false
  else (if kind < 0 then false else if 2 < kind then false else if setI pos = 0 then false else if setI neg = 0 then false else true)
abbrev CR : Type := Int32 × (Nat → Int32) × (Nat → Int32) × (Nat → Int32) × (Nat → Int32)
def addF (pr : Int32) (kd hd ps ng : Nat → Int32) (kind head pos neg : Int32) : Int32 × CR :=
  if addOkX kind head pos neg = true then
    (if ffr (bt pr) 10 = 10 then (-2, pr, kd, hd, ps, ng)
     else (nI (ffr (bt pr) 10), pr ||| ((1 : Int32) <<< (nI (ffr (bt pr) 10) &&& 31)), upd kd (ffr (bt pr) 10) kind, upd hd (ffr (bt pr) 10) (if kind = 2 then 0 else head), upd ps (ffr (bt pr) 10) pos, upd ng (ffr (bt pr) 10) neg))
  else (-1, pr, kd, hd, ps, ng)
theorem onesN_pos (x : Int32) : ¬ onesN x 6 < 0 := by
  have key : ∀ a, a ≤ 6 → ∃ n, n ≤ a ∧ onesN x a = nI n := by
    intro a
    induction a with
    | zero => exact fun _ => ⟨0, Nat.le_refl 0, rfl⟩
    | succ a ih =>
      intro ha
      obtain ⟨n, hn, e⟩ := ih (by omega)
      have hb : ((x >>> (nI a &&& 31)) &&& 1) = 0 ∨ ((x >>> (nI a &&& 31)) &&& 1) = 1 := by
        obtain ⟨j, hj, ej⟩ := pk_andE (x >>> (nI a &&& 31)) (m := 1) 1 (by decide)
        rw [ej]
        have : j = 0 ∨ j = 1 := by omega
        rcases this with q | q <;> subst q
        · exact Or.inl rfl
        · exact Or.inr rfl
      rw [onesN, e]
      rcases hb with q | q
      · rw [q]; exact ⟨n, by omega, by simp⟩
      · rw [q]; exact ⟨n + 1, by omega, nI_1 n⟩
  obtain ⟨n, hn, e⟩ := key 6 (Nat.le_refl 6)
  rw [e]
  exact nI_pos (by omega)
theorem mxX_cg {f g : Nat → Bool} (h : ∀ m, m < 64 → f m = g m) (mm : Nat) : ∀ r, mxX f mm r = mxX g mm r
  | 0 => rfl
  | r + 1 => by rw [mxX, mxX, mxX_cg h mm r, h (63 - r) (by omega)]
theorem dif_cg {f g f' g' : Nat → Bool} (hf : ∀ m, m < 64 → f m = f' m) (hg : ∀ m, m < 64 → g m = g' m) : ∀ j, j ≤ 64 → dif f g j = dif f' g' j
  | 0, _ => rfl
  | j + 1, h => by rw [dif, dif, dif_cg hf hg j (by omega), hf j (by omega), hg j (by omega)]
theorem dif_F {f g : Nat → Bool} : ∀ j, dif f g j = false ↔ ∀ m, m < j → f m = g m
  | 0 => ⟨fun _ m h => absurd h (Nat.not_lt_zero m), fun _ => rfl⟩
  | j + 1 => by
    rw [dif]
    constructor
    · intro h
      split at h
      · rename_i h1
        split at h
        · rename_i h2
          intro m hm
          rcases Nat.lt_succ_iff_lt_or_eq.mp hm with q | q
          · exact (dif_F j).mp (b2i_z.mp h1) m q
          · rw [q]; exact b2i_inj h2
        · exact absurd h (by decide)
      · exact absurd h (by decide)
    · intro h
      rw [if_pos (by rw [(dif_F j).mpr (fun m hm => h m (by omega))]; rfl), if_pos (by rw [h j (by omega)])]
theorem lb_ext {a b : Int64} (h : ∀ m, m < 64 → lb a m = lb b m) : a = b := Int64.toBitVec_inj.mp (BitVec.eq_of_getLsbD_eq (fun i hi => h i hi))
theorem lgc (a b : Int64) : lg_cmp a b = 0 ↔ a = b := by
  unfold lg_cmp
  constructor
  · intro h
    split at h
    · exact absurd h (by decide)
    · split at h
      · assumption
      · exact absurd h (by decide)
  · intro h
    subst h
    simp
end
section
set_option maxRecDepth 100000
/-! sets of six atoms as bits -/
theorem b_not (x : Int32) {i : Nat} (hi : i < 32) : bt (x ^^^ (-1)) i = !bt x i := by
  rw [b_xor, b_m1 i hi]
  cases bt x i <;> rfl
theorem eq0 {x : Int32} : x = 0 ↔ ∀ i, i < 32 → bt x i = false :=
  ⟨fun h i _ => by rw [h, b_0], fun h => b_ext (fun i hi => by rw [h i hi, b_0])⟩
theorem sub_iff {x y : Int32} (hx : S6 x) : (x &&& (y ^^^ (-1))) = 0 ↔ sbs x y := by
  rw [eq0]
  constructor
  · intro h i hi hb
    have h1 := h i (by omega)
    rw [b_and, b_not _ (by omega), hb] at h1
    simpa using h1
  · intro h i hi
    rw [b_and, b_not _ hi]
    by_cases h6 : i < 6
    · cases hb : bt x i with
      | false => rfl
      | true => rw [h i h6 hb]; rfl
    · rw [hx i (by omega)]; rfl
theorem dis_iff {x y : Int32} (hx : S6 x) : (x &&& y) = 0 ↔ dsj x y := by
  rw [eq0]
  constructor
  · intro h i hi hb
    have h1 := h i (by omega)
    rw [b_and, hb] at h1
    simpa using h1
  · intro h i hi
    rw [b_and]
    by_cases h6 : i < 6
    · cases hb : bt x i with
      | false => rfl
      | true => rw [h i h6 hb]; rfl
    · rw [hx i (by omega)]; rfl
theorem dsj_sym {x y : Int32} (h : dsj x y) : dsj y x := by
  intro i hi hb
  cases hx : bt x i with
  | false => rfl
  | true => rw [h i hi hx] at hb; cases hb
theorem S6_or {x y : Int32} (hx : S6 x) (hy : S6 y) : S6 (x ||| y) := fun i hi => by rw [b_or, hx i hi, hy i hi]; rfl
theorem S6_and {x : Int32} (hx : S6 x) (y : Int32) : S6 (x &&& y) := fun i hi => by rw [b_and, hx i hi]; rfl
theorem S6_0 : S6 0 := fun i _ => b_0 i
theorem S6_63 : S6 63 := by
  intro i hi
  rcases Nat.lt_or_ge i 32 with h | h
  · exact (by decide +kernel : ∀ i, i < 32 → 6 ≤ i → bt 63 i = false) i h hi
  · exact b_big h
theorem bt63 {i : Nat} (h : i < 6) : bt 63 i = true := (by decide +kernel : ∀ i, i < 6 → bt 63 i = true) i h
theorem S6_bit {a : Nat} (ha : a < 6) : S6 ((1 : Int32) <<< (nI a &&& 31)) := by
  intro i hi
  rcases Nat.lt_or_ge i 32 with h | h
  · rw [bit1 0 (by omega) h]
    exact decide_eq_false (by omega)
  · exact b_big h
theorem bitA {a : Nat} (ha : a < 6) {i : Nat} (hi : i < 6) : bt ((1 : Int32) <<< (nI a &&& 31)) i = decide (i = a) := bit1 0 (by omega) (by omega)
theorem S6_nI {m : Nat} (hm : m < 64) : S6 (nI m) := by
  intro i hi
  rcases Nat.lt_or_ge i 32 with h | h
  · exact (by decide +kernel : ∀ m, m < 64 → ∀ i, i < 32 → 6 ≤ i → bt (nI m) i = false) m hm i h hi
  · exact b_big h
theorem S6_ext {x y : Int32} (hx : S6 x) (hy : S6 y) (h : ∀ i, i < 6 → bt x i = bt y i) : x = y := by
  apply b_ext
  intro i _
  by_cases h6 : i < 6
  · exact h i h6
  · rw [hx i (by omega), hy i (by omega)]
theorem sbs_ext {x y : Int32} (hx : S6 x) (hy : S6 y) (h1 : sbs x y) (h2 : sbs y x) : x = y := by
  apply S6_ext hx hy
  intro i hi
  cases hb : bt x i with
  | true => exact (h1 i hi hb).symm
  | false =>
    cases hc : bt y i with
    | false => rfl
    | true => rw [h2 i hi hc] at hb; cases hb
theorem sbs_rf (x : Int32) : sbs x x := fun _ _ h => h
theorem sbs_tr {x y z : Int32} (h : sbs x y) (g : sbs y z) : sbs x z := fun i hi hb => g i hi (h i hi hb)
theorem sbs_orl (x y : Int32) : sbs x (x ||| y) := fun i _ hb => by rw [b_or, hb]; rfl
theorem sbs_orr (x y : Int32) : sbs y (x ||| y) := fun i _ hb => by rw [b_or, hb]; simp
theorem sbs_or {x y z : Int32} (h : sbs x z) (g : sbs y z) : sbs (x ||| y) z := by
  intro i hi hb
  rw [b_or, Bool.or_eq_true] at hb
  rcases hb with q | q
  · exact h i hi q
  · exact g i hi q
theorem dsj_or {x y z : Int32} (h : dsj x z) (g : dsj y z) : dsj (x ||| y) z := by
  intro i hi hb
  rw [b_or, Bool.or_eq_true] at hb
  rcases hb with q | q
  · exact h i hi q
  · exact g i hi q
theorem sbs_bit {a : Nat} (ha : a < 6) {z : Int32} (h : bt z a = true) : sbs ((1 : Int32) <<< (nI a &&& 31)) z := by
  intro i hi hb
  rw [bitA ha hi, decide_eq_true_eq] at hb
  rw [hb]; exact h
theorem dsj_bit {a : Nat} (ha : a < 6) {z : Int32} (h : bt z a = false) : dsj ((1 : Int32) <<< (nI a &&& 31)) z := by
  intro i hi hb
  rw [bitA ha hi, decide_eq_true_eq] at hb
  rw [hb]; exact h
theorem dsj_sbs {x y z : Int32} (h : sbs x y) (g : dsj y z) : dsj x z := fun i hi hb => g i hi (h i hi hb)
/-- counting -/
theorem tn_le {a b : Bool} (h : a = true → b = true) : a.toNat ≤ b.toNat := by
  cases a with
  | false => exact Nat.zero_le _
  | true => rw [h rfl]; exact Nat.le_refl _
theorem cnt_mono {x y : Int32} (h : sbs x y) : cnt x ≤ cnt y := by
  unfold cnt
  have h0 := tn_le (h 0 (by omega)); have h1 := tn_le (h 1 (by omega)); have h2 := tn_le (h 2 (by omega))
  have h3 := tn_le (h 3 (by omega)); have h4 := tn_le (h 4 (by omega)); have h5 := tn_le (h 5 (by omega))
  omega
theorem cnt_lt {x y : Int32} (h : sbs x y) {k : Nat} (hk : k < 6) (hx : bt x k = false) (hy : bt y k = true) : cnt x + 1 ≤ cnt y := by
  unfold cnt
  have h0 := tn_le (h 0 (by omega)); have h1 := tn_le (h 1 (by omega)); have h2 := tn_le (h 2 (by omega))
  have h3 := tn_le (h 3 (by omega)); have h4 := tn_le (h 4 (by omega)); have h5 := tn_le (h 5 (by omega))
  have e : (bt x k).toNat = 0 := by rw [hx]; rfl
  have f : (bt y k).toNat = 1 := by rw [hy]; rfl
  have hc : k = 0 ∨ k = 1 ∨ k = 2 ∨ k = 3 ∨ k = 4 ∨ k = 5 := by omega
  rcases hc with q | q | q | q | q | q <;> subst q <;> omega
theorem cnt_or {x y : Int32} (h : dsj x y) : cnt (x ||| y) = cnt x + cnt y := by
  have k : ∀ i, i < 6 → (bt (x ||| y) i).toNat = (bt x i).toNat + (bt y i).toNat := by
    intro i hi
    rw [b_or]
    cases hb : bt x i with
    | false => simp
    | true => rw [h i hi hb]; rfl
  unfold cnt
  rw [k 0 (by omega), k 1 (by omega), k 2 (by omega), k 3 (by omega), k 4 (by omega), k 5 (by omega)]
  omega
theorem tn_1 (a : Bool) : a.toNat ≤ 1 := by cases a <;> decide
theorem cnt_6 (x : Int32) : cnt x ≤ 6 := by
  unfold cnt
  have := tn_1 (bt x 0); have := tn_1 (bt x 1); have := tn_1 (bt x 2); have := tn_1 (bt x 3); have := tn_1 (bt x 4); have := tn_1 (bt x 5)
  omega
theorem cnt_5 {x : Int32} {k : Nat} (hk : k < 6) (h : bt x k = false) : cnt x ≤ 5 := by
  unfold cnt
  have := tn_1 (bt x 0); have := tn_1 (bt x 1); have := tn_1 (bt x 2); have := tn_1 (bt x 3); have := tn_1 (bt x 4); have := tn_1 (bt x 5)
  have e : (bt x k).toNat = 0 := by rw [h]; rfl
  have hc : k = 0 ∨ k = 1 ∨ k = 2 ∨ k = 3 ∨ k = 4 ∨ k = 5 := by omega
  rcases hc with q | q | q | q | q | q <;> subst q <;> omega
/-- ones -/
theorem and1 (x : Int32) {a : Nat} (ha : a < 31) : ((x >>> (nI a &&& 31)) &&& 1) = nI (bt x a).toNat := by
  cases hb : bt x a with
  | false => exact (nI_bit x ha).mpr hb
  | true =>
    apply b_ext
    intro i hi
    rw [b_and]
    by_cases h0 : i = 0
    · subst h0
      rw [b_sshr a (by omega) x (by decide), if_pos (by omega), Nat.add_zero, hb]
      decide
    · rw [(by decide +kernel : ∀ i, i < 32 → i ≠ 0 → bt 1 i = false) i hi h0, (by decide +kernel : ∀ i, i < 32 → i ≠ 0 → bt (nI (true).toNat) i = false) i hi h0]
      simp
theorem ones_cnt (x : Int32) : onesN x 6 = nI (cnt x) := by
  have e : onesN x 6 = 0 + ((x >>> (nI 0 &&& 31)) &&& 1) + ((x >>> (nI 1 &&& 31)) &&& 1) + ((x >>> (nI 2 &&& 31)) &&& 1) + ((x >>> (nI 3 &&& 31)) &&& 1) + ((x >>> (nI 4 &&& 31)) &&& 1) + ((x >>> (nI 5 &&& 31)) &&& 1) := rfl
  rw [e, and1 x (by decide), and1 x (by decide), and1 x (by decide), and1 x (by decide), and1 x (by decide), and1 x (by decide), show (0 : Int32) = nI 0 from rfl, nI_add, nI_add, nI_add, nI_add, nI_add, nI_add, Nat.zero_add]
  rfl
/-- all settled -/
theorem full_iff {x y : Int32} (hx : S6 x) (hy : S6 y) : (x ||| y) = 63 ↔ ∀ k, k < 6 → bt x k = true ∨ bt y k = true := by
  constructor
  · intro h k hk
    have h1 : bt (x ||| y) k = true := by rw [h]; exact bt63 hk
    rw [b_or, Bool.or_eq_true] at h1
    exact h1
  · intro h
    apply S6_ext (S6_or hx hy) S6_63
    intro i hi
    rw [bt63 hi, b_or, Bool.or_eq_true]
    exact h i hi
/-- exactly one -/
theorem cnt_0 {x : Int32} (h : cnt x = 0) {k : Nat} (hk : k < 6) : bt x k = false := by
  cases hb : bt x k with
  | false => rfl
  | true =>
    have := cnt_lt (x := 0) (y := x) (fun i _ h => by rw [b_0] at h; cases h) hk (b_0 k) hb
    omega
theorem cnt_1 {x : Int32} (h : cnt x = 1) : ∃ a, a < 6 ∧ bt x a = true ∧ ∀ k, k < 6 → bt x k = true → k = a := by
  have ex : ∃ a, a < 6 ∧ bt x a = true := by
    rcases Classical.em (∃ a, a < 6 ∧ bt x a = true) with q | q
    · exact q
    · have : cnt x ≤ cnt 0 := cnt_mono (fun i hi hb => absurd ⟨i, hi, hb⟩ q)
      have e : cnt 0 = 0 := by decide
      omega
  obtain ⟨a, ha, hb⟩ := ex
  refine ⟨a, ha, hb, fun k hk hbk => ?_⟩
  rcases Nat.lt_or_ge k a with q | q
  · exfalso
    have h2 := cnt_lt (x := (1 : Int32) <<< (nI a &&& 31)) (y := x) (sbs_bit ha hb) hk (by rw [bitA ha hk]; exact decide_eq_false (by omega)) hbk
    have h1 := cnt_lt (x := 0) (y := (1 : Int32) <<< (nI a &&& 31)) (fun i _ h => by rw [b_0] at h; cases h) ha (b_0 a) (by rw [bitA ha ha]; exact decide_eq_true rfl)
    omega
  · rcases Nat.eq_or_lt_of_le q with q | q
    · exact q.symm
    · exfalso
      have h2 := cnt_lt (x := (1 : Int32) <<< (nI a &&& 31)) (y := x) (sbs_bit ha hb) hk (by rw [bitA ha hk]; exact decide_eq_false (by omega)) hbk
      have h1 := cnt_lt (x := 0) (y := (1 : Int32) <<< (nI a &&& 31)) (fun i _ h => by rw [b_0] at h; cases h) ha (b_0 a) (by rw [bitA ha ha]; exact decide_eq_true rfl)
      omega
end
section
set_option maxRecDepth 100000
/-! what follows by rules, one after the other: gS a rule, gI ten rules, gR rounds -/
def gS (C : Nat → Bool) (hd ps : Nat → Int32) (j : Nat) (s : Int32) : Int32 := if C j = true then (if (ps j &&& (s ^^^ (-1))) = 0 then s ||| ((1 : Int32) <<< (hd j &&& 31)) else s) else s
def gI (C : Nat → Bool) (hd ps : Nat → Int32) (s : Int32) : Nat → Int32
  | 0 => s
  | j + 1 => gS C hd ps j (gI C hd ps s j)
def gR (C : Nat → Bool) (hd ps : Nat → Int32) : Nat → Int32
  | 0 => 0
  | t + 1 => gI C hd ps (gR C hd ps t) 10
section G
variable {kd hd ps ng : Nat → Int32} {C : Nat → Bool}
theorem gS_sub (j : Nat) (s : Int32) : sbs s (gS C hd ps j s) := by
  unfold gS
  split
  · split
    · exact sbs_orl _ _
    · exact sbs_rf _
  · exact sbs_rf _
theorem gS_S6 (hwf : WF kd hd ps ng) {j : Nat} (hj : j < 10) {s : Int32} (hs : S6 s) : S6 (gS C hd ps j s) := by
  obtain ⟨-, ⟨a, ha, eh⟩, -, -⟩ := hwf j hj
  unfold gS
  split
  · split
    · rw [eh]; exact S6_or hs (S6_bit ha)
    · exact hs
  · exact hs
theorem gS_in (hwf : WF kd hd ps ng) {j : Nat} (hj : j < 10) {s : Int32} {a : Nat} (ha : a < 6) (eh : hd j = nI a) (hc : C j = true) (hp : sbs (ps j) s) : bt (gS C hd ps j s) a = true := by
  obtain ⟨-, -, h6, -⟩ := hwf j hj
  unfold gS
  rw [if_pos hc, if_pos ((sub_iff h6).mpr hp), eh, b_or, bitA ha ha, decide_eq_true rfl]
  simp
theorem gS_or (hwf : WF kd hd ps ng) {j : Nat} (hj : j < 10) {s : Int32} {b : Nat} (hb6 : b < 6) (hb : bt (gS C hd ps j s) b = true) : bt s b = true ∨ (C j = true ∧ hd j = nI b ∧ sbs (ps j) s) := by
  obtain ⟨-, ⟨a, ha, eh⟩, h6, -⟩ := hwf j hj
  unfold gS at hb
  split at hb
  · rename_i hc
    split at hb
    · rename_i hp
      rw [eh, b_or, bitA ha hb6, Bool.or_eq_true, decide_eq_true_eq] at hb
      rcases hb with q | q
      · exact Or.inl q
      · exact Or.inr ⟨hc, by rw [eh, q], (sub_iff h6).mp hp⟩
    · exact Or.inl hb
  · exact Or.inl hb
theorem gI_S6 (hwf : WF kd hd ps ng) {s : Int32} (hs : S6 s) : ∀ j, j ≤ 10 → S6 (gI C hd ps s j)
  | 0, _ => hs
  | j + 1, h => gS_S6 hwf (by omega) (gI_S6 hwf hs j (by omega))
theorem gI_sub (s : Int32) : ∀ j, sbs s (gI C hd ps s j)
  | 0 => sbs_rf _
  | j + 1 => sbs_tr (gI_sub s j) (gS_sub j _)
theorem gI_up (s : Int32) (j : Nat) : ∀ k, sbs (gI C hd ps s j) (gI C hd ps s (j + k))
  | 0 => sbs_rf _
  | k + 1 => sbs_tr (gI_up s j k) (gS_sub (j + k) _)
theorem gI_or (hwf : WF kd hd ps ng) {s : Int32} {b : Nat} (hb6 : b < 6) : ∀ j, j ≤ 10 → bt (gI C hd ps s j) b = true → bt s b = true ∨ ∃ j', j' < 10 ∧ C j' = true ∧ hd j' = nI b ∧ sbs (ps j') (gI C hd ps s j)
  | 0, _, h => Or.inl h
  | j + 1, hj, h => by
    rcases gS_or hwf (by omega) hb6 h with q | ⟨q1, q2, q3⟩
    · rcases gI_or hwf hb6 j (by omega) q with r | ⟨j', r1, r2, r3, r4⟩
      · exact Or.inl r
      · exact Or.inr ⟨j', r1, r2, r3, sbs_tr r4 (gS_sub j _)⟩
    · exact Or.inr ⟨j, by omega, q1, q2, sbs_tr q3 (gS_sub j _)⟩
theorem gR_S6 (hwf : WF kd hd ps ng) : ∀ t, S6 (gR C hd ps t)
  | 0 => S6_0
  | t + 1 => gI_S6 hwf (gR_S6 hwf t) 10 (Nat.le_refl _)
theorem gR_up (t : Nat) : sbs (gR C hd ps t) (gR C hd ps (t + 1)) := gI_sub _ 10
/-- a head that is in comes from a rule that counts, whose positive body is in -/
theorem gR_or (hwf : WF kd hd ps ng) {b : Nat} (hb6 : b < 6) : ∀ t, bt (gR C hd ps t) b = true → ∃ j, j < 10 ∧ C j = true ∧ hd j = nI b ∧ sbs (ps j) (gR C hd ps t)
  | 0, h => by rw [gR, b_0] at h; cases h
  | t + 1, h => by
    rcases gI_or hwf hb6 10 (Nat.le_refl _) h with q | q
    · obtain ⟨j, r1, r2, r3, r4⟩ := gR_or hwf hb6 t q
      exact ⟨j, r1, r2, r3, sbs_tr r4 (gR_up t)⟩
    · exact q
def Clo (C : Nat → Bool) (hd ps : Nat → Int32) (X : Int32) : Prop := ∀ j, j < 10 → C j = true → sbs (ps j) X → ∀ a, a < 6 → hd j = nI a → bt X a = true
/-- the least closed set -/
theorem gI_least (hwf : WF kd hd ps ng) {X : Int32} (hX : Clo C hd ps X) {s : Int32} (hs : sbs s X) : ∀ j, j ≤ 10 → sbs (gI C hd ps s j) X
  | 0, _ => hs
  | j + 1, hj => by
    intro b hb6 hb
    have ih := gI_least hwf hX hs j (by omega)
    rcases gS_or hwf (by omega) hb6 hb with q | ⟨q1, q2, q3⟩
    · exact ih b hb6 q
    · exact hX j (by omega) q1 (sbs_tr q3 ih) b hb6 q2
theorem gR_least (hwf : WF kd hd ps ng) {X : Int32} (hX : Clo C hd ps X) : ∀ t, sbs (gR C hd ps t) X
  | 0 => fun i _ h => by rw [gR, b_0] at h; cases h
  | t + 1 => gI_least hwf hX (gR_least hwf hX t) 10 (Nat.le_refl _)
theorem fix_clo (hwf : WF kd hd ps ng) {s : Int32} (hs : S6 s) (h : gI C hd ps s 10 = s) : Clo C hd ps s := by
  intro j hj hc hp a ha eh
  have h1 : sbs (gI C hd ps s j) s := by
    have := gI_up (C := C) (hd := hd) (ps := ps) s j (10 - j)
    rw [show j + (10 - j) = 10 by omega, h] at this
    exact this
  have e1 : gI C hd ps s j = s := sbs_ext (gI_S6 hwf hs j (by omega)) hs h1 (gI_sub s j)
  have h2 : sbs (gI C hd ps s (j + 1)) s := by
    have := gI_up (C := C) (hd := hd) (ps := ps) s (j + 1) (9 - j)
    rw [show j + 1 + (9 - j) = 10 by omega, h] at this
    exact this
  apply h2 a ha
  show bt (gS C hd ps j (gI C hd ps s j)) a = true
  rw [e1]
  exact gS_in hwf hj ha eh hc hp
theorem gR_cnt (hwf : WF kd hd ps ng) : ∀ t, t ≤ cnt (gR C hd ps t) ∨ gI C hd ps (gR C hd ps t) 10 = gR C hd ps t
  | 0 => Or.inl (Nat.zero_le _)
  | t + 1 => by
    rcases gR_cnt hwf t with q | q
    · rcases Classical.em (gI C hd ps (gR C hd ps t) 10 = gR C hd ps t) with r | r
      · right
        show gI C hd ps (gI C hd ps (gR C hd ps t) 10) 10 = gI C hd ps (gR C hd ps t) 10
        rw [r, r]
      · left
        have hx : ∃ k, k < 6 ∧ bt (gR C hd ps t) k = false ∧ bt (gR C hd ps (t + 1)) k = true := by
          rcases Classical.em (∃ k, k < 6 ∧ bt (gR C hd ps t) k = false ∧ bt (gR C hd ps (t + 1)) k = true) with y | y
          · exact y
          · exfalso
            apply r
            refine sbs_ext (gR_S6 hwf (t + 1)) (gR_S6 hwf t) (fun i hi hb => ?_) (gR_up t)
            cases hc : bt (gR C hd ps t) i with
            | true => rfl
            | false => exact absurd ⟨i, hi, hc, hb⟩ y
        obtain ⟨k, hk, h1, h2⟩ := hx
        have := cnt_lt (gR_up t) hk h1 h2
        omega
    · right
      show gI C hd ps (gI C hd ps (gR C hd ps t) 10) 10 = gI C hd ps (gR C hd ps t) 10
      rw [q, q]
theorem gR_clo (hwf : WF kd hd ps ng) : Clo C hd ps (gR C hd ps 6) := by
  rcases gR_cnt (C := C) hwf 6 with q | q
  · intro j hj hc hp a ha eh
    cases hb : bt (gR C hd ps 6) a with
    | true => rfl
    | false =>
      have := cnt_5 ha hb
      omega
  · exact fix_clo hwf (gR_S6 hwf 6) q
/-- one family of rules within another -/
theorem gR_in (hwf : WF kd hd ps ng) {C' : Nat → Bool} (h : ∀ j, j < 10 → C j = true → sbs (ps j) (gR C hd ps 6) → C' j = true) : sbs (gR C hd ps 6) (gR C' hd ps 6) := by
  have hX : Clo C hd ps (gR C' hd ps 6 &&& gR C hd ps 6) := by
    intro j hj hc hp a ha eh
    have p1 : sbs (ps j) (gR C' hd ps 6) := fun i hi hb => by have := hp i hi hb; rw [b_and, Bool.and_eq_true] at this; exact this.1
    have p2 : sbs (ps j) (gR C hd ps 6) := fun i hi hb => by have := hp i hi hb; rw [b_and, Bool.and_eq_true] at this; exact this.2
    rw [b_and, gR_clo hwf j hj (h j hj hc p2) p1 a ha eh, gR_clo hwf j hj hc p2 a ha eh]
    rfl
  intro i hi hb
  have := gR_least hwf hX 6 i hi hb
  rw [b_and, Bool.and_eq_true] at this
  exact this.1
end G
/-! the model's support, and what stable means -/
section T
variable {th : Nat → Bool} {pr : Int32} {kd hd ps ng : Nat → Int32} {M : Int32}
def tkB (th : Nat → Bool) (kd hd ng : Nat → Int32) (M : Int32) (j : Nat) : Bool := !decide (tkI th kd hd ng j M = 0)
theorem msS_g (j : Nat) (s : Int32) : msS th kd hd ps ng M j s = gS (tkB th kd hd ng M) hd ps j s := by
  unfold msS gS tkB
  by_cases h : tkI th kd hd ng j M = 0
  · simp [h]
  · simp [h]
theorem msI_g (s : Int32) : ∀ j, msI th kd hd ps ng M s j = gI (tkB th kd hd ng M) hd ps s j
  | 0 => rfl
  | j + 1 => by rw [msI, gI, msI_g s j, msS_g]
theorem msR_g : ∀ t, msR th kd hd ps ng M t = gR (tkB th kd hd ng M) hd ps t
  | 0 => rfl
  | t + 1 => by rw [msR, gR, msR_g t, msI_g]
theorem tk_iff (hwf : WF kd hd ps ng) {j : Nat} (hj : j < 10) {a : Nat} (ha : a < 6) (eh : hd j = nI a) : tkB th kd hd ng M j = true ↔ th j = true ∧ dsj (ng j) M ∧ (kd j = 0 ∨ (kd j = 1 ∧ bt M a = true)) := by
  obtain ⟨-, -, -, h6⟩ := hwf j hj
  have hbit : (((M >>> (nI a &&& 31)) &&& 1) = 1) ↔ bt M a = true := by
    rw [and1 M (by omega)]
    cases bt M a <;> decide
  unfold tkB tkI
  rw [eh]
  constructor
  · intro h
    by_cases h1 : b2i (th j) = 0
    · rw [if_pos h1] at h; exact absurd h (by decide)
    · rw [if_neg h1] at h
      by_cases h2 : (ng j &&& M) = 0
      · rw [if_pos h2] at h
        refine ⟨b2i_nz.mp h1, (dis_iff h6).mp h2, ?_⟩
        by_cases h3 : kd j = 0
        · exact Or.inl h3
        · rw [if_neg h3] at h
          by_cases h4 : kd j = 1
          · rw [if_pos h4] at h
            by_cases h5 : ((M >>> (nI a &&& 31)) &&& 1) = 1
            · exact Or.inr ⟨h4, hbit.mp h5⟩
            · rw [if_neg h5] at h; exact absurd h (by decide)
          · rw [if_neg h4] at h; exact absurd h (by decide)
      · rw [if_neg h2] at h; exact absurd h (by decide)
  · rintro ⟨h1, h2, h3⟩
    rw [if_neg (b2i_nz.mpr h1), if_pos ((dis_iff h6).mpr h2)]
    rcases h3 with q | ⟨q, r⟩
    · rw [if_pos q]; decide
    · by_cases h0 : kd j = 0
      · rw [if_pos h0]; decide
      · rw [if_neg h0, if_pos q, if_pos (hbit.mpr r)]; decide
theorem ban_iff (hwf : WF kd hd ps ng) {j : Nat} (hj : j < 10) : banI th kd ps ng M j = true ↔ th j = true ∧ kd j = 2 ∧ sbs (ps j) M ∧ dsj (ng j) M := by
  obtain ⟨-, -, h5, h6⟩ := hwf j hj
  unfold banI
  constructor
  · intro h
    split at h
    · cases h
    · rename_i h1
      split at h
      · rename_i h2
        split at h
        · rename_i h3
          split at h
          · rename_i h4
            exact ⟨b2i_nz.mp h1, h2, (sub_iff h5).mp h3, (dis_iff h6).mp h4⟩
          · cases h
        · cases h
      · cases h
  · rintro ⟨h1, h2, h3, h4⟩
    rw [if_neg (b2i_nz.mpr h1), if_pos h2, if_pos ((sub_iff h5).mpr h3), if_pos ((dis_iff h6).mpr h4)]
theorem stL_iff : ∀ j, stL th kd hd ps ng M j = true ↔ stL th kd hd ps ng M 0 = true ∧ ∀ k, k < j → banI th kd ps ng M k = false
  | 0 => ⟨fun h => ⟨h, fun k hk => absurd hk (Nat.not_lt_zero k)⟩, fun h => h.1⟩
  | j + 1 => by
    rw [show stL th kd hd ps ng M (j + 1) = (if b2i (stL th kd hd ps ng M j) = 0 then false else if banI th kd ps ng M j = true then false else true) from rfl]
    constructor
    · intro h
      split at h
      · cases h
      · rename_i h1
        split at h
        · cases h
        · rename_i h2
          obtain ⟨a, b⟩ := (stL_iff j).mp (b2i_nz.mp h1)
          refine ⟨a, fun k hk => ?_⟩
          rcases Nat.lt_succ_iff_lt_or_eq.mp hk with q | q
          · exact b k q
          · rw [q]; simpa using h2
    · rintro ⟨a, b⟩
      have h1 := (stL_iff j).mpr ⟨a, fun k hk => b k (by omega)⟩
      rw [h1, if_neg (by decide), b j (by omega), if_neg (by decide)]
theorem stb_iff : stb th kd hd ps ng M = true ↔ ¬ setI M = 0 ∧ gR (tkB th kd hd ng M) hd ps 6 = M ∧ ∀ j, j < 10 → banI th kd ps ng M j = false := by
  unfold stb
  rw [stL_iff 10]
  constructor
  · rintro ⟨h, hb⟩
    rw [stL] at h
    split at h
    · cases h
    · rename_i h1
      split at h
      · rename_i h2
        rw [mSup, if_neg h1, msR_g] at h2
        exact ⟨h1, h2, hb⟩
      · cases h
  · rintro ⟨h1, h2, hb⟩
    refine ⟨?_, hb⟩
    rw [stL, if_neg h1, mSup, if_neg h1, msR_g, if_pos h2]
theorem set_S6 {x : Int32} (h : ¬ setI x = 0) : S6 x := by
  obtain ⟨j, hj, e⟩ := setI_nz h
  rw [e]; exact S6_nI hj
theorem S6_small {x : Int32} (h : S6 x) : ∃ m, m < 64 ∧ x = nI m := by
  refine ⟨(bt x 0).toNat + 2 * (bt x 1).toNat + 4 * (bt x 2).toNat + 8 * (bt x 3).toNat + 16 * (bt x 4).toNat + 32 * (bt x 5).toNat, ?_, ?_⟩
  · have := tn_1 (bt x 0); have := tn_1 (bt x 1); have := tn_1 (bt x 2); have := tn_1 (bt x 3); have := tn_1 (bt x 4); have := tn_1 (bt x 5)
    omega
  · have key : ∀ (a b c d e f : Bool), ∀ i, i < 6 → bt (nI (a.toNat + 2 * b.toNat + 4 * c.toNat + 8 * d.toNat + 16 * e.toNat + 32 * f.toNat)) i = (if i = 0 then a else if i = 1 then b else if i = 2 then c else if i = 3 then d else if i = 4 then e else f) := by decide +kernel
    apply S6_ext h (S6_nI (by have := tn_1 (bt x 0); have := tn_1 (bt x 1); have := tn_1 (bt x 2); have := tn_1 (bt x 3); have := tn_1 (bt x 4); have := tn_1 (bt x 5); omega))
    intro i hi
    rw [key _ _ _ _ _ _ i hi]
    have hc : i = 0 ∨ i = 1 ∨ i = 2 ∨ i = 3 ∨ i = 4 ∨ i = 5 := by omega
    rcases hc with q | q | q | q | q | q <;> subst q <;> rfl
/-- what a stable set gives -/
theorem St_S6 (h : St pr kd hd ps ng M) : S6 M := set_S6 (stb_iff.mp h).1
theorem St_clo (hwf : WF kd hd ps ng) (h : St pr kd hd ps ng M) {j : Nat} (hj : j < 10) {a : Nat} (ha : a < 6) (eh : hd j = nI a) (ht : bt pr j = true) (hn : dsj (ng j) M) (hk : kd j = 0 ∨ (kd j = 1 ∧ bt M a = true)) (hp : sbs (ps j) M) : bt M a = true := by
  obtain ⟨-, h2, -⟩ := stb_iff.mp h
  have := gR_clo (C := tkB (bt pr) kd hd ng M) hwf j hj ((tk_iff hwf hj ha eh).mpr ⟨ht, hn, hk⟩) (by rw [h2]; exact hp) a ha eh
  rw [h2] at this
  exact this
theorem St_or (hwf : WF kd hd ps ng) (h : St pr kd hd ps ng M) {a : Nat} (ha : a < 6) (hb : bt M a = true) : ∃ j, j < 10 ∧ hd j = nI a ∧ bt pr j = true ∧ dsj (ng j) M ∧ (kd j = 0 ∨ (kd j = 1 ∧ bt M a = true)) ∧ sbs (ps j) M := by
  obtain ⟨-, h2, -⟩ := stb_iff.mp h
  have hb' : bt (gR (tkB (bt pr) kd hd ng M) hd ps 6) a = true := by rw [h2]; exact hb
  obtain ⟨j, hj, hc, eh, hp⟩ := gR_or hwf ha 6 hb'
  rw [h2] at hp
  obtain ⟨r1, r2, r3⟩ := (tk_iff hwf hj ha eh).mp hc
  exact ⟨j, hj, eh, r1, r2, r3, hp⟩
theorem St_ban (hwf : WF kd hd ps ng) (h : St pr kd hd ps ng M) {j : Nat} (hj : j < 10) (ht : bt pr j = true) (hk : kd j = 2) (hp : sbs (ps j) M) (hn : dsj (ng j) M) : False := by
  obtain ⟨-, -, h3⟩ := stb_iff.mp h
  have := (ban_iff (th := bt pr) (M := M) hwf hj).mpr ⟨ht, hk, hp, hn⟩
  rw [h3 j hj] at this
  cases this
end T
end
section
set_option maxRecDepth 100000
/-! one conclusion: what it keeps (Gd), and that it loses no stable set (Sd) -/
def OKz (z : Q4) : Prop := S6 z.1 ∧ S6 z.2.1 ∧ (z.2.2.1 = false → dsj z.1 z.2.1)
def Gd (z w : Q4) : Prop := OKz w ∧ sbs z.1 w.1 ∧ sbs z.2.1 w.2.1 ∧ (w.2.2.1 = false → z.2.2.1 = false) ∧ (w.2.2.2 = false → z.2.2.2 = false ∧ w.1 = z.1 ∧ w.2.1 = z.2.1) ∧ (w.2.2.2 = true → z.2.2.2 = true ∨ cnt z.1 + cnt z.2.1 + 1 ≤ cnt w.1 + cnt w.2.1) ∧ cnt z.1 + cnt z.2.1 ≤ cnt w.1 + cnt w.2.1
def Sd (M : Int32) (z w : Q4) : Prop := z.2.2.1 = false → Ext z.1 z.2.1 M → w.2.2.1 = false ∧ Ext w.1 w.2.1 M
theorem Gd_rf {z : Q4} (h : OKz z) : Gd z z := ⟨h, sbs_rf _, sbs_rf _, id, fun q => ⟨q, rfl, rfl⟩, fun q => Or.inl q, Nat.le_refl _⟩
theorem Gd_tr {z w v : Q4} (h : Gd z w) (g : Gd w v) : Gd z v := by
  obtain ⟨a1, a2, a3, a4, a5, a6, a7⟩ := h
  obtain ⟨b1, b2, b3, b4, b5, b6, b7⟩ := g
  refine ⟨b1, sbs_tr a2 b2, sbs_tr a3 b3, fun q => a4 (b4 q), fun q => ?_, fun q => ?_, by omega⟩
  · obtain ⟨c1, c2, c3⟩ := b5 q
    obtain ⟨d1, d2, d3⟩ := a5 c1
    exact ⟨d1, c2.trans d2, c3.trans d3⟩
  · rcases b6 q with r | r
    · rcases a6 r with t | t
      · exact Or.inl t
      · exact Or.inr (by omega)
    · exact Or.inr (by omega)
theorem Sd_rf (M : Int32) (z : Q4) : Sd M z z := fun a b => ⟨a, b⟩
theorem Sd_tr {M : Int32} {z w v : Q4} (h : Sd M z w) (g : Sd M w v) : Sd M z v := fun a b => by
  obtain ⟨c, d⟩ := h a b
  exact g c d
theorem Ext_dsj {i o M : Int32} (h : Ext i o M) : dsj i o := by
  intro k hk hb
  have h1 := h.1 k hk hb
  cases ho : bt o k with
  | false => rfl
  | true => rw [h.2 k hk ho] at h1; cases h1
theorem nsbs {x y : Int32} (h : ¬ sbs x y) : ∃ k, k < 6 ∧ bt x k = true ∧ bt y k = false := by
  rcases Classical.em (∃ k, k < 6 ∧ bt x k = true ∧ bt y k = false) with q | q
  · exact q
  · exfalso
    apply h
    intro i hi hb
    cases hc : bt y i with
    | true => rfl
    | false => exact absurd ⟨i, hi, hb, hc⟩ q
theorem pIn_Gd {x : Int32} (hx : S6 x) {z : Q4} (hz : OKz z) : Gd z (pIn x z.1 z.2.1 z.2.2.1 z.2.2.2) := by
  obtain ⟨i, o, b, mv⟩ := z
  obtain ⟨hi, ho, hb⟩ := hz
  unfold pIn
  split
  · split
    · exact Gd_rf ⟨hi, ho, hb⟩
    · exact ⟨⟨hi, ho, (fun q => by cases q)⟩, sbs_rf _, sbs_rf _, (fun q => by cases q), fun q => ⟨q, rfl, rfl⟩, fun q => Or.inl q, Nat.le_refl _⟩
  · rename_i h
    obtain ⟨k, hk, h1, h2⟩ := nsbs (fun q => h ((sub_iff hx).mpr q))
    have hc : cnt i + 1 ≤ cnt (i ||| x) := cnt_lt (sbs_orl _ _) hk h2 (sbs_orr _ _ k hk h1)
    split
    · rename_i h3
      exact ⟨⟨S6_or hi hx, ho, fun _ => (dis_iff (S6_or hi hx)).mp h3⟩, sbs_orl _ _, sbs_rf _, id, (fun q => by cases q), fun _ => Or.inr (by show cnt i + cnt o + 1 ≤ cnt (i ||| x) + cnt o; omega), by show cnt i + cnt o ≤ cnt (i ||| x) + cnt o; omega⟩
    · exact ⟨⟨S6_or hi hx, ho, (fun q => by cases q)⟩, sbs_orl _ _, sbs_rf _, (fun q => by cases q), (fun q => by cases q), fun _ => Or.inr (by show cnt i + cnt o + 1 ≤ cnt (i ||| x) + cnt o; omega), by show cnt i + cnt o ≤ cnt (i ||| x) + cnt o; omega⟩
theorem pOut_Gd {x : Int32} (hx : S6 x) {z : Q4} (hz : OKz z) : Gd z (pOut x z.1 z.2.1 z.2.2.1 z.2.2.2) := by
  obtain ⟨i, o, b, mv⟩ := z
  obtain ⟨hi, ho, hb⟩ := hz
  unfold pOut
  split
  · split
    · exact Gd_rf ⟨hi, ho, hb⟩
    · exact ⟨⟨hi, ho, (fun q => by cases q)⟩, sbs_rf _, sbs_rf _, (fun q => by cases q), fun q => ⟨q, rfl, rfl⟩, fun q => Or.inl q, Nat.le_refl _⟩
  · rename_i h
    obtain ⟨k, hk, h1, h2⟩ := nsbs (fun q => h ((sub_iff hx).mpr q))
    have hc : cnt o + 1 ≤ cnt (o ||| x) := cnt_lt (sbs_orl _ _) hk h2 (sbs_orr _ _ k hk h1)
    split
    · rename_i h3
      exact ⟨⟨hi, S6_or ho hx, fun _ => (dis_iff hi).mp h3⟩, sbs_rf _, sbs_orl _ _, id, (fun q => by cases q), fun _ => Or.inr (by show cnt i + cnt o + 1 ≤ cnt i + cnt (o ||| x); omega), by show cnt i + cnt o ≤ cnt i + cnt (o ||| x); omega⟩
    · exact ⟨⟨hi, S6_or ho hx, (fun q => by cases q)⟩, sbs_rf _, sbs_orl _ _, (fun q => by cases q), (fun q => by cases q), fun _ => Or.inr (by show cnt i + cnt o + 1 ≤ cnt i + cnt (o ||| x); omega), by show cnt i + cnt o ≤ cnt i + cnt (o ||| x); omega⟩
theorem pIn_Sd {x M : Int32} (hx : S6 x) {z : Q4} (hz : OKz z) (hM : sbs x M) : Sd M z (pIn x z.1 z.2.1 z.2.2.1 z.2.2.2) := by
  obtain ⟨i, o, b, mv⟩ := z
  obtain ⟨hi, ho, hb⟩ := hz
  intro q1 q2
  have q1 : b = false := q1
  have q2 : Ext i o M := q2
  subst q1
  unfold pIn
  split
  · split
    · exact ⟨rfl, q2⟩
    · rename_i h
      exact absurd ((dis_iff hi).mpr (Ext_dsj q2)) h
  · have e : Ext (i ||| x) o M := ⟨sbs_or q2.1 hM, q2.2⟩
    split
    · exact ⟨rfl, e⟩
    · rename_i h
      exact absurd ((dis_iff (S6_or hi hx)).mpr (Ext_dsj e)) h
theorem pOut_Sd {x M : Int32} (hx : S6 x) {z : Q4} (hz : OKz z) (hM : dsj x M) : Sd M z (pOut x z.1 z.2.1 z.2.2.1 z.2.2.2) := by
  obtain ⟨i, o, b, mv⟩ := z
  obtain ⟨hi, ho, hb⟩ := hz
  intro q1 q2
  have q1 : b = false := q1
  have q2 : Ext i o M := q2
  subst q1
  unfold pOut
  split
  · split
    · exact ⟨rfl, q2⟩
    · rename_i h
      exact absurd ((dis_iff hi).mpr (Ext_dsj q2)) h
  · have e : Ext i (o ||| x) M := ⟨q2.1, dsj_or q2.2 hM⟩
    split
    · exact ⟨rfl, e⟩
    · rename_i h
      exact absurd ((dis_iff hi).mpr (Ext_dsj e)) h
section ST
variable {pr : Int32} {kd hd ps ng : Nat → Int32} {M : Int32}
theorem hld_iff (hwf : WF kd hd ps ng) {j : Nat} (hj : j < 10) {i o : Int32} : ¬ hldI ps ng i o j = 0 ↔ sbs (ps j) i ∧ sbs (ng j) o := by
  obtain ⟨-, -, h5, h6⟩ := hwf j hj
  rw [← sub_iff h5, ← sub_iff h6]
  unfold hldI
  constructor
  · intro h
    split at h
    · rename_i h1
      split at h
      · rename_i h2; exact ⟨h1, h2⟩
      · exact absurd rfl h
    · exact absurd rfl h
  · rintro ⟨h1, h2⟩
    rw [if_pos h1, if_pos h2]
    decide
theorem fls_iff (hwf : WF kd hd ps ng) {j : Nat} (hj : j < 10) {i o : Int32} : flsI ps ng i o j = 0 ↔ dsj (ps j) o ∧ dsj (ng j) i := by
  obtain ⟨-, -, h5, h6⟩ := hwf j hj
  rw [← dis_iff h5, ← dis_iff h6]
  unfold flsI
  constructor
  · intro h
    split at h
    · rename_i h1
      split at h
      · rename_i h2; exact ⟨h1, h2⟩
      · exact absurd h (by decide)
    · exact absurd h (by decide)
  · rintro ⟨h1, h2⟩
    rw [if_pos h1, if_pos h2]
theorem fwS_Gd (hwf : WF kd hd ps ng) {j : Nat} (hj : j < 10) {z : Q4} (hz : OKz z) : Gd z (fwS ps ng j z.1 z.2.1 z.2.2.1 z.2.2.2) := by
  obtain ⟨-, -, h5, h6⟩ := hwf j hj
  unfold fwS
  split
  · split
    · have g := pOut_Gd (S6_and h5 (z.1 ^^^ (-1))) hz
      exact Gd_tr g (pIn_Gd (S6_and h6 _) g.1)
    · exact Gd_rf hz
  · exact Gd_rf hz
theorem bt_an {x y : Int32} {k : Nat} (hk : k < 6) : bt (x &&& (y ^^^ (-1))) k = (bt x k && !bt y k) := by
  rw [b_and, b_not _ (by omega)]
theorem fwS_Sd (hwf : WF kd hd ps ng) {j : Nat} (hj : j < 10) {z : Q4} (hz : OKz z) (hno : ¬ (sbs (ps j) M ∧ dsj (ng j) M)) : Sd M z (fwS ps ng j z.1 z.2.1 z.2.2.1 z.2.2.2) := by
  obtain ⟨-, -, h5, h6⟩ := hwf j hj
  intro q1 q2
  unfold fwS
  split
  · split
    · rename_i h1
      have g := pOut_Gd (S6_and h5 (z.1 ^^^ (-1))) hz
      rw [ones_cnt, ones_cnt, nI_add] at h1
      have c6 := cnt_6 (ps j &&& (z.1 ^^^ (-1))); have d6 := cnt_6 (ng j &&& (z.2.1 ^^^ (-1)))
      have h1 : cnt (ps j &&& (z.1 ^^^ (-1))) + cnt (ng j &&& (z.2.1 ^^^ (-1))) = 1 := (nI_eq (by omega) (by decide)).mp h1
      have hc : (cnt (ps j &&& (z.1 ^^^ (-1))) = 1 ∧ cnt (ng j &&& (z.2.1 ^^^ (-1))) = 0) ∨ (cnt (ps j &&& (z.1 ^^^ (-1))) = 0 ∧ cnt (ng j &&& (z.2.1 ^^^ (-1))) = 1) := by omega
      have hIO : dsj (ps j &&& (z.1 ^^^ (-1))) M ∧ sbs (ng j &&& (z.2.1 ^^^ (-1))) M := by
        rcases hc with ⟨e1, e2⟩ | ⟨e1, e2⟩
        · obtain ⟨a, ha, hb, hu⟩ := cnt_1 e1
          have hn : dsj (ng j) M := by
            intro k hk hbk
            have h0 := cnt_0 e2 hk
            rw [bt_an hk, hbk] at h0
            exact q2.2 k hk (by simpa using h0)
          have hma : bt M a = false := by
            cases hm : bt M a with
            | false => rfl
            | true =>
              exfalso
              apply hno
              refine ⟨fun k hk hbk => ?_, hn⟩
              cases hik : bt z.1 k with
              | true => exact q2.1 k hk hik
              | false =>
                have := hu k hk (by rw [bt_an hk, hbk, hik]; rfl)
                rw [this]; exact hm
          refine ⟨fun k hk hbk => by rw [hu k hk hbk]; exact hma, fun k hk hbk => ?_⟩
          rw [cnt_0 e2 hk] at hbk; cases hbk
        · obtain ⟨a, ha, hb, hu⟩ := cnt_1 e2
          have hp : sbs (ps j) M := by
            intro k hk hbk
            have h0 := cnt_0 e1 hk
            rw [bt_an hk, hbk] at h0
            exact q2.1 k hk (by simpa using h0)
          have hma : bt M a = true := by
            cases hm : bt M a with
            | true => rfl
            | false =>
              exfalso
              apply hno
              refine ⟨hp, fun k hk hbk => ?_⟩
              cases hik : bt z.2.1 k with
              | true => exact q2.2 k hk hik
              | false =>
                have := hu k hk (by rw [bt_an hk, hbk, hik]; rfl)
                rw [this]; exact hm
          refine ⟨fun k hk hbk => ?_, fun k hk hbk => by rw [hu k hk hbk]; exact hma⟩
          rw [cnt_0 e1 hk] at hbk; cases hbk
      have s1 := pOut_Sd (M := M) (S6_and h5 (z.1 ^^^ (-1))) hz hIO.1
      have s2 := pIn_Sd (M := M) (S6_and h6 (z.2.1 ^^^ (-1))) g.1 hIO.2
      exact Sd_tr s1 s2 q1 q2
    · exact ⟨q1, q2⟩
  · exact ⟨q1, q2⟩
theorem fwH_Gd (hwf : WF kd hd ps ng) {j : Nat} (hj : j < 10) {z : Q4} (hz : OKz z) : Gd z (fwH kd hd j z.1 z.2.1 z.2.2.1 z.2.2.2) := by
  obtain ⟨-, ⟨a, ha, eh⟩, -, -⟩ := hwf j hj
  unfold fwH
  split
  · rw [eh]; exact pIn_Gd (S6_bit ha) hz
  · split
    · exact ⟨⟨hz.1, hz.2.1, (fun q => by cases q)⟩, sbs_rf _, sbs_rf _, (fun q => by cases q), fun q => ⟨q, rfl, rfl⟩, fun q => Or.inl q, Nat.le_refl _⟩
    · exact Gd_rf hz
theorem fwd_Gd (hwf : WF kd hd ps ng) {j : Nat} (hj : j < 10) {z : Q4} (hz : OKz z) : Gd z (fwd kd hd ps ng j z.1 z.2.1 z.2.2.1 z.2.2.2) := by
  unfold fwd
  split
  · split
    · exact fwS_Gd hwf hj hz
    · split
      · split
        · exact Gd_rf hz
        · exact fwS_Gd hwf hj hz
      · exact Gd_rf hz
  · exact fwH_Gd hwf hj hz
theorem fwd_Sd (hwf : WF kd hd ps ng) (hM : St pr kd hd ps ng M) {j : Nat} (hj : j < 10) (ht : bt pr j = true) {z : Q4} (hz : OKz z) : Sd M z (fwd kd hd ps ng j z.1 z.2.1 z.2.2.1 z.2.2.2) := by
  obtain ⟨hk3, ⟨a, ha, eh⟩, h5, h6⟩ := hwf j hj
  unfold fwd
  split
  · split
    · rename_i h1 h2
      exact fwS_Sd hwf hj hz (fun q => St_ban hwf hM hj ht h2 q.1 q.2)
    · split
      · rename_i h1 h2 h3
        split
        · exact Sd_rf _ _
        · rename_i h4
          intro q1 q2
          refine fwS_Sd hwf hj hz (fun q => ?_) q1 q2
          have hm := St_clo hwf hM hj ha eh ht q.2 (Or.inl h3) q.1
          have ho : bt z.2.1 a = true := by
            cases hc : bt z.2.1 a with
            | true => rfl
            | false => exact absurd (by rw [eh]; exact (nI_bit _ (by omega)).mpr hc) h4
          rw [q2.2 a ha ho] at hm
          cases hm
      · exact Sd_rf _ _
  · rename_i h1
    obtain ⟨hp, hn⟩ := (hld_iff hwf hj).mp h1
    intro q1 q2
    have hp' : sbs (ps j) M := sbs_tr hp q2.1
    have hn' : dsj (ng j) M := dsj_sbs hn q2.2
    unfold fwH
    split
    · rename_i h2
      have hm := St_clo hwf hM hj ha eh ht hn' (Or.inl h2) hp'
      rw [eh]
      exact pIn_Sd (S6_bit ha) hz (sbs_bit ha hm) q1 q2
    · split
      · rename_i h2 h3
        exact absurd (St_ban hwf hM hj ht h3 hp' hn') id
      · exact ⟨q1, q2⟩
/-- a quiet step says what it found -/
theorem fwd_q (hwf : WF kd hd ps ng) {j : Nat} (hj : j < 10) {z : Q4} (hb : (fwd kd hd ps ng j z.1 z.2.1 z.2.2.1 z.2.2.2).2.2.1 = false) (hm : (fwd kd hd ps ng j z.1 z.2.1 z.2.2.1 z.2.2.2).2.2.2 = false) (hp : sbs (ps j) z.1) (hn : sbs (ng j) z.2.1) : kd j ≠ 2 ∧ (kd j = 0 → ∀ a, a < 6 → hd j = nI a → bt z.1 a = true) := by
  have h1 := (hld_iff hwf hj).mpr ⟨hp, hn⟩
  rw [fwd, if_neg h1, fwH] at hb hm
  refine ⟨fun h2 => ?_, fun h0 a ha eh => ?_⟩
  · rw [if_neg (by rw [h2]; decide), if_pos h2] at hb
    cases hb
  · rw [if_pos h0, eh] at hm
    unfold pIn at hm
    split at hm
    · rename_i h3
      exact (sub_iff (S6_bit ha)).mp h3 a ha (by rw [bitA ha ha]; exact decide_eq_true rfl)
    · split at hm <;> cases hm
/-! backward -/
theorem bok_iff (hwf : WF kd hd ps ng) {i o : Int32} {a j : Nat} (hj : j < 10) : bokI pr kd hd ps ng i o a j = true ↔ bt pr j = true ∧ kd j ≠ 2 ∧ hd j = nI a ∧ dsj (ps j) o ∧ dsj (ng j) i := by
  rw [← fls_iff hwf hj]
  unfold bokI
  constructor
  · intro h
    split at h
    · cases h
    · rename_i h1
      split at h
      · cases h
      · rename_i h2
        split at h
        · rename_i h3
          split at h
          · rename_i h4
            refine ⟨?_, h2, h3, h4⟩
            cases hb : bt pr j with
            | true => rfl
            | false => exact absurd ((has_bt hj).mpr hb) h1
          · cases h
        · cases h
  · rintro ⟨h1, h2, h3, h4⟩
    rw [if_neg (fun q => by rw [(has_bt hj).mp q] at h1; cases h1), if_neg h2, if_pos h3, if_pos h4]
theorem bwL_0 (f : Nat → Bool) : ∀ j, (bwL f j).1 = 0 → ∀ k, k < j → f k = false
  | 0, _, k, hk => absurd hk (Nat.not_lt_zero k)
  | j + 1, h, k, hk => by
    rw [bwL] at h
    split at h
    · exact absurd h (Nat.succ_ne_zero _)
    · rename_i h1
      rcases Nat.lt_succ_iff_lt_or_eq.mp hk with q | q
      · exact bwL_0 f j h k q
      · rw [q]; simpa using h1
theorem bwL_1 (f : Nat → Bool) : ∀ j, (bwL f j).1 = 1 → ∀ k, k < j → f k = true → k = (bwL f j).2
  | 0, _, k, hk, _ => absurd hk (Nat.not_lt_zero k)
  | j + 1, h, k, hk, hf => by
    rw [bwL] at h ⊢
    split at h
    · rename_i h1
      rw [if_pos h1]
      have h0 : (bwL f j).1 = 0 := Nat.succ.inj h
      rcases Nat.lt_succ_iff_lt_or_eq.mp hk with q | q
      · rw [bwL_0 f j h0 k q] at hf; cases hf
      · exact q
    · rename_i h1
      rw [if_neg h1]
      rcases Nat.lt_succ_iff_lt_or_eq.mp hk with q | q
      · exact bwL_1 f j h k q hf
      · rw [q] at hf; exact absurd hf h1
theorem bwd_Gd (hwf : WF kd hd ps ng) (a : Nat) {z : Q4} (hz : OKz z) : Gd z (bwd pr kd hd ps ng a z.1 z.2.1 z.2.2.1 z.2.2.2) := by
  unfold bwd
  split
  · exact Gd_rf hz
  · split
    · exact ⟨⟨hz.1, hz.2.1, (fun q => by cases q)⟩, sbs_rf _, sbs_rf _, (fun q => by cases q), fun q => ⟨q, rfl, rfl⟩, fun q => Or.inl q, Nat.le_refl _⟩
    · split
      · rename_i h1 h2 h3
        obtain ⟨-, -, h5, h6⟩ := hwf _ (bwL_in (bokI pr kd hd ps ng z.1 z.2.1 a) 10 h2)
        have g := pIn_Gd h5 hz
        exact Gd_tr g (pOut_Gd h6 g.1)
      · exact Gd_rf hz
theorem bwd_Sd (hwf : WF kd hd ps ng) (hM : St pr kd hd ps ng M) {a : Nat} (ha : a < 6) {z : Q4} (hz : OKz z) : Sd M z (bwd pr kd hd ps ng a z.1 z.2.1 z.2.2.1 z.2.2.2) := by
  intro q1 q2
  unfold bwd
  split
  · exact ⟨q1, q2⟩
  · rename_i h1
    have hia : bt z.1 a = true := by
      cases hc : bt z.1 a with
      | true => rfl
      | false => exact absurd ((nI_bit _ (by omega)).mpr hc) h1
    obtain ⟨j, hj, eh, ht, hn, hk, hp⟩ := St_or hwf hM ha (q2.1 a ha hia)
    have hok : bokI pr kd hd ps ng z.1 z.2.1 a j = true := by
      refine (bok_iff hwf hj).mpr ⟨ht, ?_, eh, dsj_sym (fun k hk hb => ?_), dsj_sym (fun k hk hb => ?_)⟩
      · rcases hk with q | ⟨q, -⟩ <;> rw [q] <;> decide
      · cases hc : bt (ps j) k with
        | false => rfl
        | true => have := hp k hk hc; rw [q2.2 k hk hb] at this; cases this
      · cases hc : bt (ng j) k with
        | false => rfl
        | true => have := hn k hk hc; rw [q2.1 k hk hb] at this; cases this
    split
    · rename_i h2
      rw [bwL_0 _ 10 h2 j hj] at hok; cases hok
    · split
      · rename_i h2 h3
        have e := bwL_1 _ 10 h3 j hj hok
        obtain ⟨-, -, h5, h6⟩ := hwf j hj
        rw [← e]
        have g := pIn_Gd h5 hz
        exact Sd_tr (pIn_Sd h5 hz hp) (pOut_Sd h6 g.1 hn) q1 q2
      · exact ⟨q1, q2⟩
/-! founded -/
def fdC (pr : Int32) (kd hd ps ng : Nat → Int32) (i o : Int32) (j : Nat) : Bool := if hasI pr (nI j) = 0 then false else if kd j = 2 then false else if flsI ps ng i o j = 0 then (if ((o >>> (hd j &&& 31)) &&& 1) = 0 then true else false) else false
theorem fdS_g {i o : Int32} (j : Nat) (s : Int32) : fdS pr kd hd ps ng i o j s = gS (fdC pr kd hd ps ng i o) hd ps j s := by
  unfold fdS gS fdC
  by_cases h1 : hasI pr (nI j) = 0
  · simp only [if_pos h1]; rfl
  · by_cases h2 : kd j = 2
    · simp only [if_neg h1, if_pos h2]; rfl
    · by_cases h3 : flsI ps ng i o j = 0
      · by_cases h4 : ((o >>> (hd j &&& 31)) &&& 1) = 0
        · simp only [if_neg h1, if_neg h2, if_pos h3, if_pos h4, if_true]
        · simp only [if_neg h1, if_neg h2, if_pos h3, if_neg h4]; rfl
      · simp only [if_neg h1, if_neg h2, if_neg h3]; rfl
theorem fdI_g {i o : Int32} (s : Int32) : ∀ j, fdI pr kd hd ps ng i o s j = gI (fdC pr kd hd ps ng i o) hd ps s j
  | 0 => rfl
  | j + 1 => by rw [fdI, gI, fdI_g s j, fdS_g]
theorem fdR_g {i o : Int32} : ∀ t, fdR pr kd hd ps ng i o t = gR (fdC pr kd hd ps ng i o) hd ps t
  | 0 => rfl
  | t + 1 => by rw [fdR, gR, fdR_g t, fdI_g]
theorem fdC_iff (hwf : WF kd hd ps ng) {i o : Int32} {j : Nat} (hj : j < 10) {a : Nat} (ha : a < 6) (eh : hd j = nI a) : fdC pr kd hd ps ng i o j = true ↔ bt pr j = true ∧ kd j ≠ 2 ∧ dsj (ps j) o ∧ dsj (ng j) i ∧ bt o a = false := by
  rw [← nI_bit o (show a < 31 by omega)]
  unfold fdC
  rw [eh]
  constructor
  · intro h
    split at h
    · cases h
    · rename_i h1
      split at h
      · cases h
      · rename_i h2
        split at h
        · rename_i h3
          split at h
          · rename_i h4
            obtain ⟨r1, r2⟩ := (fls_iff hwf hj).mp h3
            refine ⟨?_, h2, r1, r2, h4⟩
            cases hb : bt pr j with
            | true => rfl
            | false => exact absurd ((has_bt hj).mpr hb) h1
          · cases h
        · cases h
  · rintro ⟨h1, h2, h3, h4, h5⟩
    rw [if_neg (fun q => by rw [(has_bt hj).mp q] at h1; cases h1), if_neg h2, if_pos ((fls_iff hwf hj).mpr ⟨h3, h4⟩), if_pos h5]
theorem fd_St (hwf : WF kd hd ps ng) (hM : St pr kd hd ps ng M) {i o : Int32} (he : Ext i o M) : sbs M (fdR pr kd hd ps ng i o 6) := by
  obtain ⟨-, h2, -⟩ := stb_iff.mp hM
  rw [fdR_g]
  have := gR_in (C := tkB (bt pr) kd hd ng M) (C' := fdC pr kd hd ps ng i o) hwf (fun j hj hc hp => by
    obtain ⟨-, ⟨a, ha, eh⟩, -, -⟩ := hwf j hj
    obtain ⟨t1, t2, t3⟩ := (tk_iff hwf hj ha eh).mp hc
    rw [h2] at hp
    refine (fdC_iff hwf hj ha eh).mpr ⟨t1, ?_, dsj_sym (fun k hk hb => ?_), dsj_sym (fun k hk hb => ?_), ?_⟩
    · rcases t3 with q | ⟨q, -⟩ <;> rw [q] <;> decide
    · cases hc : bt (ps j) k with
      | false => rfl
      | true => have := hp k hk hc; rw [he.2 k hk hb] at this; cases this
    · cases hc : bt (ng j) k with
      | false => rfl
      | true => have := t2 k hk hc; rw [he.1 k hk hb] at this; cases this
    · have hm := St_clo hwf hM hj ha eh t1 t2 t3 hp
      cases hc : bt o a with
      | false => rfl
      | true => rw [he.2 a ha hc] at hm; cases hm)
  rw [h2] at this
  exact this
theorem fdR_S6 (hwf : WF kd hd ps ng) {i o : Int32} : S6 (fdR pr kd hd ps ng i o 6) := by rw [fdR_g]; exact gR_S6 hwf 6
/-! a round -/
theorem cl1_Gd (hwf : WF kd hd ps ng) {z : Q4} (hz : OKz z) : ∀ j, j ≤ 10 → Gd z (cl1 pr kd hd ps ng z j)
  | 0, _ => Gd_rf hz
  | j + 1, hj => by
    have ih := cl1_Gd hwf hz j (by omega)
    rw [cl1]
    split
    · exact ih
    · exact Gd_tr ih (fwd_Gd hwf (by omega) ih.1)
theorem cl1_up (hwf : WF kd hd ps ng) {z : Q4} (hz : OKz z) (j : Nat) : ∀ k, j + k ≤ 10 → Gd (cl1 pr kd hd ps ng z j) (cl1 pr kd hd ps ng z (j + k))
  | 0, h => Gd_rf (cl1_Gd hwf hz j (by omega)).1
  | k + 1, h => by
    have ih := cl1_up hwf hz j k (by omega)
    refine Gd_tr ih ?_
    rw [show j + (k + 1) = (j + k) + 1 by omega, cl1]
    split
    · exact Gd_rf ih.1
    · exact fwd_Gd hwf (by omega) ih.1
theorem cl1_Sd (hwf : WF kd hd ps ng) (hM : St pr kd hd ps ng M) {z : Q4} (hz : OKz z) : ∀ j, j ≤ 10 → Sd M z (cl1 pr kd hd ps ng z j)
  | 0, _ => Sd_rf _ _
  | j + 1, hj => by
    have ih := cl1_Sd hwf hM hz j (by omega)
    rw [cl1]
    split
    · exact ih
    · rename_i h
      refine Sd_tr ih (fwd_Sd hwf hM (by omega) ?_ (cl1_Gd hwf hz j (by omega)).1)
      cases hb : bt pr j with
      | true => rfl
      | false => exact absurd ((has_bt (by omega)).mpr hb) h
theorem cl2_Gd (hwf : WF kd hd ps ng) {z : Q4} (hz : OKz z) : ∀ a, Gd z (cl2 pr kd hd ps ng z a)
  | 0 => Gd_rf hz
  | a + 1 => by
    have ih := cl2_Gd hwf hz a
    exact Gd_tr ih (bwd_Gd hwf a ih.1)
theorem cl2_Sd (hwf : WF kd hd ps ng) (hM : St pr kd hd ps ng M) {z : Q4} (hz : OKz z) : ∀ a, a ≤ 6 → Sd M z (cl2 pr kd hd ps ng z a)
  | 0, _ => Sd_rf _ _
  | a + 1, h => Sd_tr (cl2_Sd hwf hM hz a (by omega)) (bwd_Sd hwf hM (by omega) (cl2_Gd hwf hz a).1)
theorem S6_63a (x : Int32) : S6 (63 &&& x) := S6_and S6_63 x
theorem cl3_Gd {z : Q4} (hz : OKz z) : Gd z (cl3 pr kd hd ps ng z) := pOut_Gd (S6_63a _) hz
theorem cl3_Sd (hwf : WF kd hd ps ng) (hM : St pr kd hd ps ng M) {z : Q4} (hz : OKz z) : Sd M z (cl3 pr kd hd ps ng z) := by
  intro q1 q2
  refine pOut_Sd (M := M) (S6_63a _) hz (fun k hk hb => ?_) q1 q2
  rw [bt_an hk, bt63 hk] at hb
  cases hm : bt M k with
  | false => rfl
  | true =>
    rw [fd_St hwf hM q2 k hk hm] at hb
    cases hb
theorem clR_Gd (hwf : WF kd hd ps ng) {z : Q4} (hz : OKz z) : Gd (z.1, z.2.1, z.2.2.1, false) (clR pr kd hd ps ng z) := by
  have g1 := cl1_Gd (pr := pr) hwf (z := (z.1, z.2.1, z.2.2.1, false)) hz 10 (Nat.le_refl _)
  have g2 := cl2_Gd (pr := pr) hwf g1.1 6
  exact Gd_tr g1 (Gd_tr g2 (cl3_Gd g2.1))
theorem clR_Sd (hwf : WF kd hd ps ng) (hM : St pr kd hd ps ng M) {z : Q4} (hz : OKz z) : Sd M z (clR pr kd hd ps ng z) := by
  have g1 := cl1_Gd (pr := pr) hwf (z := (z.1, z.2.1, z.2.2.1, false)) hz 10 (Nat.le_refl _)
  have g2 := cl2_Gd (pr := pr) hwf g1.1 6
  have s1 := cl1_Sd hwf hM (z := (z.1, z.2.1, z.2.2.1, false)) hz 10 (Nat.le_refl _)
  have s2 := cl2_Sd hwf hM g1.1 6 (Nat.le_refl _)
  have s3 := cl3_Sd hwf hM g2.1
  exact fun a b => Sd_tr s1 (Sd_tr s2 s3) a b
/-- a quiet round -/
theorem clR_q (hwf : WF kd hd ps ng) {z : Q4} (hz : OKz z) (hb : (clR pr kd hd ps ng z).2.2.1 = false) (hm : (clR pr kd hd ps ng z).2.2.2 = false) :
    (clR pr kd hd ps ng z).1 = z.1 ∧ (clR pr kd hd ps ng z).2.1 = z.2.1 ∧ (∀ j, j < 10 → bt pr j = true → sbs (ps j) z.1 → sbs (ng j) z.2.1 → kd j ≠ 2 ∧ (kd j = 0 → ∀ a, a < 6 → hd j = nI a → bt z.1 a = true)) ∧ (∀ k, k < 6 → bt (fdR pr kd hd ps ng z.1 z.2.1 6) k = false → bt z.2.1 k = true) := by
  have hz0 : OKz (z.1, z.2.1, z.2.2.1, false) := hz
  have g1 := cl1_Gd (pr := pr) hwf hz0 10 (Nat.le_refl _)
  have g2 := cl2_Gd (pr := pr) hwf g1.1 6
  have g3 := cl3_Gd (pr := pr) (kd := kd) (hd := hd) (ps := ps) (ng := ng) g2.1
  have hb3 : (cl3 pr kd hd ps ng (cl2 pr kd hd ps ng (cl1 pr kd hd ps ng (z.1, z.2.1, z.2.2.1, false) 10) 6)).2.2.1 = false := hb
  have hm3 : (cl3 pr kd hd ps ng (cl2 pr kd hd ps ng (cl1 pr kd hd ps ng (z.1, z.2.1, z.2.2.1, false) 10) 6)).2.2.2 = false := hm
  obtain ⟨m2, e3i, e3o⟩ := g3.2.2.2.2.1 hm3
  have b2 := g3.2.2.2.1 hb3
  obtain ⟨m1, e2i, e2o⟩ := g2.2.2.2.2.1 m2
  have b1 := g2.2.2.2.1 b2
  obtain ⟨m0, e1i, e1o⟩ := g1.2.2.2.2.1 m1
  have e1i : (cl1 pr kd hd ps ng (z.1, z.2.1, z.2.2.1, false) 10).1 = z.1 := e1i
  have e1o : (cl1 pr kd hd ps ng (z.1, z.2.1, z.2.2.1, false) 10).2.1 = z.2.1 := e1o
  refine ⟨e3i.trans (e2i.trans e1i), e3o.trans (e2o.trans e1o), fun j hj ht hp hn => ?_, fun k hk hf => ?_⟩
  · have u1 := cl1_up (pr := pr) hwf hz0 j (10 - j) (by omega)
    have u2 := cl1_up (pr := pr) hwf hz0 (j + 1) (9 - j) (by omega)
    rw [show j + (10 - j) = 10 by omega] at u1
    rw [show j + 1 + (9 - j) = 10 by omega] at u2
    obtain ⟨-, f1, f2⟩ := u1.2.2.2.2.1 m1
    obtain ⟨mj, -, -⟩ := u2.2.2.2.2.1 m1
    have bj := u2.2.2.2.1 b1
    rw [cl1, if_neg (fun q => by rw [(has_bt hj).mp q] at ht; cases ht)] at mj bj
    have i1 : (cl1 pr kd hd ps ng (z.1, z.2.1, z.2.2.1, false) j).1 = z.1 := f1.symm.trans e1i
    have i2 : (cl1 pr kd hd ps ng (z.1, z.2.1, z.2.2.1, false) j).2.1 = z.2.1 := f2.symm.trans e1o
    have := fwd_q hwf hj bj mj (by rw [i1]; exact hp) (by rw [i2]; exact hn)
    rw [i1] at this
    exact this
  · have e2 : (cl2 pr kd hd ps ng (cl1 pr kd hd ps ng (z.1, z.2.1, z.2.2.1, false) 10) 6).1 = z.1 := e2i.trans e1i
    have e3 : (cl2 pr kd hd ps ng (cl1 pr kd hd ps ng (z.1, z.2.1, z.2.2.1, false) 10) 6).2.1 = z.2.1 := e2o.trans e1o
    unfold cl3 pOut at hm3
    rw [e2, e3] at hm3
    split at hm3
    · rename_i h1
      exact (sub_iff (S6_63a _)).mp h1 k hk (by rw [bt_an hk, bt63 hk, hf]; rfl)
    · split at hm3 <;> cases hm3
/-- a quiet end with all atoms settled is a stable set -/
theorem tot_St (hwf : WF kd hd ps ng) {i o : Int32} (hi : S6 i) (ho : S6 o) (hD : dsj i o) (hF : (i ||| o) = 63) (h1 : ∀ j, j < 10 → bt pr j = true → sbs (ps j) i → sbs (ng j) o → kd j ≠ 2 ∧ (kd j = 0 → ∀ a, a < 6 → hd j = nI a → bt i a = true)) (h2 : ∀ k, k < 6 → bt (fdR pr kd hd ps ng i o 6) k = false → bt o k = true) : St pr kd hd ps ng i := by
  have hfull := (full_iff hi ho).mp hF
  have hno : ∀ {x : Int32}, dsj x i → sbs x o := fun h k hk hb => (hfull k hk).resolve_left (fun q => by rw [h k hk hb] at q; cases q)
  have hyes : ∀ {x : Int32}, dsj x o → sbs x i := fun h k hk hb => (hfull k hk).resolve_right (fun q => by rw [h k hk hb] at q; cases q)
  refine stb_iff.mpr ⟨?_, ?_, fun j hj => ?_⟩
  · obtain ⟨m, hm, e⟩ := S6_small hi
    rw [e, setI_nI hm]
    decide
  · apply sbs_ext (gR_S6 hwf 6) hi
    · apply gR_least hwf
      intro j hj hc hp a ha eh
      obtain ⟨t1, t2, t3⟩ := (tk_iff hwf hj ha eh).mp hc
      rcases t3 with q | ⟨q, r⟩
      · exact (h1 j hj t1 hp (hno t2)).2 q a ha eh
      · exact r
    · have hfd : sbs i (fdR pr kd hd ps ng i o 6) := by
        intro k hk hb
        cases hc : bt (fdR pr kd hd ps ng i o 6) k with
        | true => rfl
        | false =>
          have := h2 k hk hc
          rw [hD k hk hb] at this
          cases this
      rw [fdR_g] at hfd
      refine sbs_tr hfd (gR_in hwf (fun j hj hc hp => ?_))
      obtain ⟨hk3, ⟨a, ha, eh⟩, -, -⟩ := hwf j hj
      obtain ⟨t1, t2, t3, t4, t5⟩ := (fdC_iff hwf hj ha eh).mp hc
      refine (tk_iff hwf hj ha eh).mpr ⟨t1, t4, ?_⟩
      have hia : bt i a = true := (hfull a ha).resolve_right (fun q => by rw [t5] at q; cases q)
      rcases hk3 with q | q | q
      · exact Or.inl q
      · exact Or.inr ⟨q, hia⟩
      · exact absurd q t2
  · cases hb : banI (bt pr) kd ps ng i j with
    | false => rfl
    | true =>
      obtain ⟨t1, t2, t3, t4⟩ := (ban_iff hwf hj).mp hb
      exact absurd t2 (h1 j hj t1 t3 (hno t4)).1
theorem cnc_stop {n : Nat} {y : Q4} (h : y.2.2.2 = false ∨ y.2.2.1 = true) : cnc pr kd hd ps ng n y = y := by
  cases n with
  | zero => rfl
  | succ n =>
    rw [cnc]
    split
    · rfl
    · rename_i h1
      split
      · rename_i h2
        rcases h with q | q
        · exact absurd (b2i_z.mpr q) h1
        · exact absurd q (by rw [b2i_z.mp h2]; decide)
      · rfl
theorem cnc_n (hwf : WF kd hd ps ng) : ∀ (n : Nat) (z : Q4), OKz z → z.2.2.1 = false → z.2.2.2 = true → 7 ≤ n + (cnt z.1 + cnt z.2.1) →
    OKz (cnc pr kd hd ps ng n z) ∧ sbs z.1 (cnc pr kd hd ps ng n z).1 ∧ sbs z.2.1 (cnc pr kd hd ps ng n z).2.1 ∧ (∀ M, St pr kd hd ps ng M → Sd M z (cnc pr kd hd ps ng n z)) ∧ ((cnc pr kd hd ps ng n z).2.2.1 = false → ((cnc pr kd hd ps ng n z).1 ||| (cnc pr kd hd ps ng n z).2.1) = 63 → St pr kd hd ps ng (cnc pr kd hd ps ng n z).1)
  | 0, z, hz, hb, hm, hn => by
    have := cnt_or (hz.2.2 hb)
    have := cnt_6 (z.1 ||| z.2.1)
    omega
  | n + 1, z, hz, hb, hm, hn => by
    have e : cnc pr kd hd ps ng (n + 1) z = cnc pr kd hd ps ng n (clR pr kd hd ps ng z) := by
      rw [cnc, if_neg (by rw [hm]; decide), if_pos (by rw [hb]; decide)]
    rw [e]
    have g := clR_Gd (pr := pr) hwf hz
    by_cases hs : (clR pr kd hd ps ng z).2.2.2 = false ∨ (clR pr kd hd ps ng z).2.2.1 = true
    · rw [cnc_stop hs]
      refine ⟨g.1, g.2.1, g.2.2.1, fun M hM => clR_Sd hwf hM hz, fun hb' hF => ?_⟩
      rcases hs with q | q
      · obtain ⟨r1, r2, r3, r4⟩ := clR_q hwf hz hb' q
        rw [r1] at hF ⊢
        rw [r2] at hF
        exact tot_St hwf hz.1 hz.2.1 (hz.2.2 hb) hF r3 r4
      · rw [hb'] at q; cases q
    · have hm' : (clR pr kd hd ps ng z).2.2.2 = true := by
        cases h : (clR pr kd hd ps ng z).2.2.2 with
        | true => rfl
        | false => exact absurd (Or.inl h) hs
      have hb' : (clR pr kd hd ps ng z).2.2.1 = false := by
        cases h : (clR pr kd hd ps ng z).2.2.1 with
        | false => rfl
        | true => exact absurd (Or.inr h) hs
      have hc : cnt z.1 + cnt z.2.1 + 1 ≤ cnt (clR pr kd hd ps ng z).1 + cnt (clR pr kd hd ps ng z).2.1 := by
        rcases g.2.2.2.2.2.1 hm' with q | q
        · cases q
        · exact q
      obtain ⟨r1, r2, r3, r4, r5⟩ := cnc_n hwf n (clR pr kd hd ps ng z) g.1 hb' hm' (by omega)
      exact ⟨r1, sbs_tr g.2.1 r2, sbs_tr g.2.2.1 r3, fun M hM => Sd_tr (clR_Sd hwf hM hz) (r4 M hM), r5⟩
/-- conclude -/
theorem cnc_all (hwf : WF kd hd ps ng) {i o : Int32} (hi : S6 i) (ho : S6 o) (hD : dsj i o) {i' o' : Int32} {b' m' : Bool} (hu : (i', o', b', m') = cnc pr kd hd ps ng 14 (i, o, false, true)) :
    S6 i' ∧ S6 o' ∧ (b' = false → dsj i' o') ∧ sbs i i' ∧ sbs o o' ∧ (∀ M, St pr kd hd ps ng M → Ext i o M → b' = false ∧ Ext i' o' M) ∧ (b' = false → (i' ||| o') = 63 → St pr kd hd ps ng i') := by
  obtain ⟨r1, r2, r3, r4, r5⟩ := cnc_n (pr := pr) hwf 14 (i, o, false, true) ⟨hi, ho, fun _ => hD⟩ rfl rfl (by omega)
  rw [← hu] at r1 r2 r3 r4 r5
  exact ⟨r1.1, r1.2.1, r1.2.2, r2, r3, fun M hM he => r4 M hM rfl he, r5⟩
end ST
end
section
set_option maxRecDepth 100000
/-! the search: its invariant from trial to trial -/
theorem lb_or (a b : Int64) (m : Nat) : lb (a ||| b) m = (lb a m || lb b m) := by unfold lb; rw [Int64.toBitVec_or, BitVec.getLsbD_or]
theorem lb_0 (m : Nat) : lb 0 m = false := BitVec.getLsbD_zero
theorem lb_one : ∀ k, k < 64 → ∀ m, m < 64 → lb ((1 : Int64) <<< ((nI k).toInt64 &&& 63)) m = decide (m = k) := by decide +kernel
theorem mu_cg {f g : Nat → Int32} : ∀ l, (∀ k, k < l → f k = g k) → mu f l = mu g l
  | 0, _ => rfl
  | l + 1, h => by rw [mu, mu, mu_cg l (fun k hk => h k (by omega)), h l (by omega)]
theorem wgt_s : ∀ l, l < 6 → wgt l = 1 + 2 * wgt (l + 1) := by decide +kernel
theorem upd_s (f : Nat → Int32) (k : Nat) (x : Int32) : upd f k x k = x := pk_us
theorem upd_n (f : Nat → Int32) {k j : Nat} (x : Int32) (h : j ≠ k) : upd f k x j = f j := pk_un h
theorem Lvl_cg {l : Nat} {li lo la lt li' lo' la' lt' : Nat → Int32} (h : Lvl l li lo la lt) (h1 : li' l = li l) (h2 : lo' l = lo l) (h3 : la' l = la l) (h4 : lt' l = lt l) : Lvl l li' lo' la' lt' := by
  unfold Lvl
  rw [h1, h2, h3, h4]
  exact h
theorem Pnd_cg {l : Nat} {li lo la lt li' lo' la' lt' : Nat → Int32} {M : Int32} (h : Pnd li lo la lt l M) (h1 : li' l = li l) (h2 : lo' l = lo l) (h3 : la' l = la l) (h4 : lt' l = lt l) : Pnd li' lo' la' lt' l M := by
  unfold Pnd
  rw [h1, h2, h3, h4]
  exact h
section PS
variable {pr : Int32} {kd hd ps ng : Nat → Int32} {t lv : Nat} {li lo la lt : Nat → Int32} {i o : Int32} {b m : Bool} {ms : Int64}
theorem SI_init (hwf : WF kd hd ps ng) (hu : (i, o, b, m) = cnc pr kd hd ps ng 14 (0, 0, false, true)) : SI pr kd hd ps ng 0 0 li lo la lt i o b 0 := by
  obtain ⟨r1, r2, r3, r4, r5, r6, r7⟩ := cnc_all hwf S6_0 S6_0 (fun k _ h => by rw [b_0] at h; cases h) hu
  refine ⟨Nat.zero_le _, by show 0 + 0 + 2 * wgt 0 ≤ 126; decide, fun l hl => absurd hl (Nat.not_lt_zero l), ⟨r1, r2, fun hb => ⟨r3 hb, Nat.zero_le _, r7 hb⟩⟩, (fun m _ h => by rw [lb_0] at h; cases h), fun m _ h => Or.inr (Or.inl (r6 _ h ⟨(fun k _ h => by rw [b_0] at h; cases h), (fun k _ h => by rw [b_0] at h; cases h)⟩))⟩
theorem SI_t (h : SI pr kd hd ps ng t lv li lo la lt i o b ms) : t ≤ 126 := by
  obtain ⟨-, h, -⟩ := h
  omega
theorem SI_brk (h : SI pr kd hd ps ng t lv li lo la lt i o b ms) (c : ¬ b2i b = 0) : SJ pr kd hd ps ng t lv li lo la lt ms := by
  obtain ⟨h1, h2, h3, h4, h5, h6⟩ := h
  refine ⟨h1, by omega, h3, h5, fun m hm hs => ?_⟩
  rcases h6 m hm hs with q | q | q
  · exact Or.inl q
  · rw [b2i_nz.mp c] at q; cases q.1
  · exact Or.inr q
theorem SI_tot (h : SI pr kd hd ps ng t lv li lo la lt i o b ms) (c : b2i b = 0) (c2 : (i ||| o) = 63) : SJ pr kd hd ps ng t lv li lo la lt (ms ||| ((1 : Int64) <<< (i.toInt64 &&& 63))) := by
  obtain ⟨h1, h2, h3, ⟨hi, ho, h4⟩, h5, h6⟩ := h
  obtain ⟨hD, -, hS⟩ := h4 (b2i_z.mp c)
  have hSi := hS c2
  obtain ⟨k, hk, e⟩ := S6_small hi
  have hbit : ∀ m, m < 64 → lb (ms ||| ((1 : Int64) <<< (i.toInt64 &&& 63))) m = (lb ms m || decide (m = k)) := by
    intro m hm
    rw [lb_or, e, lb_one k hk m hm]
  refine ⟨h1, by omega, h3, fun m hm hb => ?_, fun m hm hs => ?_⟩
  · rw [hbit m hm, Bool.or_eq_true, decide_eq_true_eq] at hb
    rcases hb with q | q
    · exact h5 m hm q
    · rw [q, ← e]; exact hSi
  · rw [hbit m hm]
    rcases h6 m hm hs with q | q | q
    · left; rw [q]; rfl
    · left
      have hfull := (full_iff hi ho).mp c2
      have em : nI m = i := by
        apply S6_ext (S6_nI hm) hi
        intro a ha
        rcases hfull a ha with r | r
        · rw [r, q.2.1 a ha r]
        · rw [q.2.2 a ha r]
          cases hc : bt i a with
          | false => rfl
          | true => rw [hD a ha hc] at r; cases r
      have : m = k := (nI_eq (by omega) (by omega)).mp (em.trans e)
      rw [this]; simp
    · exact Or.inr q
theorem nfull (hi : S6 i) (ho : S6 o) (c2 : ¬ (i ||| o) = 63) : ∃ a, a < 6 ∧ bt i a = false ∧ bt o a = false := by
  rcases Classical.em (∃ a, a < 6 ∧ bt i a = false ∧ bt o a = false) with q | q
  · exact q
  · exfalso
    apply c2
    refine (full_iff hi ho).mpr (fun k hk => ?_)
    cases h1 : bt i k with
    | true => exact Or.inl rfl
    | false =>
      cases h2 : bt o k with
      | true => exact Or.inr rfl
      | false => exact absurd ⟨k, hk, h1, h2⟩ q
theorem SI_opn (h : SI pr kd hd ps ng t lv li lo la lt i o b ms) (c : b2i b = 0) (c2 : ¬ (i ||| o) = 63) : lv < 6 ∧ i.toInt8.toInt32 = i ∧ o.toInt8.toInt32 = o ∧ ∃ a0, a0 < 6 ∧ (((i ||| o) >>> (nI a0 &&& 31)) &&& 1) = 0 := by
  obtain ⟨h1, h2, h3, ⟨hi, ho, h4⟩, h5, h6⟩ := h
  obtain ⟨hD, hc, hS⟩ := h4 (b2i_z.mp c)
  obtain ⟨a, ha, n1, n2⟩ := nfull hi ho c2
  have hb : bt (i ||| o) a = false := by rw [b_or, n1, n2]; rfl
  have := cnt_5 ha hb
  obtain ⟨k, hk, e⟩ := S6_small hi
  obtain ⟨k', hk', e'⟩ := S6_small ho
  exact ⟨by omega, by rw [e]; exact nI_8 k hk, by rw [e']; exact nI_8 k' hk', a, ha, (nI_bit _ (by omega)).mpr hb⟩
theorem SI_opd (h : SI pr kd hd ps ng t lv li lo la lt i o b ms) (c : b2i b = 0) (c2 : ¬ (i ||| o) = 63) {a : Nat} (ha : a < 6 ∧ (((i ||| o) >>> (nI a &&& 31)) &&& 1) = 0) : SJ pr kd hd ps ng t (lv + 1) (upd li lv i) (upd lo lv o) (upd la lv (nI a)) (upd lt lv 0) ms := by
  have hlv := (SI_opn h c c2).1
  obtain ⟨h1, h2, h3, ⟨hi, ho, h4⟩, h5, h6⟩ := h
  obtain ⟨hD, hc, hS⟩ := h4 (b2i_z.mp c)
  obtain ⟨ha6, hf⟩ := ha
  have hf := (nI_bit _ (by omega)).mp hf
  rw [b_or, Bool.or_eq_false_iff] at hf
  have e1 : mu (upd lt lv 0) (lv + 1) = mu lt lv + 2 * wgt lv := by
    rw [mu, upd_s, mu_cg (g := lt) lv (fun k hk => upd_n _ _ (by omega))]
    rfl
  refine ⟨by omega, by rw [e1]; omega, fun l hl => ?_, h5, fun m hm hs => ?_⟩
  · by_cases e : l = lv
    · subst e
      unfold Lvl
      rw [upd_s, upd_s, upd_s, upd_s]
      exact ⟨hi, ho, hD, ⟨a, ha6, rfl, hf.1, hf.2⟩, Or.inl rfl, hc⟩
    · exact Lvl_cg (h3 l (by omega)) (upd_n _ _ e) (upd_n _ _ e) (upd_n _ _ e) (upd_n _ _ e)
  · rcases h6 m hm hs with q | q | ⟨l, hl, q⟩
    · exact Or.inl q
    · right
      refine ⟨lv, by omega, ?_⟩
      unfold Pnd
      rw [upd_s, upd_s, upd_s]
      exact ⟨q.2, Or.inl rfl⟩
    · right
      have e : l ≠ lv := by omega
      exact ⟨l, by omega, Pnd_cg q (upd_n _ _ e) (upd_n _ _ e) (upd_n _ _ e) (upd_n _ _ e)⟩
theorem SJ_pop (h : SJ pr kd hd ps ng t (lv + 1) li lo la lt ms) (c : lt lv = 2) : SJ pr kd hd ps ng t lv li lo la lt ms := by
  obtain ⟨h1, h2, h3, h5, h6⟩ := h
  rw [mu] at h2
  refine ⟨by omega, by omega, fun l hl => h3 l (by omega), h5, fun m hm hs => ?_⟩
  rcases h6 m hm hs with q | ⟨l, hl, q⟩
  · exact Or.inl q
  · by_cases e : l = lv
    · exfalso
      subst e
      obtain ⟨-, q | ⟨q, -⟩⟩ := q
      · rw [c] at q; exact absurd q (by decide)
      · rw [c] at q; exact absurd q (by decide)
    · exact Or.inr ⟨l, by omega, q⟩
theorem SJ_end (h : SJ pr kd hd ps ng t 0 li lo la lt ms) : MSok pr kd hd ps ng ms := by
  obtain ⟨-, -, -, h5, h6⟩ := h
  intro m hm
  cases hs : stb (bt pr) kd hd ps ng (nI m) with
  | true =>
    rcases h6 m hm hs with q | ⟨l, hl, -⟩
    · exact q
    · exact absurd hl (Nat.not_lt_zero l)
  | false =>
    cases hb : lb ms m with
    | false => rfl
    | true => have := h5 m hm hb; rw [St, hs] at this; cases this
theorem SJ_8 (h : SJ pr kd hd ps ng t (lv + 1) li lo la lt ms) : lv < 6 ∧ (lt lv + 1).toInt8.toInt32 = lt lv + 1 := by
  obtain ⟨h1, -, h3, -, -⟩ := h
  obtain ⟨-, -, -, -, q, -⟩ := h3 lv (by omega)
  refine ⟨by omega, ?_⟩
  rcases q with q | q | q <;> rw [q] <;> decide
theorem dsj_orr {x y z : Int32} (h : dsj x y) (g : dsj x z) : dsj x (y ||| z) := dsj_sym (dsj_or (dsj_sym h) (dsj_sym g))
theorem SJ_try (hwf : WF kd hd ps ng) (h : SJ pr kd hd ps ng t (lv + 1) li lo la lt ms) (c : ¬ lt lv = 2) (hu : (i, o, b, m) = cnc pr kd hd ps ng 14 ((tnz li lo la lt lv).1, (tnz li lo la lt lv).2, false, true)) : SI pr kd hd ps ng (t + 1) (lv + 1) li lo la (upd lt lv (lt lv + 1)) i o b ms := by
  obtain ⟨h1, h2, h3, h5, h6⟩ := h
  obtain ⟨s1, s2, s3, ⟨a, ha, ea, na1, na2⟩, s5, s6⟩ := h3 lv (by omega)
  have hw := wgt_s lv (by omega)
  rw [mu] at h2
  have hbA : bt ((1 : Int32) <<< (nI a &&& 31)) a = true := by rw [bitA ha ha]; exact decide_eq_true rfl
  have d1 : dsj (li lv) ((1 : Int32) <<< (nI a &&& 31)) := dsj_sym (dsj_bit ha na1)
  have d2 : dsj ((1 : Int32) <<< (nI a &&& 31)) (lo lv) := dsj_bit ha na2
  have e01 : lt lv = 0 ∨ lt lv = 1 := by
    rcases s5 with q | q | q
    · exact Or.inl q
    · exact Or.inr q
    · exact absurd q c
  have hmu : mu (upd lt lv (lt lv + 1)) (lv + 1) = mu lt lv + rmn (lt lv + 1) * wgt lv := by
    rw [mu, upd_s, mu_cg (g := lt) lv (fun k hk => upd_n _ _ (by omega))]
  -- what the trial begins with
  have hT : S6 (tnz li lo la lt lv).1 ∧ S6 (tnz li lo la lt lv).2 ∧ dsj (tnz li lo la lt lv).1 (tnz li lo la lt lv).2 ∧ sbs (li lv) (tnz li lo la lt lv).1 ∧ sbs (lo lv) (tnz li lo la lt lv).2 ∧ bt ((tnz li lo la lt lv).1 ||| (tnz li lo la lt lv).2) a = true := by
    unfold tnz
    rw [ea]
    split
    · refine ⟨s1, S6_or s2 (S6_bit ha), dsj_orr s3 d1, sbs_rf _, sbs_orl _ _, ?_⟩
      rw [b_or, b_or, hbA]; simp
    · refine ⟨S6_or s1 (S6_bit ha), s2, dsj_or s3 d2, sbs_orl _ _, sbs_rf _, ?_⟩
      rw [b_or, b_or, hbA]; simp
  obtain ⟨t1, t2, t3, t4, t5, t6⟩ := hT
  obtain ⟨r1, r2, r3, r4, r5, r6, r7⟩ := cnc_all hwf t1 t2 t3 hu
  refine ⟨h1, ?_, fun l hl => ?_, ⟨r1, r2, fun hb => ⟨r3 hb, ?_, r7 hb⟩⟩, h5, fun m hm hs => ?_⟩
  · rw [hmu]
    rcases e01 with q | q
    · rw [q] at h2 ⊢
      have e1 : rmn 0 = 2 := by decide
      have e2 : rmn (0 + 1) = 1 := by decide
      rw [e1] at h2
      rw [e2]
      omega
    · rw [q] at h2 ⊢
      have e1 : rmn 1 = 1 := by decide
      have e2 : rmn (1 + 1) = 0 := by decide
      rw [e1] at h2
      rw [e2]
      omega
  · by_cases e : l = lv
    · subst e
      unfold Lvl
      rw [upd_s]
      refine ⟨s1, s2, s3, ⟨a, ha, ea, na1, na2⟩, ?_, s6⟩
      rcases e01 with q | q <;> rw [q] <;> decide
    · exact Lvl_cg (h3 l (by omega)) rfl rfl rfl (upd_n _ _ e)
  · have hs : sbs (li lv ||| lo lv) (i ||| o) := sbs_or (sbs_tr (sbs_tr t4 r4) (sbs_orl _ _)) (sbs_tr (sbs_tr t5 r5) (sbs_orr _ _))
    have hn : bt (li lv ||| lo lv) a = false := by rw [b_or, na1, na2]; rfl
    have hy : bt (i ||| o) a = true := sbs_or (sbs_tr r4 (sbs_orl _ _)) (sbs_tr r5 (sbs_orr _ _)) a ha t6
    have := cnt_lt hs ha hn hy
    omega
  · rcases h6 m hm hs with q | ⟨l, hl, q⟩
    · exact Or.inl q
    · right
      by_cases e : l = lv
      · subst e
        obtain ⟨qE, q⟩ := q
        rcases e01 with r | r
        · cases hb : bt (nI m) a with
          | false =>
            left
            refine r6 _ hs ?_
            rw [tnz, if_pos r, ea]
            exact ⟨qE.1, dsj_or qE.2 (dsj_bit ha hb)⟩
          | true =>
            right
            refine ⟨l, by omega, qE, ?_⟩
            rw [upd_s, r]
            refine Or.inr ⟨by decide, fun a' ha' ea' => ?_⟩
            rw [ea] at ea'
            rw [← (nI_eq (by omega) (by omega)).mp ea']
            exact hb
        · left
          have hb : bt (nI m) a = true := by
            rcases q with q | ⟨-, q⟩
            · rw [r] at q; exact absurd q (by decide)
            · exact q a ha ea
          refine r6 _ hs ?_
          rw [tnz, if_neg (by rw [r]; decide), ea]
          exact ⟨sbs_or qE.1 (sbs_bit ha hb), qE.2⟩
      · right
        exact ⟨l, by omega, Pnd_cg q rfl rfl rfl (upd_n _ _ e)⟩
end PS
end
section
set_option maxRecDepth 100000
section XS1
variable {p : Program} {l : Launch} {e : Env} {R : Room} {s : State} {m : MethodId} {args : Array Value} {below : List Frame} {meth : Method} {c : Code} {H : Heap} {locs : List Loc} {Q : State → Prop}
variable {cc : ByteArray} {pc nL : Nat} {ls : Array Slot} {rest : List Value} {D : va_G} {dB dZ dJ : ClassId} {A : Nat → Prop} {q : Nat → Nat}
variable {pr : Int32} {kd hd ps ng : Nat → Int32} {si so : Int32} {br mv : Bool} {li lo la lt : Nat → Int32} {kn : Bool} {ms : Int64}
variable {th fd bf : Nat → Bool}
theorem lv_decN {cells slots : Nat} {lv lv' : List (Nat × Value)} {i nL k j : Nat} (hx : p.tables.exec = Jvm.exec) (hb : c.code = cc) (hdg : decode cc pc = .ok (.iinc i (-1), 3)) (h : lv_has ls nL lv) (hk : lv[k]? = some (i, .int (nI (j + 1)))) (hn : i < nL) (hl : (i, Value.int (nI j)) :: lv.filter (fun q => !(q.1 == i) && !(q.1 + 1 == i && q.2.category == 2)) = lv') (kk : ∀ ls' : Array Slot, lv_has ls' nL lv' → W p l e R s m args below meth c H locs cells slots Q (F0 m (pc + 3) ls' rest)) : W p l e R s m args below meth c H locs cells slots Q (F0 m pc ls rest) :=
  lv_iinc (v := nI j) hx hb hdg h hk (pk_m1 j) hn hl kk
abbrev SC : Type := Int32 × Int32 × Bool × Bool × (Nat → Int32) × (Nat → Int32) × (Nat → Int32) × (Nat → Int32) × Int64
abbrev rx_search : Room := { frames := 4, cells := 0, slots := 0, locals := 90 }
set_option maxHeartbeats 4000000 in
set_option maxRecDepth 100000 in
theorem cx_search (l : Launch) (D : va_G) (dB dZ dJ : ClassId) (q : Nat → Nat) (pr : Int32) (kd hd ps ng : Nat → Int32) (si so : Int32) (br mv : Bool) (li lo la lt : Nat → Int32) (kn : Bool) (ms : Int64) (hwf : WF kd hd ps ng) (hk : kn = true → MSok pr kd hd ps ng ms) : MVd l yX0_search (ws_ yX0_search cX0_search 4 none) rx_search D dB dZ dJ [.ref (q 0)] (XW dB q pr kd hd ps ng si so br mv li lo la lt kn ms) (fun u : SC => MSok pr kd hd ps ng u.2.2.2.2.2.2.2.2) (fun u : SC => XW dB q pr kd hd ps ng u.1 u.2.1 u.2.2.1 u.2.2.2.1 u.2.2.2.2.1 u.2.2.2.2.2.1 u.2.2.2.2.2.2.1 u.2.2.2.2.2.2.2.1 true u.2.2.2.2.2.2.2.2) := by
  refine MVd.of (by decide) (Nat.le_of_ble_eq_true rfl) (fun p e s m args below meth c Q A F hZ hret ls hl => ?_)
  obtain ⟨hx, hb, hml, hown, hts⟩ := id F.1
  have hl : lv_has ls 4 [(0, .ref (q 0))] := hl
  refine lv_aload_n hx hb dX0_search_0 rfl (lv_at hl 0 rfl) ?_
  refine xg_kn F hZ.1 dX0_search_1 ?_
  refine lv_if_eq (tgt := 8) hx hb dX0_search_4 (by decide) (fun c_1 => ?_) (fun c_1 => ?_)
  · skip
    refine lv_aload_n hx hb dX0_search_8 rfl (lv_at hl 0 rfl) ?_
    refine lv_iconst (v := 1) hx hb dX0_search_9 (by decide) ?_
    refine xp_kn F hZ (B := true) rfl dX0_search_10 (fun H locs hZ => ?_)
    refine lv_aload_n hx hb dX0_search_13 rfl (lv_at hl 0 rfl) ?_
    refine lv_lconst (v := 0) hx hb dX0_search_14 (by decide) ?_
    refine xp_ms F hZ dX0_search_15 (fun H locs hZ => ?_)
    refine lv_aload_n hx hb dX0_search_18 rfl (lv_at hl 0 rfl) ?_
    refine lv_iconst (v := 0) hx hb dX0_search_19 (by decide) ?_
    refine xp_si F hZ dX0_search_20 (fun H locs hZ => ?_)
    refine lv_aload_n hx hb dX0_search_23 rfl (lv_at hl 0 rfl) ?_
    refine lv_iconst (v := 0) hx hb dX0_search_24 (by decide) ?_
    refine xp_so F hZ dX0_search_25 (fun H locs hZ => ?_)
    refine lv_aload_n hx hb dX0_search_28 rfl (lv_at hl 0 rfl) ?_
    refine lv_iconst (v := 0) hx hb dX0_search_29 (by decide) ?_
    refine xp_br F hZ (B := false) rfl dX0_search_30 (fun H locs hZ => ?_)
    refine lv_aload_n hx hb dX0_search_33 rfl (lv_at hl 0 rfl) ?_
    refine kx_conclude F hZ hl.1 ⟨Nat.le_of_ble_eq_true rfl, Nat.le_of_ble_eq_true rfl⟩ (Nat.le_of_ble_eq_true rfl) dX0_search_34 (fun i2 o2 b2 m2 H locs hu2 hZ => ?_)
    refine lv_iconst (v := 0) hx hb dX0_search_37 (by decide) ?_
    refine lv_istore_n (lv' := [(1, .int 0), (0, .ref (q 0))]) hx hb dX0_search_38 rfl hl (by decide) rfl (fun ls hl => ?_)
    refine lv_iconst (v := 1) hx hb dX0_search_39 (by decide) ?_
    refine lv_istore_n (lv' := [(2, .int 1), (1, .int 0), (0, .ref (q 0))]) hx hb dX0_search_40 rfl hl (by decide) rfl (fun ls hl => ?_)
    refine lv_iconst (v := 0) hx hb dX0_search_41 (by decide) ?_
    refine lv_istore_n (lv' := [(3, .int 0), (2, .int 1), (1, .int 0), (0, .ref (q 0))]) hx hb dX0_search_42 rfl hl (by decide) rfl (fun ls hl => ?_)
    have lp43 : ∀ (nf t : Nat) (lv : Nat) (si1 : Int32) (so1 : Int32) (br1 : Bool) (mv1 : Bool) (li1 : Nat → Int32) (lo1 : Nat → Int32) (la1 : Nat → Int32) (lt1 : Nat → Int32) (ms1 : Int64), t ≤ 512 → 512 < t + nf → SI pr kd hd ps ng t lv li1 lo1 la1 lt1 si1 so1 br1 ms1 → ∀ (H : Heap) (locs : List Loc), XS D A s (XW dB q pr kd hd ps ng si1 so1 br1 mv1 li1 lo1 la1 lt1 true ms1) H locs → ∀ (ls : Array Slot), lv_has ls 4 [(0, .ref (q 0)), (1, .int (nI lv)), (2, .int 1), (3, .int (nI t))] → W p l e rx_search s m args below meth c H locs 0 0 Q (F0 m 43 ls []) := by
      intro nf
      induction nf with
      | zero =>
        intro t lv si1 so1 br1 mv1 li1 lo1 la1 lt1 ms1 h1 h2
        exact absurd h2 (by omega)
      | succ nf ih43 =>
        intro t lv si1 so1 br1 mv1 li1 lo1 la1 lt1 ms1 ht0 htn et0 H locs hZ ls hl
        refine lv_iload_n hx hb dX0_search_43 rfl (lv_at hl 3 rfl) ?_
        refine lv_sipush (v := 512) hx hb dX0_search_44 (by decide) ?_
        refine lv_icmp_ge (tgt := 165) hx hb dX0_search_47 (by decide) (fun c_3 => ?_) (fun c_3 => ?_)
        · skip
          have ht : t = 512 := lp_ge (N := 512) (by decide) ht0 c_3
          exact absurd (SI_t et0) (by omega)
        · skip
          have ht : t < 512 := lp_lt (N := 512) (by decide) ht0 c_3
          have lp123 : ∀ (lv9 : Nat) (si9 : Int32) (so9 : Int32) (br9 : Bool) (mv9 : Bool) (li9 : Nat → Int32) (lo9 : Nat → Int32) (la9 : Nat → Int32) (lt9 : Nat → Int32) (ms9 : Int64), SJ pr kd hd ps ng t lv9 li9 lo9 la9 lt9 ms9 → ∀ (H : Heap) (locs : List Loc), XS D A s (XW dB q pr kd hd ps ng si9 so9 br9 mv9 li9 lo9 la9 lt9 true ms9) H locs → ∀ (ls : Array Slot), lv_has ls 4 [(0, .ref (q 0)), (1, .int (nI lv9)), (2, .int 1), (3, .int (nI t))] → W p l e rx_search s m args below meth c H locs 0 0 Q (F0 m 123 ls []) := by
            intro lv9
            induction lv9 with
            | zero =>
              intro si9 so9 br9 mv9 li9 lo9 la9 lt9 ms9 hJ H locs hZ ls hl
              have hl : lv_has ls 4 [(0, .ref (q 0)), (1, .int (nI 0)), (2, .int 1), (3, .int (nI t))] := hl
              refine lv_iload_n hx hb dX0_search_123 rfl (lv_at hl 1 rfl) ?_
              refine lv_if_le (tgt := 145) hx hb dX0_search_124 (by decide) (fun _ => ?_) (fun c9 => absurd (by decide) c9)
              refine lv_iload_n hx hb dX0_search_145 rfl (lv_at hl 1 rfl) ?_
              refine lv_if_ne (tgt := 150) hx hb dX0_search_146 (by decide) (fun c9 => absurd (by decide) c9) (fun _ => ?_)
              exact hret (si9, so9, br9, mv9, li9, lo9, la9, lt9, ms9) dX0_search_149 (SJ_end hJ) hZ
            | succ lv9 ih123 =>
              intro si9 so9 br9 mv9 li9 lo9 la9 lt9 ms9 hJ H locs hZ ls hl
              obtain ⟨h6v, h8t⟩ := SJ_8 hJ
              refine lv_iload_n hx hb dX0_search_123 rfl (lv_at hl 1 rfl) ?_
              refine lv_if_le (tgt := 145) hx hb dX0_search_124 (by decide) (fun c9 => absurd c9 (nI_nle (by omega) (by omega))) (fun _ => ?_)
              refine lv_aload_n hx hb dX0_search_127 rfl (lv_at hl 0 rfl) ?_
              refine xg_lt F hZ.1 dX0_search_128 ?_
              refine lv_iload_n hx hb dX0_search_131 rfl (lv_at hl 1 rfl) ?_
              refine lv_iconst (v := 1) hx hb dX0_search_132 (by decide) ?_
              refine lv_isub hx hb dX0_search_133 ?_
              rw [nI_pred lv9]
              refine xa_lt F hZ.1 (show lv9 < 8 by omega) dX0_search_134 ?_
              refine lv_iconst (v := 2) hx hb dX0_search_135 (by decide) ?_
              refine lv_icmp_ne (tgt := 145) hx hb dX0_search_136 (by decide) (fun c_4 => ?_) (fun c_4 => ?_)
              · skip
                refine lv_iload_n hx hb dX0_search_145 rfl (lv_at hl 1 rfl) ?_
                refine lv_if_ne (tgt := 150) hx hb dX0_search_146 (by decide) (fun _ => ?_) (fun c9 => absurd c9 (nI_ne0 (by omega) (by omega)))
                refine lv_aload_n hx hb dX0_search_150 rfl (lv_at hl 0 rfl) ?_
                refine lv_iload_n hx hb dX0_search_151 rfl (lv_at hl 1 rfl) ?_
                refine lv_iconst (v := 1) hx hb dX0_search_152 (by decide) ?_
                refine lv_isub hx hb dX0_search_153 ?_
                rw [nI_pred lv9]
                refine kx_tryNext F hZ (by omega) h8t hl.1 ⟨Nat.le_of_ble_eq_true rfl, Nat.le_of_ble_eq_true rfl⟩ (Nat.le_of_ble_eq_true rfl) dX0_search_154 (fun i2 o2 b2 m2 H locs hu hZ => ?_)
                refine lv_iconst (v := 1) hx hb dX0_search_157 (by decide) ?_
                refine lv_istore_n (lv' := [(2, .int 1), (0, .ref (q 0)), (1, .int (nI (lv9 + 1))), (3, .int (nI t))]) hx hb dX0_search_158 rfl hl (by decide) rfl (fun ls hl => ?_)
                refine lv_incN (k := 3) (lv' := [(3, .int (nI (t + 1))), (2, .int 1), (0, .ref (q 0)), (1, .int (nI (lv9 + 1)))]) hx hb dX0_search_159 hl rfl (by decide) rfl (fun ls hl => ?_)
                refine lv_goto (tgt := 43) hx hb dX0_search_162 (by decide) ?_
                exact ih43 (t + 1) (lv9 + 1) i2 o2 b2 m2 li9 lo9 la9 (upd lt9 lv9 ((lt9 lv9) + 1)) ms9 (by omega) (by omega) (SJ_try hwf hJ c_4 hu) _ _ hZ ls (lv_sub hl [2, 3, 1, 0] rfl)
              · skip
                refine lv_decN (k := 1) (lv' := [(1, .int (nI lv9)), (0, .ref (q 0)), (2, .int 1), (3, .int (nI t))]) hx hb dX0_search_139 hl rfl (by decide) rfl (fun ls hl => ?_)
                refine lv_goto (tgt := 123) hx hb dX0_search_142 (by decide) ?_
                exact ih123 si9 so9 br9 mv9 li9 lo9 la9 lt9 ms9 (SJ_pop hJ c_4) _ _ hZ ls (lv_sub hl [1, 0, 2, 3] rfl)
          refine lv_iload_n hx hb dX0_search_50 rfl (lv_at hl 2 rfl) ?_
          refine lv_if_eq (tgt := 90) hx hb dX0_search_51 (by decide) (fun c9 => absurd c9 (by decide)) (fun _ => ?_)
          refine lv_aload_n hx hb dX0_search_54 rfl (lv_at hl 0 rfl) ?_
          refine xg_br F hZ.1 dX0_search_55 ?_
          refine lv_if_ne (tgt := 90) hx hb dX0_search_58 (by decide) (fun c_5 => ?_) (fun c_5 => ?_)
          · skip
            refine lv_iload_n hx hb dX0_search_90 rfl (lv_at hl 2 rfl) ?_
            refine lv_if_eq (tgt := 123) hx hb dX0_search_91 (by decide) (fun c9 => absurd c9 (by decide)) (fun _ => ?_)
            refine lv_aload_n hx hb dX0_search_94 rfl (lv_at hl 0 rfl) ?_
            refine xg_br F hZ.1 dX0_search_95 ?_
            refine lv_if_ne (tgt := 123) hx hb dX0_search_98 (by decide) (fun _ => ?_) (fun c9 => absurd c9 c_5)
            exact lp123 lv si1 so1 br1 mv1 li1 lo1 la1 lt1 ms1 (SI_brk et0 c_5) _ _ hZ ls (lv_sub hl [0, 1, 2, 3] rfl)
          · skip
            refine lv_aload_n hx hb dX0_search_61 rfl (lv_at hl 0 rfl) ?_
            refine xg_si F hZ.1 dX0_search_62 ?_
            refine lv_aload_n hx hb dX0_search_65 rfl (lv_at hl 0 rfl) ?_
            refine xg_so F hZ.1 dX0_search_66 ?_
            refine lv_ior hx hb dX0_search_69 ?_
            refine lv_bipush (v := 63) hx hb dX0_search_70 (by decide) ?_
            refine lv_icmp_ne (tgt := 90) hx hb dX0_search_72 (by decide) (fun c_6 => ?_) (fun c_6 => ?_)
            · skip
              refine lv_iload_n hx hb dX0_search_90 rfl (lv_at hl 2 rfl) ?_
              refine lv_if_eq (tgt := 123) hx hb dX0_search_91 (by decide) (fun c9 => absurd c9 (by decide)) (fun _ => ?_)
              refine lv_aload_n hx hb dX0_search_94 rfl (lv_at hl 0 rfl) ?_
              refine xg_br F hZ.1 dX0_search_95 ?_
              refine lv_if_ne (tgt := 123) hx hb dX0_search_98 (by decide) (fun c9 => absurd c_5 c9) (fun _ => ?_)
              refine lv_aload_n hx hb dX0_search_101 rfl (lv_at hl 0 rfl) ?_
              refine xg_si F hZ.1 dX0_search_102 ?_
              refine lv_aload_n hx hb dX0_search_105 rfl (lv_at hl 0 rfl) ?_
              refine xg_so F hZ.1 dX0_search_106 ?_
              refine lv_ior hx hb dX0_search_109 ?_
              refine lv_bipush (v := 63) hx hb dX0_search_110 (by decide) ?_
              refine lv_icmp_eq (tgt := 123) hx hb dX0_search_112 (by decide) (fun c9 => absurd c9 c_6) (fun _ => ?_)
              refine lv_aload_n hx hb dX0_search_115 rfl (lv_at hl 0 rfl) ?_
              refine lv_iload_n hx hb dX0_search_116 rfl (lv_at hl 1 rfl) ?_
              obtain ⟨hv6, h8i, h8o, a0, ha9, hf9⟩ := SI_opn et0 c_5 c_6
              refine kx_open F hZ (by omega) h8i h8o ha9 hf9 hl.1 ⟨Nat.le_of_ble_eq_true rfl, Nat.le_of_ble_eq_true rfl⟩ (Nat.le_of_ble_eq_true rfl) dX0_search_117 (fun a H locs ha hZ => ?_)
              refine lv_incN (k := 1) (lv' := [(1, .int (nI (lv + 1))), (0, .ref (q 0)), (2, .int 1), (3, .int (nI t))]) hx hb dX0_search_120 hl rfl (by decide) rfl (fun ls hl => ?_)
              exact lp123 (lv + 1) si1 so1 br1 mv1 (upd li1 lv si1) (upd lo1 lv so1) (upd la1 lv (nI a)) (upd lt1 lv 0) ms1 (SI_opd et0 c_5 c_6 ha) _ _ hZ ls (lv_sub hl [1, 0, 2, 3] rfl)
            · skip
              refine lv_aload_n hx hb dX0_search_75 rfl (lv_at hl 0 rfl) ?_
              refine lv_dup hx hb dX0_search_76 rfl ?_
              refine xg_ms F hZ.1 dX0_search_77 ?_
              refine lv_lconst (v := 1) hx hb dX0_search_80 (by decide) ?_
              refine lv_aload_n hx hb dX0_search_81 rfl (lv_at hl 0 rfl) ?_
              refine xg_si F hZ.1 dX0_search_82 ?_
              refine lv_lshl hx hb dX0_search_85 rfl ?_
              refine lv_lor hx hb dX0_search_86 ?_
              refine xp_ms F hZ dX0_search_87 (fun H locs hZ => ?_)
              refine lv_iload_n hx hb dX0_search_90 rfl (lv_at hl 2 rfl) ?_
              refine lv_if_eq (tgt := 123) hx hb dX0_search_91 (by decide) (fun c9 => absurd c9 (by decide)) (fun _ => ?_)
              refine lv_aload_n hx hb dX0_search_94 rfl (lv_at hl 0 rfl) ?_
              refine xg_br F hZ.1 dX0_search_95 ?_
              refine lv_if_ne (tgt := 123) hx hb dX0_search_98 (by decide) (fun c9 => absurd c_5 c9) (fun _ => ?_)
              refine lv_aload_n hx hb dX0_search_101 rfl (lv_at hl 0 rfl) ?_
              refine xg_si F hZ.1 dX0_search_102 ?_
              refine lv_aload_n hx hb dX0_search_105 rfl (lv_at hl 0 rfl) ?_
              refine xg_so F hZ.1 dX0_search_106 ?_
              refine lv_ior hx hb dX0_search_109 ?_
              refine lv_bipush (v := 63) hx hb dX0_search_110 (by decide) ?_
              refine lv_icmp_eq (tgt := 123) hx hb dX0_search_112 (by decide) (fun _ => ?_) (fun c9 => absurd c_6 c9)
              exact lp123 lv si1 so1 br1 mv1 li1 lo1 la1 lt1 (ms1 ||| ((1 : Int64) <<< (si1.toInt64 &&& 63))) (SI_tot et0 c_5 c_6) _ _ hZ ls (lv_sub hl [0, 1, 2, 3] rfl)
    exact lp43 513 0 0 i2 o2 b2 m2 li lo la lt 0 (by omega) (by omega) (SI_init hwf hu2) _ _ hZ ls (lv_sub hl [3, 2, 1, 0] rfl)
  · skip
    have hk9 : kn = true := b2i_nz.mp c_1
    subst hk9
    exact hret (si, so, br, mv, li, lo, la, lt, ms) dX0_search_7 (hk rfl) hZ
theorem kx_search (F : Fx RX0 D dB dZ dJ p m c cc nL s args) (hZ : XS D A s (XW dB q pr kd hd ps ng si so br mv li lo la lt kn ms) H locs) (hwf : WF kd hd ps ng) (hk : kn = true → MSok pr kd hd ps ng ms) (hsz : ls.size = nL) (hR : rx_search.frames + 1 ≤ R.frames ∧ 8 + (4 + 11) + rx_search.locals ≤ R.locals) (hroom : (rest.map fun v => v.category).sum ≤ 8) (hdg : decode cc pc = .ok (.invokevirtual 104, 3)) (kk : ∀ (si1 : Int32) (so1 : Int32) (br1 : Bool) (mv1 : Bool) (li1 : Nat → Int32) (lo1 : Nat → Int32) (la1 : Nat → Int32) (lt1 : Nat → Int32) (ms1 : Int64) (H1 : Heap) (locs1 : List Loc), MSok pr kd hd ps ng ms1 → XS D A s (XW dB q pr kd hd ps ng si1 so1 br1 mv1 li1 lo1 la1 lt1 true ms1) H1 locs1 → W p l e R s m args below meth c H1 locs1 0 0 Q (F0 m (pc + 3) ls rest)) : W p l e R s m args below meth c H locs 0 0 Q (F0 m pc ls (.ref (q 0) :: rest)) :=
  cl_V (q0 := 0) (ci := 0) (n := 0) (As := []) F hZ (cx_search l D dB dZ dJ q pr kd hd ps ng si so br mv li lo la lt kn ms hwf hk) (fun _ => rfl) rfl rfl (lw_V q108 q110 qs2 q20 q111) (by decide +kernel) rfl ⟨rfl, rfl⟩ hR hsz rfl hroom hdg ⟨Nat.zero_le _, Nat.zero_le _⟩ (fun u H1 locs1 hu hZ => kk u.1 u.2.1 u.2.2.1 u.2.2.2.1 u.2.2.2.2.1 u.2.2.2.2.2.1 u.2.2.2.2.2.2.1 u.2.2.2.2.2.2.2.1 u.2.2.2.2.2.2.2.2 H1 locs1 hu hZ)
end XS1
end
section
set_option maxRecDepth 100000
section XP1
variable {p : Program} {l : Launch} {e : Env} {R : Room} {s : State} {m : MethodId} {args : Array Value} {below : List Frame} {meth : Method} {c : Code} {H : Heap} {locs : List Loc} {Q : State → Prop}
variable {cc : ByteArray} {pc nL : Nat} {ls : Array Slot} {rest : List Value} {D : va_G} {dB dZ dJ : ClassId} {A : Nat → Prop} {q : Nat → Nat}
variable {pr : Int32} {kd hd ps ng : Nat → Int32} {si so : Int32} {br mv : Bool} {li lo la lt : Nat → Int32} {kn : Bool} {ms : Int64}
variable {th fd bf : Nat → Bool}
abbrev PU : Type := Int32 × Int32 × Bool × Bool × (Nat → Int32) × (Nat → Int32) × (Nat → Int32) × (Nat → Int32) × Bool × Int64
/-- isModel behind a search -/
theorem kx_isModelF {j : Nat} (F : Fx RX0 D dB dZ dJ p m c cc nL s args) (hP : va_P D vwCl (XW dB q pr kd hd ps ng si so br mv li lo la lt kn ms) H) (hms : MSok pr kd hd ps ng ms) (hj : j < 64) (hsz : ls.size = nL) (hR : rx_isModel.frames + 1 ≤ R.frames ∧ 8 + (2 + 11) + rx_isModel.locals ≤ R.locals) (hroom : (rest.map fun v => v.category).sum ≤ 8) (hdg : decode cc pc = .ok (.invokevirtual 107, 3)) (kk : W p l e R s m args below meth c H locs 0 0 Q (F0 m (pc + 3) ls (.int (b2i (stF pr kd hd ps ng j)) :: rest))) : W p l e R s m args below meth c H locs 0 0 Q (F0 m pc ls (.int (nI j) :: .ref (q 0) :: rest)) := by
  refine kx_isModel F hP hj hsz hR hroom hdg ?_
  rw [hms j hj]
  exact kk
theorem kx_isMaximalF {mm : Nat} (F : Fx RX0 D dB dZ dJ p m c cc nL s args) (hP : va_P D vwCl (XW dB q pr kd hd ps ng si so br mv li lo la lt kn ms) H) (hms : MSok pr kd hd ps ng ms) (hm : mm < 64) (hsz : ls.size = nL) (hR : rx_isMaximal.frames + 1 ≤ R.frames ∧ 8 + (3 + 11) + rx_isMaximal.locals ≤ R.locals) (hroom : (rest.map fun v => v.category).sum ≤ 8) (hdg : decode cc pc = .ok (.invokevirtual 110, 3)) (kk : W p l e R s m args below meth c H locs 0 0 Q (F0 m (pc + 3) ls (.int (mxX (stF pr kd hd ps ng) mm (63 - mm)) :: rest))) : W p l e R s m args below meth c H locs 0 0 Q (F0 m pc ls (.int (nI mm) :: .ref (q 0) :: rest)) := by
  refine kx_isMaximal F hP hm hsz hR hroom hdg ?_
  rw [mxX_cg (g := stF pr kd hd ps ng) hms]
  exact kk
abbrev rx_stable : Room := { frames := 5, cells := 0, slots := 0, locals := 113 }
set_option maxHeartbeats 4000000 in
set_option maxRecDepth 100000 in
theorem cx_stable (l : Launch) (D : va_G) (dB dZ dJ : ClassId) (q : Nat → Nat) (pr : Int32) (kd hd ps ng : Nat → Int32) (si so : Int32) (br mv : Bool) (li lo la lt : Nat → Int32) (kn : Bool) (ms : Int64) (hwf : WF kd hd ps ng) (hk : kn = true → MSok pr kd hd ps ng ms) (x : Int32) : MId l yX0_stable (ws_ yX0_stable cX0_stable 2 (some .boolean)) rx_stable D dB dZ dJ [.ref (q 0), .int x] (XW dB q pr kd hd ps ng si so br mv li lo la lt kn ms) (fun (r : Int32) (u : PU) => r = xStb pr kd hd ps ng x ∧ (u.2.2.2.2.2.2.2.2.1 = true → MSok pr kd hd ps ng u.2.2.2.2.2.2.2.2.2)) (fun u : PU => XW dB q pr kd hd ps ng u.1 u.2.1 u.2.2.1 u.2.2.2.1 u.2.2.2.2.1 u.2.2.2.2.2.1 u.2.2.2.2.2.2.1 u.2.2.2.2.2.2.2.1 u.2.2.2.2.2.2.2.2.1 u.2.2.2.2.2.2.2.2.2) := by
  refine MId.of (by decide) (Nat.le_of_ble_eq_true rfl) (fun p e s m args below meth c Q A F hZ hret ls hl => ?_)
  obtain ⟨hx, hb, hml, hown, hts⟩ := id F.1
  have hl : lv_has ls 2 [(0, .ref (q 0)), (1, .int x)] := hl
  refine lv_iload_n hx hb dX0_stable_0 rfl (lv_at hl 1 rfl) ?_
  refine kx_isSet F.1 hl.1 ⟨Nat.le_of_ble_eq_true rfl, Nat.le_of_ble_eq_true rfl⟩ (Nat.le_of_ble_eq_true rfl) dX0_stable_1 ?_
  refine lv_if_ne (tgt := 9) hx hb dX0_stable_4 (by decide) (fun c_1 => ?_) (fun c_1 => ?_)
  · skip
    obtain ⟨j, hj, ej⟩ := setI_nz c_1
    subst ej
    refine lv_aload_n hx hb dX0_stable_9 rfl (lv_at hl 0 rfl) ?_
    refine kx_search F hZ hwf hk hl.1 ⟨Nat.le_of_ble_eq_true rfl, Nat.le_of_ble_eq_true rfl⟩ (Nat.le_of_ble_eq_true rfl) dX0_stable_10 (fun si1 so1 br1 mv1 li1 lo1 la1 lt1 ms1 H locs hms hZ => ?_)
    refine lv_aload_n hx hb dX0_stable_13 rfl (lv_at hl 0 rfl) ?_
    refine lv_iload_n hx hb dX0_stable_14 rfl (lv_at hl 1 rfl) ?_
    refine kx_isModelF F hZ.1 hms hj hl.1 ⟨Nat.le_of_ble_eq_true rfl, Nat.le_of_ble_eq_true rfl⟩ (Nat.le_of_ble_eq_true rfl) dX0_stable_15 ?_
    exact hret (si1, so1, br1, mv1, li1, lo1, la1, lt1, true, ms1) dX0_stable_18 ⟨by rw [xStb, if_neg c_1]; rfl, fun _ => hms⟩ (b2i_nar _) hZ
  · skip
    refine lv_iconst (v := 0) hx hb dX0_stable_7 (by decide) ?_
    exact hret (si, so, br, mv, li, lo, la, lt, kn, ms) dX0_stable_8 ⟨by rw [xStb, if_pos c_1], hk⟩ rfl hZ
abbrev rx_models : Room := { frames := 5, cells := 0, slots := 0, locals := 113 }
set_option maxHeartbeats 4000000 in
set_option maxRecDepth 100000 in
theorem cx_models (l : Launch) (D : va_G) (dB dZ dJ : ClassId) (q : Nat → Nat) (pr : Int32) (kd hd ps ng : Nat → Int32) (si so : Int32) (br mv : Bool) (li lo la lt : Nat → Int32) (kn : Bool) (ms : Int64) (hwf : WF kd hd ps ng) (hk : kn = true → MSok pr kd hd ps ng ms) : MId l yX0_models (ws_ yX0_models cX0_models 3 (some .int)) rx_models D dB dZ dJ [.ref (q 0)] (XW dB q pr kd hd ps ng si so br mv li lo la lt kn ms) (fun (r : Int32) (u : PU) => r = aCnt (stF pr kd hd ps ng) 64 ∧ (u.2.2.2.2.2.2.2.2.1 = true → MSok pr kd hd ps ng u.2.2.2.2.2.2.2.2.2)) (fun u : PU => XW dB q pr kd hd ps ng u.1 u.2.1 u.2.2.1 u.2.2.2.1 u.2.2.2.2.1 u.2.2.2.2.2.1 u.2.2.2.2.2.2.1 u.2.2.2.2.2.2.2.1 u.2.2.2.2.2.2.2.2.1 u.2.2.2.2.2.2.2.2.2) := by
  refine MId.of (by decide) (Nat.le_of_ble_eq_true rfl) (fun p e s m args below meth c Q A F hZ hret ls hl => ?_)
  obtain ⟨hx, hb, hml, hown, hts⟩ := id F.1
  have hl : lv_has ls 3 [(0, .ref (q 0))] := hl
  refine lv_aload_n hx hb dX0_models_0 rfl (lv_at hl 0 rfl) ?_
  refine kx_search F hZ hwf hk hl.1 ⟨Nat.le_of_ble_eq_true rfl, Nat.le_of_ble_eq_true rfl⟩ (Nat.le_of_ble_eq_true rfl) dX0_models_1 (fun si1 so1 br1 mv1 li1 lo1 la1 lt1 ms1 H locs hms hZ => ?_)
  refine lv_iconst (v := 0) hx hb dX0_models_4 (by decide) ?_
  refine lv_istore_n (lv' := [(1, .int 0), (0, .ref (q 0))]) hx hb dX0_models_5 rfl hl (by decide) rfl (fun ls hl => ?_)
  refine lv_iconst (v := 0) hx hb dX0_models_6 (by decide) ?_
  refine lv_istore_n (lv' := [(2, .int 0), (1, .int 0), (0, .ref (q 0))]) hx hb dX0_models_7 rfl hl (by decide) rfl (fun ls hl => ?_)
  have lp8 : ∀ (nf j : Nat) (x1 : Int32), j ≤ 64 → 64 < j + nf → x1 = aCnt (stF pr kd hd ps ng) j → ∀ (H : Heap) (locs : List Loc), XS D A s (XW dB q pr kd hd ps ng si1 so1 br1 mv1 li1 lo1 la1 lt1 true ms1) H locs → ∀ (ls : Array Slot), lv_has ls 3 [(0, .ref (q 0)), (1, .int x1), (2, .int (nI j))] → W p l e rx_models s m args below meth c H locs 0 0 Q (F0 m 8 ls []) := by
    intro nf
    induction nf with
    | zero =>
      intro j x1 h1 h2
      exact absurd h2 (by omega)
    | succ nf ih8 =>
      intro j x1 hj0 hjn ej0 H locs hZ ls hl
      refine lv_iload_n hx hb dX0_models_8 rfl (lv_at hl 2 rfl) ?_
      refine lv_bipush (v := 63) hx hb dX0_models_9 (by decide) ?_
      refine lv_icmp_gt (tgt := 36) hx hb dX0_models_11 (by decide) (fun c_1 => ?_) (fun c_1 => ?_)
      · skip
        have hj : j = 64 := lp_gt (N := 63) (by decide) hj0 c_1
        subst hj
        refine lv_iload_n hx hb dX0_models_36 rfl (lv_at hl 1 rfl) ?_
        exact hret (si1, so1, br1, mv1, li1, lo1, la1, lt1, true, ms1) dX0_models_37 ⟨ej0, fun _ => hms⟩ rfl hZ
      · skip
        have hj : j < 64 := lp_ngt (N := 63) (by decide) hj0 c_1
        refine lv_iload_n hx hb dX0_models_14 rfl (lv_at hl 1 rfl) ?_
        refine lv_aload_n hx hb dX0_models_15 rfl (lv_at hl 0 rfl) ?_
        refine lv_iload_n hx hb dX0_models_16 rfl (lv_at hl 2 rfl) ?_
        refine kx_isModelF F hZ.1 hms hj hl.1 ⟨Nat.le_of_ble_eq_true rfl, Nat.le_of_ble_eq_true rfl⟩ (Nat.le_of_ble_eq_true rfl) dX0_models_17 ?_
        refine lv_if_eq (tgt := 27) hx hb dX0_models_20 (by decide) (fun c_2 => ?_) (fun c_2 => ?_)
        · skip
          refine lv_iconst (v := 0) hx hb dX0_models_27 (by decide) ?_
          refine lv_iadd hx hb dX0_models_28 ?_
          refine lv_istore_n (lv' := [(1, .int (x1 + 0)), (0, .ref (q 0)), (2, .int (nI j))]) hx hb dX0_models_29 rfl hl (by decide) rfl (fun ls hl => ?_)
          refine lv_incN (k := 2) (lv' := [(2, .int (nI (j + 1))), (1, .int (x1 + 0)), (0, .ref (q 0))]) hx hb dX0_models_30 hl rfl (by decide) rfl (fun ls hl => ?_)
          refine lv_goto (tgt := 8) hx hb dX0_models_33 (by decide) ?_
          exact ih8 (j + 1) (x1 + 0) (by omega) (by omega) (by rw [aCnt, if_pos c_2, ← ej0]; simp) _ _ hZ ls (lv_sub hl [2, 1, 0] rfl)
        · skip
          refine lv_iconst (v := 1) hx hb dX0_models_23 (by decide) ?_
          refine lv_goto (tgt := 28) hx hb dX0_models_24 (by decide) ?_
          refine lv_iadd hx hb dX0_models_28 ?_
          refine lv_istore_n (lv' := [(1, .int (x1 + 1)), (0, .ref (q 0)), (2, .int (nI j))]) hx hb dX0_models_29 rfl hl (by decide) rfl (fun ls hl => ?_)
          refine lv_incN (k := 2) (lv' := [(2, .int (nI (j + 1))), (1, .int (x1 + 1)), (0, .ref (q 0))]) hx hb dX0_models_30 hl rfl (by decide) rfl (fun ls hl => ?_)
          refine lv_goto (tgt := 8) hx hb dX0_models_33 (by decide) ?_
          exact ih8 (j + 1) (x1 + 1) (by omega) (by omega) (by rw [aCnt, if_neg c_2, ← ej0]) _ _ hZ ls (lv_sub hl [2, 1, 0] rfl)
  exact lp8 65 0 0 (by omega) (by omega) rfl _ _ hZ ls (lv_sub hl [2, 1, 0] rfl)
abbrev rx_brave : Room := { frames := 5, cells := 0, slots := 0, locals := 113 }
set_option maxHeartbeats 4000000 in
set_option maxRecDepth 100000 in
theorem cx_brave (l : Launch) (D : va_G) (dB dZ dJ : ClassId) (q : Nat → Nat) (pr : Int32) (kd hd ps ng : Nat → Int32) (si so : Int32) (br mv : Bool) (li lo la lt : Nat → Int32) (kn : Bool) (ms : Int64) (hwf : WF kd hd ps ng) (hk : kn = true → MSok pr kd hd ps ng ms) : MId l yX0_brave (ws_ yX0_brave cX0_brave 3 (some .int)) rx_brave D dB dZ dJ [.ref (q 0)] (XW dB q pr kd hd ps ng si so br mv li lo la lt kn ms) (fun (r : Int32) (u : PU) => r = aBrv (stF pr kd hd ps ng) 64 ∧ (u.2.2.2.2.2.2.2.2.1 = true → MSok pr kd hd ps ng u.2.2.2.2.2.2.2.2.2)) (fun u : PU => XW dB q pr kd hd ps ng u.1 u.2.1 u.2.2.1 u.2.2.2.1 u.2.2.2.2.1 u.2.2.2.2.2.1 u.2.2.2.2.2.2.1 u.2.2.2.2.2.2.2.1 u.2.2.2.2.2.2.2.2.1 u.2.2.2.2.2.2.2.2.2) := by
  refine MId.of (by decide) (Nat.le_of_ble_eq_true rfl) (fun p e s m args below meth c Q A F hZ hret ls hl => ?_)
  obtain ⟨hx, hb, hml, hown, hts⟩ := id F.1
  have hl : lv_has ls 3 [(0, .ref (q 0))] := hl
  refine lv_aload_n hx hb dX0_brave_0 rfl (lv_at hl 0 rfl) ?_
  refine kx_search F hZ hwf hk hl.1 ⟨Nat.le_of_ble_eq_true rfl, Nat.le_of_ble_eq_true rfl⟩ (Nat.le_of_ble_eq_true rfl) dX0_brave_1 (fun si1 so1 br1 mv1 li1 lo1 la1 lt1 ms1 H locs hms hZ => ?_)
  refine lv_iconst (v := 0) hx hb dX0_brave_4 (by decide) ?_
  refine lv_istore_n (lv' := [(1, .int 0), (0, .ref (q 0))]) hx hb dX0_brave_5 rfl hl (by decide) rfl (fun ls hl => ?_)
  refine lv_iconst (v := 0) hx hb dX0_brave_6 (by decide) ?_
  refine lv_istore_n (lv' := [(2, .int 0), (1, .int 0), (0, .ref (q 0))]) hx hb dX0_brave_7 rfl hl (by decide) rfl (fun ls hl => ?_)
  have lp8 : ∀ (nf j : Nat) (x1 : Int32), j ≤ 64 → 64 < j + nf → x1 = aBrv (stF pr kd hd ps ng) j → ∀ (H : Heap) (locs : List Loc), XS D A s (XW dB q pr kd hd ps ng si1 so1 br1 mv1 li1 lo1 la1 lt1 true ms1) H locs → ∀ (ls : Array Slot), lv_has ls 3 [(0, .ref (q 0)), (1, .int x1), (2, .int (nI j))] → W p l e rx_brave s m args below meth c H locs 0 0 Q (F0 m 8 ls []) := by
    intro nf
    induction nf with
    | zero =>
      intro j x1 h1 h2
      exact absurd h2 (by omega)
    | succ nf ih8 =>
      intro j x1 hj0 hjn ej0 H locs hZ ls hl
      refine lv_iload_n hx hb dX0_brave_8 rfl (lv_at hl 2 rfl) ?_
      refine lv_bipush (v := 63) hx hb dX0_brave_9 (by decide) ?_
      refine lv_icmp_gt (tgt := 36) hx hb dX0_brave_11 (by decide) (fun c_1 => ?_) (fun c_1 => ?_)
      · skip
        have hj : j = 64 := lp_gt (N := 63) (by decide) hj0 c_1
        subst hj
        refine lv_iload_n hx hb dX0_brave_36 rfl (lv_at hl 1 rfl) ?_
        exact hret (si1, so1, br1, mv1, li1, lo1, la1, lt1, true, ms1) dX0_brave_37 ⟨ej0, fun _ => hms⟩ rfl hZ
      · skip
        have hj : j < 64 := lp_ngt (N := 63) (by decide) hj0 c_1
        refine lv_iload_n hx hb dX0_brave_14 rfl (lv_at hl 1 rfl) ?_
        refine lv_aload_n hx hb dX0_brave_15 rfl (lv_at hl 0 rfl) ?_
        refine lv_iload_n hx hb dX0_brave_16 rfl (lv_at hl 2 rfl) ?_
        refine kx_isModelF F hZ.1 hms hj hl.1 ⟨Nat.le_of_ble_eq_true rfl, Nat.le_of_ble_eq_true rfl⟩ (Nat.le_of_ble_eq_true rfl) dX0_brave_17 ?_
        refine lv_if_eq (tgt := 27) hx hb dX0_brave_20 (by decide) (fun c_2 => ?_) (fun c_2 => ?_)
        · skip
          refine lv_iconst (v := 0) hx hb dX0_brave_27 (by decide) ?_
          refine lv_ior hx hb dX0_brave_28 ?_
          refine lv_istore_n (lv' := [(1, .int (x1 ||| 0)), (0, .ref (q 0)), (2, .int (nI j))]) hx hb dX0_brave_29 rfl hl (by decide) rfl (fun ls hl => ?_)
          refine lv_incN (k := 2) (lv' := [(2, .int (nI (j + 1))), (1, .int (x1 ||| 0)), (0, .ref (q 0))]) hx hb dX0_brave_30 hl rfl (by decide) rfl (fun ls hl => ?_)
          refine lv_goto (tgt := 8) hx hb dX0_brave_33 (by decide) ?_
          exact ih8 (j + 1) (x1 ||| 0) (by omega) (by omega) (by rw [aBrv, if_pos c_2, ← ej0]; simp) _ _ hZ ls (lv_sub hl [2, 1, 0] rfl)
        · skip
          refine lv_iload_n hx hb dX0_brave_23 rfl (lv_at hl 2 rfl) ?_
          refine lv_goto (tgt := 28) hx hb dX0_brave_24 (by decide) ?_
          refine lv_ior hx hb dX0_brave_28 ?_
          refine lv_istore_n (lv' := [(1, .int (x1 ||| (nI j))), (0, .ref (q 0)), (2, .int (nI j))]) hx hb dX0_brave_29 rfl hl (by decide) rfl (fun ls hl => ?_)
          refine lv_incN (k := 2) (lv' := [(2, .int (nI (j + 1))), (1, .int (x1 ||| (nI j))), (0, .ref (q 0))]) hx hb dX0_brave_30 hl rfl (by decide) rfl (fun ls hl => ?_)
          refine lv_goto (tgt := 8) hx hb dX0_brave_33 (by decide) ?_
          exact ih8 (j + 1) (x1 ||| (nI j)) (by omega) (by omega) (by rw [aBrv, if_neg c_2, ← ej0]) _ _ hZ ls (lv_sub hl [2, 1, 0] rfl)
  exact lp8 65 0 0 (by omega) (by omega) rfl _ _ hZ ls (lv_sub hl [2, 1, 0] rfl)
abbrev rx_cautious : Room := { frames := 5, cells := 0, slots := 0, locals := 113 }
set_option maxHeartbeats 4000000 in
set_option maxRecDepth 100000 in
theorem cx_cautious (l : Launch) (D : va_G) (dB dZ dJ : ClassId) (q : Nat → Nat) (pr : Int32) (kd hd ps ng : Nat → Int32) (si so : Int32) (br mv : Bool) (li lo la lt : Nat → Int32) (kn : Bool) (ms : Int64) (hwf : WF kd hd ps ng) (hk : kn = true → MSok pr kd hd ps ng ms) : MId l yX0_cautious (ws_ yX0_cautious cX0_cautious 3 (some .int)) rx_cautious D dB dZ dJ [.ref (q 0)] (XW dB q pr kd hd ps ng si so br mv li lo la lt kn ms) (fun (r : Int32) (u : PU) => r = aCauX (stF pr kd hd ps ng) 64 ∧ (u.2.2.2.2.2.2.2.2.1 = true → MSok pr kd hd ps ng u.2.2.2.2.2.2.2.2.2)) (fun u : PU => XW dB q pr kd hd ps ng u.1 u.2.1 u.2.2.1 u.2.2.2.1 u.2.2.2.2.1 u.2.2.2.2.2.1 u.2.2.2.2.2.2.1 u.2.2.2.2.2.2.2.1 u.2.2.2.2.2.2.2.2.1 u.2.2.2.2.2.2.2.2.2) := by
  refine MId.of (by decide) (Nat.le_of_ble_eq_true rfl) (fun p e s m args below meth c Q A F hZ hret ls hl => ?_)
  obtain ⟨hx, hb, hml, hown, hts⟩ := id F.1
  have hl : lv_has ls 3 [(0, .ref (q 0))] := hl
  refine lv_aload_n hx hb dX0_cautious_0 rfl (lv_at hl 0 rfl) ?_
  refine kx_search F hZ hwf hk hl.1 ⟨Nat.le_of_ble_eq_true rfl, Nat.le_of_ble_eq_true rfl⟩ (Nat.le_of_ble_eq_true rfl) dX0_cautious_1 (fun si1 so1 br1 mv1 li1 lo1 la1 lt1 ms1 H locs hms hZ => ?_)
  refine lv_bipush (v := 63) hx hb dX0_cautious_4 (by decide) ?_
  refine lv_istore_n (lv' := [(1, .int 63), (0, .ref (q 0))]) hx hb dX0_cautious_6 rfl hl (by decide) rfl (fun ls hl => ?_)
  refine lv_iconst (v := 0) hx hb dX0_cautious_7 (by decide) ?_
  refine lv_istore_n (lv' := [(2, .int 0), (1, .int 63), (0, .ref (q 0))]) hx hb dX0_cautious_8 rfl hl (by decide) rfl (fun ls hl => ?_)
  have lp9 : ∀ (nf j : Nat) (x1 : Int32), j ≤ 64 → 64 < j + nf → x1 = aCauX (stF pr kd hd ps ng) j → ∀ (H : Heap) (locs : List Loc), XS D A s (XW dB q pr kd hd ps ng si1 so1 br1 mv1 li1 lo1 la1 lt1 true ms1) H locs → ∀ (ls : Array Slot), lv_has ls 3 [(0, .ref (q 0)), (1, .int x1), (2, .int (nI j))] → W p l e rx_cautious s m args below meth c H locs 0 0 Q (F0 m 9 ls []) := by
    intro nf
    induction nf with
    | zero =>
      intro j x1 h1 h2
      exact absurd h2 (by omega)
    | succ nf ih9 =>
      intro j x1 hj0 hjn ej0 H locs hZ ls hl
      refine lv_iload_n hx hb dX0_cautious_9 rfl (lv_at hl 2 rfl) ?_
      refine lv_bipush (v := 63) hx hb dX0_cautious_10 (by decide) ?_
      refine lv_icmp_gt (tgt := 38) hx hb dX0_cautious_12 (by decide) (fun c_1 => ?_) (fun c_1 => ?_)
      · skip
        have hj : j = 64 := lp_gt (N := 63) (by decide) hj0 c_1
        subst hj
        refine lv_iload_n hx hb dX0_cautious_38 rfl (lv_at hl 1 rfl) ?_
        exact hret (si1, so1, br1, mv1, li1, lo1, la1, lt1, true, ms1) dX0_cautious_39 ⟨ej0, fun _ => hms⟩ rfl hZ
      · skip
        have hj : j < 64 := lp_ngt (N := 63) (by decide) hj0 c_1
        refine lv_iload_n hx hb dX0_cautious_15 rfl (lv_at hl 1 rfl) ?_
        refine lv_aload_n hx hb dX0_cautious_16 rfl (lv_at hl 0 rfl) ?_
        refine lv_iload_n hx hb dX0_cautious_17 rfl (lv_at hl 2 rfl) ?_
        refine kx_isModelF F hZ.1 hms hj hl.1 ⟨Nat.le_of_ble_eq_true rfl, Nat.le_of_ble_eq_true rfl⟩ (Nat.le_of_ble_eq_true rfl) dX0_cautious_18 ?_
        refine lv_if_eq (tgt := 28) hx hb dX0_cautious_21 (by decide) (fun c_2 => ?_) (fun c_2 => ?_)
        · skip
          refine lv_bipush (v := 63) hx hb dX0_cautious_28 (by decide) ?_
          refine lv_iand hx hb dX0_cautious_30 ?_
          refine lv_istore_n (lv' := [(1, .int (x1 &&& 63)), (0, .ref (q 0)), (2, .int (nI j))]) hx hb dX0_cautious_31 rfl hl (by decide) rfl (fun ls hl => ?_)
          refine lv_incN (k := 2) (lv' := [(2, .int (nI (j + 1))), (1, .int (x1 &&& 63)), (0, .ref (q 0))]) hx hb dX0_cautious_32 hl rfl (by decide) rfl (fun ls hl => ?_)
          refine lv_goto (tgt := 9) hx hb dX0_cautious_35 (by decide) ?_
          exact ih9 (j + 1) (x1 &&& 63) (by omega) (by omega) (by rw [aCauX, if_pos c_2, ← ej0]) _ _ hZ ls (lv_sub hl [2, 1, 0] rfl)
        · skip
          refine lv_iload_n hx hb dX0_cautious_24 rfl (lv_at hl 2 rfl) ?_
          refine lv_goto (tgt := 30) hx hb dX0_cautious_25 (by decide) ?_
          refine lv_iand hx hb dX0_cautious_30 ?_
          refine lv_istore_n (lv' := [(1, .int (x1 &&& (nI j))), (0, .ref (q 0)), (2, .int (nI j))]) hx hb dX0_cautious_31 rfl hl (by decide) rfl (fun ls hl => ?_)
          refine lv_incN (k := 2) (lv' := [(2, .int (nI (j + 1))), (1, .int (x1 &&& (nI j))), (0, .ref (q 0))]) hx hb dX0_cautious_32 hl rfl (by decide) rfl (fun ls hl => ?_)
          refine lv_goto (tgt := 9) hx hb dX0_cautious_35 (by decide) ?_
          exact ih9 (j + 1) (x1 &&& (nI j)) (by omega) (by omega) (by rw [aCauX, if_neg c_2, ← ej0]) _ _ hZ ls (lv_sub hl [2, 1, 0] rfl)
  exact lp9 65 0 63 (by omega) (by omega) rfl _ _ hZ ls (lv_sub hl [2, 1, 0] rfl)
abbrev rx_fewest : Room := { frames := 5, cells := 0, slots := 0, locals := 113 }
set_option maxHeartbeats 4000000 in
set_option maxRecDepth 100000 in
theorem cx_fewest (l : Launch) (D : va_G) (dB dZ dJ : ClassId) (q : Nat → Nat) (pr : Int32) (kd hd ps ng : Nat → Int32) (si so : Int32) (br mv : Bool) (li lo la lt : Nat → Int32) (kn : Bool) (ms : Int64) (hwf : WF kd hd ps ng) (hk : kn = true → MSok pr kd hd ps ng ms) : MId l yX0_fewest (ws_ yX0_fewest cX0_fewest 4 (some .int)) rx_fewest D dB dZ dJ [.ref (q 0)] (XW dB q pr kd hd ps ng si so br mv li lo la lt kn ms) (fun (r : Int32) (u : PU) => r = aFew (stF pr kd hd ps ng) 64 ∧ (u.2.2.2.2.2.2.2.2.1 = true → MSok pr kd hd ps ng u.2.2.2.2.2.2.2.2.2)) (fun u : PU => XW dB q pr kd hd ps ng u.1 u.2.1 u.2.2.1 u.2.2.2.1 u.2.2.2.2.1 u.2.2.2.2.2.1 u.2.2.2.2.2.2.1 u.2.2.2.2.2.2.2.1 u.2.2.2.2.2.2.2.2.1 u.2.2.2.2.2.2.2.2.2) := by
  refine MId.of (by decide) (Nat.le_of_ble_eq_true rfl) (fun p e s m args below meth c Q A F hZ hret ls hl => ?_)
  obtain ⟨hx, hb, hml, hown, hts⟩ := id F.1
  have hl : lv_has ls 4 [(0, .ref (q 0))] := hl
  refine lv_aload_n hx hb dX0_fewest_0 rfl (lv_at hl 0 rfl) ?_
  refine kx_search F hZ hwf hk hl.1 ⟨Nat.le_of_ble_eq_true rfl, Nat.le_of_ble_eq_true rfl⟩ (Nat.le_of_ble_eq_true rfl) dX0_fewest_1 (fun si1 so1 br1 mv1 li1 lo1 la1 lt1 ms1 H locs hms hZ => ?_)
  refine lv_iconst (v := (-1)) hx hb dX0_fewest_4 (by decide) ?_
  refine lv_istore_n (lv' := [(1, .int (-1)), (0, .ref (q 0))]) hx hb dX0_fewest_5 rfl hl (by decide) rfl (fun ls hl => ?_)
  refine lv_iconst (v := 0) hx hb dX0_fewest_6 (by decide) ?_
  refine lv_istore_n (lv' := [(2, .int 0), (1, .int (-1)), (0, .ref (q 0))]) hx hb dX0_fewest_7 rfl hl (by decide) rfl (fun ls hl => ?_)
  have lp8 : ∀ (nf j : Nat) (x1 : Int32), j ≤ 64 → 64 < j + nf → x1 = aFew (stF pr kd hd ps ng) j → ∀ (H : Heap) (locs : List Loc), XS D A s (XW dB q pr kd hd ps ng si1 so1 br1 mv1 li1 lo1 la1 lt1 true ms1) H locs → ∀ (ls : Array Slot), lv_has ls 4 [(0, .ref (q 0)), (1, .int x1), (2, .int (nI j))] → W p l e rx_fewest s m args below meth c H locs 0 0 Q (F0 m 8 ls []) := by
    intro nf
    induction nf with
    | zero =>
      intro j x1 h1 h2
      exact absurd h2 (by omega)
    | succ nf ih8 =>
      intro j x1 hj0 hjn ej0 H locs hZ ls hl
      refine lv_iload_n hx hb dX0_fewest_8 rfl (lv_at hl 2 rfl) ?_
      refine lv_bipush (v := 63) hx hb dX0_fewest_9 (by decide) ?_
      refine lv_icmp_gt (tgt := 52) hx hb dX0_fewest_11 (by decide) (fun c_1 => ?_) (fun c_1 => ?_)
      · skip
        have hj : j = 64 := lp_gt (N := 63) (by decide) hj0 c_1
        subst hj
        refine lv_iload_n hx hb dX0_fewest_52 rfl (lv_at hl 1 rfl) ?_
        exact hret (si1, so1, br1, mv1, li1, lo1, la1, lt1, true, ms1) dX0_fewest_53 ⟨ej0, fun _ => hms⟩ rfl hZ
      · skip
        have hj : j < 64 := lp_ngt (N := 63) (by decide) hj0 c_1
        refine lv_aload_n hx hb dX0_fewest_14 rfl (lv_at hl 0 rfl) ?_
        refine lv_iload_n hx hb dX0_fewest_15 rfl (lv_at hl 2 rfl) ?_
        refine kx_isModelF F hZ.1 hms hj hl.1 ⟨Nat.le_of_ble_eq_true rfl, Nat.le_of_ble_eq_true rfl⟩ (Nat.le_of_ble_eq_true rfl) dX0_fewest_16 ?_
        refine lv_if_eq (tgt := 29) hx hb dX0_fewest_19 (by decide) (fun c_2 => ?_) (fun c_2 => ?_)
        · skip
          refine lv_iconst (v := (-1)) hx hb dX0_fewest_29 (by decide) ?_
          refine lv_istore_n (lv' := [(3, .int (-1)), (0, .ref (q 0)), (1, .int x1), (2, .int (nI j))]) hx hb dX0_fewest_30 rfl hl (by decide) rfl (fun ls hl => ?_)
          refine lv_iload_n hx hb dX0_fewest_31 rfl (lv_at hl 0 rfl) ?_
          refine lv_if_lt (tgt := 46) hx hb dX0_fewest_32 (by decide) (fun _ => ?_) (fun c9 => absurd (by decide) c9)
          refine lv_incN (k := 3) (lv' := [(2, .int (nI (j + 1))), (3, .int (-1)), (0, .ref (q 0)), (1, .int x1)]) hx hb dX0_fewest_46 hl rfl (by decide) rfl (fun ls hl => ?_)
          refine lv_goto (tgt := 8) hx hb dX0_fewest_49 (by decide) ?_
          exact ih8 (j + 1) x1 (by omega) (by omega) (by rw [aFew, ← ej0]; simp only [if_pos c_2]) _ _ hZ ls (lv_sub hl [2, 3, 0] rfl)
        · skip
          refine lv_iload_n hx hb dX0_fewest_22 rfl (lv_at hl 2 rfl) ?_
          refine kx_ones F.1 hl.1 ⟨Nat.le_of_ble_eq_true rfl, Nat.le_of_ble_eq_true rfl⟩ (Nat.le_of_ble_eq_true rfl) dX0_fewest_23 ?_
          refine lv_goto (tgt := 30) hx hb dX0_fewest_26 (by decide) ?_
          refine lv_istore_n (lv' := [(3, .int (onesN (nI j) 6)), (0, .ref (q 0)), (1, .int x1), (2, .int (nI j))]) hx hb dX0_fewest_30 rfl hl (by decide) rfl (fun ls hl => ?_)
          refine lv_iload_n hx hb dX0_fewest_31 rfl (lv_at hl 0 rfl) ?_
          refine lv_if_lt (tgt := 46) hx hb dX0_fewest_32 (by decide) (fun c9 => absurd c9 (onesN_pos _)) (fun _ => ?_)
          refine lv_iload_n hx hb dX0_fewest_35 rfl (lv_at hl 2 rfl) ?_
          refine lv_if_lt (tgt := 44) hx hb dX0_fewest_36 (by decide) (fun c_3 => ?_) (fun c_3 => ?_)
          · skip
            refine lv_iload_n hx hb dX0_fewest_44 rfl (lv_at hl 0 rfl) ?_
            refine lv_istore_n (lv' := [(1, .int (onesN (nI j) 6)), (3, .int (onesN (nI j) 6)), (0, .ref (q 0)), (2, .int (nI j))]) hx hb dX0_fewest_45 rfl hl (by decide) rfl (fun ls hl => ?_)
            refine lv_incN (k := 3) (lv' := [(2, .int (nI (j + 1))), (1, .int (onesN (nI j) 6)), (3, .int (onesN (nI j) 6)), (0, .ref (q 0))]) hx hb dX0_fewest_46 hl rfl (by decide) rfl (fun ls hl => ?_)
            refine lv_goto (tgt := 8) hx hb dX0_fewest_49 (by decide) ?_
            exact ih8 (j + 1) (onesN (nI j) 6) (by omega) (by omega) (by rw [aFew, ← ej0]; simp only [if_neg c_2, if_pos c_3]) _ _ hZ ls (lv_sub hl [3, 1, 0] rfl)
          · skip
            refine lv_iload_n hx hb dX0_fewest_39 rfl (lv_at hl 0 rfl) ?_
            refine lv_iload_n hx hb dX0_fewest_40 rfl (lv_at hl 2 rfl) ?_
            refine lv_icmp_ge (tgt := 46) hx hb dX0_fewest_41 (by decide) (fun c_4 => ?_) (fun c_4 => ?_)
            · skip
              refine lv_incN (k := 3) (lv' := [(2, .int (nI (j + 1))), (3, .int (onesN (nI j) 6)), (0, .ref (q 0)), (1, .int x1)]) hx hb dX0_fewest_46 hl rfl (by decide) rfl (fun ls hl => ?_)
              refine lv_goto (tgt := 8) hx hb dX0_fewest_49 (by decide) ?_
              exact ih8 (j + 1) x1 (by omega) (by omega) (by rw [aFew, ← ej0]; simp only [if_neg c_2, if_neg c_3, if_pos c_4]) _ _ hZ ls (lv_sub hl [2, 3, 0] rfl)
            · skip
              refine lv_iload_n hx hb dX0_fewest_44 rfl (lv_at hl 0 rfl) ?_
              refine lv_istore_n (lv' := [(1, .int (onesN (nI j) 6)), (3, .int (onesN (nI j) 6)), (0, .ref (q 0)), (2, .int (nI j))]) hx hb dX0_fewest_45 rfl hl (by decide) rfl (fun ls hl => ?_)
              refine lv_incN (k := 3) (lv' := [(2, .int (nI (j + 1))), (1, .int (onesN (nI j) 6)), (3, .int (onesN (nI j) 6)), (0, .ref (q 0))]) hx hb dX0_fewest_46 hl rfl (by decide) rfl (fun ls hl => ?_)
              refine lv_goto (tgt := 8) hx hb dX0_fewest_49 (by decide) ?_
              exact ih8 (j + 1) (onesN (nI j) 6) (by omega) (by omega) (by rw [aFew, ← ej0]; simp only [if_neg c_2, if_neg c_3, if_neg c_4]) _ _ hZ ls (lv_sub hl [3, 1, 0] rfl)
  exact lp8 65 0 (-1) (by omega) (by omega) rfl _ _ hZ ls (lv_sub hl [2, 1, 0] rfl)
abbrev rx_maximal : Room := { frames := 5, cells := 0, slots := 0, locals := 113 }
set_option maxHeartbeats 4000000 in
set_option maxRecDepth 100000 in
theorem cx_maximal (l : Launch) (D : va_G) (dB dZ dJ : ClassId) (q : Nat → Nat) (pr : Int32) (kd hd ps ng : Nat → Int32) (si so : Int32) (br mv : Bool) (li lo la lt : Nat → Int32) (kn : Bool) (ms : Int64) (hwf : WF kd hd ps ng) (hk : kn = true → MSok pr kd hd ps ng ms) : MId l yX0_maximal (ws_ yX0_maximal cX0_maximal 3 (some .int)) rx_maximal D dB dZ dJ [.ref (q 0)] (XW dB q pr kd hd ps ng si so br mv li lo la lt kn ms) (fun (r : Int32) (u : PU) => r = aMaxX (stF pr kd hd ps ng) 64 ∧ (u.2.2.2.2.2.2.2.2.1 = true → MSok pr kd hd ps ng u.2.2.2.2.2.2.2.2.2)) (fun u : PU => XW dB q pr kd hd ps ng u.1 u.2.1 u.2.2.1 u.2.2.2.1 u.2.2.2.2.1 u.2.2.2.2.2.1 u.2.2.2.2.2.2.1 u.2.2.2.2.2.2.2.1 u.2.2.2.2.2.2.2.2.1 u.2.2.2.2.2.2.2.2.2) := by
  refine MId.of (by decide) (Nat.le_of_ble_eq_true rfl) (fun p e s m args below meth c Q A F hZ hret ls hl => ?_)
  obtain ⟨hx, hb, hml, hown, hts⟩ := id F.1
  have hl : lv_has ls 3 [(0, .ref (q 0))] := hl
  refine lv_aload_n hx hb dX0_maximal_0 rfl (lv_at hl 0 rfl) ?_
  refine kx_search F hZ hwf hk hl.1 ⟨Nat.le_of_ble_eq_true rfl, Nat.le_of_ble_eq_true rfl⟩ (Nat.le_of_ble_eq_true rfl) dX0_maximal_1 (fun si1 so1 br1 mv1 li1 lo1 la1 lt1 ms1 H locs hms hZ => ?_)
  refine lv_iconst (v := 0) hx hb dX0_maximal_4 (by decide) ?_
  refine lv_istore_n (lv' := [(1, .int 0), (0, .ref (q 0))]) hx hb dX0_maximal_5 rfl hl (by decide) rfl (fun ls hl => ?_)
  refine lv_iconst (v := 0) hx hb dX0_maximal_6 (by decide) ?_
  refine lv_istore_n (lv' := [(2, .int 0), (1, .int 0), (0, .ref (q 0))]) hx hb dX0_maximal_7 rfl hl (by decide) rfl (fun ls hl => ?_)
  have lp8 : ∀ (nf j : Nat) (x1 : Int32), j ≤ 64 → 64 < j + nf → x1 = aMaxX (stF pr kd hd ps ng) j → ∀ (H : Heap) (locs : List Loc), XS D A s (XW dB q pr kd hd ps ng si1 so1 br1 mv1 li1 lo1 la1 lt1 true ms1) H locs → ∀ (ls : Array Slot), lv_has ls 3 [(0, .ref (q 0)), (1, .int x1), (2, .int (nI j))] → W p l e rx_maximal s m args below meth c H locs 0 0 Q (F0 m 8 ls []) := by
    intro nf
    induction nf with
    | zero =>
      intro j x1 h1 h2
      exact absurd h2 (by omega)
    | succ nf ih8 =>
      intro j x1 hj0 hjn ej0 H locs hZ ls hl
      refine lv_iload_n hx hb dX0_maximal_8 rfl (lv_at hl 2 rfl) ?_
      refine lv_bipush (v := 63) hx hb dX0_maximal_9 (by decide) ?_
      refine lv_icmp_gt (tgt := 44) hx hb dX0_maximal_11 (by decide) (fun c_1 => ?_) (fun c_1 => ?_)
      · skip
        have hj : j = 64 := lp_gt (N := 63) (by decide) hj0 c_1
        subst hj
        refine lv_iload_n hx hb dX0_maximal_44 rfl (lv_at hl 1 rfl) ?_
        exact hret (si1, so1, br1, mv1, li1, lo1, la1, lt1, true, ms1) dX0_maximal_45 ⟨ej0, fun _ => hms⟩ rfl hZ
      · skip
        have hj : j < 64 := lp_ngt (N := 63) (by decide) hj0 c_1
        refine lv_iload_n hx hb dX0_maximal_14 rfl (lv_at hl 1 rfl) ?_
        refine lv_aload_n hx hb dX0_maximal_15 rfl (lv_at hl 0 rfl) ?_
        refine lv_iload_n hx hb dX0_maximal_16 rfl (lv_at hl 2 rfl) ?_
        refine kx_isModelF F hZ.1 hms hj hl.1 ⟨Nat.le_of_ble_eq_true rfl, Nat.le_of_ble_eq_true rfl⟩ (Nat.le_of_ble_eq_true rfl) dX0_maximal_17 ?_
        refine lv_if_eq (tgt := 35) hx hb dX0_maximal_20 (by decide) (fun c_2 => ?_) (fun c_2 => ?_)
        · skip
          refine lv_iconst (v := 0) hx hb dX0_maximal_35 (by decide) ?_
          refine lv_iadd hx hb dX0_maximal_36 ?_
          refine lv_istore_n (lv' := [(1, .int (x1 + 0)), (0, .ref (q 0)), (2, .int (nI j))]) hx hb dX0_maximal_37 rfl hl (by decide) rfl (fun ls hl => ?_)
          refine lv_incN (k := 2) (lv' := [(2, .int (nI (j + 1))), (1, .int (x1 + 0)), (0, .ref (q 0))]) hx hb dX0_maximal_38 hl rfl (by decide) rfl (fun ls hl => ?_)
          refine lv_goto (tgt := 8) hx hb dX0_maximal_41 (by decide) ?_
          exact ih8 (j + 1) (x1 + 0) (by omega) (by omega) (by rw [aMaxX, if_pos c_2, ← ej0]; simp) _ _ hZ ls (lv_sub hl [2, 1, 0] rfl)
        · skip
          refine lv_aload_n hx hb dX0_maximal_23 rfl (lv_at hl 0 rfl) ?_
          refine lv_iload_n hx hb dX0_maximal_24 rfl (lv_at hl 2 rfl) ?_
          refine kx_isMaximalF F hZ.1 hms hj hl.1 ⟨Nat.le_of_ble_eq_true rfl, Nat.le_of_ble_eq_true rfl⟩ (Nat.le_of_ble_eq_true rfl) dX0_maximal_25 ?_
          refine lv_if_eq (tgt := 35) hx hb dX0_maximal_28 (by decide) (fun c_3 => ?_) (fun c_3 => ?_)
          · skip
            refine lv_iconst (v := 0) hx hb dX0_maximal_35 (by decide) ?_
            refine lv_iadd hx hb dX0_maximal_36 ?_
            refine lv_istore_n (lv' := [(1, .int (x1 + 0)), (0, .ref (q 0)), (2, .int (nI j))]) hx hb dX0_maximal_37 rfl hl (by decide) rfl (fun ls hl => ?_)
            refine lv_incN (k := 2) (lv' := [(2, .int (nI (j + 1))), (1, .int (x1 + 0)), (0, .ref (q 0))]) hx hb dX0_maximal_38 hl rfl (by decide) rfl (fun ls hl => ?_)
            refine lv_goto (tgt := 8) hx hb dX0_maximal_41 (by decide) ?_
            exact ih8 (j + 1) (x1 + 0) (by omega) (by omega) (by rw [aMaxX, if_neg c_2, if_pos c_3, ← ej0]; simp) _ _ hZ ls (lv_sub hl [2, 1, 0] rfl)
          · skip
            refine lv_iconst (v := 1) hx hb dX0_maximal_31 (by decide) ?_
            refine lv_goto (tgt := 36) hx hb dX0_maximal_32 (by decide) ?_
            refine lv_iadd hx hb dX0_maximal_36 ?_
            refine lv_istore_n (lv' := [(1, .int (x1 + 1)), (0, .ref (q 0)), (2, .int (nI j))]) hx hb dX0_maximal_37 rfl hl (by decide) rfl (fun ls hl => ?_)
            refine lv_incN (k := 2) (lv' := [(2, .int (nI (j + 1))), (1, .int (x1 + 1)), (0, .ref (q 0))]) hx hb dX0_maximal_38 hl rfl (by decide) rfl (fun ls hl => ?_)
            refine lv_goto (tgt := 8) hx hb dX0_maximal_41 (by decide) ?_
            exact ih8 (j + 1) (x1 + 1) (by omega) (by omega) (by rw [aMaxX, if_neg c_2, if_neg c_3, ← ej0]) _ _ hZ ls (lv_sub hl [2, 1, 0] rfl)
  exact lp8 65 0 0 (by omega) (by omega) rfl _ _ hZ ls (lv_sub hl [2, 1, 0] rfl)
abbrev rx_model : Room := { frames := 5, cells := 0, slots := 0, locals := 113 }
set_option maxHeartbeats 4000000 in
set_option maxRecDepth 100000 in
theorem cx_model (l : Launch) (D : va_G) (dB dZ dJ : ClassId) (q : Nat → Nat) (pr : Int32) (kd hd ps ng : Nat → Int32) (si so : Int32) (br mv : Bool) (li lo la lt : Nat → Int32) (kn : Bool) (ms : Int64) (hwf : WF kd hd ps ng) (hk : kn = true → MSok pr kd hd ps ng ms) (ka : Int32) : MId l yX0_model (ws_ yX0_model cX0_model 4 (some .int)) rx_model D dB dZ dJ [.ref (q 0), .int ka] (XW dB q pr kd hd ps ng si so br mv li lo la lt kn ms) (fun (r : Int32) (u : PU) => r = aMdl (stF pr kd hd ps ng) ka 64 0 ∧ (u.2.2.2.2.2.2.2.2.1 = true → MSok pr kd hd ps ng u.2.2.2.2.2.2.2.2.2)) (fun u : PU => XW dB q pr kd hd ps ng u.1 u.2.1 u.2.2.1 u.2.2.2.1 u.2.2.2.2.1 u.2.2.2.2.2.1 u.2.2.2.2.2.2.1 u.2.2.2.2.2.2.2.1 u.2.2.2.2.2.2.2.2.1 u.2.2.2.2.2.2.2.2.2) := by
  refine MId.of (by decide) (Nat.le_of_ble_eq_true rfl) (fun p e s m args below meth c Q A F hZ hret ls hl => ?_)
  obtain ⟨hx, hb, hml, hown, hts⟩ := id F.1
  have hl : lv_has ls 4 [(0, .ref (q 0)), (1, .int ka)] := hl
  refine lv_aload_n hx hb dX0_model_0 rfl (lv_at hl 0 rfl) ?_
  refine kx_search F hZ hwf hk hl.1 ⟨Nat.le_of_ble_eq_true rfl, Nat.le_of_ble_eq_true rfl⟩ (Nat.le_of_ble_eq_true rfl) dX0_model_1 (fun si1 so1 br1 mv1 li1 lo1 la1 lt1 ms1 H locs hms hZ => ?_)
  refine lv_iconst (v := 0) hx hb dX0_model_4 (by decide) ?_
  refine lv_istore_n (lv' := [(2, .int 0), (0, .ref (q 0)), (1, .int ka)]) hx hb dX0_model_5 rfl hl (by decide) rfl (fun ls hl => ?_)
  refine lv_iconst (v := 0) hx hb dX0_model_6 (by decide) ?_
  refine lv_istore_n (lv' := [(3, .int 0), (2, .int 0), (0, .ref (q 0)), (1, .int ka)]) hx hb dX0_model_7 rfl hl (by decide) rfl (fun ls hl => ?_)
  have lp8 : ∀ (nf j : Nat) (x2 : Int32), j ≤ 64 → 64 < j + nf → aMdl (stF pr kd hd ps ng) ka (64 - j) x2 = aMdl (stF pr kd hd ps ng) ka 64 0 → ∀ (H : Heap) (locs : List Loc), XS D A s (XW dB q pr kd hd ps ng si1 so1 br1 mv1 li1 lo1 la1 lt1 true ms1) H locs → ∀ (ls : Array Slot), lv_has ls 4 [(0, .ref (q 0)), (1, .int ka), (2, .int x2), (3, .int (nI j))] → W p l e rx_model s m args below meth c H locs 0 0 Q (F0 m 8 ls []) := by
    intro nf
    induction nf with
    | zero =>
      intro j x2 h1 h2
      exact absurd h2 (by omega)
    | succ nf ih8 =>
      intro j x2 hj0 hjn ej0 H locs hZ ls hl
      refine lv_iload_n hx hb dX0_model_8 rfl (lv_at hl 3 rfl) ?_
      refine lv_bipush (v := 63) hx hb dX0_model_9 (by decide) ?_
      refine lv_icmp_gt (tgt := 38) hx hb dX0_model_11 (by decide) (fun c_1 => ?_) (fun c_1 => ?_)
      · skip
        have hj : j = 64 := lp_gt (N := 63) (by decide) hj0 c_1
        subst hj
        refine lv_iconst (v := (-1)) hx hb dX0_model_38 (by decide) ?_
        exact hret (si1, so1, br1, mv1, li1, lo1, la1, lt1, true, ms1) dX0_model_39 ⟨ej0, fun _ => hms⟩ rfl hZ
      · skip
        have hj : j < 64 := lp_ngt (N := 63) (by decide) hj0 c_1
        refine lv_aload_n hx hb dX0_model_14 rfl (lv_at hl 0 rfl) ?_
        refine lv_iload_n hx hb dX0_model_15 rfl (lv_at hl 3 rfl) ?_
        refine kx_isModelF F hZ.1 hms hj hl.1 ⟨Nat.le_of_ble_eq_true rfl, Nat.le_of_ble_eq_true rfl⟩ (Nat.le_of_ble_eq_true rfl) dX0_model_16 ?_
        refine lv_if_eq (tgt := 32) hx hb dX0_model_19 (by decide) (fun c_2 => ?_) (fun c_2 => ?_)
        · skip
          refine lv_incN (k := 3) (lv' := [(3, .int (nI (j + 1))), (0, .ref (q 0)), (1, .int ka), (2, .int x2)]) hx hb dX0_model_32 hl rfl (by decide) rfl (fun ls hl => ?_)
          refine lv_goto (tgt := 8) hx hb dX0_model_35 (by decide) ?_
          exact ih8 (j + 1) x2 (by omega) (by omega) (by rw [show 64 - j = (63 - j) + 1 by omega, aMdl, show 63 - (63 - j) = j by omega, if_pos c_2] at ej0; rw [show 64 - (j + 1) = 63 - j by omega]; exact ej0) _ _ hZ ls (lv_sub hl [1, 2, 3, 0] rfl)
        · skip
          refine lv_iload_n hx hb dX0_model_22 rfl (lv_at hl 2 rfl) ?_
          refine lv_iload_n hx hb dX0_model_23 rfl (lv_at hl 1 rfl) ?_
          refine lv_icmp_ne (tgt := 29) hx hb dX0_model_24 (by decide) (fun c_3 => ?_) (fun c_3 => ?_)
          · skip
            refine lv_incX (k := 2) (lv' := [(2, .int (x2 + 1)), (0, .ref (q 0)), (1, .int ka), (3, .int (nI j))]) hx hb dX0_model_29 hl rfl (by decide) rfl (fun ls hl => ?_)
            refine lv_incN (k := 3) (lv' := [(3, .int (nI (j + 1))), (2, .int (x2 + 1)), (0, .ref (q 0)), (1, .int ka)]) hx hb dX0_model_32 hl rfl (by decide) rfl (fun ls hl => ?_)
            refine lv_goto (tgt := 8) hx hb dX0_model_35 (by decide) ?_
            exact ih8 (j + 1) (x2 + 1) (by omega) (by omega) (by rw [show 64 - j = (63 - j) + 1 by omega, aMdl, show 63 - (63 - j) = j by omega, if_neg c_2, if_neg c_3] at ej0; rw [show 64 - (j + 1) = 63 - j by omega]; exact ej0) _ _ hZ ls (lv_sub hl [2, 3, 1, 0] rfl)
          · skip
            refine lv_iload_n hx hb dX0_model_27 rfl (lv_at hl 3 rfl) ?_
            exact hret (si1, so1, br1, mv1, li1, lo1, la1, lt1, true, ms1) dX0_model_28 ⟨by rw [← ej0, show 64 - j = (63 - j) + 1 by omega, aMdl, show 63 - (63 - j) = j by omega, if_neg c_2, if_pos c_3], fun _ => hms⟩ rfl hZ
  exact lp8 65 0 0 (by omega) (by omega) rfl _ _ hZ ls (lv_sub hl [2, 3, 1, 0] rfl)
abbrev rx_find : Room := { frames := 5, cells := 0, slots := 0, locals := 113 }
set_option maxHeartbeats 4000000 in
set_option maxRecDepth 100000 in
theorem cx_find (l : Launch) (D : va_G) (dB dZ dJ : ClassId) (q : Nat → Nat) (pr : Int32) (kd hd ps ng : Nat → Int32) (si so : Int32) (br mv : Bool) (li lo la lt : Nat → Int32) (kn : Bool) (ms : Int64) (hwf : WF kd hd ps ng) (hk : kn = true → MSok pr kd hd ps ng ms) (xa xb : Int32) : MId l yX0_find (ws_ yX0_find cX0_find 4 (some .int)) rx_find D dB dZ dJ [.ref (q 0), .int xa, .int xb] (XW dB q pr kd hd ps ng si so br mv li lo la lt kn ms) (fun (r : Int32) (u : PU) => r = xFnd (stF pr kd hd ps ng) xa xb ∧ (u.2.2.2.2.2.2.2.2.1 = true → MSok pr kd hd ps ng u.2.2.2.2.2.2.2.2.2)) (fun u : PU => XW dB q pr kd hd ps ng u.1 u.2.1 u.2.2.1 u.2.2.2.1 u.2.2.2.2.1 u.2.2.2.2.2.1 u.2.2.2.2.2.2.1 u.2.2.2.2.2.2.2.1 u.2.2.2.2.2.2.2.2.1 u.2.2.2.2.2.2.2.2.2) := by
  refine MId.of (by decide) (Nat.le_of_ble_eq_true rfl) (fun p e s m args below meth c Q A F hZ hret ls hl => ?_)
  obtain ⟨hx, hb, hml, hown, hts⟩ := id F.1
  have hl : lv_has ls 4 [(0, .ref (q 0)), (1, .int xa), (2, .int xb)] := hl
  refine lv_iload_n hx hb dX0_find_0 rfl (lv_at hl 1 rfl) ?_
  refine kx_isSet F.1 hl.1 ⟨Nat.le_of_ble_eq_true rfl, Nat.le_of_ble_eq_true rfl⟩ (Nat.le_of_ble_eq_true rfl) dX0_find_1 ?_
  refine lv_if_eq (tgt := 14) hx hb dX0_find_4 (by decide) (fun c_1 => ?_) (fun c_1 => ?_)
  · skip
    refine lv_iconst (v := (-1)) hx hb dX0_find_14 (by decide) ?_
    exact hret (si, so, br, mv, li, lo, la, lt, kn, ms) dX0_find_15 ⟨by rw [xFnd, if_pos c_1], hk⟩ rfl hZ
  · skip
    refine lv_iload_n hx hb dX0_find_7 rfl (lv_at hl 2 rfl) ?_
    refine kx_isSet F.1 hl.1 ⟨Nat.le_of_ble_eq_true rfl, Nat.le_of_ble_eq_true rfl⟩ (Nat.le_of_ble_eq_true rfl) dX0_find_8 ?_
    refine lv_if_ne (tgt := 16) hx hb dX0_find_11 (by decide) (fun c_2 => ?_) (fun c_2 => ?_)
    · skip
      refine lv_aload_n hx hb dX0_find_16 rfl (lv_at hl 0 rfl) ?_
      refine kx_search F hZ hwf hk hl.1 ⟨Nat.le_of_ble_eq_true rfl, Nat.le_of_ble_eq_true rfl⟩ (Nat.le_of_ble_eq_true rfl) dX0_find_17 (fun si1 so1 br1 mv1 li1 lo1 la1 lt1 ms1 H locs hms hZ => ?_)
      refine lv_iconst (v := 0) hx hb dX0_find_20 (by decide) ?_
      refine lv_istore_n (lv' := [(3, .int 0), (0, .ref (q 0)), (1, .int xa), (2, .int xb)]) hx hb dX0_find_21 rfl hl (by decide) rfl (fun ls hl => ?_)
      have lp22 : ∀ (nf j : Nat), j ≤ 64 → 64 < j + nf → aFnd (stF pr kd hd ps ng) xa xb (64 - j) = aFnd (stF pr kd hd ps ng) xa xb 64 → ∀ (H : Heap) (locs : List Loc), XS D A s (XW dB q pr kd hd ps ng si1 so1 br1 mv1 li1 lo1 la1 lt1 true ms1) H locs → ∀ (ls : Array Slot), lv_has ls 4 [(0, .ref (q 0)), (1, .int xa), (2, .int xb), (3, .int (nI j))] → W p l e rx_find s m args below meth c H locs 0 0 Q (F0 m 22 ls []) := by
        intro nf
        induction nf with
        | zero =>
          intro j h1 h2
          exact absurd h2 (by omega)
        | succ nf ih22 =>
          intro j hj0 hjn ej0 H locs hZ ls hl
          refine lv_iload_n hx hb dX0_find_22 rfl (lv_at hl 3 rfl) ?_
          refine lv_bipush (v := 63) hx hb dX0_find_23 (by decide) ?_
          refine lv_icmp_gt (tgt := 58) hx hb dX0_find_25 (by decide) (fun c_3 => ?_) (fun c_3 => ?_)
          · skip
            have hj : j = 64 := lp_gt (N := 63) (by decide) hj0 c_3
            subst hj
            refine lv_iconst (v := (-1)) hx hb dX0_find_58 (by decide) ?_
            exact hret (si1, so1, br1, mv1, li1, lo1, la1, lt1, true, ms1) dX0_find_59 ⟨by rw [xFnd, if_neg c_1, if_neg c_2]; exact ej0, fun _ => hms⟩ rfl hZ
          · skip
            have hj : j < 64 := lp_ngt (N := 63) (by decide) hj0 c_3
            refine lv_aload_n hx hb dX0_find_28 rfl (lv_at hl 0 rfl) ?_
            refine lv_iload_n hx hb dX0_find_29 rfl (lv_at hl 3 rfl) ?_
            refine kx_isModelF F hZ.1 hms hj hl.1 ⟨Nat.le_of_ble_eq_true rfl, Nat.le_of_ble_eq_true rfl⟩ (Nat.le_of_ble_eq_true rfl) dX0_find_30 ?_
            refine lv_if_eq (tgt := 52) hx hb dX0_find_33 (by decide) (fun c_4 => ?_) (fun c_4 => ?_)
            · skip
              refine lv_incN (k := 3) (lv' := [(3, .int (nI (j + 1))), (0, .ref (q 0)), (1, .int xa), (2, .int xb)]) hx hb dX0_find_52 hl rfl (by decide) rfl (fun ls hl => ?_)
              refine lv_goto (tgt := 22) hx hb dX0_find_55 (by decide) ?_
              exact ih22 (j + 1) (by omega) (by omega) (by rw [show 64 - j = (63 - j) + 1 by omega, aFnd, show 63 - (63 - j) = j by omega, if_pos c_4] at ej0; rw [show 64 - (j + 1) = 63 - j by omega]; exact ej0) _ _ hZ ls (lv_sub hl [1, 2, 3, 0] rfl)
            · skip
              refine lv_iload_n hx hb dX0_find_36 rfl (lv_at hl 1 rfl) ?_
              refine lv_iload_n hx hb dX0_find_37 rfl (lv_at hl 3 rfl) ?_
              refine lv_iconst (v := (-1)) hx hb dX0_find_38 (by decide) ?_
              refine lv_ixor hx hb dX0_find_39 ?_
              refine lv_iand hx hb dX0_find_40 ?_
              refine lv_if_ne (tgt := 52) hx hb dX0_find_41 (by decide) (fun c_5 => ?_) (fun c_5 => ?_)
              · skip
                refine lv_incN (k := 3) (lv' := [(3, .int (nI (j + 1))), (0, .ref (q 0)), (1, .int xa), (2, .int xb)]) hx hb dX0_find_52 hl rfl (by decide) rfl (fun ls hl => ?_)
                refine lv_goto (tgt := 22) hx hb dX0_find_55 (by decide) ?_
                exact ih22 (j + 1) (by omega) (by omega) (by rw [show 64 - j = (63 - j) + 1 by omega, aFnd, show 63 - (63 - j) = j by omega, if_neg c_4, if_neg c_5] at ej0; rw [show 64 - (j + 1) = 63 - j by omega]; exact ej0) _ _ hZ ls (lv_sub hl [1, 2, 3, 0] rfl)
              · skip
                refine lv_iload_n hx hb dX0_find_44 rfl (lv_at hl 2 rfl) ?_
                refine lv_iload_n hx hb dX0_find_45 rfl (lv_at hl 3 rfl) ?_
                refine lv_iand hx hb dX0_find_46 ?_
                refine lv_if_ne (tgt := 52) hx hb dX0_find_47 (by decide) (fun c_6 => ?_) (fun c_6 => ?_)
                · skip
                  refine lv_incN (k := 3) (lv' := [(3, .int (nI (j + 1))), (0, .ref (q 0)), (1, .int xa), (2, .int xb)]) hx hb dX0_find_52 hl rfl (by decide) rfl (fun ls hl => ?_)
                  refine lv_goto (tgt := 22) hx hb dX0_find_55 (by decide) ?_
                  exact ih22 (j + 1) (by omega) (by omega) (by rw [show 64 - j = (63 - j) + 1 by omega, aFnd, show 63 - (63 - j) = j by omega, if_neg c_4, if_pos c_5, if_neg c_6] at ej0; rw [show 64 - (j + 1) = 63 - j by omega]; exact ej0) _ _ hZ ls (lv_sub hl [1, 2, 3, 0] rfl)
                · skip
                  refine lv_iload_n hx hb dX0_find_50 rfl (lv_at hl 3 rfl) ?_
                  exact hret (si1, so1, br1, mv1, li1, lo1, la1, lt1, true, ms1) dX0_find_51 ⟨by rw [xFnd, if_neg c_1, if_neg c_2, ← ej0, show 64 - j = (63 - j) + 1 by omega, aFnd, show 63 - (63 - j) = j by omega, if_neg c_4, if_pos c_5, if_pos c_6], fun _ => hms⟩ rfl hZ
      exact lp22 65 0 (by omega) (by omega) rfl _ _ hZ ls (lv_sub hl [1, 2, 3, 0] rfl)
    · skip
      refine lv_iconst (v := (-1)) hx hb dX0_find_14 (by decide) ?_
      exact hret (si, so, br, mv, li, lo, la, lt, kn, ms) dX0_find_15 ⟨by rw [xFnd, if_neg c_1, if_pos c_2], hk⟩ rfl hZ
abbrev rx_remove : Room := { frames := 1, cells := 0, slots := 0, locals := 21 }
set_option maxHeartbeats 4000000 in
set_option maxRecDepth 100000 in
theorem cx_remove (l : Launch) (D : va_G) (dB dZ dJ : ClassId) (q : Nat → Nat) (pr : Int32) (kd hd ps ng : Nat → Int32) (si so : Int32) (br mv : Bool) (li lo la lt : Nat → Int32) (kn : Bool) (ms : Int64) (hwf : WF kd hd ps ng) (hk : kn = true → MSok pr kd hd ps ng ms) (x : Int32) : MId l yX0_remove (ws_ yX0_remove cX0_remove 2 (some .boolean)) rx_remove D dB dZ dJ [.ref (q 0), .int x] (XW dB q pr kd hd ps ng si so br mv li lo la lt kn ms) (fun (r : Int32) (u : PU) => r = hasI pr x ∧ (u.2.2.2.2.2.2.2.2.1 = true → MSok (remP pr x) kd hd ps ng u.2.2.2.2.2.2.2.2.2)) (fun u : PU => XW dB q (remP pr x) kd hd ps ng u.1 u.2.1 u.2.2.1 u.2.2.2.1 u.2.2.2.2.1 u.2.2.2.2.2.1 u.2.2.2.2.2.2.1 u.2.2.2.2.2.2.2.1 u.2.2.2.2.2.2.2.2.1 u.2.2.2.2.2.2.2.2.2) := by
  refine MId.of (by decide) (Nat.le_of_ble_eq_true rfl) (fun p e s m args below meth c Q A F hZ hret ls hl => ?_)
  obtain ⟨hx, hb, hml, hown, hts⟩ := id F.1
  have hl : lv_has ls 2 [(0, .ref (q 0)), (1, .int x)] := hl
  refine lv_aload_n hx hb dX0_remove_0 rfl (lv_at hl 0 rfl) ?_
  refine lv_iload_n hx hb dX0_remove_1 rfl (lv_at hl 1 rfl) ?_
  refine kx_has F hZ.1 hl.1 ⟨Nat.le_of_ble_eq_true rfl, Nat.le_of_ble_eq_true rfl⟩ (Nat.le_of_ble_eq_true rfl) dX0_remove_2 ?_
  refine lv_if_ne (tgt := 10) hx hb dX0_remove_5 (by decide) (fun c_1 => ?_) (fun c_1 => ?_)
  · skip
    refine lv_aload_n hx hb dX0_remove_10 rfl (lv_at hl 0 rfl) ?_
    refine lv_dup hx hb dX0_remove_11 rfl ?_
    refine xg_pr F hZ.1 dX0_remove_12 ?_
    refine lv_iconst (v := 1) hx hb dX0_remove_15 (by decide) ?_
    refine lv_iload_n hx hb dX0_remove_16 rfl (lv_at hl 1 rfl) ?_
    refine lv_ishl hx hb dX0_remove_17 ?_
    refine lv_iconst (v := (-1)) hx hb dX0_remove_18 (by decide) ?_
    refine lv_ixor hx hb dX0_remove_19 ?_
    refine lv_iand hx hb dX0_remove_20 ?_
    refine xp_pr F hZ dX0_remove_21 (fun H locs hZ => ?_)
    refine lv_aload_n hx hb dX0_remove_24 rfl (lv_at hl 0 rfl) ?_
    refine lv_iconst (v := 0) hx hb dX0_remove_25 (by decide) ?_
    refine xp_kn F hZ (B := false) rfl dX0_remove_26 (fun H locs hZ => ?_)
    refine lv_iconst (v := 1) hx hb dX0_remove_29 (by decide) ?_
    exact hret (si, so, br, mv, li, lo, la, lt, false, ms) dX0_remove_30 ⟨((hasI_01 pr x).resolve_left c_1).symm, fun h => by cases h⟩ rfl (by rw [remP, if_neg c_1]; exact hZ)
  · skip
    refine lv_iconst (v := 0) hx hb dX0_remove_8 (by decide) ?_
    exact hret (si, so, br, mv, li, lo, la, lt, kn, ms) dX0_remove_9 ⟨c_1.symm, by rw [remP, if_pos c_1]; exact hk⟩ rfl (by rw [remP, if_pos c_1]; exact hZ)
abbrev rx_add : Room := { frames := 1, cells := 0, slots := 0, locals := 21 }
set_option maxHeartbeats 4000000 in
set_option maxRecDepth 100000 in
theorem cx_add (l : Launch) (D : va_G) (dB dZ dJ : ClassId) (q : Nat → Nat) (pr : Int32) (kd hd ps ng : Nat → Int32) (si so : Int32) (br mv : Bool) (li lo la lt : Nat → Int32) (kn : Bool) (ms : Int64) (hwf : WF kd hd ps ng) (hk : kn = true → MSok pr kd hd ps ng ms) (kind head pos neg : Int32) : MId l yX0_add (ws_ yX0_add cX0_add 7 (some .int)) rx_add D dB dZ dJ [.ref (q 0), .int kind, .int head, .int pos, .int neg] (XW dB q pr kd hd ps ng si so br mv li lo la lt kn ms) (fun (r : Int32) (u : CR × PU) => (r, u.1) = addF pr kd hd ps ng kind head pos neg ∧ (u.2.2.2.2.2.2.2.2.2.1 = true → MSok u.1.1 u.1.2.1 u.1.2.2.1 u.1.2.2.2.1 u.1.2.2.2.2 u.2.2.2.2.2.2.2.2.2.2)) (fun u : CR × PU => XW dB q u.1.1 u.1.2.1 u.1.2.2.1 u.1.2.2.2.1 u.1.2.2.2.2 u.2.1 u.2.2.1 u.2.2.2.1 u.2.2.2.2.1 u.2.2.2.2.2.1 u.2.2.2.2.2.2.1 u.2.2.2.2.2.2.2.1 u.2.2.2.2.2.2.2.2.1 u.2.2.2.2.2.2.2.2.2.1 u.2.2.2.2.2.2.2.2.2.2) := by
  refine MId.of (by decide) (Nat.le_of_ble_eq_true rfl) (fun p e s m args below meth c Q A F hZ hret ls hl => ?_)
  obtain ⟨hx, hb, hml, hown, hts⟩ := id F.1
  have hl : lv_has ls 7 [(0, .ref (q 0)), (1, .int kind), (2, .int head), (3, .int pos), (4, .int neg)] := hl
  refine lv_iload_n hx hb dX0_add_0 rfl (lv_at hl 1 rfl) ?_
  refine lv_iconst (v := 2) hx hb dX0_add_1 (by decide) ?_
  refine lv_icmp_eq (tgt := 15) hx hb dX0_add_2 (by decide) (fun c_1 => ?_) (fun c_1 => ?_)
  · skip
    refine lv_iconst (v := 1) hx hb dX0_add_15 (by decide) ?_
    refine lv_goto (tgt := 20) hx hb dX0_add_16 (by decide) ?_
    refine lv_istore (lv' := [(5, .int 1), (0, .ref (q 0)), (1, .int kind), (2, .int head), (3, .int pos), (4, .int neg)]) hx hb dX0_add_20 hl (by decide) rfl (fun ls hl => ?_)
    refine lv_iload_n hx hb dX0_add_22 rfl (lv_at hl 2 rfl) ?_
    refine lv_if_lt (tgt := 51) hx hb dX0_add_23 (by decide) (fun c_2 => ?_) (fun c_2 => ?_)
    · skip
      refine lv_iconst (v := (-1)) hx hb dX0_add_51 (by decide) ?_
      exact hret ((pr, kd, hd, ps, ng), (si, so, br, mv, li, lo, la, lt, kn, ms)) dX0_add_52 ⟨by rw [addF, if_neg (show ¬ addOkX kind head pos neg = true by simp [addOkX, if_pos c_1, if_pos c_2])], hk⟩ rfl hZ
    · skip
      refine lv_iload_n hx hb dX0_add_26 rfl (lv_at hl 2 rfl) ?_
      refine lv_iconst (v := 2) hx hb dX0_add_27 (by decide) ?_
      refine lv_icmp_gt (tgt := 51) hx hb dX0_add_28 (by decide) (fun c_3 => ?_) (fun c_3 => ?_)
      · skip
        refine lv_iconst (v := (-1)) hx hb dX0_add_51 (by decide) ?_
        exact hret ((pr, kd, hd, ps, ng), (si, so, br, mv, li, lo, la, lt, kn, ms)) dX0_add_52 ⟨by rw [addF, if_neg (show ¬ addOkX kind head pos neg = true by simp [addOkX, if_pos c_1, if_neg c_2, if_pos c_3])], hk⟩ rfl hZ
      · skip
        refine lv_iload hx hb dX0_add_31 (lv_at hl 0 rfl) ?_
        refine lv_if_eq (tgt := 51) hx hb dX0_add_33 (by decide) (fun c9 => absurd c9 (by decide)) (fun _ => ?_)
        refine lv_iload_n hx hb dX0_add_36 rfl (lv_at hl 4 rfl) ?_
        refine kx_isSet F.1 hl.1 ⟨Nat.le_of_ble_eq_true rfl, Nat.le_of_ble_eq_true rfl⟩ (Nat.le_of_ble_eq_true rfl) dX0_add_37 ?_
        refine lv_if_eq (tgt := 51) hx hb dX0_add_40 (by decide) (fun c_4 => ?_) (fun c_4 => ?_)
        · skip
          refine lv_iconst (v := (-1)) hx hb dX0_add_51 (by decide) ?_
          exact hret ((pr, kd, hd, ps, ng), (si, so, br, mv, li, lo, la, lt, kn, ms)) dX0_add_52 ⟨by rw [addF, if_neg (show ¬ addOkX kind head pos neg = true by simp [addOkX, if_pos c_1, if_neg c_2, if_neg c_3, if_pos c_4])], hk⟩ rfl hZ
        · skip
          refine lv_iload hx hb dX0_add_43 (lv_at hl 5 rfl) ?_
          refine kx_isSet F.1 hl.1 ⟨Nat.le_of_ble_eq_true rfl, Nat.le_of_ble_eq_true rfl⟩ (Nat.le_of_ble_eq_true rfl) dX0_add_45 ?_
          refine lv_if_ne (tgt := 53) hx hb dX0_add_48 (by decide) (fun c_5 => ?_) (fun c_5 => ?_)
          · skip
            have hok : addOkX kind head pos neg = true := by simp only [addOkX, if_pos c_1, if_neg c_2, if_neg c_3, if_neg c_4, if_neg c_5]
            refine lv_iconst (v := 0) hx hb dX0_add_53 (by decide) ?_
            refine lv_istore (lv' := [(6, .int 0), (5, .int 1), (0, .ref (q 0)), (1, .int kind), (2, .int head), (3, .int pos), (4, .int neg)]) hx hb dX0_add_54 hl (by decide) rfl (fun ls hl => ?_)
            have lp56 : ∀ (nf j : Nat), j ≤ 10 → 10 < j + nf → ffr (bt pr) (10 - j) = ffr (bt pr) 10 → ∀ (H : Heap) (locs : List Loc), XS D A s (XW dB q pr kd hd ps ng si so br mv li lo la lt kn ms) H locs → ∀ (ls : Array Slot), lv_has ls 7 [(0, .ref (q 0)), (1, .int kind), (2, .int head), (3, .int pos), (4, .int neg), (6, .int (nI j))] → W p l e rx_add s m args below meth c H locs 0 0 Q (F0 m 56 ls []) := by
              intro nf
              induction nf with
              | zero =>
                intro j h1 h2
                exact absurd h2 (by omega)
              | succ nf ih56 =>
                intro j hj0 hjn ej0 H locs hZ ls hl
                refine lv_iload hx hb dX0_add_56 (lv_at hl 5 rfl) ?_
                refine lv_bipush (v := 10) hx hb dX0_add_58 (by decide) ?_
                refine lv_icmp_ge (tgt := 145) hx hb dX0_add_60 (by decide) (fun c_6 => ?_) (fun c_6 => ?_)
                · skip
                  have hj : j = 10 := lp_ge (N := 10) (by decide) hj0 c_6
                  subst hj
                  refine lv_bipush (v := (-2)) hx hb dX0_add_145 (by decide) ?_
                  exact hret ((pr, kd, hd, ps, ng), (si, so, br, mv, li, lo, la, lt, kn, ms)) dX0_add_147 ⟨by rw [addF, if_pos hok, if_pos (show ffr (bt pr) 10 = 10 from ej0.symm)], hk⟩ rfl hZ
                · skip
                  have hj : j < 10 := lp_lt (N := 10) (by decide) hj0 c_6
                  refine lv_aload_n hx hb dX0_add_63 rfl (lv_at hl 0 rfl) ?_
                  refine lv_iload hx hb dX0_add_64 (lv_at hl 5 rfl) ?_
                  refine kx_has F hZ.1 hl.1 ⟨Nat.le_of_ble_eq_true rfl, Nat.le_of_ble_eq_true rfl⟩ (Nat.le_of_ble_eq_true rfl) dX0_add_66 ?_
                  refine lv_if_ne (tgt := 139) hx hb dX0_add_69 (by decide) (fun c_7 => ?_) (fun c_7 => ?_)
                  · skip
                    refine lv_incN (k := 5) (lv' := [(6, .int (nI (j + 1))), (0, .ref (q 0)), (1, .int kind), (2, .int head), (3, .int pos), (4, .int neg)]) hx hb dX0_add_139 hl rfl (by decide) rfl (fun ls hl => ?_)
                    refine lv_goto (tgt := 56) hx hb dX0_add_142 (by decide) ?_
                    exact ih56 (j + 1) (by omega) (by omega) (by rw [show 10 - j = (9 - j) + 1 by omega, ffr, show 9 - (9 - j) = j by omega, if_pos (show bt pr j = true by cases hb9 : bt pr j with | true => rfl | false => exact absurd ((has_bt hj).mpr hb9) c_7)] at ej0; rw [show 10 - (j + 1) = 9 - j by omega]; exact ej0) _ _ hZ ls (lv_sub hl [1, 2, 3, 4, 5, 0] rfl)
                  · skip
                    refine lv_aload_n hx hb dX0_add_72 rfl (lv_at hl 0 rfl) ?_
                    refine lv_dup hx hb dX0_add_73 rfl ?_
                    refine xg_pr F hZ.1 dX0_add_74 ?_
                    refine lv_iconst (v := 1) hx hb dX0_add_77 (by decide) ?_
                    refine lv_iload hx hb dX0_add_78 (lv_at hl 5 rfl) ?_
                    refine lv_ishl hx hb dX0_add_80 ?_
                    refine lv_ior hx hb dX0_add_81 ?_
                    refine xp_pr F hZ dX0_add_82 (fun H locs hZ => ?_)
                    refine lv_aload_n hx hb dX0_add_85 rfl (lv_at hl 0 rfl) ?_
                    refine xg_kd F hZ.1 dX0_add_86 ?_
                    refine lv_iload hx hb dX0_add_89 (lv_at hl 5 rfl) ?_
                    refine lv_iload_n hx hb dX0_add_91 rfl (lv_at hl 1 rfl) ?_
                    refine lv_i2b (v := kind) hx hb dX0_add_92 (small8 (n := 2) c_2 (by decide) c_3) ?_
                    refine xs_kd F hZ hj (small8 (n := 2) c_2 (by decide) c_3) dX0_add_93 (fun H locs hZ => ?_)
                    refine lv_aload_n hx hb dX0_add_94 rfl (lv_at hl 0 rfl) ?_
                    refine xg_hd F hZ.1 dX0_add_95 ?_
                    refine lv_iload hx hb dX0_add_98 (lv_at hl 5 rfl) ?_
                    refine lv_iload_n hx hb dX0_add_100 rfl (lv_at hl 1 rfl) ?_
                    refine lv_iconst (v := 2) hx hb dX0_add_101 (by decide) ?_
                    refine lv_icmp_ne (tgt := 109) hx hb dX0_add_102 (by decide) (fun c9 => absurd c_1 c9) (fun _ => ?_)
                    refine lv_iconst (v := 0) hx hb dX0_add_105 (by decide) ?_
                    refine lv_goto (tgt := 110) hx hb dX0_add_106 (by decide) ?_
                    refine lv_i2b (v := 0) hx hb dX0_add_110 (by decide) ?_
                    refine xs_hd F hZ hj (by decide) dX0_add_111 (fun H locs hZ => ?_)
                    refine lv_aload_n hx hb dX0_add_112 rfl (lv_at hl 0 rfl) ?_
                    refine xg_ps F hZ.1 dX0_add_113 ?_
                    refine lv_iload hx hb dX0_add_116 (lv_at hl 5 rfl) ?_
                    refine lv_iload_n hx hb dX0_add_118 rfl (lv_at hl 3 rfl) ?_
                    refine lv_i2b (v := pos) hx hb dX0_add_119 (setI_8 c_4) ?_
                    refine xs_ps F hZ hj (setI_8 c_4) dX0_add_120 (fun H locs hZ => ?_)
                    refine lv_aload_n hx hb dX0_add_121 rfl (lv_at hl 0 rfl) ?_
                    refine xg_ng F hZ.1 dX0_add_122 ?_
                    refine lv_iload hx hb dX0_add_125 (lv_at hl 5 rfl) ?_
                    refine lv_iload hx hb dX0_add_127 (lv_at hl 4 rfl) ?_
                    refine lv_i2b (v := neg) hx hb dX0_add_129 (setI_8 c_5) ?_
                    refine xs_ng F hZ hj (setI_8 c_5) dX0_add_130 (fun H locs hZ => ?_)
                    refine lv_aload_n hx hb dX0_add_131 rfl (lv_at hl 0 rfl) ?_
                    refine lv_iconst (v := 0) hx hb dX0_add_132 (by decide) ?_
                    refine xp_kn F hZ (B := false) rfl dX0_add_133 (fun H locs hZ => ?_)
                    refine lv_iload hx hb dX0_add_136 (lv_at hl 5 rfl) ?_
                    have hff : ffr (bt pr) 10 = j := by rw [← ej0, show 10 - j = (9 - j) + 1 by omega, ffr, show 9 - (9 - j) = j by omega, if_neg (by rw [(has_bt hj).mp c_7]; decide)]
                    exact hret (((pr ||| ((1 : Int32) <<< ((nI j) &&& 31))), (upd kd j kind), (upd hd j 0), (upd ps j pos), (upd ng j neg)), (si, so, br, mv, li, lo, la, lt, false, ms)) dX0_add_138 ⟨by rw [addF, if_pos hok, hff, if_neg (by omega), if_pos c_1], fun h => by cases h⟩ rfl hZ
            exact lp56 11 0 (by omega) (by omega) rfl _ _ hZ ls (lv_sub hl [2, 3, 4, 5, 6, 0] rfl)
          · skip
            refine lv_iconst (v := (-1)) hx hb dX0_add_51 (by decide) ?_
            exact hret ((pr, kd, hd, ps, ng), (si, so, br, mv, li, lo, la, lt, kn, ms)) dX0_add_52 ⟨by rw [addF, if_neg (show ¬ addOkX kind head pos neg = true by simp [addOkX, if_pos c_1, if_neg c_2, if_neg c_3, if_neg c_4, if_pos c_5])], hk⟩ rfl hZ
  · skip
    refine lv_iload_n hx hb dX0_add_5 rfl (lv_at hl 2 rfl) ?_
    refine lv_if_lt (tgt := 19) hx hb dX0_add_6 (by decide) (fun c_8 => ?_) (fun c_8 => ?_)
    · skip
      refine lv_iconst (v := 0) hx hb dX0_add_19 (by decide) ?_
      refine lv_istore (lv' := [(5, .int 0), (0, .ref (q 0)), (1, .int kind), (2, .int head), (3, .int pos), (4, .int neg)]) hx hb dX0_add_20 hl (by decide) rfl (fun ls hl => ?_)
      refine lv_iload_n hx hb dX0_add_22 rfl (lv_at hl 2 rfl) ?_
      refine lv_if_lt (tgt := 51) hx hb dX0_add_23 (by decide) (fun c_9 => ?_) (fun c_9 => ?_)
      · skip
        refine lv_iconst (v := (-1)) hx hb dX0_add_51 (by decide) ?_
        exact hret ((pr, kd, hd, ps, ng), (si, so, br, mv, li, lo, la, lt, kn, ms)) dX0_add_52 ⟨by rw [addF, if_neg (show ¬ addOkX kind head pos neg = true by simp [addOkX, if_neg c_1, if_pos c_8, if_pos c_9])], hk⟩ rfl hZ
      · skip
        refine lv_iload_n hx hb dX0_add_26 rfl (lv_at hl 2 rfl) ?_
        refine lv_iconst (v := 2) hx hb dX0_add_27 (by decide) ?_
        refine lv_icmp_gt (tgt := 51) hx hb dX0_add_28 (by decide) (fun c_10 => ?_) (fun c_10 => ?_)
        · skip
          refine lv_iconst (v := (-1)) hx hb dX0_add_51 (by decide) ?_
          exact hret ((pr, kd, hd, ps, ng), (si, so, br, mv, li, lo, la, lt, kn, ms)) dX0_add_52 ⟨by rw [addF, if_neg (show ¬ addOkX kind head pos neg = true by simp [addOkX, if_neg c_1, if_pos c_8, if_neg c_9, if_pos c_10])], hk⟩ rfl hZ
        · skip
          refine lv_iload hx hb dX0_add_31 (lv_at hl 0 rfl) ?_
          refine lv_if_eq (tgt := 51) hx hb dX0_add_33 (by decide) (fun _ => ?_) (fun c9 => absurd (by decide) c9)
          refine lv_iconst (v := (-1)) hx hb dX0_add_51 (by decide) ?_
          exact hret ((pr, kd, hd, ps, ng), (si, so, br, mv, li, lo, la, lt, kn, ms)) dX0_add_52 ⟨by rw [addF, if_neg (show ¬ addOkX kind head pos neg = true by simp [addOkX, if_neg c_1, if_pos c_8, if_neg c_9, if_neg c_10])], hk⟩ rfl hZ
    · skip
      refine lv_iload_n hx hb dX0_add_9 rfl (lv_at hl 2 rfl) ?_
      refine lv_bipush (v := 6) hx hb dX0_add_10 (by decide) ?_
      refine lv_icmp_ge (tgt := 19) hx hb dX0_add_12 (by decide) (fun c_11 => ?_) (fun c_11 => ?_)
      · skip
        refine lv_iconst (v := 0) hx hb dX0_add_19 (by decide) ?_
        refine lv_istore (lv' := [(5, .int 0), (0, .ref (q 0)), (1, .int kind), (2, .int head), (3, .int pos), (4, .int neg)]) hx hb dX0_add_20 hl (by decide) rfl (fun ls hl => ?_)
        refine lv_iload_n hx hb dX0_add_22 rfl (lv_at hl 2 rfl) ?_
        refine lv_if_lt (tgt := 51) hx hb dX0_add_23 (by decide) (fun c_12 => ?_) (fun c_12 => ?_)
        · skip
          refine lv_iconst (v := (-1)) hx hb dX0_add_51 (by decide) ?_
          exact hret ((pr, kd, hd, ps, ng), (si, so, br, mv, li, lo, la, lt, kn, ms)) dX0_add_52 ⟨by rw [addF, if_neg (show ¬ addOkX kind head pos neg = true by simp [addOkX, if_neg c_1, if_neg c_8, if_pos c_11, if_pos c_12])], hk⟩ rfl hZ
        · skip
          refine lv_iload_n hx hb dX0_add_26 rfl (lv_at hl 2 rfl) ?_
          refine lv_iconst (v := 2) hx hb dX0_add_27 (by decide) ?_
          refine lv_icmp_gt (tgt := 51) hx hb dX0_add_28 (by decide) (fun c_13 => ?_) (fun c_13 => ?_)
          · skip
            refine lv_iconst (v := (-1)) hx hb dX0_add_51 (by decide) ?_
            exact hret ((pr, kd, hd, ps, ng), (si, so, br, mv, li, lo, la, lt, kn, ms)) dX0_add_52 ⟨by rw [addF, if_neg (show ¬ addOkX kind head pos neg = true by simp [addOkX, if_neg c_1, if_neg c_8, if_pos c_11, if_neg c_12, if_pos c_13])], hk⟩ rfl hZ
          · skip
            refine lv_iload hx hb dX0_add_31 (lv_at hl 0 rfl) ?_
            refine lv_if_eq (tgt := 51) hx hb dX0_add_33 (by decide) (fun _ => ?_) (fun c9 => absurd (by decide) c9)
            refine lv_iconst (v := (-1)) hx hb dX0_add_51 (by decide) ?_
            exact hret ((pr, kd, hd, ps, ng), (si, so, br, mv, li, lo, la, lt, kn, ms)) dX0_add_52 ⟨by rw [addF, if_neg (show ¬ addOkX kind head pos neg = true by simp [addOkX, if_neg c_1, if_neg c_8, if_pos c_11, if_neg c_12, if_neg c_13])], hk⟩ rfl hZ
      · skip
        refine lv_iconst (v := 1) hx hb dX0_add_15 (by decide) ?_
        refine lv_goto (tgt := 20) hx hb dX0_add_16 (by decide) ?_
        refine lv_istore (lv' := [(5, .int 1), (0, .ref (q 0)), (1, .int kind), (2, .int head), (3, .int pos), (4, .int neg)]) hx hb dX0_add_20 hl (by decide) rfl (fun ls hl => ?_)
        refine lv_iload_n hx hb dX0_add_22 rfl (lv_at hl 2 rfl) ?_
        refine lv_if_lt (tgt := 51) hx hb dX0_add_23 (by decide) (fun c_14 => ?_) (fun c_14 => ?_)
        · skip
          refine lv_iconst (v := (-1)) hx hb dX0_add_51 (by decide) ?_
          exact hret ((pr, kd, hd, ps, ng), (si, so, br, mv, li, lo, la, lt, kn, ms)) dX0_add_52 ⟨by rw [addF, if_neg (show ¬ addOkX kind head pos neg = true by simp [addOkX, if_neg c_1, if_neg c_8, if_neg c_11, if_pos c_14])], hk⟩ rfl hZ
        · skip
          refine lv_iload_n hx hb dX0_add_26 rfl (lv_at hl 2 rfl) ?_
          refine lv_iconst (v := 2) hx hb dX0_add_27 (by decide) ?_
          refine lv_icmp_gt (tgt := 51) hx hb dX0_add_28 (by decide) (fun c_15 => ?_) (fun c_15 => ?_)
          · skip
            refine lv_iconst (v := (-1)) hx hb dX0_add_51 (by decide) ?_
            exact hret ((pr, kd, hd, ps, ng), (si, so, br, mv, li, lo, la, lt, kn, ms)) dX0_add_52 ⟨by rw [addF, if_neg (show ¬ addOkX kind head pos neg = true by simp [addOkX, if_neg c_1, if_neg c_8, if_neg c_11, if_neg c_14, if_pos c_15])], hk⟩ rfl hZ
          · skip
            refine lv_iload hx hb dX0_add_31 (lv_at hl 0 rfl) ?_
            refine lv_if_eq (tgt := 51) hx hb dX0_add_33 (by decide) (fun c9 => absurd c9 (by decide)) (fun _ => ?_)
            refine lv_iload_n hx hb dX0_add_36 rfl (lv_at hl 4 rfl) ?_
            refine kx_isSet F.1 hl.1 ⟨Nat.le_of_ble_eq_true rfl, Nat.le_of_ble_eq_true rfl⟩ (Nat.le_of_ble_eq_true rfl) dX0_add_37 ?_
            refine lv_if_eq (tgt := 51) hx hb dX0_add_40 (by decide) (fun c_16 => ?_) (fun c_16 => ?_)
            · skip
              refine lv_iconst (v := (-1)) hx hb dX0_add_51 (by decide) ?_
              exact hret ((pr, kd, hd, ps, ng), (si, so, br, mv, li, lo, la, lt, kn, ms)) dX0_add_52 ⟨by rw [addF, if_neg (show ¬ addOkX kind head pos neg = true by simp [addOkX, if_neg c_1, if_neg c_8, if_neg c_11, if_neg c_14, if_neg c_15, if_pos c_16])], hk⟩ rfl hZ
            · skip
              refine lv_iload hx hb dX0_add_43 (lv_at hl 5 rfl) ?_
              refine kx_isSet F.1 hl.1 ⟨Nat.le_of_ble_eq_true rfl, Nat.le_of_ble_eq_true rfl⟩ (Nat.le_of_ble_eq_true rfl) dX0_add_45 ?_
              refine lv_if_ne (tgt := 53) hx hb dX0_add_48 (by decide) (fun c_17 => ?_) (fun c_17 => ?_)
              · skip
                have hok : addOkX kind head pos neg = true := by simp only [addOkX, if_neg c_1, if_neg c_8, if_neg c_11, if_neg c_14, if_neg c_15, if_neg c_16, if_neg c_17]
                refine lv_iconst (v := 0) hx hb dX0_add_53 (by decide) ?_
                refine lv_istore (lv' := [(6, .int 0), (5, .int 1), (0, .ref (q 0)), (1, .int kind), (2, .int head), (3, .int pos), (4, .int neg)]) hx hb dX0_add_54 hl (by decide) rfl (fun ls hl => ?_)
                have lp56 : ∀ (nf j : Nat), j ≤ 10 → 10 < j + nf → ffr (bt pr) (10 - j) = ffr (bt pr) 10 → ∀ (H : Heap) (locs : List Loc), XS D A s (XW dB q pr kd hd ps ng si so br mv li lo la lt kn ms) H locs → ∀ (ls : Array Slot), lv_has ls 7 [(0, .ref (q 0)), (1, .int kind), (2, .int head), (3, .int pos), (4, .int neg), (6, .int (nI j))] → W p l e rx_add s m args below meth c H locs 0 0 Q (F0 m 56 ls []) := by
                  intro nf
                  induction nf with
                  | zero =>
                    intro j h1 h2
                    exact absurd h2 (by omega)
                  | succ nf ih56 =>
                    intro j hj0 hjn ej0 H locs hZ ls hl
                    refine lv_iload hx hb dX0_add_56 (lv_at hl 5 rfl) ?_
                    refine lv_bipush (v := 10) hx hb dX0_add_58 (by decide) ?_
                    refine lv_icmp_ge (tgt := 145) hx hb dX0_add_60 (by decide) (fun c_18 => ?_) (fun c_18 => ?_)
                    · skip
                      have hj : j = 10 := lp_ge (N := 10) (by decide) hj0 c_18
                      subst hj
                      refine lv_bipush (v := (-2)) hx hb dX0_add_145 (by decide) ?_
                      exact hret ((pr, kd, hd, ps, ng), (si, so, br, mv, li, lo, la, lt, kn, ms)) dX0_add_147 ⟨by rw [addF, if_pos hok, if_pos (show ffr (bt pr) 10 = 10 from ej0.symm)], hk⟩ rfl hZ
                    · skip
                      have hj : j < 10 := lp_lt (N := 10) (by decide) hj0 c_18
                      refine lv_aload_n hx hb dX0_add_63 rfl (lv_at hl 0 rfl) ?_
                      refine lv_iload hx hb dX0_add_64 (lv_at hl 5 rfl) ?_
                      refine kx_has F hZ.1 hl.1 ⟨Nat.le_of_ble_eq_true rfl, Nat.le_of_ble_eq_true rfl⟩ (Nat.le_of_ble_eq_true rfl) dX0_add_66 ?_
                      refine lv_if_ne (tgt := 139) hx hb dX0_add_69 (by decide) (fun c_19 => ?_) (fun c_19 => ?_)
                      · skip
                        refine lv_incN (k := 5) (lv' := [(6, .int (nI (j + 1))), (0, .ref (q 0)), (1, .int kind), (2, .int head), (3, .int pos), (4, .int neg)]) hx hb dX0_add_139 hl rfl (by decide) rfl (fun ls hl => ?_)
                        refine lv_goto (tgt := 56) hx hb dX0_add_142 (by decide) ?_
                        exact ih56 (j + 1) (by omega) (by omega) (by rw [show 10 - j = (9 - j) + 1 by omega, ffr, show 9 - (9 - j) = j by omega, if_pos (show bt pr j = true by cases hb9 : bt pr j with | true => rfl | false => exact absurd ((has_bt hj).mpr hb9) c_19)] at ej0; rw [show 10 - (j + 1) = 9 - j by omega]; exact ej0) _ _ hZ ls (lv_sub hl [1, 2, 3, 4, 5, 0] rfl)
                      · skip
                        refine lv_aload_n hx hb dX0_add_72 rfl (lv_at hl 0 rfl) ?_
                        refine lv_dup hx hb dX0_add_73 rfl ?_
                        refine xg_pr F hZ.1 dX0_add_74 ?_
                        refine lv_iconst (v := 1) hx hb dX0_add_77 (by decide) ?_
                        refine lv_iload hx hb dX0_add_78 (lv_at hl 5 rfl) ?_
                        refine lv_ishl hx hb dX0_add_80 ?_
                        refine lv_ior hx hb dX0_add_81 ?_
                        refine xp_pr F hZ dX0_add_82 (fun H locs hZ => ?_)
                        refine lv_aload_n hx hb dX0_add_85 rfl (lv_at hl 0 rfl) ?_
                        refine xg_kd F hZ.1 dX0_add_86 ?_
                        refine lv_iload hx hb dX0_add_89 (lv_at hl 5 rfl) ?_
                        refine lv_iload_n hx hb dX0_add_91 rfl (lv_at hl 1 rfl) ?_
                        refine lv_i2b (v := kind) hx hb dX0_add_92 (small8 (n := 2) c_14 (by decide) c_15) ?_
                        refine xs_kd F hZ hj (small8 (n := 2) c_14 (by decide) c_15) dX0_add_93 (fun H locs hZ => ?_)
                        refine lv_aload_n hx hb dX0_add_94 rfl (lv_at hl 0 rfl) ?_
                        refine xg_hd F hZ.1 dX0_add_95 ?_
                        refine lv_iload hx hb dX0_add_98 (lv_at hl 5 rfl) ?_
                        refine lv_iload_n hx hb dX0_add_100 rfl (lv_at hl 1 rfl) ?_
                        refine lv_iconst (v := 2) hx hb dX0_add_101 (by decide) ?_
                        refine lv_icmp_ne (tgt := 109) hx hb dX0_add_102 (by decide) (fun _ => ?_) (fun c9 => absurd c9 c_1)
                        refine lv_iload_n hx hb dX0_add_109 rfl (lv_at hl 2 rfl) ?_
                        refine lv_i2b (v := head) hx hb dX0_add_110 (small8' (n := 6) c_8 (by decide) c_11) ?_
                        refine xs_hd F hZ hj (small8' (n := 6) c_8 (by decide) c_11) dX0_add_111 (fun H locs hZ => ?_)
                        refine lv_aload_n hx hb dX0_add_112 rfl (lv_at hl 0 rfl) ?_
                        refine xg_ps F hZ.1 dX0_add_113 ?_
                        refine lv_iload hx hb dX0_add_116 (lv_at hl 5 rfl) ?_
                        refine lv_iload_n hx hb dX0_add_118 rfl (lv_at hl 3 rfl) ?_
                        refine lv_i2b (v := pos) hx hb dX0_add_119 (setI_8 c_16) ?_
                        refine xs_ps F hZ hj (setI_8 c_16) dX0_add_120 (fun H locs hZ => ?_)
                        refine lv_aload_n hx hb dX0_add_121 rfl (lv_at hl 0 rfl) ?_
                        refine xg_ng F hZ.1 dX0_add_122 ?_
                        refine lv_iload hx hb dX0_add_125 (lv_at hl 5 rfl) ?_
                        refine lv_iload hx hb dX0_add_127 (lv_at hl 4 rfl) ?_
                        refine lv_i2b (v := neg) hx hb dX0_add_129 (setI_8 c_17) ?_
                        refine xs_ng F hZ hj (setI_8 c_17) dX0_add_130 (fun H locs hZ => ?_)
                        refine lv_aload_n hx hb dX0_add_131 rfl (lv_at hl 0 rfl) ?_
                        refine lv_iconst (v := 0) hx hb dX0_add_132 (by decide) ?_
                        refine xp_kn F hZ (B := false) rfl dX0_add_133 (fun H locs hZ => ?_)
                        refine lv_iload hx hb dX0_add_136 (lv_at hl 5 rfl) ?_
                        have hff : ffr (bt pr) 10 = j := by rw [← ej0, show 10 - j = (9 - j) + 1 by omega, ffr, show 9 - (9 - j) = j by omega, if_neg (by rw [(has_bt hj).mp c_19]; decide)]
                        exact hret (((pr ||| ((1 : Int32) <<< ((nI j) &&& 31))), (upd kd j kind), (upd hd j head), (upd ps j pos), (upd ng j neg)), (si, so, br, mv, li, lo, la, lt, false, ms)) dX0_add_138 ⟨by rw [addF, if_pos hok, hff, if_neg (by omega), if_neg c_1], fun h => by cases h⟩ rfl hZ
                exact lp56 11 0 (by omega) (by omega) rfl _ _ hZ ls (lv_sub hl [2, 3, 4, 5, 6, 0] rfl)
              · skip
                refine lv_iconst (v := (-1)) hx hb dX0_add_51 (by decide) ?_
                exact hret ((pr, kd, hd, ps, ng), (si, so, br, mv, li, lo, la, lt, kn, ms)) dX0_add_52 ⟨by rw [addF, if_neg (show ¬ addOkX kind head pos neg = true by simp [addOkX, if_neg c_1, if_neg c_8, if_neg c_11, if_neg c_14, if_neg c_15, if_neg c_16, if_pos c_17])], hk⟩ rfl hZ
abbrev rx_matters : Room := { frames := 5, cells := 0, slots := 0, locals := 113 }
set_option maxHeartbeats 4000000 in
set_option maxRecDepth 100000 in
theorem cx_matters (l : Launch) (D : va_G) (dB dZ dJ : ClassId) (q : Nat → Nat) (pr : Int32) (kd hd ps ng : Nat → Int32) (si so : Int32) (br mv : Bool) (li lo la lt : Nat → Int32) (kn : Bool) (ms : Int64) (hwf : WF kd hd ps ng) (hk : kn = true → MSok pr kd hd ps ng ms) (x : Int32) : MId l yX0_matters (ws_ yX0_matters cX0_matters 6 (some .boolean)) rx_matters D dB dZ dJ [.ref (q 0), .int x] (XW dB q pr kd hd ps ng si so br mv li lo la lt kn ms) (fun (r : Int32) (u : PU) => r = xMat pr kd hd ps ng x ∧ (u.2.2.2.2.2.2.2.2.1 = true → MSok pr kd hd ps ng u.2.2.2.2.2.2.2.2.2)) (fun u : PU => XW dB q pr kd hd ps ng u.1 u.2.1 u.2.2.1 u.2.2.2.1 u.2.2.2.2.1 u.2.2.2.2.2.1 u.2.2.2.2.2.2.1 u.2.2.2.2.2.2.2.1 u.2.2.2.2.2.2.2.2.1 u.2.2.2.2.2.2.2.2.2) := by
  refine MId.of (by decide) (Nat.le_of_ble_eq_true rfl) (fun p e s m args below meth c Q A F hZ hret ls hl => ?_)
  obtain ⟨hx, hb, hml, hown, hts⟩ := id F.1
  have hl : lv_has ls 6 [(0, .ref (q 0)), (1, .int x)] := hl
  refine lv_aload_n hx hb dX0_matters_0 rfl (lv_at hl 0 rfl) ?_
  refine lv_iload_n hx hb dX0_matters_1 rfl (lv_at hl 1 rfl) ?_
  refine kx_has F hZ.1 hl.1 ⟨Nat.le_of_ble_eq_true rfl, Nat.le_of_ble_eq_true rfl⟩ (Nat.le_of_ble_eq_true rfl) dX0_matters_2 ?_
  refine lv_if_ne (tgt := 10) hx hb dX0_matters_5 (by decide) (fun c_1 => ?_) (fun c_1 => ?_)
  · skip
    refine lv_aload_n hx hb dX0_matters_10 rfl (lv_at hl 0 rfl) ?_
    refine kx_search F hZ hwf hk hl.1 ⟨Nat.le_of_ble_eq_true rfl, Nat.le_of_ble_eq_true rfl⟩ (Nat.le_of_ble_eq_true rfl) dX0_matters_11 (fun si1 so1 br1 mv1 li1 lo1 la1 lt1 ms1 H locs hms hZ => ?_)
    refine lv_aload_n hx hb dX0_matters_14 rfl (lv_at hl 0 rfl) ?_
    refine xg_ms F hZ.1 dX0_matters_15 ?_
    refine lv_lstore_n (lv' := [(2, .long ms1), (0, .ref (q 0)), (1, .int x)]) hx hb dX0_matters_18 rfl hl (by decide) rfl (fun ls hl => ?_)
    refine lv_aload_n hx hb dX0_matters_19 rfl (lv_at hl 1 rfl) ?_
    refine lv_dup hx hb dX0_matters_20 rfl ?_
    refine xg_pr F hZ.1 dX0_matters_21 ?_
    refine lv_iconst (v := 1) hx hb dX0_matters_24 (by decide) ?_
    refine lv_iload_n hx hb dX0_matters_25 rfl (lv_at hl 2 rfl) ?_
    refine lv_ishl hx hb dX0_matters_26 ?_
    refine lv_iconst (v := (-1)) hx hb dX0_matters_27 (by decide) ?_
    refine lv_ixor hx hb dX0_matters_28 ?_
    refine lv_iand hx hb dX0_matters_29 ?_
    refine xp_pr F hZ dX0_matters_30 (fun H locs hZ => ?_)
    refine lv_aload_n hx hb dX0_matters_33 rfl (lv_at hl 1 rfl) ?_
    refine lv_iconst (v := 0) hx hb dX0_matters_34 (by decide) ?_
    refine xp_kn F hZ (B := false) rfl dX0_matters_35 (fun H locs hZ => ?_)
    refine lv_aload_n hx hb dX0_matters_38 rfl (lv_at hl 1 rfl) ?_
    refine kx_search F hZ hwf (fun h => by cases h) hl.1 ⟨Nat.le_of_ble_eq_true rfl, Nat.le_of_ble_eq_true rfl⟩ (Nat.le_of_ble_eq_true rfl) dX0_matters_39 (fun si2 so2 br2 mv2 li2 lo2 la2 lt2 ms2 H locs hms2 hZ => ?_)
    refine lv_aload_n hx hb dX0_matters_42 rfl (lv_at hl 1 rfl) ?_
    refine xg_ms F hZ.1 dX0_matters_43 ?_
    refine lv_lstore (lv' := [(4, .long ms2), (2, .long ms1), (0, .ref (q 0)), (1, .int x)]) hx hb dX0_matters_46 hl (by decide) rfl (fun ls hl => ?_)
    refine lv_aload_n hx hb dX0_matters_48 rfl (lv_at hl 2 rfl) ?_
    refine lv_dup hx hb dX0_matters_49 rfl ?_
    refine xg_pr F hZ.1 dX0_matters_50 ?_
    refine lv_iconst (v := 1) hx hb dX0_matters_53 (by decide) ?_
    refine lv_iload_n hx hb dX0_matters_54 rfl (lv_at hl 3 rfl) ?_
    refine lv_ishl hx hb dX0_matters_55 ?_
    refine lv_ior hx hb dX0_matters_56 ?_
    refine xp_pr F hZ dX0_matters_57 (fun H locs hZ => ?_)
    refine lv_aload_n hx hb dX0_matters_60 rfl (lv_at hl 2 rfl) ?_
    refine lv_iconst (v := 0) hx hb dX0_matters_61 (by decide) ?_
    refine xp_kn F hZ (B := false) rfl dX0_matters_62 (fun H locs hZ => ?_)
    refine lv_lload_n hx hb dX0_matters_65 rfl (lv_at hl 1 rfl) ?_
    refine lv_lload hx hb dX0_matters_66 (lv_at hl 0 rfl) ?_
    refine W.lcmp hx hb dX0_matters_68 ?_
    refine lv_if_eq (tgt := 76) hx hb dX0_matters_69 (by decide) (fun c_2 => ?_) (fun c_2 => ?_)
    · skip
      refine lv_iconst (v := 0) hx hb dX0_matters_76 (by decide) ?_
      rw [has_back c_1] at hZ
      exact hret (si2, so2, br2, mv2, li2, lo2, la2, lt2, false, ms2) dX0_matters_77 ⟨by rw [xMat, if_neg c_1, remP, if_neg c_1]; rw [(dif_F 64).mpr (fun m hm => by show stb _ _ _ _ _ _ = stb _ _ _ _ _ _; rw [← hms m hm, ← hms2 m hm, (lgc _ _).mp c_2])]; rfl, fun h => by cases h⟩ rfl hZ
    · skip
      refine lv_iconst (v := 1) hx hb dX0_matters_72 (by decide) ?_
      refine lv_goto (tgt := 77) hx hb dX0_matters_73 (by decide) ?_
      rw [has_back c_1] at hZ
      exact hret (si2, so2, br2, mv2, li2, lo2, la2, lt2, false, ms2) dX0_matters_77 ⟨by rw [xMat, if_neg c_1, remP, if_neg c_1]; cases hd9 : dif (stF (pr &&& (((1 : Int32) <<< (x &&& 31)) ^^^ (-1))) kd hd ps ng) (stF pr kd hd ps ng) 64 with | true => rfl | false => exact absurd ((lgc _ _).mpr (lb_ext (fun m hm => by rw [hms m hm, hms2 m hm]; exact ((dif_F 64).mp hd9 m hm).symm))) c_2, fun h => by cases h⟩ rfl hZ
  · skip
    refine lv_iconst (v := 0) hx hb dX0_matters_8 (by decide) ?_
    exact hret (si, so, br, mv, li, lo, la, lt, kn, ms) dX0_matters_9 ⟨by rw [xMat, if_pos c_1], hk⟩ rfl hZ
end XP1
end
section
set_option maxRecDepth 100000
section YM1
variable {p : Program} {l : Launch} {e : Env} {R : Room} {s : State} {m : MethodId} {args : Array Value} {below : List Frame} {meth : Method} {c : Code} {H : Heap} {locs : List Loc} {Q : State → Prop}
variable {cc : ByteArray} {pc nL : Nat} {ls : Array Slot} {rest : List Value} {D : va_G} {dB dZ dJ : ClassId} {A : Nat → Prop} {q : Nat → Nat}
variable {pr : Int32} {kd hd ps ng : Nat → Int32} {si so : Int32} {br mv : Bool} {li lo la lt : Nat → Int32} {kn : Bool} {ms : Int64}
variable {th fd bf : Nat → Bool}
abbrev ry_set : Room := { frames := 0, cells := 0, slots := 0, locals := 0 }
set_option maxHeartbeats 4000000 in
set_option maxRecDepth 100000 in
theorem cy_set (l : Launch) (D : va_G) (dB dZ dJ : ClassId) (q : Nat → Nat) (th : Nat → Bool) (kd hd ps ng : Nat → Int32) (fd bf : Nat → Bool) (x : Int32) : MRd l yX1_set (ws_ yX1_set cX1_set 2 (some .boolean)) ry_set D dB dZ dJ [.ref (q 0), .int x] (MW dZ dJ q th kd hd ps ng fd bf) (setI x) := by
  refine MRd.of (by decide) (nar01 (setI_01 _)) (Nat.le_of_ble_eq_true rfl) (fun p e s m args below meth c Q F hP hret ls hl => ?_)
  obtain ⟨hx, hb, hml, hown, hts⟩ := id F.1
  have hl : lv_has ls 2 [(0, .ref (q 0)), (1, .int x)] := hl
  refine lv_iload_n hx hb dX1_set_0 rfl (lv_at hl 1 rfl) ?_
  refine lv_if_lt (tgt := 14) hx hb dX1_set_1 (by decide) (fun c_1 => ?_) (fun c_1 => ?_)
  · skip
    refine lv_iconst (v := 0) hx hb dX1_set_14 (by decide) ?_
    exact hret dX1_set_15 (by simp only [setI, ite_self, if_pos c_1])
  · skip
    refine lv_iload_n hx hb dX1_set_4 rfl (lv_at hl 1 rfl) ?_
    refine lv_bipush (v := 63) hx hb dX1_set_5 (by decide) ?_
    refine lv_icmp_gt (tgt := 14) hx hb dX1_set_7 (by decide) (fun c_2 => ?_) (fun c_2 => ?_)
    · skip
      refine lv_iconst (v := 0) hx hb dX1_set_14 (by decide) ?_
      exact hret dX1_set_15 (by simp only [setI, ite_self, if_neg c_1, if_pos c_2])
    · skip
      refine lv_iconst (v := 1) hx hb dX1_set_10 (by decide) ?_
      refine lv_goto (tgt := 15) hx hb dX1_set_11 (by decide) ?_
      exact hret dX1_set_15 (by simp only [setI, ite_self, if_neg c_1, if_neg c_2])
theorem ky_set {x : Int32} (F : Fx RX1 D dB dZ dJ p m c cc nL s args) (hP : va_P D vwCl (MW dZ dJ q th kd hd ps ng fd bf) H)  (hsz : ls.size = nL) (hR : ry_set.frames + 1 ≤ R.frames ∧ 8 + (2 + 11) + ry_set.locals ≤ R.locals) (hroom : (rest.map fun v => v.category).sum ≤ 8) (hdg : decode cc pc = .ok (.invokevirtual 32, 3)) (kk : W p l e R s m args below meth c H locs 0 0 Q (F0 m (pc + 3) ls (.int (setI x) :: rest))) : W p l e R s m args below meth c H locs 0 0 Q (F0 m pc ls (.int x :: .ref (q 0) :: rest)) :=
  cl_R (q0 := 0) (ci := 1) (n := 1) (As := [.int x]) F hP (cy_set l D dB dZ dJ q th kd hd ps ng fd bf x) rfl rfl (lw_V q229 q231 qs15 q21 q232) (by decide +kernel) rfl ⟨rfl, rfl⟩ hR hsz rfl hroom hdg ⟨Nat.zero_le _, Nat.zero_le _⟩ kk
abbrev ry_ones : Room := { frames := 0, cells := 0, slots := 0, locals := 0 }
set_option maxHeartbeats 4000000 in
set_option maxRecDepth 100000 in
theorem cy_ones (l : Launch) (D : va_G) (dB dZ dJ : ClassId) (q : Nat → Nat) (th : Nat → Bool) (kd hd ps ng : Nat → Int32) (fd bf : Nat → Bool) (x : Int32) : MRd l yX1_ones (ws_ yX1_ones cX1_ones 4 (some .int)) ry_ones D dB dZ dJ [.ref (q 0), .int x] (MW dZ dJ q th kd hd ps ng fd bf) (onesN x 6) := by
  refine MRd.of (by decide) rfl (Nat.le_of_ble_eq_true rfl) (fun p e s m args below meth c Q F hP hret ls hl => ?_)
  obtain ⟨hx, hb, hml, hown, hts⟩ := id F.1
  have hl : lv_has ls 4 [(0, .ref (q 0)), (1, .int x)] := hl
  refine lv_iconst (v := 0) hx hb dX1_ones_0 (by decide) ?_
  refine lv_istore_n (lv' := [(2, .int 0), (0, .ref (q 0)), (1, .int x)]) hx hb dX1_ones_1 rfl hl (by decide) rfl (fun ls hl => ?_)
  refine lv_iconst (v := 0) hx hb dX1_ones_2 (by decide) ?_
  refine lv_istore_n (lv' := [(3, .int 0), (2, .int 0), (0, .ref (q 0)), (1, .int x)]) hx hb dX1_ones_3 rfl hl (by decide) rfl (fun ls hl => ?_)
  have lp4 : ∀ (nf a : Nat) (x2 : Int32), a ≤ 6 → 6 < a + nf → x2 = onesN x a → ∀ (ls : Array Slot), lv_has ls 4 [(0, .ref (q 0)), (1, .int x), (2, .int x2), (3, .int (nI a))] → W p l e ry_ones s m args below meth c s.heap [] 0 0 Q (F0 m 4 ls []) := by
    intro nf
    induction nf with
    | zero =>
      intro a x2 h1 h2
      exact absurd h2 (by omega)
    | succ nf ih4 =>
      intro a x2 ha0 han ea0 ls hl
      refine lv_iload_n hx hb dX1_ones_4 rfl (lv_at hl 3 rfl) ?_
      refine lv_bipush (v := 6) hx hb dX1_ones_5 (by decide) ?_
      refine lv_icmp_ge (tgt := 24) hx hb dX1_ones_7 (by decide) (fun c_1 => ?_) (fun c_1 => ?_)
      · skip
        have ha : a = 6 := lp_ge (N := 6) (by decide) ha0 c_1
        subst ha
        refine lv_iload_n hx hb dX1_ones_24 rfl (lv_at hl 2 rfl) ?_
        exact hret dX1_ones_25 ea0
      · skip
        have ha : a < 6 := lp_lt (N := 6) (by decide) ha0 c_1
        refine lv_iload_n hx hb dX1_ones_10 rfl (lv_at hl 2 rfl) ?_
        refine lv_iload_n hx hb dX1_ones_11 rfl (lv_at hl 1 rfl) ?_
        refine lv_iload_n hx hb dX1_ones_12 rfl (lv_at hl 3 rfl) ?_
        refine lv_ishr hx hb dX1_ones_13 ?_
        refine lv_iconst (v := 1) hx hb dX1_ones_14 (by decide) ?_
        refine lv_iand hx hb dX1_ones_15 ?_
        refine lv_iadd hx hb dX1_ones_16 ?_
        refine lv_istore_n (lv' := [(2, .int (x2 + ((x >>> ((nI a) &&& 31)) &&& 1))), (0, .ref (q 0)), (1, .int x), (3, .int (nI a))]) hx hb dX1_ones_17 rfl hl (by decide) rfl (fun ls hl => ?_)
        refine lv_incN (k := 3) (lv' := [(3, .int (nI (a + 1))), (2, .int (x2 + ((x >>> ((nI a) &&& 31)) &&& 1))), (0, .ref (q 0)), (1, .int x)]) hx hb dX1_ones_18 hl rfl (by decide) rfl (fun ls hl => ?_)
        refine lv_goto (tgt := 4) hx hb dX1_ones_21 (by decide) ?_
        exact ih4 (a + 1) (x2 + ((x >>> ((nI a) &&& 31)) &&& 1)) (by omega) (by omega) (by rw [onesN, ← ea0]) ls (lv_sub hl [2, 3, 1, 0] rfl)
  exact lp4 7 0 0 (by omega) (by omega) rfl ls (lv_sub hl [2, 3, 1, 0] rfl)
theorem ky_ones {x : Int32} (F : Fx RX1 D dB dZ dJ p m c cc nL s args) (hP : va_P D vwCl (MW dZ dJ q th kd hd ps ng fd bf) H)  (hsz : ls.size = nL) (hR : ry_ones.frames + 1 ≤ R.frames ∧ 8 + (4 + 11) + ry_ones.locals ≤ R.locals) (hroom : (rest.map fun v => v.category).sum ≤ 8) (hdg : decode cc pc = .ok (.invokevirtual 47, 3)) (kk : W p l e R s m args below meth c H locs 0 0 Q (F0 m (pc + 3) ls (.int (onesN x 6) :: rest))) : W p l e R s m args below meth c H locs 0 0 Q (F0 m pc ls (.int x :: .ref (q 0) :: rest)) :=
  cl_R (q0 := 0) (ci := 1) (n := 1) (As := [.int x]) F hP (cy_ones l D dB dZ dJ q th kd hd ps ng fd bf x) rfl rfl (lw_V q279 q281 qs17 q21 q282) (by decide +kernel) rfl ⟨rfl, rfl⟩ hR hsz rfl hroom hdg ⟨Nat.zero_le _, Nat.zero_le _⟩ kk
abbrev ry_taken : Room := { frames := 0, cells := 0, slots := 0, locals := 0 }
set_option maxHeartbeats 4000000 in
set_option maxRecDepth 100000 in
theorem cy_taken (l : Launch) (D : va_G) (dB dZ dJ : ClassId) (q : Nat → Nat) (th : Nat → Bool) (kd hd ps ng : Nat → Int32) (fd bf : Nat → Bool) (j : Nat) (hj : j < 10) (mm : Int32) : MRd l yX1_taken (ws_ yX1_taken cX1_taken 4 (some .boolean)) ry_taken D dB dZ dJ [.ref (q 0), .int (nI j), .int mm] (MW dZ dJ q th kd hd ps ng fd bf) (tkI th kd hd ng j mm) := by
  refine MRd.of (by decide) (nar01 (tkI_01 _ _ _ _ _ _)) (Nat.le_of_ble_eq_true rfl) (fun p e s m args below meth c Q F hP hret ls hl => ?_)
  obtain ⟨hx, hb, hml, hown, hts⟩ := id F.1
  have hl : lv_has ls 4 [(0, .ref (q 0)), (1, .int (nI j)), (2, .int mm)] := hl
  refine lv_aload_n hx hb dX1_taken_0 rfl (lv_at hl 0 rfl) ?_
  refine mg_kd F hP dX1_taken_1 ?_
  refine lv_iload_n hx hb dX1_taken_4 rfl (lv_at hl 1 rfl) ?_
  refine ma_kd F hP hj dX1_taken_5 ?_
  refine lv_if_eq (tgt := 33) hx hb dX1_taken_6 (by decide) (fun c_1 => ?_) (fun c_1 => ?_)
  · skip
    refine lv_iconst (v := 1) hx hb dX1_taken_33 (by decide) ?_
    refine lv_goto (tgt := 38) hx hb dX1_taken_34 (by decide) ?_
    refine lv_istore_n (lv' := [(3, .int 1), (0, .ref (q 0)), (1, .int (nI j)), (2, .int mm)]) hx hb dX1_taken_38 rfl hl (by decide) rfl (fun ls hl => ?_)
    refine lv_aload_n hx hb dX1_taken_39 rfl (lv_at hl 1 rfl) ?_
    refine mg_th F hP dX1_taken_40 ?_
    refine lv_iload_n hx hb dX1_taken_43 rfl (lv_at hl 2 rfl) ?_
    refine ma_th F hP hj dX1_taken_44 ?_
    refine lv_if_eq (tgt := 67) hx hb dX1_taken_45 (by decide) (fun c_2 => ?_) (fun c_2 => ?_)
    · skip
      refine lv_iconst (v := 0) hx hb dX1_taken_67 (by decide) ?_
      exact hret dX1_taken_68 (by simp only [tkI, ite_self, if_pos c_1, if_pos c_2])
    · skip
      refine lv_iload_n hx hb dX1_taken_48 rfl (lv_at hl 0 rfl) ?_
      refine lv_if_eq (tgt := 67) hx hb dX1_taken_49 (by decide) (fun c9 => absurd c9 (by decide)) (fun _ => ?_)
      refine lv_aload_n hx hb dX1_taken_52 rfl (lv_at hl 1 rfl) ?_
      refine mg_ng F hP dX1_taken_53 ?_
      refine lv_iload_n hx hb dX1_taken_56 rfl (lv_at hl 2 rfl) ?_
      refine ma_ng F hP hj dX1_taken_57 ?_
      refine lv_iload_n hx hb dX1_taken_58 rfl (lv_at hl 3 rfl) ?_
      refine lv_iand hx hb dX1_taken_59 ?_
      refine lv_if_ne (tgt := 67) hx hb dX1_taken_60 (by decide) (fun c_3 => ?_) (fun c_3 => ?_)
      · skip
        refine lv_iconst (v := 0) hx hb dX1_taken_67 (by decide) ?_
        exact hret dX1_taken_68 (by simp only [tkI, ite_self, if_pos c_1, if_neg c_2, if_neg c_3])
      · skip
        refine lv_iconst (v := 1) hx hb dX1_taken_63 (by decide) ?_
        refine lv_goto (tgt := 68) hx hb dX1_taken_64 (by decide) ?_
        exact hret dX1_taken_68 (by simp only [tkI, ite_self, if_pos c_1, if_neg c_2, if_pos c_3])
  · skip
    refine lv_aload_n hx hb dX1_taken_9 rfl (lv_at hl 0 rfl) ?_
    refine mg_kd F hP dX1_taken_10 ?_
    refine lv_iload_n hx hb dX1_taken_13 rfl (lv_at hl 1 rfl) ?_
    refine ma_kd F hP hj dX1_taken_14 ?_
    refine lv_iconst (v := 1) hx hb dX1_taken_15 (by decide) ?_
    refine lv_icmp_ne (tgt := 37) hx hb dX1_taken_16 (by decide) (fun c_4 => ?_) (fun c_4 => ?_)
    · skip
      refine lv_iconst (v := 0) hx hb dX1_taken_37 (by decide) ?_
      refine lv_istore_n (lv' := [(3, .int 0), (0, .ref (q 0)), (1, .int (nI j)), (2, .int mm)]) hx hb dX1_taken_38 rfl hl (by decide) rfl (fun ls hl => ?_)
      refine lv_aload_n hx hb dX1_taken_39 rfl (lv_at hl 1 rfl) ?_
      refine mg_th F hP dX1_taken_40 ?_
      refine lv_iload_n hx hb dX1_taken_43 rfl (lv_at hl 2 rfl) ?_
      refine ma_th F hP hj dX1_taken_44 ?_
      refine lv_if_eq (tgt := 67) hx hb dX1_taken_45 (by decide) (fun c_5 => ?_) (fun c_5 => ?_)
      · skip
        refine lv_iconst (v := 0) hx hb dX1_taken_67 (by decide) ?_
        exact hret dX1_taken_68 (by simp only [tkI, ite_self, if_neg c_1, if_neg c_4, if_pos c_5])
      · skip
        refine lv_iload_n hx hb dX1_taken_48 rfl (lv_at hl 0 rfl) ?_
        refine lv_if_eq (tgt := 67) hx hb dX1_taken_49 (by decide) (fun _ => ?_) (fun c9 => absurd (by decide) c9)
        refine lv_iconst (v := 0) hx hb dX1_taken_67 (by decide) ?_
        exact hret dX1_taken_68 (by simp only [tkI, ite_self, if_neg c_1, if_neg c_4, if_neg c_5])
    · skip
      refine lv_iload_n hx hb dX1_taken_19 rfl (lv_at hl 2 rfl) ?_
      refine lv_aload_n hx hb dX1_taken_20 rfl (lv_at hl 0 rfl) ?_
      refine mg_hd F hP dX1_taken_21 ?_
      refine lv_iload_n hx hb dX1_taken_24 rfl (lv_at hl 1 rfl) ?_
      refine ma_hd F hP hj dX1_taken_25 ?_
      refine lv_ishr hx hb dX1_taken_26 ?_
      refine lv_iconst (v := 1) hx hb dX1_taken_27 (by decide) ?_
      refine lv_iand hx hb dX1_taken_28 ?_
      refine lv_iconst (v := 1) hx hb dX1_taken_29 (by decide) ?_
      refine lv_icmp_ne (tgt := 37) hx hb dX1_taken_30 (by decide) (fun c_6 => ?_) (fun c_6 => ?_)
      · skip
        refine lv_iconst (v := 0) hx hb dX1_taken_37 (by decide) ?_
        refine lv_istore_n (lv' := [(3, .int 0), (0, .ref (q 0)), (1, .int (nI j)), (2, .int mm)]) hx hb dX1_taken_38 rfl hl (by decide) rfl (fun ls hl => ?_)
        refine lv_aload_n hx hb dX1_taken_39 rfl (lv_at hl 1 rfl) ?_
        refine mg_th F hP dX1_taken_40 ?_
        refine lv_iload_n hx hb dX1_taken_43 rfl (lv_at hl 2 rfl) ?_
        refine ma_th F hP hj dX1_taken_44 ?_
        refine lv_if_eq (tgt := 67) hx hb dX1_taken_45 (by decide) (fun c_7 => ?_) (fun c_7 => ?_)
        · skip
          refine lv_iconst (v := 0) hx hb dX1_taken_67 (by decide) ?_
          exact hret dX1_taken_68 (by simp only [tkI, ite_self, if_neg c_1, if_pos c_4, if_neg c_6, if_pos c_7])
        · skip
          refine lv_iload_n hx hb dX1_taken_48 rfl (lv_at hl 0 rfl) ?_
          refine lv_if_eq (tgt := 67) hx hb dX1_taken_49 (by decide) (fun _ => ?_) (fun c9 => absurd (by decide) c9)
          refine lv_iconst (v := 0) hx hb dX1_taken_67 (by decide) ?_
          exact hret dX1_taken_68 (by simp only [tkI, ite_self, if_neg c_1, if_pos c_4, if_neg c_6, if_neg c_7])
      · skip
        refine lv_iconst (v := 1) hx hb dX1_taken_33 (by decide) ?_
        refine lv_goto (tgt := 38) hx hb dX1_taken_34 (by decide) ?_
        refine lv_istore_n (lv' := [(3, .int 1), (0, .ref (q 0)), (1, .int (nI j)), (2, .int mm)]) hx hb dX1_taken_38 rfl hl (by decide) rfl (fun ls hl => ?_)
        refine lv_aload_n hx hb dX1_taken_39 rfl (lv_at hl 1 rfl) ?_
        refine mg_th F hP dX1_taken_40 ?_
        refine lv_iload_n hx hb dX1_taken_43 rfl (lv_at hl 2 rfl) ?_
        refine ma_th F hP hj dX1_taken_44 ?_
        refine lv_if_eq (tgt := 67) hx hb dX1_taken_45 (by decide) (fun c_8 => ?_) (fun c_8 => ?_)
        · skip
          refine lv_iconst (v := 0) hx hb dX1_taken_67 (by decide) ?_
          exact hret dX1_taken_68 (by simp only [tkI, ite_self, if_neg c_1, if_pos c_4, if_pos c_6, if_pos c_8])
        · skip
          refine lv_iload_n hx hb dX1_taken_48 rfl (lv_at hl 0 rfl) ?_
          refine lv_if_eq (tgt := 67) hx hb dX1_taken_49 (by decide) (fun c9 => absurd c9 (by decide)) (fun _ => ?_)
          refine lv_aload_n hx hb dX1_taken_52 rfl (lv_at hl 1 rfl) ?_
          refine mg_ng F hP dX1_taken_53 ?_
          refine lv_iload_n hx hb dX1_taken_56 rfl (lv_at hl 2 rfl) ?_
          refine ma_ng F hP hj dX1_taken_57 ?_
          refine lv_iload_n hx hb dX1_taken_58 rfl (lv_at hl 3 rfl) ?_
          refine lv_iand hx hb dX1_taken_59 ?_
          refine lv_if_ne (tgt := 67) hx hb dX1_taken_60 (by decide) (fun c_9 => ?_) (fun c_9 => ?_)
          · skip
            refine lv_iconst (v := 0) hx hb dX1_taken_67 (by decide) ?_
            exact hret dX1_taken_68 (by simp only [tkI, ite_self, if_neg c_1, if_pos c_4, if_pos c_6, if_neg c_8, if_neg c_9])
          · skip
            refine lv_iconst (v := 1) hx hb dX1_taken_63 (by decide) ?_
            refine lv_goto (tgt := 68) hx hb dX1_taken_64 (by decide) ?_
            exact hret dX1_taken_68 (by simp only [tkI, ite_self, if_neg c_1, if_pos c_4, if_pos c_6, if_neg c_8, if_pos c_9])
theorem ky_taken {j : Nat} {mm : Int32} (F : Fx RX1 D dB dZ dJ p m c cc nL s args) (hP : va_P D vwCl (MW dZ dJ q th kd hd ps ng fd bf) H) (hj : j < 10) (hsz : ls.size = nL) (hR : ry_taken.frames + 1 ≤ R.frames ∧ 8 + (4 + 11) + ry_taken.locals ≤ R.locals) (hroom : (rest.map fun v => v.category).sum ≤ 8) (hdg : decode cc pc = .ok (.invokevirtual 36, 3)) (kk : W p l e R s m args below meth c H locs 0 0 Q (F0 m (pc + 3) ls (.int (tkI th kd hd ng j mm) :: rest))) : W p l e R s m args below meth c H locs 0 0 Q (F0 m pc ls (.int mm :: .int (nI j) :: .ref (q 0) :: rest)) :=
  cl_R (q0 := 0) (ci := 1) (n := 2) (As := [.int (nI j), .int mm]) F hP (cy_taken l D dB dZ dJ q th kd hd ps ng fd bf j hj mm) rfl rfl (lw_V q245 q247 qs16 q21 q248) (by decide +kernel) rfl ⟨rfl, rfl⟩ hR hsz rfl hroom hdg ⟨Nat.zero_le _, Nat.zero_le _⟩ kk
abbrev ry_support : Room := { frames := 1, cells := 0, slots := 0, locals := 23 }
set_option maxHeartbeats 4000000 in
set_option maxRecDepth 100000 in
theorem cy_support (l : Launch) (D : va_G) (dB dZ dJ : ClassId) (q : Nat → Nat) (th : Nat → Bool) (kd hd ps ng : Nat → Int32) (fd bf : Nat → Bool) (mm : Int32) : MRd l yX1_support (ws_ yX1_support cX1_support 5 (some .int)) ry_support D dB dZ dJ [.ref (q 0), .int mm] (MW dZ dJ q th kd hd ps ng fd bf) (mSup th kd hd ps ng mm) := by
  refine MRd.of (by decide) rfl (Nat.le_of_ble_eq_true rfl) (fun p e s m args below meth c Q F hP hret ls hl => ?_)
  obtain ⟨hx, hb, hml, hown, hts⟩ := id F.1
  have hl : lv_has ls 5 [(0, .ref (q 0)), (1, .int mm)] := hl
  refine lv_aload_n hx hb dX1_support_0 rfl (lv_at hl 0 rfl) ?_
  refine lv_iload_n hx hb dX1_support_1 rfl (lv_at hl 1 rfl) ?_
  refine ky_set F hP hl.1 ⟨Nat.le_of_ble_eq_true rfl, Nat.le_of_ble_eq_true rfl⟩ (Nat.le_of_ble_eq_true rfl) dX1_support_2 ?_
  refine lv_if_ne (tgt := 10) hx hb dX1_support_5 (by decide) (fun c_1 => ?_) (fun c_1 => ?_)
  · skip
    refine lv_iconst (v := 0) hx hb dX1_support_10 (by decide) ?_
    refine lv_istore_n (lv' := [(2, .int 0), (0, .ref (q 0)), (1, .int mm)]) hx hb dX1_support_11 rfl hl (by decide) rfl (fun ls hl => ?_)
    refine lv_iconst (v := 0) hx hb dX1_support_12 (by decide) ?_
    refine lv_istore_n (lv' := [(3, .int 0), (2, .int 0), (0, .ref (q 0)), (1, .int mm)]) hx hb dX1_support_13 rfl hl (by decide) rfl (fun ls hl => ?_)
    have lp14 : ∀ (nf t : Nat) (x2 : Int32), t ≤ 6 → 6 < t + nf → x2 = msR th kd hd ps ng mm t → ∀ (ls : Array Slot), lv_has ls 5 [(0, .ref (q 0)), (1, .int mm), (2, .int x2), (3, .int (nI t))] → W p l e ry_support s m args below meth c s.heap [] 0 0 Q (F0 m 14 ls []) := by
      intro nf
      induction nf with
      | zero =>
        intro t x2 h1 h2
        exact absurd h2 (by omega)
      | succ nf ih14 =>
        intro t x2 ht0 htn et0 ls hl
        refine lv_iload_n hx hb dX1_support_14 rfl (lv_at hl 3 rfl) ?_
        refine lv_bipush (v := 6) hx hb dX1_support_15 (by decide) ?_
        refine lv_icmp_ge (tgt := 82) hx hb dX1_support_17 (by decide) (fun c_2 => ?_) (fun c_2 => ?_)
        · skip
          have ht : t = 6 := lp_ge (N := 6) (by decide) ht0 c_2
          subst ht
          refine lv_iload_n hx hb dX1_support_82 rfl (lv_at hl 2 rfl) ?_
          exact hret dX1_support_83 (by rw [mSup, if_neg c_1]; exact et0)
        · skip
          have ht : t < 6 := lp_lt (N := 6) (by decide) ht0 c_2
          refine lv_iconst (v := 0) hx hb dX1_support_20 (by decide) ?_
          refine lv_istore (lv' := [(4, .int 0), (0, .ref (q 0)), (1, .int mm), (2, .int x2), (3, .int (nI t))]) hx hb dX1_support_21 hl (by decide) rfl (fun ls hl => ?_)
          have lp23 : ∀ (nf j : Nat) (y2 : Int32), j ≤ 10 → 10 < j + nf → y2 = msI th kd hd ps ng mm x2 j → ∀ (ls : Array Slot), lv_has ls 5 [(0, .ref (q 0)), (1, .int mm), (2, .int y2), (3, .int (nI t)), (4, .int (nI j))] → W p l e ry_support s m args below meth c s.heap [] 0 0 Q (F0 m 23 ls []) := by
            intro nf
            induction nf with
            | zero =>
              intro j y2 h1 h2
              exact absurd h2 (by omega)
            | succ nf ih23 =>
              intro j y2 hj0 hjn ej0 ls hl
              refine lv_iload hx hb dX1_support_23 (lv_at hl 4 rfl) ?_
              refine lv_bipush (v := 10) hx hb dX1_support_25 (by decide) ?_
              refine lv_icmp_ge (tgt := 76) hx hb dX1_support_27 (by decide) (fun c_3 => ?_) (fun c_3 => ?_)
              · skip
                have hj : j = 10 := lp_ge (N := 10) (by decide) hj0 c_3
                refine lv_incN (k := 3) (lv' := [(3, .int (nI (t + 1))), (0, .ref (q 0)), (1, .int mm), (2, .int y2), (4, .int (nI j))]) hx hb dX1_support_76 hl rfl (by decide) rfl (fun ls hl => ?_)
                refine lv_goto (tgt := 14) hx hb dX1_support_79 (by decide) ?_
                exact ih14 (t + 1) y2 (by omega) (by omega) (by rw [msR, ← et0, ej0, hj]) ls (lv_sub hl [1, 2, 3, 0] rfl)
              · skip
                have hj : j < 10 := lp_lt (N := 10) (by decide) hj0 c_3
                refine lv_aload_n hx hb dX1_support_30 rfl (lv_at hl 0 rfl) ?_
                refine lv_iload hx hb dX1_support_31 (lv_at hl 4 rfl) ?_
                refine lv_iload_n hx hb dX1_support_33 rfl (lv_at hl 1 rfl) ?_
                refine ky_taken F hP hj hl.1 ⟨Nat.le_of_ble_eq_true rfl, Nat.le_of_ble_eq_true rfl⟩ (Nat.le_of_ble_eq_true rfl) dX1_support_34 ?_
                refine lv_if_eq (tgt := 68) hx hb dX1_support_37 (by decide) (fun c_4 => ?_) (fun c_4 => ?_)
                · skip
                  refine lv_iload_n hx hb dX1_support_68 rfl (lv_at hl 2 rfl) ?_
                  refine lv_istore_n (lv' := [(2, .int y2), (0, .ref (q 0)), (1, .int mm), (3, .int (nI t)), (4, .int (nI j))]) hx hb dX1_support_69 rfl hl (by decide) rfl (fun ls hl => ?_)
                  refine lv_incN (k := 4) (lv' := [(4, .int (nI (j + 1))), (2, .int y2), (0, .ref (q 0)), (1, .int mm), (3, .int (nI t))]) hx hb dX1_support_70 hl rfl (by decide) rfl (fun ls hl => ?_)
                  refine lv_goto (tgt := 23) hx hb dX1_support_73 (by decide) ?_
                  exact ih23 (j + 1) y2 (by omega) (by omega) (by rw [msI, ← ej0]; simp only [msS, if_neg c_1, if_pos c_4]) ls (lv_sub hl [2, 3, 1, 4, 0] rfl)
                · skip
                  refine lv_aload_n hx hb dX1_support_40 rfl (lv_at hl 0 rfl) ?_
                  refine mg_ps F hP dX1_support_41 ?_
                  refine lv_iload hx hb dX1_support_44 (lv_at hl 4 rfl) ?_
                  refine ma_ps F hP hj dX1_support_46 ?_
                  refine lv_iload_n hx hb dX1_support_47 rfl (lv_at hl 2 rfl) ?_
                  refine lv_iconst (v := (-1)) hx hb dX1_support_48 (by decide) ?_
                  refine lv_ixor hx hb dX1_support_49 ?_
                  refine lv_iand hx hb dX1_support_50 ?_
                  refine lv_if_ne (tgt := 68) hx hb dX1_support_51 (by decide) (fun c_5 => ?_) (fun c_5 => ?_)
                  · skip
                    refine lv_iload_n hx hb dX1_support_68 rfl (lv_at hl 2 rfl) ?_
                    refine lv_istore_n (lv' := [(2, .int y2), (0, .ref (q 0)), (1, .int mm), (3, .int (nI t)), (4, .int (nI j))]) hx hb dX1_support_69 rfl hl (by decide) rfl (fun ls hl => ?_)
                    refine lv_incN (k := 4) (lv' := [(4, .int (nI (j + 1))), (2, .int y2), (0, .ref (q 0)), (1, .int mm), (3, .int (nI t))]) hx hb dX1_support_70 hl rfl (by decide) rfl (fun ls hl => ?_)
                    refine lv_goto (tgt := 23) hx hb dX1_support_73 (by decide) ?_
                    exact ih23 (j + 1) y2 (by omega) (by omega) (by rw [msI, ← ej0]; simp only [msS, if_neg c_1, if_neg c_4, if_neg c_5]) ls (lv_sub hl [2, 3, 1, 4, 0] rfl)
                  · skip
                    refine lv_iload_n hx hb dX1_support_54 rfl (lv_at hl 2 rfl) ?_
                    refine lv_iconst (v := 1) hx hb dX1_support_55 (by decide) ?_
                    refine lv_aload_n hx hb dX1_support_56 rfl (lv_at hl 0 rfl) ?_
                    refine mg_hd F hP dX1_support_57 ?_
                    refine lv_iload hx hb dX1_support_60 (lv_at hl 4 rfl) ?_
                    refine ma_hd F hP hj dX1_support_62 ?_
                    refine lv_ishl hx hb dX1_support_63 ?_
                    refine lv_ior hx hb dX1_support_64 ?_
                    refine lv_goto (tgt := 69) hx hb dX1_support_65 (by decide) ?_
                    refine lv_istore_n (lv' := [(2, .int (y2 ||| ((1 : Int32) <<< ((hd j) &&& 31)))), (0, .ref (q 0)), (1, .int mm), (3, .int (nI t)), (4, .int (nI j))]) hx hb dX1_support_69 rfl hl (by decide) rfl (fun ls hl => ?_)
                    refine lv_incN (k := 4) (lv' := [(4, .int (nI (j + 1))), (2, .int (y2 ||| ((1 : Int32) <<< ((hd j) &&& 31)))), (0, .ref (q 0)), (1, .int mm), (3, .int (nI t))]) hx hb dX1_support_70 hl rfl (by decide) rfl (fun ls hl => ?_)
                    refine lv_goto (tgt := 23) hx hb dX1_support_73 (by decide) ?_
                    exact ih23 (j + 1) (y2 ||| ((1 : Int32) <<< ((hd j) &&& 31))) (by omega) (by omega) (by rw [msI, ← ej0]; simp only [msS, if_neg c_1, if_neg c_4, if_pos c_5]) ls (lv_sub hl [2, 3, 1, 4, 0] rfl)
          exact lp23 11 0 x2 (by omega) (by omega) rfl ls (lv_sub hl [1, 2, 3, 4, 0] rfl)
    exact lp14 7 0 0 (by omega) (by omega) rfl ls (lv_sub hl [2, 3, 1, 0] rfl)
  · skip
    refine lv_iconst (v := (-1)) hx hb dX1_support_8 (by decide) ?_
    exact hret dX1_support_9 (by rw [mSup, if_pos c_1])
theorem ky_support {mm : Int32} (F : Fx RX1 D dB dZ dJ p m c cc nL s args) (hP : va_P D vwCl (MW dZ dJ q th kd hd ps ng fd bf) H)  (hsz : ls.size = nL) (hR : ry_support.frames + 1 ≤ R.frames ∧ 8 + (5 + 11) + ry_support.locals ≤ R.locals) (hroom : (rest.map fun v => v.category).sum ≤ 8) (hdg : decode cc pc = .ok (.invokevirtual 40, 3)) (kk : W p l e R s m args below meth c H locs 0 0 Q (F0 m (pc + 3) ls (.int (mSup th kd hd ps ng mm) :: rest))) : W p l e R s m args below meth c H locs 0 0 Q (F0 m pc ls (.int mm :: .ref (q 0) :: rest)) :=
  cl_R (q0 := 0) (ci := 1) (n := 1) (As := [.int mm]) F hP (cy_support l D dB dZ dJ q th kd hd ps ng fd bf mm) rfl rfl (lw_V q253 q242 q243 q21 q244) (by decide +kernel) rfl ⟨rfl, rfl⟩ hR hsz rfl hroom hdg ⟨Nat.zero_le _, Nat.zero_le _⟩ kk
abbrev ry_stable : Room := { frames := 2, cells := 0, slots := 0, locals := 47 }
set_option maxHeartbeats 4000000 in
set_option maxRecDepth 100000 in
theorem cy_stable (l : Launch) (D : va_G) (dB dZ dJ : ClassId) (q : Nat → Nat) (th : Nat → Bool) (kd hd ps ng : Nat → Int32) (fd bf : Nat → Bool) (mm : Int32) : MRd l yX1_stable (ws_ yX1_stable cX1_stable 5 (some .boolean)) ry_stable D dB dZ dJ [.ref (q 0), .int mm] (MW dZ dJ q th kd hd ps ng fd bf) (b2i (stb th kd hd ps ng mm)) := by
  refine MRd.of (by decide) (b2i_nar _) (Nat.le_of_ble_eq_true rfl) (fun p e s m args below meth c Q F hP hret ls hl => ?_)
  obtain ⟨hx, hb, hml, hown, hts⟩ := id F.1
  have hl : lv_has ls 5 [(0, .ref (q 0)), (1, .int mm)] := hl
  refine lv_aload_n hx hb dX1_stable_0 rfl (lv_at hl 0 rfl) ?_
  refine lv_iload_n hx hb dX1_stable_1 rfl (lv_at hl 1 rfl) ?_
  refine ky_set F hP hl.1 ⟨Nat.le_of_ble_eq_true rfl, Nat.le_of_ble_eq_true rfl⟩ (Nat.le_of_ble_eq_true rfl) dX1_stable_2 ?_
  refine lv_if_eq (tgt := 21) hx hb dX1_stable_5 (by decide) (fun c_1 => ?_) (fun c_1 => ?_)
  · skip
    refine lv_iconst (v := 0) hx hb dX1_stable_21 (by decide) ?_
    refine lv_istore_n (lv' := [(2, .int 0), (0, .ref (q 0)), (1, .int mm)]) hx hb dX1_stable_22 rfl hl (by decide) rfl (fun ls hl => ?_)
    refine lv_iconst (v := 0) hx hb dX1_stable_23 (by decide) ?_
    refine lv_istore_n (lv' := [(3, .int 0), (2, .int 0), (0, .ref (q 0)), (1, .int mm)]) hx hb dX1_stable_24 rfl hl (by decide) rfl (fun ls hl => ?_)
    have lp25 : ∀ (nf j : Nat) (x2 : Int32), j ≤ 10 → 10 < j + nf → x2 = b2i (stL th kd hd ps ng mm j) → ∀ (ls : Array Slot), lv_has ls 5 [(0, .ref (q 0)), (1, .int mm), (2, .int x2), (3, .int (nI j))] → W p l e ry_stable s m args below meth c s.heap [] 0 0 Q (F0 m 25 ls []) := by
      intro nf
      induction nf with
      | zero =>
        intro j x2 h1 h2
        exact absurd h2 (by omega)
      | succ nf ih25 =>
        intro j x2 hj0 hjn ej0 ls hl
        refine lv_iload_n hx hb dX1_stable_25 rfl (lv_at hl 3 rfl) ?_
        refine lv_bipush (v := 10) hx hb dX1_stable_26 (by decide) ?_
        refine lv_icmp_ge (tgt := 102) hx hb dX1_stable_28 (by decide) (fun c_2 => ?_) (fun c_2 => ?_)
        · skip
          have hj : j = 10 := lp_ge (N := 10) (by decide) hj0 c_2
          subst hj
          refine lv_iload_n hx hb dX1_stable_102 rfl (lv_at hl 2 rfl) ?_
          exact hret dX1_stable_103 ej0
        · skip
          have hj : j < 10 := lp_lt (N := 10) (by decide) hj0 c_2
          refine lv_aload_n hx hb dX1_stable_31 rfl (lv_at hl 0 rfl) ?_
          refine mg_th F hP dX1_stable_32 ?_
          refine lv_iload_n hx hb dX1_stable_35 rfl (lv_at hl 3 rfl) ?_
          refine ma_th F hP hj dX1_stable_36 ?_
          refine lv_if_eq (tgt := 78) hx hb dX1_stable_37 (by decide) (fun c_3 => ?_) (fun c_3 => ?_)
          · skip
            refine lv_iconst (v := 0) hx hb dX1_stable_78 (by decide) ?_
            refine lv_istore (lv' := [(4, .int 0), (0, .ref (q 0)), (1, .int mm), (2, .int x2), (3, .int (nI j))]) hx hb dX1_stable_79 hl (by decide) rfl (fun ls hl => ?_)
            refine lv_iload_n hx hb dX1_stable_81 rfl (lv_at hl 3 rfl) ?_
            refine lv_if_eq (tgt := 94) hx hb dX1_stable_82 (by decide) (fun c_4 => ?_) (fun c_4 => ?_)
            · skip
              refine lv_iconst (v := 0) hx hb dX1_stable_94 (by decide) ?_
              refine lv_istore_n (lv' := [(2, .int 0), (4, .int 0), (0, .ref (q 0)), (1, .int mm), (3, .int (nI j))]) hx hb dX1_stable_95 rfl hl (by decide) rfl (fun ls hl => ?_)
              refine lv_incN (k := 4) (lv' := [(3, .int (nI (j + 1))), (2, .int 0), (4, .int 0), (0, .ref (q 0)), (1, .int mm)]) hx hb dX1_stable_96 hl rfl (by decide) rfl (fun ls hl => ?_)
              refine lv_goto (tgt := 25) hx hb dX1_stable_99 (by decide) ?_
              exact ih25 (j + 1) 0 (by omega) (by omega) (by rw [stL, ← ej0, if_pos c_4]; rfl) ls (lv_sub hl [3, 4, 1, 0] rfl)
            · skip
              refine lv_iload hx hb dX1_stable_85 (lv_at hl 0 rfl) ?_
              refine lv_if_ne (tgt := 94) hx hb dX1_stable_87 (by decide) (fun c9 => absurd (by decide) c9) (fun _ => ?_)
              refine lv_iconst (v := 1) hx hb dX1_stable_90 (by decide) ?_
              refine lv_goto (tgt := 95) hx hb dX1_stable_91 (by decide) ?_
              refine lv_istore_n (lv' := [(2, .int 1), (4, .int 0), (0, .ref (q 0)), (1, .int mm), (3, .int (nI j))]) hx hb dX1_stable_95 rfl hl (by decide) rfl (fun ls hl => ?_)
              refine lv_incN (k := 4) (lv' := [(3, .int (nI (j + 1))), (2, .int 1), (4, .int 0), (0, .ref (q 0)), (1, .int mm)]) hx hb dX1_stable_96 hl rfl (by decide) rfl (fun ls hl => ?_)
              refine lv_goto (tgt := 25) hx hb dX1_stable_99 (by decide) ?_
              exact ih25 (j + 1) 1 (by omega) (by omega) (by rw [stL, ← ej0, if_neg c_4, if_neg (show ¬ banI th kd ps ng mm j = true from by rw [show banI th kd ps ng mm j = false by simp only [banI, if_pos c_3]]; decide)]; rfl) ls (lv_sub hl [3, 4, 1, 0] rfl)
          · skip
            refine lv_aload_n hx hb dX1_stable_40 rfl (lv_at hl 0 rfl) ?_
            refine mg_kd F hP dX1_stable_41 ?_
            refine lv_iload_n hx hb dX1_stable_44 rfl (lv_at hl 3 rfl) ?_
            refine ma_kd F hP hj dX1_stable_45 ?_
            refine lv_iconst (v := 2) hx hb dX1_stable_46 (by decide) ?_
            refine lv_icmp_ne (tgt := 78) hx hb dX1_stable_47 (by decide) (fun c_5 => ?_) (fun c_5 => ?_)
            · skip
              refine lv_iconst (v := 0) hx hb dX1_stable_78 (by decide) ?_
              refine lv_istore (lv' := [(4, .int 0), (0, .ref (q 0)), (1, .int mm), (2, .int x2), (3, .int (nI j))]) hx hb dX1_stable_79 hl (by decide) rfl (fun ls hl => ?_)
              refine lv_iload_n hx hb dX1_stable_81 rfl (lv_at hl 3 rfl) ?_
              refine lv_if_eq (tgt := 94) hx hb dX1_stable_82 (by decide) (fun c_6 => ?_) (fun c_6 => ?_)
              · skip
                refine lv_iconst (v := 0) hx hb dX1_stable_94 (by decide) ?_
                refine lv_istore_n (lv' := [(2, .int 0), (4, .int 0), (0, .ref (q 0)), (1, .int mm), (3, .int (nI j))]) hx hb dX1_stable_95 rfl hl (by decide) rfl (fun ls hl => ?_)
                refine lv_incN (k := 4) (lv' := [(3, .int (nI (j + 1))), (2, .int 0), (4, .int 0), (0, .ref (q 0)), (1, .int mm)]) hx hb dX1_stable_96 hl rfl (by decide) rfl (fun ls hl => ?_)
                refine lv_goto (tgt := 25) hx hb dX1_stable_99 (by decide) ?_
                exact ih25 (j + 1) 0 (by omega) (by omega) (by rw [stL, ← ej0, if_pos c_6]; rfl) ls (lv_sub hl [3, 4, 1, 0] rfl)
              · skip
                refine lv_iload hx hb dX1_stable_85 (lv_at hl 0 rfl) ?_
                refine lv_if_ne (tgt := 94) hx hb dX1_stable_87 (by decide) (fun c9 => absurd (by decide) c9) (fun _ => ?_)
                refine lv_iconst (v := 1) hx hb dX1_stable_90 (by decide) ?_
                refine lv_goto (tgt := 95) hx hb dX1_stable_91 (by decide) ?_
                refine lv_istore_n (lv' := [(2, .int 1), (4, .int 0), (0, .ref (q 0)), (1, .int mm), (3, .int (nI j))]) hx hb dX1_stable_95 rfl hl (by decide) rfl (fun ls hl => ?_)
                refine lv_incN (k := 4) (lv' := [(3, .int (nI (j + 1))), (2, .int 1), (4, .int 0), (0, .ref (q 0)), (1, .int mm)]) hx hb dX1_stable_96 hl rfl (by decide) rfl (fun ls hl => ?_)
                refine lv_goto (tgt := 25) hx hb dX1_stable_99 (by decide) ?_
                exact ih25 (j + 1) 1 (by omega) (by omega) (by rw [stL, ← ej0, if_neg c_6, if_neg (show ¬ banI th kd ps ng mm j = true from by rw [show banI th kd ps ng mm j = false by simp only [banI, if_neg c_3, if_neg c_5]]; decide)]; rfl) ls (lv_sub hl [3, 4, 1, 0] rfl)
            · skip
              refine lv_aload_n hx hb dX1_stable_50 rfl (lv_at hl 0 rfl) ?_
              refine mg_ps F hP dX1_stable_51 ?_
              refine lv_iload_n hx hb dX1_stable_54 rfl (lv_at hl 3 rfl) ?_
              refine ma_ps F hP hj dX1_stable_55 ?_
              refine lv_iload_n hx hb dX1_stable_56 rfl (lv_at hl 1 rfl) ?_
              refine lv_iconst (v := (-1)) hx hb dX1_stable_57 (by decide) ?_
              refine lv_ixor hx hb dX1_stable_58 ?_
              refine lv_iand hx hb dX1_stable_59 ?_
              refine lv_if_ne (tgt := 78) hx hb dX1_stable_60 (by decide) (fun c_7 => ?_) (fun c_7 => ?_)
              · skip
                refine lv_iconst (v := 0) hx hb dX1_stable_78 (by decide) ?_
                refine lv_istore (lv' := [(4, .int 0), (0, .ref (q 0)), (1, .int mm), (2, .int x2), (3, .int (nI j))]) hx hb dX1_stable_79 hl (by decide) rfl (fun ls hl => ?_)
                refine lv_iload_n hx hb dX1_stable_81 rfl (lv_at hl 3 rfl) ?_
                refine lv_if_eq (tgt := 94) hx hb dX1_stable_82 (by decide) (fun c_8 => ?_) (fun c_8 => ?_)
                · skip
                  refine lv_iconst (v := 0) hx hb dX1_stable_94 (by decide) ?_
                  refine lv_istore_n (lv' := [(2, .int 0), (4, .int 0), (0, .ref (q 0)), (1, .int mm), (3, .int (nI j))]) hx hb dX1_stable_95 rfl hl (by decide) rfl (fun ls hl => ?_)
                  refine lv_incN (k := 4) (lv' := [(3, .int (nI (j + 1))), (2, .int 0), (4, .int 0), (0, .ref (q 0)), (1, .int mm)]) hx hb dX1_stable_96 hl rfl (by decide) rfl (fun ls hl => ?_)
                  refine lv_goto (tgt := 25) hx hb dX1_stable_99 (by decide) ?_
                  exact ih25 (j + 1) 0 (by omega) (by omega) (by rw [stL, ← ej0, if_pos c_8]; rfl) ls (lv_sub hl [3, 4, 1, 0] rfl)
                · skip
                  refine lv_iload hx hb dX1_stable_85 (lv_at hl 0 rfl) ?_
                  refine lv_if_ne (tgt := 94) hx hb dX1_stable_87 (by decide) (fun c9 => absurd (by decide) c9) (fun _ => ?_)
                  refine lv_iconst (v := 1) hx hb dX1_stable_90 (by decide) ?_
                  refine lv_goto (tgt := 95) hx hb dX1_stable_91 (by decide) ?_
                  refine lv_istore_n (lv' := [(2, .int 1), (4, .int 0), (0, .ref (q 0)), (1, .int mm), (3, .int (nI j))]) hx hb dX1_stable_95 rfl hl (by decide) rfl (fun ls hl => ?_)
                  refine lv_incN (k := 4) (lv' := [(3, .int (nI (j + 1))), (2, .int 1), (4, .int 0), (0, .ref (q 0)), (1, .int mm)]) hx hb dX1_stable_96 hl rfl (by decide) rfl (fun ls hl => ?_)
                  refine lv_goto (tgt := 25) hx hb dX1_stable_99 (by decide) ?_
                  exact ih25 (j + 1) 1 (by omega) (by omega) (by rw [stL, ← ej0, if_neg c_8, if_neg (show ¬ banI th kd ps ng mm j = true from by rw [show banI th kd ps ng mm j = false by simp only [banI, if_neg c_3, if_pos c_5, if_neg c_7]]; decide)]; rfl) ls (lv_sub hl [3, 4, 1, 0] rfl)
              · skip
                refine lv_aload_n hx hb dX1_stable_63 rfl (lv_at hl 0 rfl) ?_
                refine mg_ng F hP dX1_stable_64 ?_
                refine lv_iload_n hx hb dX1_stable_67 rfl (lv_at hl 3 rfl) ?_
                refine ma_ng F hP hj dX1_stable_68 ?_
                refine lv_iload_n hx hb dX1_stable_69 rfl (lv_at hl 1 rfl) ?_
                refine lv_iand hx hb dX1_stable_70 ?_
                refine lv_if_ne (tgt := 78) hx hb dX1_stable_71 (by decide) (fun c_9 => ?_) (fun c_9 => ?_)
                · skip
                  refine lv_iconst (v := 0) hx hb dX1_stable_78 (by decide) ?_
                  refine lv_istore (lv' := [(4, .int 0), (0, .ref (q 0)), (1, .int mm), (2, .int x2), (3, .int (nI j))]) hx hb dX1_stable_79 hl (by decide) rfl (fun ls hl => ?_)
                  refine lv_iload_n hx hb dX1_stable_81 rfl (lv_at hl 3 rfl) ?_
                  refine lv_if_eq (tgt := 94) hx hb dX1_stable_82 (by decide) (fun c_10 => ?_) (fun c_10 => ?_)
                  · skip
                    refine lv_iconst (v := 0) hx hb dX1_stable_94 (by decide) ?_
                    refine lv_istore_n (lv' := [(2, .int 0), (4, .int 0), (0, .ref (q 0)), (1, .int mm), (3, .int (nI j))]) hx hb dX1_stable_95 rfl hl (by decide) rfl (fun ls hl => ?_)
                    refine lv_incN (k := 4) (lv' := [(3, .int (nI (j + 1))), (2, .int 0), (4, .int 0), (0, .ref (q 0)), (1, .int mm)]) hx hb dX1_stable_96 hl rfl (by decide) rfl (fun ls hl => ?_)
                    refine lv_goto (tgt := 25) hx hb dX1_stable_99 (by decide) ?_
                    exact ih25 (j + 1) 0 (by omega) (by omega) (by rw [stL, ← ej0, if_pos c_10]; rfl) ls (lv_sub hl [3, 4, 1, 0] rfl)
                  · skip
                    refine lv_iload hx hb dX1_stable_85 (lv_at hl 0 rfl) ?_
                    refine lv_if_ne (tgt := 94) hx hb dX1_stable_87 (by decide) (fun c9 => absurd (by decide) c9) (fun _ => ?_)
                    refine lv_iconst (v := 1) hx hb dX1_stable_90 (by decide) ?_
                    refine lv_goto (tgt := 95) hx hb dX1_stable_91 (by decide) ?_
                    refine lv_istore_n (lv' := [(2, .int 1), (4, .int 0), (0, .ref (q 0)), (1, .int mm), (3, .int (nI j))]) hx hb dX1_stable_95 rfl hl (by decide) rfl (fun ls hl => ?_)
                    refine lv_incN (k := 4) (lv' := [(3, .int (nI (j + 1))), (2, .int 1), (4, .int 0), (0, .ref (q 0)), (1, .int mm)]) hx hb dX1_stable_96 hl rfl (by decide) rfl (fun ls hl => ?_)
                    refine lv_goto (tgt := 25) hx hb dX1_stable_99 (by decide) ?_
                    exact ih25 (j + 1) 1 (by omega) (by omega) (by rw [stL, ← ej0, if_neg c_10, if_neg (show ¬ banI th kd ps ng mm j = true from by rw [show banI th kd ps ng mm j = false by simp only [banI, if_neg c_3, if_pos c_5, if_pos c_7, if_neg c_9]]; decide)]; rfl) ls (lv_sub hl [3, 4, 1, 0] rfl)
                · skip
                  refine lv_iconst (v := 1) hx hb dX1_stable_74 (by decide) ?_
                  refine lv_goto (tgt := 79) hx hb dX1_stable_75 (by decide) ?_
                  refine lv_istore (lv' := [(4, .int 1), (0, .ref (q 0)), (1, .int mm), (2, .int x2), (3, .int (nI j))]) hx hb dX1_stable_79 hl (by decide) rfl (fun ls hl => ?_)
                  refine lv_iload_n hx hb dX1_stable_81 rfl (lv_at hl 3 rfl) ?_
                  refine lv_if_eq (tgt := 94) hx hb dX1_stable_82 (by decide) (fun c_11 => ?_) (fun c_11 => ?_)
                  · skip
                    refine lv_iconst (v := 0) hx hb dX1_stable_94 (by decide) ?_
                    refine lv_istore_n (lv' := [(2, .int 0), (4, .int 1), (0, .ref (q 0)), (1, .int mm), (3, .int (nI j))]) hx hb dX1_stable_95 rfl hl (by decide) rfl (fun ls hl => ?_)
                    refine lv_incN (k := 4) (lv' := [(3, .int (nI (j + 1))), (2, .int 0), (4, .int 1), (0, .ref (q 0)), (1, .int mm)]) hx hb dX1_stable_96 hl rfl (by decide) rfl (fun ls hl => ?_)
                    refine lv_goto (tgt := 25) hx hb dX1_stable_99 (by decide) ?_
                    exact ih25 (j + 1) 0 (by omega) (by omega) (by rw [stL, ← ej0, if_pos c_11]; rfl) ls (lv_sub hl [3, 4, 1, 0] rfl)
                  · skip
                    refine lv_iload hx hb dX1_stable_85 (lv_at hl 0 rfl) ?_
                    refine lv_if_ne (tgt := 94) hx hb dX1_stable_87 (by decide) (fun _ => ?_) (fun c9 => absurd c9 (by decide))
                    refine lv_iconst (v := 0) hx hb dX1_stable_94 (by decide) ?_
                    refine lv_istore_n (lv' := [(2, .int 0), (4, .int 1), (0, .ref (q 0)), (1, .int mm), (3, .int (nI j))]) hx hb dX1_stable_95 rfl hl (by decide) rfl (fun ls hl => ?_)
                    refine lv_incN (k := 4) (lv' := [(3, .int (nI (j + 1))), (2, .int 0), (4, .int 1), (0, .ref (q 0)), (1, .int mm)]) hx hb dX1_stable_96 hl rfl (by decide) rfl (fun ls hl => ?_)
                    refine lv_goto (tgt := 25) hx hb dX1_stable_99 (by decide) ?_
                    exact ih25 (j + 1) 0 (by omega) (by omega) (by rw [stL, ← ej0, if_neg c_11, if_pos (show banI th kd ps ng mm j = true by simp only [banI, if_neg c_3, if_pos c_5, if_pos c_7, if_pos c_9])]; rfl) ls (lv_sub hl [3, 4, 1, 0] rfl)
    exact lp25 11 0 0 (by omega) (by omega) (by simp only [stL, if_pos c_1] <;> rfl) ls (lv_sub hl [2, 3, 1, 0] rfl)
  · skip
    refine lv_aload_n hx hb dX1_stable_8 rfl (lv_at hl 0 rfl) ?_
    refine lv_iload_n hx hb dX1_stable_9 rfl (lv_at hl 1 rfl) ?_
    refine ky_support F hP hl.1 ⟨Nat.le_of_ble_eq_true rfl, Nat.le_of_ble_eq_true rfl⟩ (Nat.le_of_ble_eq_true rfl) dX1_stable_10 ?_
    refine lv_iload_n hx hb dX1_stable_13 rfl (lv_at hl 1 rfl) ?_
    refine lv_icmp_ne (tgt := 21) hx hb dX1_stable_14 (by decide) (fun c_12 => ?_) (fun c_12 => ?_)
    · skip
      refine lv_iconst (v := 0) hx hb dX1_stable_21 (by decide) ?_
      refine lv_istore_n (lv' := [(2, .int 0), (0, .ref (q 0)), (1, .int mm)]) hx hb dX1_stable_22 rfl hl (by decide) rfl (fun ls hl => ?_)
      refine lv_iconst (v := 0) hx hb dX1_stable_23 (by decide) ?_
      refine lv_istore_n (lv' := [(3, .int 0), (2, .int 0), (0, .ref (q 0)), (1, .int mm)]) hx hb dX1_stable_24 rfl hl (by decide) rfl (fun ls hl => ?_)
      have lp25 : ∀ (nf j : Nat) (x2 : Int32), j ≤ 10 → 10 < j + nf → x2 = b2i (stL th kd hd ps ng mm j) → ∀ (ls : Array Slot), lv_has ls 5 [(0, .ref (q 0)), (1, .int mm), (2, .int x2), (3, .int (nI j))] → W p l e ry_stable s m args below meth c s.heap [] 0 0 Q (F0 m 25 ls []) := by
        intro nf
        induction nf with
        | zero =>
          intro j x2 h1 h2
          exact absurd h2 (by omega)
        | succ nf ih25 =>
          intro j x2 hj0 hjn ej0 ls hl
          refine lv_iload_n hx hb dX1_stable_25 rfl (lv_at hl 3 rfl) ?_
          refine lv_bipush (v := 10) hx hb dX1_stable_26 (by decide) ?_
          refine lv_icmp_ge (tgt := 102) hx hb dX1_stable_28 (by decide) (fun c_13 => ?_) (fun c_13 => ?_)
          · skip
            have hj : j = 10 := lp_ge (N := 10) (by decide) hj0 c_13
            subst hj
            refine lv_iload_n hx hb dX1_stable_102 rfl (lv_at hl 2 rfl) ?_
            exact hret dX1_stable_103 ej0
          · skip
            have hj : j < 10 := lp_lt (N := 10) (by decide) hj0 c_13
            refine lv_aload_n hx hb dX1_stable_31 rfl (lv_at hl 0 rfl) ?_
            refine mg_th F hP dX1_stable_32 ?_
            refine lv_iload_n hx hb dX1_stable_35 rfl (lv_at hl 3 rfl) ?_
            refine ma_th F hP hj dX1_stable_36 ?_
            refine lv_if_eq (tgt := 78) hx hb dX1_stable_37 (by decide) (fun c_14 => ?_) (fun c_14 => ?_)
            · skip
              refine lv_iconst (v := 0) hx hb dX1_stable_78 (by decide) ?_
              refine lv_istore (lv' := [(4, .int 0), (0, .ref (q 0)), (1, .int mm), (2, .int x2), (3, .int (nI j))]) hx hb dX1_stable_79 hl (by decide) rfl (fun ls hl => ?_)
              refine lv_iload_n hx hb dX1_stable_81 rfl (lv_at hl 3 rfl) ?_
              refine lv_if_eq (tgt := 94) hx hb dX1_stable_82 (by decide) (fun c_15 => ?_) (fun c_15 => ?_)
              · skip
                refine lv_iconst (v := 0) hx hb dX1_stable_94 (by decide) ?_
                refine lv_istore_n (lv' := [(2, .int 0), (4, .int 0), (0, .ref (q 0)), (1, .int mm), (3, .int (nI j))]) hx hb dX1_stable_95 rfl hl (by decide) rfl (fun ls hl => ?_)
                refine lv_incN (k := 4) (lv' := [(3, .int (nI (j + 1))), (2, .int 0), (4, .int 0), (0, .ref (q 0)), (1, .int mm)]) hx hb dX1_stable_96 hl rfl (by decide) rfl (fun ls hl => ?_)
                refine lv_goto (tgt := 25) hx hb dX1_stable_99 (by decide) ?_
                exact ih25 (j + 1) 0 (by omega) (by omega) (by rw [stL, ← ej0, if_pos c_15]; rfl) ls (lv_sub hl [3, 4, 1, 0] rfl)
              · skip
                refine lv_iload hx hb dX1_stable_85 (lv_at hl 0 rfl) ?_
                refine lv_if_ne (tgt := 94) hx hb dX1_stable_87 (by decide) (fun c9 => absurd (by decide) c9) (fun _ => ?_)
                refine lv_iconst (v := 1) hx hb dX1_stable_90 (by decide) ?_
                refine lv_goto (tgt := 95) hx hb dX1_stable_91 (by decide) ?_
                refine lv_istore_n (lv' := [(2, .int 1), (4, .int 0), (0, .ref (q 0)), (1, .int mm), (3, .int (nI j))]) hx hb dX1_stable_95 rfl hl (by decide) rfl (fun ls hl => ?_)
                refine lv_incN (k := 4) (lv' := [(3, .int (nI (j + 1))), (2, .int 1), (4, .int 0), (0, .ref (q 0)), (1, .int mm)]) hx hb dX1_stable_96 hl rfl (by decide) rfl (fun ls hl => ?_)
                refine lv_goto (tgt := 25) hx hb dX1_stable_99 (by decide) ?_
                exact ih25 (j + 1) 1 (by omega) (by omega) (by rw [stL, ← ej0, if_neg c_15, if_neg (show ¬ banI th kd ps ng mm j = true from by rw [show banI th kd ps ng mm j = false by simp only [banI, if_pos c_14]]; decide)]; rfl) ls (lv_sub hl [3, 4, 1, 0] rfl)
            · skip
              refine lv_aload_n hx hb dX1_stable_40 rfl (lv_at hl 0 rfl) ?_
              refine mg_kd F hP dX1_stable_41 ?_
              refine lv_iload_n hx hb dX1_stable_44 rfl (lv_at hl 3 rfl) ?_
              refine ma_kd F hP hj dX1_stable_45 ?_
              refine lv_iconst (v := 2) hx hb dX1_stable_46 (by decide) ?_
              refine lv_icmp_ne (tgt := 78) hx hb dX1_stable_47 (by decide) (fun c_16 => ?_) (fun c_16 => ?_)
              · skip
                refine lv_iconst (v := 0) hx hb dX1_stable_78 (by decide) ?_
                refine lv_istore (lv' := [(4, .int 0), (0, .ref (q 0)), (1, .int mm), (2, .int x2), (3, .int (nI j))]) hx hb dX1_stable_79 hl (by decide) rfl (fun ls hl => ?_)
                refine lv_iload_n hx hb dX1_stable_81 rfl (lv_at hl 3 rfl) ?_
                refine lv_if_eq (tgt := 94) hx hb dX1_stable_82 (by decide) (fun c_17 => ?_) (fun c_17 => ?_)
                · skip
                  refine lv_iconst (v := 0) hx hb dX1_stable_94 (by decide) ?_
                  refine lv_istore_n (lv' := [(2, .int 0), (4, .int 0), (0, .ref (q 0)), (1, .int mm), (3, .int (nI j))]) hx hb dX1_stable_95 rfl hl (by decide) rfl (fun ls hl => ?_)
                  refine lv_incN (k := 4) (lv' := [(3, .int (nI (j + 1))), (2, .int 0), (4, .int 0), (0, .ref (q 0)), (1, .int mm)]) hx hb dX1_stable_96 hl rfl (by decide) rfl (fun ls hl => ?_)
                  refine lv_goto (tgt := 25) hx hb dX1_stable_99 (by decide) ?_
                  exact ih25 (j + 1) 0 (by omega) (by omega) (by rw [stL, ← ej0, if_pos c_17]; rfl) ls (lv_sub hl [3, 4, 1, 0] rfl)
                · skip
                  refine lv_iload hx hb dX1_stable_85 (lv_at hl 0 rfl) ?_
                  refine lv_if_ne (tgt := 94) hx hb dX1_stable_87 (by decide) (fun c9 => absurd (by decide) c9) (fun _ => ?_)
                  refine lv_iconst (v := 1) hx hb dX1_stable_90 (by decide) ?_
                  refine lv_goto (tgt := 95) hx hb dX1_stable_91 (by decide) ?_
                  refine lv_istore_n (lv' := [(2, .int 1), (4, .int 0), (0, .ref (q 0)), (1, .int mm), (3, .int (nI j))]) hx hb dX1_stable_95 rfl hl (by decide) rfl (fun ls hl => ?_)
                  refine lv_incN (k := 4) (lv' := [(3, .int (nI (j + 1))), (2, .int 1), (4, .int 0), (0, .ref (q 0)), (1, .int mm)]) hx hb dX1_stable_96 hl rfl (by decide) rfl (fun ls hl => ?_)
                  refine lv_goto (tgt := 25) hx hb dX1_stable_99 (by decide) ?_
                  exact ih25 (j + 1) 1 (by omega) (by omega) (by rw [stL, ← ej0, if_neg c_17, if_neg (show ¬ banI th kd ps ng mm j = true from by rw [show banI th kd ps ng mm j = false by simp only [banI, if_neg c_14, if_neg c_16]]; decide)]; rfl) ls (lv_sub hl [3, 4, 1, 0] rfl)
              · skip
                refine lv_aload_n hx hb dX1_stable_50 rfl (lv_at hl 0 rfl) ?_
                refine mg_ps F hP dX1_stable_51 ?_
                refine lv_iload_n hx hb dX1_stable_54 rfl (lv_at hl 3 rfl) ?_
                refine ma_ps F hP hj dX1_stable_55 ?_
                refine lv_iload_n hx hb dX1_stable_56 rfl (lv_at hl 1 rfl) ?_
                refine lv_iconst (v := (-1)) hx hb dX1_stable_57 (by decide) ?_
                refine lv_ixor hx hb dX1_stable_58 ?_
                refine lv_iand hx hb dX1_stable_59 ?_
                refine lv_if_ne (tgt := 78) hx hb dX1_stable_60 (by decide) (fun c_18 => ?_) (fun c_18 => ?_)
                · skip
                  refine lv_iconst (v := 0) hx hb dX1_stable_78 (by decide) ?_
                  refine lv_istore (lv' := [(4, .int 0), (0, .ref (q 0)), (1, .int mm), (2, .int x2), (3, .int (nI j))]) hx hb dX1_stable_79 hl (by decide) rfl (fun ls hl => ?_)
                  refine lv_iload_n hx hb dX1_stable_81 rfl (lv_at hl 3 rfl) ?_
                  refine lv_if_eq (tgt := 94) hx hb dX1_stable_82 (by decide) (fun c_19 => ?_) (fun c_19 => ?_)
                  · skip
                    refine lv_iconst (v := 0) hx hb dX1_stable_94 (by decide) ?_
                    refine lv_istore_n (lv' := [(2, .int 0), (4, .int 0), (0, .ref (q 0)), (1, .int mm), (3, .int (nI j))]) hx hb dX1_stable_95 rfl hl (by decide) rfl (fun ls hl => ?_)
                    refine lv_incN (k := 4) (lv' := [(3, .int (nI (j + 1))), (2, .int 0), (4, .int 0), (0, .ref (q 0)), (1, .int mm)]) hx hb dX1_stable_96 hl rfl (by decide) rfl (fun ls hl => ?_)
                    refine lv_goto (tgt := 25) hx hb dX1_stable_99 (by decide) ?_
                    exact ih25 (j + 1) 0 (by omega) (by omega) (by rw [stL, ← ej0, if_pos c_19]; rfl) ls (lv_sub hl [3, 4, 1, 0] rfl)
                  · skip
                    refine lv_iload hx hb dX1_stable_85 (lv_at hl 0 rfl) ?_
                    refine lv_if_ne (tgt := 94) hx hb dX1_stable_87 (by decide) (fun c9 => absurd (by decide) c9) (fun _ => ?_)
                    refine lv_iconst (v := 1) hx hb dX1_stable_90 (by decide) ?_
                    refine lv_goto (tgt := 95) hx hb dX1_stable_91 (by decide) ?_
                    refine lv_istore_n (lv' := [(2, .int 1), (4, .int 0), (0, .ref (q 0)), (1, .int mm), (3, .int (nI j))]) hx hb dX1_stable_95 rfl hl (by decide) rfl (fun ls hl => ?_)
                    refine lv_incN (k := 4) (lv' := [(3, .int (nI (j + 1))), (2, .int 1), (4, .int 0), (0, .ref (q 0)), (1, .int mm)]) hx hb dX1_stable_96 hl rfl (by decide) rfl (fun ls hl => ?_)
                    refine lv_goto (tgt := 25) hx hb dX1_stable_99 (by decide) ?_
                    exact ih25 (j + 1) 1 (by omega) (by omega) (by rw [stL, ← ej0, if_neg c_19, if_neg (show ¬ banI th kd ps ng mm j = true from by rw [show banI th kd ps ng mm j = false by simp only [banI, if_neg c_14, if_pos c_16, if_neg c_18]]; decide)]; rfl) ls (lv_sub hl [3, 4, 1, 0] rfl)
                · skip
                  refine lv_aload_n hx hb dX1_stable_63 rfl (lv_at hl 0 rfl) ?_
                  refine mg_ng F hP dX1_stable_64 ?_
                  refine lv_iload_n hx hb dX1_stable_67 rfl (lv_at hl 3 rfl) ?_
                  refine ma_ng F hP hj dX1_stable_68 ?_
                  refine lv_iload_n hx hb dX1_stable_69 rfl (lv_at hl 1 rfl) ?_
                  refine lv_iand hx hb dX1_stable_70 ?_
                  refine lv_if_ne (tgt := 78) hx hb dX1_stable_71 (by decide) (fun c_20 => ?_) (fun c_20 => ?_)
                  · skip
                    refine lv_iconst (v := 0) hx hb dX1_stable_78 (by decide) ?_
                    refine lv_istore (lv' := [(4, .int 0), (0, .ref (q 0)), (1, .int mm), (2, .int x2), (3, .int (nI j))]) hx hb dX1_stable_79 hl (by decide) rfl (fun ls hl => ?_)
                    refine lv_iload_n hx hb dX1_stable_81 rfl (lv_at hl 3 rfl) ?_
                    refine lv_if_eq (tgt := 94) hx hb dX1_stable_82 (by decide) (fun c_21 => ?_) (fun c_21 => ?_)
                    · skip
                      refine lv_iconst (v := 0) hx hb dX1_stable_94 (by decide) ?_
                      refine lv_istore_n (lv' := [(2, .int 0), (4, .int 0), (0, .ref (q 0)), (1, .int mm), (3, .int (nI j))]) hx hb dX1_stable_95 rfl hl (by decide) rfl (fun ls hl => ?_)
                      refine lv_incN (k := 4) (lv' := [(3, .int (nI (j + 1))), (2, .int 0), (4, .int 0), (0, .ref (q 0)), (1, .int mm)]) hx hb dX1_stable_96 hl rfl (by decide) rfl (fun ls hl => ?_)
                      refine lv_goto (tgt := 25) hx hb dX1_stable_99 (by decide) ?_
                      exact ih25 (j + 1) 0 (by omega) (by omega) (by rw [stL, ← ej0, if_pos c_21]; rfl) ls (lv_sub hl [3, 4, 1, 0] rfl)
                    · skip
                      refine lv_iload hx hb dX1_stable_85 (lv_at hl 0 rfl) ?_
                      refine lv_if_ne (tgt := 94) hx hb dX1_stable_87 (by decide) (fun c9 => absurd (by decide) c9) (fun _ => ?_)
                      refine lv_iconst (v := 1) hx hb dX1_stable_90 (by decide) ?_
                      refine lv_goto (tgt := 95) hx hb dX1_stable_91 (by decide) ?_
                      refine lv_istore_n (lv' := [(2, .int 1), (4, .int 0), (0, .ref (q 0)), (1, .int mm), (3, .int (nI j))]) hx hb dX1_stable_95 rfl hl (by decide) rfl (fun ls hl => ?_)
                      refine lv_incN (k := 4) (lv' := [(3, .int (nI (j + 1))), (2, .int 1), (4, .int 0), (0, .ref (q 0)), (1, .int mm)]) hx hb dX1_stable_96 hl rfl (by decide) rfl (fun ls hl => ?_)
                      refine lv_goto (tgt := 25) hx hb dX1_stable_99 (by decide) ?_
                      exact ih25 (j + 1) 1 (by omega) (by omega) (by rw [stL, ← ej0, if_neg c_21, if_neg (show ¬ banI th kd ps ng mm j = true from by rw [show banI th kd ps ng mm j = false by simp only [banI, if_neg c_14, if_pos c_16, if_pos c_18, if_neg c_20]]; decide)]; rfl) ls (lv_sub hl [3, 4, 1, 0] rfl)
                  · skip
                    refine lv_iconst (v := 1) hx hb dX1_stable_74 (by decide) ?_
                    refine lv_goto (tgt := 79) hx hb dX1_stable_75 (by decide) ?_
                    refine lv_istore (lv' := [(4, .int 1), (0, .ref (q 0)), (1, .int mm), (2, .int x2), (3, .int (nI j))]) hx hb dX1_stable_79 hl (by decide) rfl (fun ls hl => ?_)
                    refine lv_iload_n hx hb dX1_stable_81 rfl (lv_at hl 3 rfl) ?_
                    refine lv_if_eq (tgt := 94) hx hb dX1_stable_82 (by decide) (fun c_22 => ?_) (fun c_22 => ?_)
                    · skip
                      refine lv_iconst (v := 0) hx hb dX1_stable_94 (by decide) ?_
                      refine lv_istore_n (lv' := [(2, .int 0), (4, .int 1), (0, .ref (q 0)), (1, .int mm), (3, .int (nI j))]) hx hb dX1_stable_95 rfl hl (by decide) rfl (fun ls hl => ?_)
                      refine lv_incN (k := 4) (lv' := [(3, .int (nI (j + 1))), (2, .int 0), (4, .int 1), (0, .ref (q 0)), (1, .int mm)]) hx hb dX1_stable_96 hl rfl (by decide) rfl (fun ls hl => ?_)
                      refine lv_goto (tgt := 25) hx hb dX1_stable_99 (by decide) ?_
                      exact ih25 (j + 1) 0 (by omega) (by omega) (by rw [stL, ← ej0, if_pos c_22]; rfl) ls (lv_sub hl [3, 4, 1, 0] rfl)
                    · skip
                      refine lv_iload hx hb dX1_stable_85 (lv_at hl 0 rfl) ?_
                      refine lv_if_ne (tgt := 94) hx hb dX1_stable_87 (by decide) (fun _ => ?_) (fun c9 => absurd c9 (by decide))
                      refine lv_iconst (v := 0) hx hb dX1_stable_94 (by decide) ?_
                      refine lv_istore_n (lv' := [(2, .int 0), (4, .int 1), (0, .ref (q 0)), (1, .int mm), (3, .int (nI j))]) hx hb dX1_stable_95 rfl hl (by decide) rfl (fun ls hl => ?_)
                      refine lv_incN (k := 4) (lv' := [(3, .int (nI (j + 1))), (2, .int 0), (4, .int 1), (0, .ref (q 0)), (1, .int mm)]) hx hb dX1_stable_96 hl rfl (by decide) rfl (fun ls hl => ?_)
                      refine lv_goto (tgt := 25) hx hb dX1_stable_99 (by decide) ?_
                      exact ih25 (j + 1) 0 (by omega) (by omega) (by rw [stL, ← ej0, if_neg c_22, if_pos (show banI th kd ps ng mm j = true by simp only [banI, if_neg c_14, if_pos c_16, if_pos c_18, if_pos c_20])]; rfl) ls (lv_sub hl [3, 4, 1, 0] rfl)
      exact lp25 11 0 0 (by omega) (by omega) (by simp only [stL, if_neg c_1, if_neg c_12] <;> rfl) ls (lv_sub hl [2, 3, 1, 0] rfl)
    · skip
      refine lv_iconst (v := 1) hx hb dX1_stable_17 (by decide) ?_
      refine lv_goto (tgt := 22) hx hb dX1_stable_18 (by decide) ?_
      refine lv_istore_n (lv' := [(2, .int 1), (0, .ref (q 0)), (1, .int mm)]) hx hb dX1_stable_22 rfl hl (by decide) rfl (fun ls hl => ?_)
      refine lv_iconst (v := 0) hx hb dX1_stable_23 (by decide) ?_
      refine lv_istore_n (lv' := [(3, .int 0), (2, .int 1), (0, .ref (q 0)), (1, .int mm)]) hx hb dX1_stable_24 rfl hl (by decide) rfl (fun ls hl => ?_)
      have lp25 : ∀ (nf j : Nat) (x2 : Int32), j ≤ 10 → 10 < j + nf → x2 = b2i (stL th kd hd ps ng mm j) → ∀ (ls : Array Slot), lv_has ls 5 [(0, .ref (q 0)), (1, .int mm), (2, .int x2), (3, .int (nI j))] → W p l e ry_stable s m args below meth c s.heap [] 0 0 Q (F0 m 25 ls []) := by
        intro nf
        induction nf with
        | zero =>
          intro j x2 h1 h2
          exact absurd h2 (by omega)
        | succ nf ih25 =>
          intro j x2 hj0 hjn ej0 ls hl
          refine lv_iload_n hx hb dX1_stable_25 rfl (lv_at hl 3 rfl) ?_
          refine lv_bipush (v := 10) hx hb dX1_stable_26 (by decide) ?_
          refine lv_icmp_ge (tgt := 102) hx hb dX1_stable_28 (by decide) (fun c_23 => ?_) (fun c_23 => ?_)
          · skip
            have hj : j = 10 := lp_ge (N := 10) (by decide) hj0 c_23
            subst hj
            refine lv_iload_n hx hb dX1_stable_102 rfl (lv_at hl 2 rfl) ?_
            exact hret dX1_stable_103 ej0
          · skip
            have hj : j < 10 := lp_lt (N := 10) (by decide) hj0 c_23
            refine lv_aload_n hx hb dX1_stable_31 rfl (lv_at hl 0 rfl) ?_
            refine mg_th F hP dX1_stable_32 ?_
            refine lv_iload_n hx hb dX1_stable_35 rfl (lv_at hl 3 rfl) ?_
            refine ma_th F hP hj dX1_stable_36 ?_
            refine lv_if_eq (tgt := 78) hx hb dX1_stable_37 (by decide) (fun c_24 => ?_) (fun c_24 => ?_)
            · skip
              refine lv_iconst (v := 0) hx hb dX1_stable_78 (by decide) ?_
              refine lv_istore (lv' := [(4, .int 0), (0, .ref (q 0)), (1, .int mm), (2, .int x2), (3, .int (nI j))]) hx hb dX1_stable_79 hl (by decide) rfl (fun ls hl => ?_)
              refine lv_iload_n hx hb dX1_stable_81 rfl (lv_at hl 3 rfl) ?_
              refine lv_if_eq (tgt := 94) hx hb dX1_stable_82 (by decide) (fun c_25 => ?_) (fun c_25 => ?_)
              · skip
                refine lv_iconst (v := 0) hx hb dX1_stable_94 (by decide) ?_
                refine lv_istore_n (lv' := [(2, .int 0), (4, .int 0), (0, .ref (q 0)), (1, .int mm), (3, .int (nI j))]) hx hb dX1_stable_95 rfl hl (by decide) rfl (fun ls hl => ?_)
                refine lv_incN (k := 4) (lv' := [(3, .int (nI (j + 1))), (2, .int 0), (4, .int 0), (0, .ref (q 0)), (1, .int mm)]) hx hb dX1_stable_96 hl rfl (by decide) rfl (fun ls hl => ?_)
                refine lv_goto (tgt := 25) hx hb dX1_stable_99 (by decide) ?_
                exact ih25 (j + 1) 0 (by omega) (by omega) (by rw [stL, ← ej0, if_pos c_25]; rfl) ls (lv_sub hl [3, 4, 1, 0] rfl)
              · skip
                refine lv_iload hx hb dX1_stable_85 (lv_at hl 0 rfl) ?_
                refine lv_if_ne (tgt := 94) hx hb dX1_stable_87 (by decide) (fun c9 => absurd (by decide) c9) (fun _ => ?_)
                refine lv_iconst (v := 1) hx hb dX1_stable_90 (by decide) ?_
                refine lv_goto (tgt := 95) hx hb dX1_stable_91 (by decide) ?_
                refine lv_istore_n (lv' := [(2, .int 1), (4, .int 0), (0, .ref (q 0)), (1, .int mm), (3, .int (nI j))]) hx hb dX1_stable_95 rfl hl (by decide) rfl (fun ls hl => ?_)
                refine lv_incN (k := 4) (lv' := [(3, .int (nI (j + 1))), (2, .int 1), (4, .int 0), (0, .ref (q 0)), (1, .int mm)]) hx hb dX1_stable_96 hl rfl (by decide) rfl (fun ls hl => ?_)
                refine lv_goto (tgt := 25) hx hb dX1_stable_99 (by decide) ?_
                exact ih25 (j + 1) 1 (by omega) (by omega) (by rw [stL, ← ej0, if_neg c_25, if_neg (show ¬ banI th kd ps ng mm j = true from by rw [show banI th kd ps ng mm j = false by simp only [banI, if_pos c_24]]; decide)]; rfl) ls (lv_sub hl [3, 4, 1, 0] rfl)
            · skip
              refine lv_aload_n hx hb dX1_stable_40 rfl (lv_at hl 0 rfl) ?_
              refine mg_kd F hP dX1_stable_41 ?_
              refine lv_iload_n hx hb dX1_stable_44 rfl (lv_at hl 3 rfl) ?_
              refine ma_kd F hP hj dX1_stable_45 ?_
              refine lv_iconst (v := 2) hx hb dX1_stable_46 (by decide) ?_
              refine lv_icmp_ne (tgt := 78) hx hb dX1_stable_47 (by decide) (fun c_26 => ?_) (fun c_26 => ?_)
              · skip
                refine lv_iconst (v := 0) hx hb dX1_stable_78 (by decide) ?_
                refine lv_istore (lv' := [(4, .int 0), (0, .ref (q 0)), (1, .int mm), (2, .int x2), (3, .int (nI j))]) hx hb dX1_stable_79 hl (by decide) rfl (fun ls hl => ?_)
                refine lv_iload_n hx hb dX1_stable_81 rfl (lv_at hl 3 rfl) ?_
                refine lv_if_eq (tgt := 94) hx hb dX1_stable_82 (by decide) (fun c_27 => ?_) (fun c_27 => ?_)
                · skip
                  refine lv_iconst (v := 0) hx hb dX1_stable_94 (by decide) ?_
                  refine lv_istore_n (lv' := [(2, .int 0), (4, .int 0), (0, .ref (q 0)), (1, .int mm), (3, .int (nI j))]) hx hb dX1_stable_95 rfl hl (by decide) rfl (fun ls hl => ?_)
                  refine lv_incN (k := 4) (lv' := [(3, .int (nI (j + 1))), (2, .int 0), (4, .int 0), (0, .ref (q 0)), (1, .int mm)]) hx hb dX1_stable_96 hl rfl (by decide) rfl (fun ls hl => ?_)
                  refine lv_goto (tgt := 25) hx hb dX1_stable_99 (by decide) ?_
                  exact ih25 (j + 1) 0 (by omega) (by omega) (by rw [stL, ← ej0, if_pos c_27]; rfl) ls (lv_sub hl [3, 4, 1, 0] rfl)
                · skip
                  refine lv_iload hx hb dX1_stable_85 (lv_at hl 0 rfl) ?_
                  refine lv_if_ne (tgt := 94) hx hb dX1_stable_87 (by decide) (fun c9 => absurd (by decide) c9) (fun _ => ?_)
                  refine lv_iconst (v := 1) hx hb dX1_stable_90 (by decide) ?_
                  refine lv_goto (tgt := 95) hx hb dX1_stable_91 (by decide) ?_
                  refine lv_istore_n (lv' := [(2, .int 1), (4, .int 0), (0, .ref (q 0)), (1, .int mm), (3, .int (nI j))]) hx hb dX1_stable_95 rfl hl (by decide) rfl (fun ls hl => ?_)
                  refine lv_incN (k := 4) (lv' := [(3, .int (nI (j + 1))), (2, .int 1), (4, .int 0), (0, .ref (q 0)), (1, .int mm)]) hx hb dX1_stable_96 hl rfl (by decide) rfl (fun ls hl => ?_)
                  refine lv_goto (tgt := 25) hx hb dX1_stable_99 (by decide) ?_
                  exact ih25 (j + 1) 1 (by omega) (by omega) (by rw [stL, ← ej0, if_neg c_27, if_neg (show ¬ banI th kd ps ng mm j = true from by rw [show banI th kd ps ng mm j = false by simp only [banI, if_neg c_24, if_neg c_26]]; decide)]; rfl) ls (lv_sub hl [3, 4, 1, 0] rfl)
              · skip
                refine lv_aload_n hx hb dX1_stable_50 rfl (lv_at hl 0 rfl) ?_
                refine mg_ps F hP dX1_stable_51 ?_
                refine lv_iload_n hx hb dX1_stable_54 rfl (lv_at hl 3 rfl) ?_
                refine ma_ps F hP hj dX1_stable_55 ?_
                refine lv_iload_n hx hb dX1_stable_56 rfl (lv_at hl 1 rfl) ?_
                refine lv_iconst (v := (-1)) hx hb dX1_stable_57 (by decide) ?_
                refine lv_ixor hx hb dX1_stable_58 ?_
                refine lv_iand hx hb dX1_stable_59 ?_
                refine lv_if_ne (tgt := 78) hx hb dX1_stable_60 (by decide) (fun c_28 => ?_) (fun c_28 => ?_)
                · skip
                  refine lv_iconst (v := 0) hx hb dX1_stable_78 (by decide) ?_
                  refine lv_istore (lv' := [(4, .int 0), (0, .ref (q 0)), (1, .int mm), (2, .int x2), (3, .int (nI j))]) hx hb dX1_stable_79 hl (by decide) rfl (fun ls hl => ?_)
                  refine lv_iload_n hx hb dX1_stable_81 rfl (lv_at hl 3 rfl) ?_
                  refine lv_if_eq (tgt := 94) hx hb dX1_stable_82 (by decide) (fun c_29 => ?_) (fun c_29 => ?_)
                  · skip
                    refine lv_iconst (v := 0) hx hb dX1_stable_94 (by decide) ?_
                    refine lv_istore_n (lv' := [(2, .int 0), (4, .int 0), (0, .ref (q 0)), (1, .int mm), (3, .int (nI j))]) hx hb dX1_stable_95 rfl hl (by decide) rfl (fun ls hl => ?_)
                    refine lv_incN (k := 4) (lv' := [(3, .int (nI (j + 1))), (2, .int 0), (4, .int 0), (0, .ref (q 0)), (1, .int mm)]) hx hb dX1_stable_96 hl rfl (by decide) rfl (fun ls hl => ?_)
                    refine lv_goto (tgt := 25) hx hb dX1_stable_99 (by decide) ?_
                    exact ih25 (j + 1) 0 (by omega) (by omega) (by rw [stL, ← ej0, if_pos c_29]; rfl) ls (lv_sub hl [3, 4, 1, 0] rfl)
                  · skip
                    refine lv_iload hx hb dX1_stable_85 (lv_at hl 0 rfl) ?_
                    refine lv_if_ne (tgt := 94) hx hb dX1_stable_87 (by decide) (fun c9 => absurd (by decide) c9) (fun _ => ?_)
                    refine lv_iconst (v := 1) hx hb dX1_stable_90 (by decide) ?_
                    refine lv_goto (tgt := 95) hx hb dX1_stable_91 (by decide) ?_
                    refine lv_istore_n (lv' := [(2, .int 1), (4, .int 0), (0, .ref (q 0)), (1, .int mm), (3, .int (nI j))]) hx hb dX1_stable_95 rfl hl (by decide) rfl (fun ls hl => ?_)
                    refine lv_incN (k := 4) (lv' := [(3, .int (nI (j + 1))), (2, .int 1), (4, .int 0), (0, .ref (q 0)), (1, .int mm)]) hx hb dX1_stable_96 hl rfl (by decide) rfl (fun ls hl => ?_)
                    refine lv_goto (tgt := 25) hx hb dX1_stable_99 (by decide) ?_
                    exact ih25 (j + 1) 1 (by omega) (by omega) (by rw [stL, ← ej0, if_neg c_29, if_neg (show ¬ banI th kd ps ng mm j = true from by rw [show banI th kd ps ng mm j = false by simp only [banI, if_neg c_24, if_pos c_26, if_neg c_28]]; decide)]; rfl) ls (lv_sub hl [3, 4, 1, 0] rfl)
                · skip
                  refine lv_aload_n hx hb dX1_stable_63 rfl (lv_at hl 0 rfl) ?_
                  refine mg_ng F hP dX1_stable_64 ?_
                  refine lv_iload_n hx hb dX1_stable_67 rfl (lv_at hl 3 rfl) ?_
                  refine ma_ng F hP hj dX1_stable_68 ?_
                  refine lv_iload_n hx hb dX1_stable_69 rfl (lv_at hl 1 rfl) ?_
                  refine lv_iand hx hb dX1_stable_70 ?_
                  refine lv_if_ne (tgt := 78) hx hb dX1_stable_71 (by decide) (fun c_30 => ?_) (fun c_30 => ?_)
                  · skip
                    refine lv_iconst (v := 0) hx hb dX1_stable_78 (by decide) ?_
                    refine lv_istore (lv' := [(4, .int 0), (0, .ref (q 0)), (1, .int mm), (2, .int x2), (3, .int (nI j))]) hx hb dX1_stable_79 hl (by decide) rfl (fun ls hl => ?_)
                    refine lv_iload_n hx hb dX1_stable_81 rfl (lv_at hl 3 rfl) ?_
                    refine lv_if_eq (tgt := 94) hx hb dX1_stable_82 (by decide) (fun c_31 => ?_) (fun c_31 => ?_)
                    · skip
                      refine lv_iconst (v := 0) hx hb dX1_stable_94 (by decide) ?_
                      refine lv_istore_n (lv' := [(2, .int 0), (4, .int 0), (0, .ref (q 0)), (1, .int mm), (3, .int (nI j))]) hx hb dX1_stable_95 rfl hl (by decide) rfl (fun ls hl => ?_)
                      refine lv_incN (k := 4) (lv' := [(3, .int (nI (j + 1))), (2, .int 0), (4, .int 0), (0, .ref (q 0)), (1, .int mm)]) hx hb dX1_stable_96 hl rfl (by decide) rfl (fun ls hl => ?_)
                      refine lv_goto (tgt := 25) hx hb dX1_stable_99 (by decide) ?_
                      exact ih25 (j + 1) 0 (by omega) (by omega) (by rw [stL, ← ej0, if_pos c_31]; rfl) ls (lv_sub hl [3, 4, 1, 0] rfl)
                    · skip
                      refine lv_iload hx hb dX1_stable_85 (lv_at hl 0 rfl) ?_
                      refine lv_if_ne (tgt := 94) hx hb dX1_stable_87 (by decide) (fun c9 => absurd (by decide) c9) (fun _ => ?_)
                      refine lv_iconst (v := 1) hx hb dX1_stable_90 (by decide) ?_
                      refine lv_goto (tgt := 95) hx hb dX1_stable_91 (by decide) ?_
                      refine lv_istore_n (lv' := [(2, .int 1), (4, .int 0), (0, .ref (q 0)), (1, .int mm), (3, .int (nI j))]) hx hb dX1_stable_95 rfl hl (by decide) rfl (fun ls hl => ?_)
                      refine lv_incN (k := 4) (lv' := [(3, .int (nI (j + 1))), (2, .int 1), (4, .int 0), (0, .ref (q 0)), (1, .int mm)]) hx hb dX1_stable_96 hl rfl (by decide) rfl (fun ls hl => ?_)
                      refine lv_goto (tgt := 25) hx hb dX1_stable_99 (by decide) ?_
                      exact ih25 (j + 1) 1 (by omega) (by omega) (by rw [stL, ← ej0, if_neg c_31, if_neg (show ¬ banI th kd ps ng mm j = true from by rw [show banI th kd ps ng mm j = false by simp only [banI, if_neg c_24, if_pos c_26, if_pos c_28, if_neg c_30]]; decide)]; rfl) ls (lv_sub hl [3, 4, 1, 0] rfl)
                  · skip
                    refine lv_iconst (v := 1) hx hb dX1_stable_74 (by decide) ?_
                    refine lv_goto (tgt := 79) hx hb dX1_stable_75 (by decide) ?_
                    refine lv_istore (lv' := [(4, .int 1), (0, .ref (q 0)), (1, .int mm), (2, .int x2), (3, .int (nI j))]) hx hb dX1_stable_79 hl (by decide) rfl (fun ls hl => ?_)
                    refine lv_iload_n hx hb dX1_stable_81 rfl (lv_at hl 3 rfl) ?_
                    refine lv_if_eq (tgt := 94) hx hb dX1_stable_82 (by decide) (fun c_32 => ?_) (fun c_32 => ?_)
                    · skip
                      refine lv_iconst (v := 0) hx hb dX1_stable_94 (by decide) ?_
                      refine lv_istore_n (lv' := [(2, .int 0), (4, .int 1), (0, .ref (q 0)), (1, .int mm), (3, .int (nI j))]) hx hb dX1_stable_95 rfl hl (by decide) rfl (fun ls hl => ?_)
                      refine lv_incN (k := 4) (lv' := [(3, .int (nI (j + 1))), (2, .int 0), (4, .int 1), (0, .ref (q 0)), (1, .int mm)]) hx hb dX1_stable_96 hl rfl (by decide) rfl (fun ls hl => ?_)
                      refine lv_goto (tgt := 25) hx hb dX1_stable_99 (by decide) ?_
                      exact ih25 (j + 1) 0 (by omega) (by omega) (by rw [stL, ← ej0, if_pos c_32]; rfl) ls (lv_sub hl [3, 4, 1, 0] rfl)
                    · skip
                      refine lv_iload hx hb dX1_stable_85 (lv_at hl 0 rfl) ?_
                      refine lv_if_ne (tgt := 94) hx hb dX1_stable_87 (by decide) (fun _ => ?_) (fun c9 => absurd c9 (by decide))
                      refine lv_iconst (v := 0) hx hb dX1_stable_94 (by decide) ?_
                      refine lv_istore_n (lv' := [(2, .int 0), (4, .int 1), (0, .ref (q 0)), (1, .int mm), (3, .int (nI j))]) hx hb dX1_stable_95 rfl hl (by decide) rfl (fun ls hl => ?_)
                      refine lv_incN (k := 4) (lv' := [(3, .int (nI (j + 1))), (2, .int 0), (4, .int 1), (0, .ref (q 0)), (1, .int mm)]) hx hb dX1_stable_96 hl rfl (by decide) rfl (fun ls hl => ?_)
                      refine lv_goto (tgt := 25) hx hb dX1_stable_99 (by decide) ?_
                      exact ih25 (j + 1) 0 (by omega) (by omega) (by rw [stL, ← ej0, if_neg c_32, if_pos (show banI th kd ps ng mm j = true by simp only [banI, if_neg c_24, if_pos c_26, if_pos c_28, if_pos c_30])]; rfl) ls (lv_sub hl [3, 4, 1, 0] rfl)
      exact lp25 11 0 1 (by omega) (by omega) (by simp only [stL, if_neg c_1, if_pos c_12] <;> rfl) ls (lv_sub hl [2, 3, 1, 0] rfl)
theorem ky_stable {mm : Int32} (F : Fx RX1 D dB dZ dJ p m c cc nL s args) (hP : va_P D vwCl (MW dZ dJ q th kd hd ps ng fd bf) H)  (hsz : ls.size = nL) (hR : ry_stable.frames + 1 ≤ R.frames ∧ 8 + (5 + 11) + ry_stable.locals ≤ R.locals) (hroom : (rest.map fun v => v.category).sum ≤ 8) (hdg : decode cc pc = .ok (.invokevirtual 44, 3)) (kk : W p l e R s m args below meth c H locs 0 0 Q (F0 m (pc + 3) ls (.int (b2i (stb th kd hd ps ng mm)) :: rest))) : W p l e R s m args below meth c H locs 0 0 Q (F0 m pc ls (.int mm :: .ref (q 0) :: rest)) :=
  cl_R (q0 := 0) (ci := 1) (n := 1) (As := [.int mm]) F hP (cy_stable l D dB dZ dJ q th kd hd ps ng fd bf mm) rfl rfl (lw_V q258 q250 q251 q21 q252) (by decide +kernel) rfl ⟨rfl, rfl⟩ hR hsz rfl hroom hdg ⟨Nat.zero_le _, Nat.zero_le _⟩ kk
theorem ky_stableG {j : Nat} (F : Fx RX1 D dB dZ dJ p m c cc nL s args) (hP : va_P D vwCl (MW dZ dJ q th kd hd ps ng fd bf) H) (hsz : ls.size = nL) (hR : ry_stable.frames + 1 ≤ R.frames ∧ 8 + (5 + 11) + ry_stable.locals ≤ R.locals) (hroom : (rest.map fun v => v.category).sum ≤ 8) (hdg : decode cc pc = .ok (.invokevirtual 44, 3)) (kk : W p l e R s m args below meth c H locs 0 0 Q (F0 m (pc + 3) ls (.int (b2i (stG th kd hd ps ng j)) :: rest))) : W p l e R s m args below meth c H locs 0 0 Q (F0 m pc ls (.int (nI j) :: .ref (q 0) :: rest)) :=
  ky_stable F hP hsz hR hroom hdg kk
abbrev ry_rules : Room := { frames := 0, cells := 0, slots := 0, locals := 0 }
set_option maxHeartbeats 4000000 in
set_option maxRecDepth 100000 in
theorem cy_rules (l : Launch) (D : va_G) (dB dZ dJ : ClassId) (q : Nat → Nat) (th : Nat → Bool) (kd hd ps ng : Nat → Int32) (fd bf : Nat → Bool) : MRd l yX1_rules (ws_ yX1_rules cX1_rules 3 (some .int)) ry_rules D dB dZ dJ [.ref (q 0)] (MW dZ dJ q th kd hd ps ng fd bf) (rlI th 10) := by
  refine MRd.of (by decide) rfl (Nat.le_of_ble_eq_true rfl) (fun p e s m args below meth c Q F hP hret ls hl => ?_)
  obtain ⟨hx, hb, hml, hown, hts⟩ := id F.1
  have hl : lv_has ls 3 [(0, .ref (q 0))] := hl
  refine lv_iconst (v := 0) hx hb dX1_rules_0 (by decide) ?_
  refine lv_istore_n (lv' := [(1, .int 0), (0, .ref (q 0))]) hx hb dX1_rules_1 rfl hl (by decide) rfl (fun ls hl => ?_)
  refine lv_iconst (v := 0) hx hb dX1_rules_2 (by decide) ?_
  refine lv_istore_n (lv' := [(2, .int 0), (1, .int 0), (0, .ref (q 0))]) hx hb dX1_rules_3 rfl hl (by decide) rfl (fun ls hl => ?_)
  have lp4 : ∀ (nf j : Nat) (x1 : Int32), j ≤ 10 → 10 < j + nf → x1 = rlI th j → ∀ (ls : Array Slot), lv_has ls 3 [(0, .ref (q 0)), (1, .int x1), (2, .int (nI j))] → W p l e ry_rules s m args below meth c s.heap [] 0 0 Q (F0 m 4 ls []) := by
    intro nf
    induction nf with
    | zero =>
      intro j x1 h1 h2
      exact absurd h2 (by omega)
    | succ nf ih4 =>
      intro j x1 hj0 hjn ej0 ls hl
      refine lv_iload_n hx hb dX1_rules_4 rfl (lv_at hl 2 rfl) ?_
      refine lv_bipush (v := 10) hx hb dX1_rules_5 (by decide) ?_
      refine lv_icmp_ge (tgt := 35) hx hb dX1_rules_7 (by decide) (fun c_1 => ?_) (fun c_1 => ?_)
      · skip
        have hj : j = 10 := lp_ge (N := 10) (by decide) hj0 c_1
        subst hj
        refine lv_iload_n hx hb dX1_rules_35 rfl (lv_at hl 1 rfl) ?_
        exact hret dX1_rules_36 ej0
      · skip
        have hj : j < 10 := lp_lt (N := 10) (by decide) hj0 c_1
        refine lv_aload_n hx hb dX1_rules_10 rfl (lv_at hl 0 rfl) ?_
        refine mg_th F hP dX1_rules_11 ?_
        refine lv_iload_n hx hb dX1_rules_14 rfl (lv_at hl 2 rfl) ?_
        refine ma_th F hP hj dX1_rules_15 ?_
        refine lv_if_eq (tgt := 27) hx hb dX1_rules_16 (by decide) (fun c_2 => ?_) (fun c_2 => ?_)
        · skip
          refine lv_iload_n hx hb dX1_rules_27 rfl (lv_at hl 1 rfl) ?_
          refine lv_istore_n (lv' := [(1, .int x1), (0, .ref (q 0)), (2, .int (nI j))]) hx hb dX1_rules_28 rfl hl (by decide) rfl (fun ls hl => ?_)
          refine lv_incN (k := 2) (lv' := [(2, .int (nI (j + 1))), (1, .int x1), (0, .ref (q 0))]) hx hb dX1_rules_29 hl rfl (by decide) rfl (fun ls hl => ?_)
          refine lv_goto (tgt := 4) hx hb dX1_rules_32 (by decide) ?_
          exact ih4 (j + 1) x1 (by omega) (by omega) (by rw [rlI, if_pos c_2, ← ej0]) ls (lv_sub hl [2, 1, 0] rfl)
        · skip
          refine lv_iload_n hx hb dX1_rules_19 rfl (lv_at hl 1 rfl) ?_
          refine lv_iconst (v := 1) hx hb dX1_rules_20 (by decide) ?_
          refine lv_iload_n hx hb dX1_rules_21 rfl (lv_at hl 2 rfl) ?_
          refine lv_ishl hx hb dX1_rules_22 ?_
          refine lv_ior hx hb dX1_rules_23 ?_
          refine lv_goto (tgt := 28) hx hb dX1_rules_24 (by decide) ?_
          refine lv_istore_n (lv' := [(1, .int (x1 ||| ((1 : Int32) <<< ((nI j) &&& 31)))), (0, .ref (q 0)), (2, .int (nI j))]) hx hb dX1_rules_28 rfl hl (by decide) rfl (fun ls hl => ?_)
          refine lv_incN (k := 2) (lv' := [(2, .int (nI (j + 1))), (1, .int (x1 ||| ((1 : Int32) <<< ((nI j) &&& 31)))), (0, .ref (q 0))]) hx hb dX1_rules_29 hl rfl (by decide) rfl (fun ls hl => ?_)
          refine lv_goto (tgt := 4) hx hb dX1_rules_32 (by decide) ?_
          exact ih4 (j + 1) (x1 ||| ((1 : Int32) <<< ((nI j) &&& 31))) (by omega) (by omega) (by rw [rlI, if_neg c_2, ← ej0]) ls (lv_sub hl [2, 1, 0] rfl)
  exact lp4 11 0 0 (by omega) (by omega) rfl ls (lv_sub hl [2, 1, 0] rfl)
abbrev ry_models : Room := { frames := 3, cells := 0, slots := 0, locals := 71 }
set_option maxHeartbeats 4000000 in
set_option maxRecDepth 100000 in
theorem cy_models (l : Launch) (D : va_G) (dB dZ dJ : ClassId) (q : Nat → Nat) (th : Nat → Bool) (kd hd ps ng : Nat → Int32) (fd bf : Nat → Bool) : MRd l yX1_models (ws_ yX1_models cX1_models 3 (some .int)) ry_models D dB dZ dJ [.ref (q 0)] (MW dZ dJ q th kd hd ps ng fd bf) (aCnt (stG th kd hd ps ng) 64) := by
  refine MRd.of (by decide) rfl (Nat.le_of_ble_eq_true rfl) (fun p e s m args below meth c Q F hP hret ls hl => ?_)
  obtain ⟨hx, hb, hml, hown, hts⟩ := id F.1
  have hl : lv_has ls 3 [(0, .ref (q 0))] := hl
  refine lv_iconst (v := 0) hx hb dX1_models_0 (by decide) ?_
  refine lv_istore_n (lv' := [(1, .int 0), (0, .ref (q 0))]) hx hb dX1_models_1 rfl hl (by decide) rfl (fun ls hl => ?_)
  refine lv_iconst (v := 0) hx hb dX1_models_2 (by decide) ?_
  refine lv_istore_n (lv' := [(2, .int 0), (1, .int 0), (0, .ref (q 0))]) hx hb dX1_models_3 rfl hl (by decide) rfl (fun ls hl => ?_)
  have lp4 : ∀ (nf j : Nat) (x1 : Int32), j ≤ 64 → 64 < j + nf → x1 = aCnt (stG th kd hd ps ng) j → ∀ (ls : Array Slot), lv_has ls 3 [(0, .ref (q 0)), (1, .int x1), (2, .int (nI j))] → W p l e ry_models s m args below meth c s.heap [] 0 0 Q (F0 m 4 ls []) := by
    intro nf
    induction nf with
    | zero =>
      intro j x1 h1 h2
      exact absurd h2 (by omega)
    | succ nf ih4 =>
      intro j x1 hj0 hjn ej0 ls hl
      refine lv_iload_n hx hb dX1_models_4 rfl (lv_at hl 2 rfl) ?_
      refine lv_bipush (v := 64) hx hb dX1_models_5 (by decide) ?_
      refine lv_icmp_ge (tgt := 32) hx hb dX1_models_7 (by decide) (fun c_1 => ?_) (fun c_1 => ?_)
      · skip
        have hj : j = 64 := lp_ge (N := 64) (by decide) hj0 c_1
        subst hj
        refine lv_iload_n hx hb dX1_models_32 rfl (lv_at hl 1 rfl) ?_
        exact hret dX1_models_33 ej0
      · skip
        have hj : j < 64 := lp_lt (N := 64) (by decide) hj0 c_1
        refine lv_aload_n hx hb dX1_models_10 rfl (lv_at hl 0 rfl) ?_
        refine lv_iload_n hx hb dX1_models_11 rfl (lv_at hl 2 rfl) ?_
        refine ky_stableG F hP hl.1 ⟨Nat.le_of_ble_eq_true rfl, Nat.le_of_ble_eq_true rfl⟩ (Nat.le_of_ble_eq_true rfl) dX1_models_12 ?_
        refine lv_if_eq (tgt := 24) hx hb dX1_models_15 (by decide) (fun c_2 => ?_) (fun c_2 => ?_)
        · skip
          refine lv_iload_n hx hb dX1_models_24 rfl (lv_at hl 1 rfl) ?_
          refine lv_istore_n (lv' := [(1, .int x1), (0, .ref (q 0)), (2, .int (nI j))]) hx hb dX1_models_25 rfl hl (by decide) rfl (fun ls hl => ?_)
          refine lv_incN (k := 2) (lv' := [(2, .int (nI (j + 1))), (1, .int x1), (0, .ref (q 0))]) hx hb dX1_models_26 hl rfl (by decide) rfl (fun ls hl => ?_)
          refine lv_goto (tgt := 4) hx hb dX1_models_29 (by decide) ?_
          exact ih4 (j + 1) x1 (by omega) (by omega) (by rw [aCnt, if_pos c_2, ← ej0]) ls (lv_sub hl [2, 1, 0] rfl)
        · skip
          refine lv_iload_n hx hb dX1_models_18 rfl (lv_at hl 1 rfl) ?_
          refine lv_iconst (v := 1) hx hb dX1_models_19 (by decide) ?_
          refine lv_iadd hx hb dX1_models_20 ?_
          refine lv_goto (tgt := 25) hx hb dX1_models_21 (by decide) ?_
          refine lv_istore_n (lv' := [(1, .int (x1 + 1)), (0, .ref (q 0)), (2, .int (nI j))]) hx hb dX1_models_25 rfl hl (by decide) rfl (fun ls hl => ?_)
          refine lv_incN (k := 2) (lv' := [(2, .int (nI (j + 1))), (1, .int (x1 + 1)), (0, .ref (q 0))]) hx hb dX1_models_26 hl rfl (by decide) rfl (fun ls hl => ?_)
          refine lv_goto (tgt := 4) hx hb dX1_models_29 (by decide) ?_
          exact ih4 (j + 1) (x1 + 1) (by omega) (by omega) (by rw [aCnt, if_neg c_2, ← ej0]) ls (lv_sub hl [2, 1, 0] rfl)
  exact lp4 65 0 0 (by omega) (by omega) rfl ls (lv_sub hl [2, 1, 0] rfl)
abbrev ry_brave : Room := { frames := 3, cells := 0, slots := 0, locals := 71 }
set_option maxHeartbeats 4000000 in
set_option maxRecDepth 100000 in
theorem cy_brave (l : Launch) (D : va_G) (dB dZ dJ : ClassId) (q : Nat → Nat) (th : Nat → Bool) (kd hd ps ng : Nat → Int32) (fd bf : Nat → Bool) : MRd l yX1_brave (ws_ yX1_brave cX1_brave 3 (some .int)) ry_brave D dB dZ dJ [.ref (q 0)] (MW dZ dJ q th kd hd ps ng fd bf) (aBrv (stG th kd hd ps ng) 64) := by
  refine MRd.of (by decide) rfl (Nat.le_of_ble_eq_true rfl) (fun p e s m args below meth c Q F hP hret ls hl => ?_)
  obtain ⟨hx, hb, hml, hown, hts⟩ := id F.1
  have hl : lv_has ls 3 [(0, .ref (q 0))] := hl
  refine lv_iconst (v := 0) hx hb dX1_brave_0 (by decide) ?_
  refine lv_istore_n (lv' := [(1, .int 0), (0, .ref (q 0))]) hx hb dX1_brave_1 rfl hl (by decide) rfl (fun ls hl => ?_)
  refine lv_iconst (v := 0) hx hb dX1_brave_2 (by decide) ?_
  refine lv_istore_n (lv' := [(2, .int 0), (1, .int 0), (0, .ref (q 0))]) hx hb dX1_brave_3 rfl hl (by decide) rfl (fun ls hl => ?_)
  have lp4 : ∀ (nf j : Nat) (x1 : Int32), j ≤ 64 → 64 < j + nf → x1 = aBrv (stG th kd hd ps ng) j → ∀ (ls : Array Slot), lv_has ls 3 [(0, .ref (q 0)), (1, .int x1), (2, .int (nI j))] → W p l e ry_brave s m args below meth c s.heap [] 0 0 Q (F0 m 4 ls []) := by
    intro nf
    induction nf with
    | zero =>
      intro j x1 h1 h2
      exact absurd h2 (by omega)
    | succ nf ih4 =>
      intro j x1 hj0 hjn ej0 ls hl
      refine lv_iload_n hx hb dX1_brave_4 rfl (lv_at hl 2 rfl) ?_
      refine lv_bipush (v := 64) hx hb dX1_brave_5 (by decide) ?_
      refine lv_icmp_ge (tgt := 32) hx hb dX1_brave_7 (by decide) (fun c_1 => ?_) (fun c_1 => ?_)
      · skip
        have hj : j = 64 := lp_ge (N := 64) (by decide) hj0 c_1
        subst hj
        refine lv_iload_n hx hb dX1_brave_32 rfl (lv_at hl 1 rfl) ?_
        exact hret dX1_brave_33 ej0
      · skip
        have hj : j < 64 := lp_lt (N := 64) (by decide) hj0 c_1
        refine lv_aload_n hx hb dX1_brave_10 rfl (lv_at hl 0 rfl) ?_
        refine lv_iload_n hx hb dX1_brave_11 rfl (lv_at hl 2 rfl) ?_
        refine ky_stableG F hP hl.1 ⟨Nat.le_of_ble_eq_true rfl, Nat.le_of_ble_eq_true rfl⟩ (Nat.le_of_ble_eq_true rfl) dX1_brave_12 ?_
        refine lv_if_eq (tgt := 24) hx hb dX1_brave_15 (by decide) (fun c_2 => ?_) (fun c_2 => ?_)
        · skip
          refine lv_iload_n hx hb dX1_brave_24 rfl (lv_at hl 1 rfl) ?_
          refine lv_istore_n (lv' := [(1, .int x1), (0, .ref (q 0)), (2, .int (nI j))]) hx hb dX1_brave_25 rfl hl (by decide) rfl (fun ls hl => ?_)
          refine lv_incN (k := 2) (lv' := [(2, .int (nI (j + 1))), (1, .int x1), (0, .ref (q 0))]) hx hb dX1_brave_26 hl rfl (by decide) rfl (fun ls hl => ?_)
          refine lv_goto (tgt := 4) hx hb dX1_brave_29 (by decide) ?_
          exact ih4 (j + 1) x1 (by omega) (by omega) (by rw [aBrv, if_pos c_2, ← ej0]) ls (lv_sub hl [2, 1, 0] rfl)
        · skip
          refine lv_iload_n hx hb dX1_brave_18 rfl (lv_at hl 1 rfl) ?_
          refine lv_iload_n hx hb dX1_brave_19 rfl (lv_at hl 2 rfl) ?_
          refine lv_ior hx hb dX1_brave_20 ?_
          refine lv_goto (tgt := 25) hx hb dX1_brave_21 (by decide) ?_
          refine lv_istore_n (lv' := [(1, .int (x1 ||| (nI j))), (0, .ref (q 0)), (2, .int (nI j))]) hx hb dX1_brave_25 rfl hl (by decide) rfl (fun ls hl => ?_)
          refine lv_incN (k := 2) (lv' := [(2, .int (nI (j + 1))), (1, .int (x1 ||| (nI j))), (0, .ref (q 0))]) hx hb dX1_brave_26 hl rfl (by decide) rfl (fun ls hl => ?_)
          refine lv_goto (tgt := 4) hx hb dX1_brave_29 (by decide) ?_
          exact ih4 (j + 1) (x1 ||| (nI j)) (by omega) (by omega) (by rw [aBrv, if_neg c_2, ← ej0]) ls (lv_sub hl [2, 1, 0] rfl)
  exact lp4 65 0 0 (by omega) (by omega) rfl ls (lv_sub hl [2, 1, 0] rfl)
abbrev ry_cautious : Room := { frames := 3, cells := 0, slots := 0, locals := 71 }
set_option maxHeartbeats 4000000 in
set_option maxRecDepth 100000 in
theorem cy_cautious (l : Launch) (D : va_G) (dB dZ dJ : ClassId) (q : Nat → Nat) (th : Nat → Bool) (kd hd ps ng : Nat → Int32) (fd bf : Nat → Bool) : MRd l yX1_cautious (ws_ yX1_cautious cX1_cautious 3 (some .int)) ry_cautious D dB dZ dJ [.ref (q 0)] (MW dZ dJ q th kd hd ps ng fd bf) (aCau (stG th kd hd ps ng) 64) := by
  refine MRd.of (by decide) rfl (Nat.le_of_ble_eq_true rfl) (fun p e s m args below meth c Q F hP hret ls hl => ?_)
  obtain ⟨hx, hb, hml, hown, hts⟩ := id F.1
  have hl : lv_has ls 3 [(0, .ref (q 0))] := hl
  refine lv_bipush (v := 63) hx hb dX1_cautious_0 (by decide) ?_
  refine lv_istore_n (lv' := [(1, .int 63), (0, .ref (q 0))]) hx hb dX1_cautious_2 rfl hl (by decide) rfl (fun ls hl => ?_)
  refine lv_iconst (v := 0) hx hb dX1_cautious_3 (by decide) ?_
  refine lv_istore_n (lv' := [(2, .int 0), (1, .int 63), (0, .ref (q 0))]) hx hb dX1_cautious_4 rfl hl (by decide) rfl (fun ls hl => ?_)
  have lp5 : ∀ (nf j : Nat) (x1 : Int32), j ≤ 64 → 64 < j + nf → x1 = aCau (stG th kd hd ps ng) j → ∀ (ls : Array Slot), lv_has ls 3 [(0, .ref (q 0)), (1, .int x1), (2, .int (nI j))] → W p l e ry_cautious s m args below meth c s.heap [] 0 0 Q (F0 m 5 ls []) := by
    intro nf
    induction nf with
    | zero =>
      intro j x1 h1 h2
      exact absurd h2 (by omega)
    | succ nf ih5 =>
      intro j x1 hj0 hjn ej0 ls hl
      refine lv_iload_n hx hb dX1_cautious_5 rfl (lv_at hl 2 rfl) ?_
      refine lv_bipush (v := 64) hx hb dX1_cautious_6 (by decide) ?_
      refine lv_icmp_ge (tgt := 33) hx hb dX1_cautious_8 (by decide) (fun c_1 => ?_) (fun c_1 => ?_)
      · skip
        have hj : j = 64 := lp_ge (N := 64) (by decide) hj0 c_1
        subst hj
        refine lv_iload_n hx hb dX1_cautious_33 rfl (lv_at hl 1 rfl) ?_
        exact hret dX1_cautious_34 ej0
      · skip
        have hj : j < 64 := lp_lt (N := 64) (by decide) hj0 c_1
        refine lv_aload_n hx hb dX1_cautious_11 rfl (lv_at hl 0 rfl) ?_
        refine lv_iload_n hx hb dX1_cautious_12 rfl (lv_at hl 2 rfl) ?_
        refine ky_stableG F hP hl.1 ⟨Nat.le_of_ble_eq_true rfl, Nat.le_of_ble_eq_true rfl⟩ (Nat.le_of_ble_eq_true rfl) dX1_cautious_13 ?_
        refine lv_if_eq (tgt := 25) hx hb dX1_cautious_16 (by decide) (fun c_2 => ?_) (fun c_2 => ?_)
        · skip
          refine lv_iload_n hx hb dX1_cautious_25 rfl (lv_at hl 1 rfl) ?_
          refine lv_istore_n (lv' := [(1, .int x1), (0, .ref (q 0)), (2, .int (nI j))]) hx hb dX1_cautious_26 rfl hl (by decide) rfl (fun ls hl => ?_)
          refine lv_incN (k := 2) (lv' := [(2, .int (nI (j + 1))), (1, .int x1), (0, .ref (q 0))]) hx hb dX1_cautious_27 hl rfl (by decide) rfl (fun ls hl => ?_)
          refine lv_goto (tgt := 5) hx hb dX1_cautious_30 (by decide) ?_
          exact ih5 (j + 1) x1 (by omega) (by omega) (by rw [aCau, if_pos c_2, ← ej0]) ls (lv_sub hl [2, 1, 0] rfl)
        · skip
          refine lv_iload_n hx hb dX1_cautious_19 rfl (lv_at hl 1 rfl) ?_
          refine lv_iload_n hx hb dX1_cautious_20 rfl (lv_at hl 2 rfl) ?_
          refine lv_iand hx hb dX1_cautious_21 ?_
          refine lv_goto (tgt := 26) hx hb dX1_cautious_22 (by decide) ?_
          refine lv_istore_n (lv' := [(1, .int (x1 &&& (nI j))), (0, .ref (q 0)), (2, .int (nI j))]) hx hb dX1_cautious_26 rfl hl (by decide) rfl (fun ls hl => ?_)
          refine lv_incN (k := 2) (lv' := [(2, .int (nI (j + 1))), (1, .int (x1 &&& (nI j))), (0, .ref (q 0))]) hx hb dX1_cautious_27 hl rfl (by decide) rfl (fun ls hl => ?_)
          refine lv_goto (tgt := 5) hx hb dX1_cautious_30 (by decide) ?_
          exact ih5 (j + 1) (x1 &&& (nI j)) (by omega) (by omega) (by rw [aCau, if_neg c_2, ← ej0]) ls (lv_sub hl [2, 1, 0] rfl)
  exact lp5 65 0 63 (by omega) (by omega) rfl ls (lv_sub hl [2, 1, 0] rfl)
abbrev ry_fewest : Room := { frames := 3, cells := 0, slots := 0, locals := 71 }
set_option maxHeartbeats 4000000 in
set_option maxRecDepth 100000 in
theorem cy_fewest (l : Launch) (D : va_G) (dB dZ dJ : ClassId) (q : Nat → Nat) (th : Nat → Bool) (kd hd ps ng : Nat → Int32) (fd bf : Nat → Bool) : MRd l yX1_fewest (ws_ yX1_fewest cX1_fewest 4 (some .int)) ry_fewest D dB dZ dJ [.ref (q 0)] (MW dZ dJ q th kd hd ps ng fd bf) (aFew (stG th kd hd ps ng) 64) := by
  refine MRd.of (by decide) rfl (Nat.le_of_ble_eq_true rfl) (fun p e s m args below meth c Q F hP hret ls hl => ?_)
  obtain ⟨hx, hb, hml, hown, hts⟩ := id F.1
  have hl : lv_has ls 4 [(0, .ref (q 0))] := hl
  refine lv_iconst (v := (-1)) hx hb dX1_fewest_0 (by decide) ?_
  refine lv_istore_n (lv' := [(1, .int (-1)), (0, .ref (q 0))]) hx hb dX1_fewest_1 rfl hl (by decide) rfl (fun ls hl => ?_)
  refine lv_iconst (v := 0) hx hb dX1_fewest_2 (by decide) ?_
  refine lv_istore_n (lv' := [(2, .int 0), (1, .int (-1)), (0, .ref (q 0))]) hx hb dX1_fewest_3 rfl hl (by decide) rfl (fun ls hl => ?_)
  have lp4 : ∀ (nf j : Nat) (x1 : Int32), j ≤ 64 → 64 < j + nf → x1 = aFew (stG th kd hd ps ng) j → ∀ (ls : Array Slot), lv_has ls 4 [(0, .ref (q 0)), (1, .int x1), (2, .int (nI j))] → W p l e ry_fewest s m args below meth c s.heap [] 0 0 Q (F0 m 4 ls []) := by
    intro nf
    induction nf with
    | zero =>
      intro j x1 h1 h2
      exact absurd h2 (by omega)
    | succ nf ih4 =>
      intro j x1 hj0 hjn ej0 ls hl
      refine lv_iload_n hx hb dX1_fewest_4 rfl (lv_at hl 2 rfl) ?_
      refine lv_bipush (v := 64) hx hb dX1_fewest_5 (by decide) ?_
      refine lv_icmp_ge (tgt := 45) hx hb dX1_fewest_7 (by decide) (fun c_1 => ?_) (fun c_1 => ?_)
      · skip
        have hj : j = 64 := lp_ge (N := 64) (by decide) hj0 c_1
        subst hj
        refine lv_iload_n hx hb dX1_fewest_45 rfl (lv_at hl 1 rfl) ?_
        exact hret dX1_fewest_46 ej0
      · skip
        have hj : j < 64 := lp_lt (N := 64) (by decide) hj0 c_1
        refine lv_aload_n hx hb dX1_fewest_10 rfl (lv_at hl 0 rfl) ?_
        refine lv_iload_n hx hb dX1_fewest_11 rfl (lv_at hl 2 rfl) ?_
        refine ky_ones F hP hl.1 ⟨Nat.le_of_ble_eq_true rfl, Nat.le_of_ble_eq_true rfl⟩ (Nat.le_of_ble_eq_true rfl) dX1_fewest_12 ?_
        refine lv_istore_n (lv' := [(3, .int (onesN (nI j) 6)), (0, .ref (q 0)), (1, .int x1), (2, .int (nI j))]) hx hb dX1_fewest_15 rfl hl (by decide) rfl (fun ls hl => ?_)
        refine lv_aload_n hx hb dX1_fewest_16 rfl (lv_at hl 1 rfl) ?_
        refine lv_iload_n hx hb dX1_fewest_17 rfl (lv_at hl 3 rfl) ?_
        refine ky_stableG F hP hl.1 ⟨Nat.le_of_ble_eq_true rfl, Nat.le_of_ble_eq_true rfl⟩ (Nat.le_of_ble_eq_true rfl) dX1_fewest_18 ?_
        refine lv_if_eq (tgt := 37) hx hb dX1_fewest_21 (by decide) (fun c_2 => ?_) (fun c_2 => ?_)
        · skip
          refine lv_iload_n hx hb dX1_fewest_37 rfl (lv_at hl 2 rfl) ?_
          refine lv_istore_n (lv' := [(1, .int x1), (3, .int (onesN (nI j) 6)), (0, .ref (q 0)), (2, .int (nI j))]) hx hb dX1_fewest_38 rfl hl (by decide) rfl (fun ls hl => ?_)
          refine lv_incN (k := 3) (lv' := [(2, .int (nI (j + 1))), (1, .int x1), (3, .int (onesN (nI j) 6)), (0, .ref (q 0))]) hx hb dX1_fewest_39 hl rfl (by decide) rfl (fun ls hl => ?_)
          refine lv_goto (tgt := 4) hx hb dX1_fewest_42 (by decide) ?_
          exact ih4 (j + 1) x1 (by omega) (by omega) (by rw [aFew, ← ej0]; simp only [if_pos c_2]) ls (lv_sub hl [3, 1, 0] rfl)
        · skip
          refine lv_iload_n hx hb dX1_fewest_24 rfl (lv_at hl 2 rfl) ?_
          refine lv_if_lt (tgt := 33) hx hb dX1_fewest_25 (by decide) (fun c_3 => ?_) (fun c_3 => ?_)
          · skip
            refine lv_iload_n hx hb dX1_fewest_33 rfl (lv_at hl 0 rfl) ?_
            refine lv_goto (tgt := 38) hx hb dX1_fewest_34 (by decide) ?_
            refine lv_istore_n (lv' := [(1, .int (onesN (nI j) 6)), (3, .int (onesN (nI j) 6)), (0, .ref (q 0)), (2, .int (nI j))]) hx hb dX1_fewest_38 rfl hl (by decide) rfl (fun ls hl => ?_)
            refine lv_incN (k := 3) (lv' := [(2, .int (nI (j + 1))), (1, .int (onesN (nI j) 6)), (3, .int (onesN (nI j) 6)), (0, .ref (q 0))]) hx hb dX1_fewest_39 hl rfl (by decide) rfl (fun ls hl => ?_)
            refine lv_goto (tgt := 4) hx hb dX1_fewest_42 (by decide) ?_
            exact ih4 (j + 1) (onesN (nI j) 6) (by omega) (by omega) (by rw [aFew, ← ej0]; simp only [if_neg c_2, if_pos c_3]) ls (lv_sub hl [3, 1, 0] rfl)
          · skip
            refine lv_iload_n hx hb dX1_fewest_28 rfl (lv_at hl 0 rfl) ?_
            refine lv_iload_n hx hb dX1_fewest_29 rfl (lv_at hl 2 rfl) ?_
            refine lv_icmp_ge (tgt := 37) hx hb dX1_fewest_30 (by decide) (fun c_4 => ?_) (fun c_4 => ?_)
            · skip
              refine lv_iload_n hx hb dX1_fewest_37 rfl (lv_at hl 2 rfl) ?_
              refine lv_istore_n (lv' := [(1, .int x1), (3, .int (onesN (nI j) 6)), (0, .ref (q 0)), (2, .int (nI j))]) hx hb dX1_fewest_38 rfl hl (by decide) rfl (fun ls hl => ?_)
              refine lv_incN (k := 3) (lv' := [(2, .int (nI (j + 1))), (1, .int x1), (3, .int (onesN (nI j) 6)), (0, .ref (q 0))]) hx hb dX1_fewest_39 hl rfl (by decide) rfl (fun ls hl => ?_)
              refine lv_goto (tgt := 4) hx hb dX1_fewest_42 (by decide) ?_
              exact ih4 (j + 1) x1 (by omega) (by omega) (by rw [aFew, ← ej0]; simp only [if_neg c_2, if_neg c_3, if_pos c_4]) ls (lv_sub hl [3, 1, 0] rfl)
            · skip
              refine lv_iload_n hx hb dX1_fewest_33 rfl (lv_at hl 0 rfl) ?_
              refine lv_goto (tgt := 38) hx hb dX1_fewest_34 (by decide) ?_
              refine lv_istore_n (lv' := [(1, .int (onesN (nI j) 6)), (3, .int (onesN (nI j) 6)), (0, .ref (q 0)), (2, .int (nI j))]) hx hb dX1_fewest_38 rfl hl (by decide) rfl (fun ls hl => ?_)
              refine lv_incN (k := 3) (lv' := [(2, .int (nI (j + 1))), (1, .int (onesN (nI j) 6)), (3, .int (onesN (nI j) 6)), (0, .ref (q 0))]) hx hb dX1_fewest_39 hl rfl (by decide) rfl (fun ls hl => ?_)
              refine lv_goto (tgt := 4) hx hb dX1_fewest_42 (by decide) ?_
              exact ih4 (j + 1) (onesN (nI j) 6) (by omega) (by omega) (by rw [aFew, ← ej0]; simp only [if_neg c_2, if_neg c_3, if_neg c_4]) ls (lv_sub hl [3, 1, 0] rfl)
  exact lp4 65 0 (-1) (by omega) (by omega) rfl ls (lv_sub hl [2, 1, 0] rfl)
abbrev ry_model : Room := { frames := 3, cells := 0, slots := 0, locals := 71 }
set_option maxHeartbeats 4000000 in
set_option maxRecDepth 100000 in
theorem cy_model (l : Launch) (D : va_G) (dB dZ dJ : ClassId) (q : Nat → Nat) (th : Nat → Bool) (kd hd ps ng : Nat → Int32) (fd bf : Nat → Bool) (ka : Int32) : MRd l yX1_model (ws_ yX1_model cX1_model 4 (some .int)) ry_model D dB dZ dJ [.ref (q 0), .int ka] (MW dZ dJ q th kd hd ps ng fd bf) (aMdl (stG th kd hd ps ng) ka 64 0) := by
  refine MRd.of (by decide) rfl (Nat.le_of_ble_eq_true rfl) (fun p e s m args below meth c Q F hP hret ls hl => ?_)
  obtain ⟨hx, hb, hml, hown, hts⟩ := id F.1
  have hl : lv_has ls 4 [(0, .ref (q 0)), (1, .int ka)] := hl
  refine lv_iconst (v := 0) hx hb dX1_model_0 (by decide) ?_
  refine lv_istore_n (lv' := [(2, .int 0), (0, .ref (q 0)), (1, .int ka)]) hx hb dX1_model_1 rfl hl (by decide) rfl (fun ls hl => ?_)
  refine lv_iconst (v := 0) hx hb dX1_model_2 (by decide) ?_
  refine lv_istore_n (lv' := [(3, .int 0), (2, .int 0), (0, .ref (q 0)), (1, .int ka)]) hx hb dX1_model_3 rfl hl (by decide) rfl (fun ls hl => ?_)
  have lp4 : ∀ (nf j : Nat) (x2 : Int32), j ≤ 64 → 64 < j + nf → aMdl (stG th kd hd ps ng) ka (64 - j) x2 = aMdl (stG th kd hd ps ng) ka 64 0 → ∀ (ls : Array Slot), lv_has ls 4 [(0, .ref (q 0)), (1, .int ka), (2, .int x2), (3, .int (nI j))] → W p l e ry_model s m args below meth c s.heap [] 0 0 Q (F0 m 4 ls []) := by
    intro nf
    induction nf with
    | zero =>
      intro j x2 h1 h2
      exact absurd h2 (by omega)
    | succ nf ih4 =>
      intro j x2 hj0 hjn ej0 ls hl
      refine lv_iload_n hx hb dX1_model_4 rfl (lv_at hl 3 rfl) ?_
      refine lv_bipush (v := 64) hx hb dX1_model_5 (by decide) ?_
      refine lv_icmp_ge (tgt := 34) hx hb dX1_model_7 (by decide) (fun c_1 => ?_) (fun c_1 => ?_)
      · skip
        have hj : j = 64 := lp_ge (N := 64) (by decide) hj0 c_1
        subst hj
        refine lv_iconst (v := (-1)) hx hb dX1_model_34 (by decide) ?_
        exact hret dX1_model_35 ej0
      · skip
        have hj : j < 64 := lp_lt (N := 64) (by decide) hj0 c_1
        refine lv_aload_n hx hb dX1_model_10 rfl (lv_at hl 0 rfl) ?_
        refine lv_iload_n hx hb dX1_model_11 rfl (lv_at hl 3 rfl) ?_
        refine ky_stableG F hP hl.1 ⟨Nat.le_of_ble_eq_true rfl, Nat.le_of_ble_eq_true rfl⟩ (Nat.le_of_ble_eq_true rfl) dX1_model_12 ?_
        refine lv_if_eq (tgt := 28) hx hb dX1_model_15 (by decide) (fun c_2 => ?_) (fun c_2 => ?_)
        · skip
          refine lv_incN (k := 3) (lv' := [(3, .int (nI (j + 1))), (0, .ref (q 0)), (1, .int ka), (2, .int x2)]) hx hb dX1_model_28 hl rfl (by decide) rfl (fun ls hl => ?_)
          refine lv_goto (tgt := 4) hx hb dX1_model_31 (by decide) ?_
          exact ih4 (j + 1) x2 (by omega) (by omega) (by rw [show 64 - j = (63 - j) + 1 by omega, aMdl, show 63 - (63 - j) = j by omega, if_pos c_2] at ej0; rw [show 64 - (j + 1) = 63 - j by omega]; exact ej0) ls (lv_sub hl [1, 2, 3, 0] rfl)
        · skip
          refine lv_iload_n hx hb dX1_model_18 rfl (lv_at hl 2 rfl) ?_
          refine lv_iload_n hx hb dX1_model_19 rfl (lv_at hl 1 rfl) ?_
          refine lv_icmp_ne (tgt := 25) hx hb dX1_model_20 (by decide) (fun c_3 => ?_) (fun c_3 => ?_)
          · skip
            refine lv_incX (k := 2) (lv' := [(2, .int (x2 + 1)), (0, .ref (q 0)), (1, .int ka), (3, .int (nI j))]) hx hb dX1_model_25 hl rfl (by decide) rfl (fun ls hl => ?_)
            refine lv_incN (k := 3) (lv' := [(3, .int (nI (j + 1))), (2, .int (x2 + 1)), (0, .ref (q 0)), (1, .int ka)]) hx hb dX1_model_28 hl rfl (by decide) rfl (fun ls hl => ?_)
            refine lv_goto (tgt := 4) hx hb dX1_model_31 (by decide) ?_
            exact ih4 (j + 1) (x2 + 1) (by omega) (by omega) (by rw [show 64 - j = (63 - j) + 1 by omega, aMdl, show 63 - (63 - j) = j by omega, if_neg c_2, if_neg c_3] at ej0; rw [show 64 - (j + 1) = 63 - j by omega]; exact ej0) ls (lv_sub hl [2, 3, 1, 0] rfl)
          · skip
            refine lv_iload_n hx hb dX1_model_23 rfl (lv_at hl 3 rfl) ?_
            exact hret dX1_model_24 (by rw [← ej0, show 64 - j = (63 - j) + 1 by omega, aMdl, show 63 - (63 - j) = j by omega, if_neg c_2, if_pos c_3])
  exact lp4 65 0 0 (by omega) (by omega) rfl ls (lv_sub hl [2, 3, 1, 0] rfl)
def yFnd (f : Nat → Bool) (a b : Int32) : Int32 := if setI a = 0 then -1 else if setI b = 0 then -1 else aFnd f a b 64
abbrev ry_find : Room := { frames := 3, cells := 0, slots := 0, locals := 71 }
set_option maxHeartbeats 4000000 in
set_option maxRecDepth 100000 in
theorem cy_find (l : Launch) (D : va_G) (dB dZ dJ : ClassId) (q : Nat → Nat) (th : Nat → Bool) (kd hd ps ng : Nat → Int32) (fd bf : Nat → Bool) (xa xb : Int32) : MRd l yX1_find (ws_ yX1_find cX1_find 4 (some .int)) ry_find D dB dZ dJ [.ref (q 0), .int xa, .int xb] (MW dZ dJ q th kd hd ps ng fd bf) (yFnd (stG th kd hd ps ng) xa xb) := by
  refine MRd.of (by decide) rfl (Nat.le_of_ble_eq_true rfl) (fun p e s m args below meth c Q F hP hret ls hl => ?_)
  obtain ⟨hx, hb, hml, hown, hts⟩ := id F.1
  have hl : lv_has ls 4 [(0, .ref (q 0)), (1, .int xa), (2, .int xb)] := hl
  refine lv_iconst (v := 0) hx hb dX1_find_0 (by decide) ?_
  refine lv_istore_n (lv' := [(3, .int 0), (0, .ref (q 0)), (1, .int xa), (2, .int xb)]) hx hb dX1_find_1 rfl hl (by decide) rfl (fun ls hl => ?_)
  have lp2 : ∀ (nf j : Nat), j ≤ 64 → 64 < j + nf → aFnd (stG th kd hd ps ng) xa xb (64 - j) = aFnd (stG th kd hd ps ng) xa xb 64 → ∀ (ls : Array Slot), lv_has ls 4 [(0, .ref (q 0)), (1, .int xa), (2, .int xb), (3, .int (nI j))] → W p l e ry_find s m args below meth c s.heap [] 0 0 Q (F0 m 2 ls []) := by
    intro nf
    induction nf with
    | zero =>
      intro j h1 h2
      exact absurd h2 (by omega)
    | succ nf ih2 =>
      intro j hj0 hjn ej0 ls hl
      refine lv_iload_n hx hb dX1_find_2 rfl (lv_at hl 3 rfl) ?_
      refine lv_bipush (v := 64) hx hb dX1_find_3 (by decide) ?_
      refine lv_icmp_ge (tgt := 54) hx hb dX1_find_5 (by decide) (fun c_1 => ?_) (fun c_1 => ?_)
      · skip
        have hj : j = 64 := lp_ge (N := 64) (by decide) hj0 c_1
        subst hj
        refine lv_iconst (v := (-1)) hx hb dX1_find_54 (by decide) ?_
        exact hret dX1_find_55 (by rw [yFnd, ← show (-1 : Int32) = aFnd (stG th kd hd ps ng) xa xb 64 from ej0]; simp only [ite_self])
      · skip
        have hj : j < 64 := lp_lt (N := 64) (by decide) hj0 c_1
        refine lv_aload_n hx hb dX1_find_8 rfl (lv_at hl 0 rfl) ?_
        refine lv_iload_n hx hb dX1_find_9 rfl (lv_at hl 1 rfl) ?_
        refine ky_set F hP hl.1 ⟨Nat.le_of_ble_eq_true rfl, Nat.le_of_ble_eq_true rfl⟩ (Nat.le_of_ble_eq_true rfl) dX1_find_10 ?_
        refine lv_if_eq (tgt := 54) hx hb dX1_find_13 (by decide) (fun c_2 => ?_) (fun c_2 => ?_)
        · skip
          refine lv_iconst (v := (-1)) hx hb dX1_find_54 (by decide) ?_
          exact hret dX1_find_55 (by rw [yFnd]; simp only [if_pos c_2])
        · skip
          refine lv_aload_n hx hb dX1_find_16 rfl (lv_at hl 0 rfl) ?_
          refine lv_iload_n hx hb dX1_find_17 rfl (lv_at hl 2 rfl) ?_
          refine ky_set F hP hl.1 ⟨Nat.le_of_ble_eq_true rfl, Nat.le_of_ble_eq_true rfl⟩ (Nat.le_of_ble_eq_true rfl) dX1_find_18 ?_
          refine lv_if_eq (tgt := 54) hx hb dX1_find_21 (by decide) (fun c_3 => ?_) (fun c_3 => ?_)
          · skip
            refine lv_iconst (v := (-1)) hx hb dX1_find_54 (by decide) ?_
            exact hret dX1_find_55 (by rw [yFnd]; simp only [if_neg c_2, if_pos c_3])
          · skip
            refine lv_iload_n hx hb dX1_find_24 rfl (lv_at hl 1 rfl) ?_
            refine lv_iload_n hx hb dX1_find_25 rfl (lv_at hl 3 rfl) ?_
            refine lv_iconst (v := (-1)) hx hb dX1_find_26 (by decide) ?_
            refine lv_ixor hx hb dX1_find_27 ?_
            refine lv_iand hx hb dX1_find_28 ?_
            refine lv_if_ne (tgt := 48) hx hb dX1_find_29 (by decide) (fun c_4 => ?_) (fun c_4 => ?_)
            · skip
              refine lv_incN (k := 3) (lv' := [(3, .int (nI (j + 1))), (0, .ref (q 0)), (1, .int xa), (2, .int xb)]) hx hb dX1_find_48 hl rfl (by decide) rfl (fun ls hl => ?_)
              refine lv_goto (tgt := 2) hx hb dX1_find_51 (by decide) ?_
              exact ih2 (j + 1) (by omega) (by omega) (by rw [show 64 - j = (63 - j) + 1 by omega, aFnd, show 63 - (63 - j) = j by omega] at ej0; simp only [if_neg c_4, ite_self] at ej0; rw [show 64 - (j + 1) = 63 - j by omega]; exact ej0) ls (lv_sub hl [1, 2, 3, 0] rfl)
            · skip
              refine lv_iload_n hx hb dX1_find_32 rfl (lv_at hl 2 rfl) ?_
              refine lv_iload_n hx hb dX1_find_33 rfl (lv_at hl 3 rfl) ?_
              refine lv_iand hx hb dX1_find_34 ?_
              refine lv_if_ne (tgt := 48) hx hb dX1_find_35 (by decide) (fun c_5 => ?_) (fun c_5 => ?_)
              · skip
                refine lv_incN (k := 3) (lv' := [(3, .int (nI (j + 1))), (0, .ref (q 0)), (1, .int xa), (2, .int xb)]) hx hb dX1_find_48 hl rfl (by decide) rfl (fun ls hl => ?_)
                refine lv_goto (tgt := 2) hx hb dX1_find_51 (by decide) ?_
                exact ih2 (j + 1) (by omega) (by omega) (by rw [show 64 - j = (63 - j) + 1 by omega, aFnd, show 63 - (63 - j) = j by omega] at ej0; simp only [if_pos c_4, if_neg c_5, ite_self] at ej0; rw [show 64 - (j + 1) = 63 - j by omega]; exact ej0) ls (lv_sub hl [1, 2, 3, 0] rfl)
              · skip
                refine lv_aload_n hx hb dX1_find_38 rfl (lv_at hl 0 rfl) ?_
                refine lv_iload_n hx hb dX1_find_39 rfl (lv_at hl 3 rfl) ?_
                refine ky_stableG F hP hl.1 ⟨Nat.le_of_ble_eq_true rfl, Nat.le_of_ble_eq_true rfl⟩ (Nat.le_of_ble_eq_true rfl) dX1_find_40 ?_
                refine lv_if_eq (tgt := 48) hx hb dX1_find_43 (by decide) (fun c_6 => ?_) (fun c_6 => ?_)
                · skip
                  refine lv_incN (k := 3) (lv' := [(3, .int (nI (j + 1))), (0, .ref (q 0)), (1, .int xa), (2, .int xb)]) hx hb dX1_find_48 hl rfl (by decide) rfl (fun ls hl => ?_)
                  refine lv_goto (tgt := 2) hx hb dX1_find_51 (by decide) ?_
                  exact ih2 (j + 1) (by omega) (by omega) (by rw [show 64 - j = (63 - j) + 1 by omega, aFnd, show 63 - (63 - j) = j by omega] at ej0; simp only [if_pos c_4, if_pos c_5, if_pos c_6, ite_self] at ej0; rw [show 64 - (j + 1) = 63 - j by omega]; exact ej0) ls (lv_sub hl [1, 2, 3, 0] rfl)
                · skip
                  refine lv_iload_n hx hb dX1_find_46 rfl (lv_at hl 3 rfl) ?_
                  exact hret dX1_find_47 (by rw [yFnd, if_neg c_2, if_neg c_3, ← ej0, show 64 - j = (63 - j) + 1 by omega, aFnd, show 63 - (63 - j) = j by omega]; simp only [if_pos c_4, if_pos c_5, if_neg c_6])
  exact lp2 65 0 (by omega) (by omega) rfl ls (lv_sub hl [1, 2, 3, 0] rfl)
abbrev ry_work : Room := { frames := 3, cells := 0, slots := 0, locals := 71 }
set_option maxHeartbeats 4000000 in
set_option maxRecDepth 100000 in
theorem cy_work (l : Launch) (D : va_G) (dB dZ dJ : ClassId) (q : Nat → Nat) (th : Nat → Bool) (kd hd ps ng : Nat → Int32) (fd bf : Nat → Bool) : MVd l yX1_work (ws_ yX1_work cX1_work 2 none) ry_work D dB dZ dJ [.ref (q 0)] (MW dZ dJ q th kd hd ps ng fd bf) (fun u : Nat → Bool => u = wkF fd (stG th kd hd ps ng) 64) (fun u : Nat → Bool => MW dZ dJ q th kd hd ps ng u bf) := by
  refine MVd.of (by decide) (Nat.le_of_ble_eq_true rfl) (fun p e s m args below meth c Q A F hZ hret ls hl => ?_)
  obtain ⟨hx, hb, hml, hown, hts⟩ := id F.1
  have hl : lv_has ls 2 [(0, .ref (q 0))] := hl
  refine lv_iconst (v := 0) hx hb dX1_work_0 (by decide) ?_
  refine lv_istore_n (lv' := [(1, .int 0), (0, .ref (q 0))]) hx hb dX1_work_1 rfl hl (by decide) rfl (fun ls hl => ?_)
  have lp2 : ∀ (nf j : Nat) (fd1 : Nat → Bool), j ≤ 64 → 64 < j + nf → fd1 = wkF fd (stG th kd hd ps ng) j → ∀ (H : Heap) (locs : List Loc), XS D A s (MW dZ dJ q th kd hd ps ng fd1 bf) H locs → ∀ (ls : Array Slot), lv_has ls 2 [(0, .ref (q 0)), (1, .int (nI j))] → W p l e ry_work s m args below meth c H locs 0 0 Q (F0 m 2 ls []) := by
    intro nf
    induction nf with
    | zero =>
      intro j fd1 h1 h2
      exact absurd h2 (by omega)
    | succ nf ih2 =>
      intro j fd1 hj0 hjn ej0 H locs hZ ls hl
      refine lv_iload_n hx hb dX1_work_2 rfl (lv_at hl 1 rfl) ?_
      refine lv_bipush (v := 64) hx hb dX1_work_3 (by decide) ?_
      refine lv_icmp_ge (tgt := 25) hx hb dX1_work_5 (by decide) (fun c_1 => ?_) (fun c_1 => ?_)
      · skip
        have hj : j = 64 := lp_ge (N := 64) (by decide) hj0 c_1
        subst hj
        exact hret fd1 dX1_work_25 ej0 hZ
      · skip
        have hj : j < 64 := lp_lt (N := 64) (by decide) hj0 c_1
        refine lv_aload_n hx hb dX1_work_8 rfl (lv_at hl 0 rfl) ?_
        refine mg_fd F hZ.1 dX1_work_9 ?_
        refine lv_iload_n hx hb dX1_work_12 rfl (lv_at hl 1 rfl) ?_
        refine lv_aload_n hx hb dX1_work_13 rfl (lv_at hl 0 rfl) ?_
        refine lv_iload_n hx hb dX1_work_14 rfl (lv_at hl 1 rfl) ?_
        refine ky_stableG F hZ.1 hl.1 ⟨Nat.le_of_ble_eq_true rfl, Nat.le_of_ble_eq_true rfl⟩ (Nat.le_of_ble_eq_true rfl) dX1_work_15 ?_
        refine mt_fd F hZ hj (B := (stG th kd hd ps ng j)) rfl dX1_work_18 (fun H locs hZ => ?_)
        refine lv_incN (k := 1) (lv' := [(1, .int (nI (j + 1))), (0, .ref (q 0))]) hx hb dX1_work_19 hl rfl (by decide) rfl (fun ls hl => ?_)
        refine lv_goto (tgt := 2) hx hb dX1_work_22 (by decide) ?_
        exact ih2 (j + 1) (updB fd1 j (stG th kd hd ps ng j)) (by omega) (by omega) (by rw [wkF, ← ej0]) _ _ hZ ls (lv_sub hl [1, 0] rfl)
  exact lp2 65 0 fd (by omega) (by omega) rfl _ _ hZ ls (lv_sub hl [1, 0] rfl)
theorem ky_work (F : Fx RX1 D dB dZ dJ p m c cc nL s args) (hZ : XS D A s (MW dZ dJ q th kd hd ps ng fd bf) H locs)  (hsz : ls.size = nL) (hR : ry_work.frames + 1 ≤ R.frames ∧ 8 + (2 + 11) + ry_work.locals ≤ R.locals) (hroom : (rest.map fun v => v.category).sum ≤ 8) (hdg : decode cc pc = .ok (.invokevirtual 50, 3)) (kk : ∀ (fd1 : Nat → Bool) (H1 : Heap) (locs1 : List Loc), fd1 = wkF fd (stG th kd hd ps ng) 64 → XS D A s (MW dZ dJ q th kd hd ps ng fd1 bf) H1 locs1 → W p l e R s m args below meth c H1 locs1 0 0 Q (F0 m (pc + 3) ls rest)) : W p l e R s m args below meth c H locs 0 0 Q (F0 m pc ls (.ref (q 0) :: rest)) :=
  cl_V (q0 := 0) (ci := 1) (n := 0) (As := []) F hZ (cy_work l D dB dZ dJ q th kd hd ps ng fd bf) (fun _ => rfl) rfl rfl (lw_V q287 q289 qs18 q21 q290) (by decide +kernel) rfl ⟨rfl, rfl⟩ hR hsz rfl hroom hdg ⟨Nat.zero_le _, Nat.zero_le _⟩ (kk)
theorem wk_at {fd F : Nat → Bool} : ∀ j m, m < j → wkF fd F j m = F m
  | 0, m, h => absurd h (Nat.not_lt_zero m)
  | j + 1, m, h => by
    rw [wkF]
    unfold updB
    by_cases e : m = j
    · rw [if_pos e, e]
    · rw [if_neg e]
      exact wk_at j m (by omega)
theorem mxM_cg {f g : Nat → Bool} (h : ∀ m, m < 64 → f m = g m) {mm : Nat} (hm : mm < 64) : ∀ k, k ≤ 64 → mxM f mm k = mxM g mm k
  | 0, _ => h mm hm
  | k + 1, hk => by rw [mxM, mxM, mxM_cg h hm k (by omega), h k (by omega)]
theorem aMaxM_cg {f g : Nat → Bool} (h : ∀ m, m < 64 → f m = g m) : ∀ j, j ≤ 64 → aMaxM f j = aMaxM g j
  | 0, _ => rfl
  | j + 1, hj => by rw [aMaxM, aMaxM, aMaxM_cg h j (by omega), mxM_cg h (by omega) 64 (by omega)]
theorem updB_back {th : Nat → Bool} {j : Nat} (h : th j = true) : updB (updB th j false) j true = th := by
  funext i
  unfold updB
  by_cases e : i = j
  · rw [if_pos e, e, h]
  · rw [if_neg e, if_neg e]
theorem updB_self (th : Nat → Bool) (j : Nat) (b : Bool) : updB th j b j = b := by
  unfold updB
  rw [if_pos rfl]
abbrev MU : Type := (Nat → Bool) × (Nat → Bool)
abbrev ry_maximal : Room := { frames := 4, cells := 0, slots := 0, locals := 92 }
set_option maxHeartbeats 4000000 in
set_option maxRecDepth 100000 in
theorem cy_maximal (l : Launch) (D : va_G) (dB dZ dJ : ClassId) (q : Nat → Nat) (th : Nat → Bool) (kd hd ps ng : Nat → Int32) (fd bf : Nat → Bool) : MId l yX1_maximal (ws_ yX1_maximal cX1_maximal 5 (some .int)) ry_maximal D dB dZ dJ [.ref (q 0)] (MW dZ dJ q th kd hd ps ng fd bf) (fun (r : Int32) (u : MU) => r = aMaxM (stG th kd hd ps ng) 64) (fun u : MU => MW dZ dJ q th kd hd ps ng u.1 u.2) := by
  refine MId.of (by decide) (Nat.le_of_ble_eq_true rfl) (fun p e s m args below meth c Q A F hZ hret ls hl => ?_)
  obtain ⟨hx, hb, hml, hown, hts⟩ := id F.1
  have hl : lv_has ls 5 [(0, .ref (q 0))] := hl
  refine lv_aload_n hx hb dX1_maximal_0 rfl (lv_at hl 0 rfl) ?_
  refine ky_work F hZ hl.1 ⟨Nat.le_of_ble_eq_true rfl, Nat.le_of_ble_eq_true rfl⟩ (Nat.le_of_ble_eq_true rfl) dX1_maximal_1 (fun fd1 H locs hfd1 hZ => ?_)
  refine lv_iconst (v := 0) hx hb dX1_maximal_4 (by decide) ?_
  refine lv_istore_n (lv' := [(1, .int 0), (0, .ref (q 0))]) hx hb dX1_maximal_5 rfl hl (by decide) rfl (fun ls hl => ?_)
  refine lv_iconst (v := 0) hx hb dX1_maximal_6 (by decide) ?_
  refine lv_istore_n (lv' := [(2, .int 0), (1, .int 0), (0, .ref (q 0))]) hx hb dX1_maximal_7 rfl hl (by decide) rfl (fun ls hl => ?_)
  have lp8 : ∀ (nf j : Nat) (x1 : Int32), j ≤ 64 → 64 < j + nf → x1 = aMaxM fd1 j → ∀ (H : Heap) (locs : List Loc), XS D A s (MW dZ dJ q th kd hd ps ng fd1 bf) H locs → ∀ (ls : Array Slot), lv_has ls 5 [(0, .ref (q 0)), (1, .int x1), (2, .int (nI j))] → W p l e ry_maximal s m args below meth c H locs 0 0 Q (F0 m 8 ls []) := by
    intro nf
    induction nf with
    | zero =>
      intro j x1 h1 h2
      exact absurd h2 (by omega)
    | succ nf ih8 =>
      intro j x1 hj0 hjn ej0 H locs hZ ls hl
      refine lv_iload_n hx hb dX1_maximal_8 rfl (lv_at hl 2 rfl) ?_
      refine lv_bipush (v := 64) hx hb dX1_maximal_9 (by decide) ?_
      refine lv_icmp_ge (tgt := 90) hx hb dX1_maximal_11 (by decide) (fun c_1 => ?_) (fun c_1 => ?_)
      · skip
        have hj : j = 64 := lp_ge (N := 64) (by decide) hj0 c_1
        subst hj
        refine lv_iload_n hx hb dX1_maximal_90 rfl (lv_at hl 1 rfl) ?_
        exact hret (fd1, bf) dX1_maximal_91 (ej0.trans (aMaxM_cg (fun m hm => by rw [hfd1]; exact wk_at 64 m hm) 64 (by omega))) rfl hZ
      · skip
        have hj : j < 64 := lp_lt (N := 64) (by decide) hj0 c_1
        refine lv_aload_n hx hb dX1_maximal_14 rfl (lv_at hl 0 rfl) ?_
        refine mg_fd F hZ.1 dX1_maximal_15 ?_
        refine lv_iload_n hx hb dX1_maximal_18 rfl (lv_at hl 2 rfl) ?_
        refine ma_fd F hZ.1 hj dX1_maximal_19 ?_
        refine lv_istore_n (lv' := [(3, .int (b2i (fd1 j))), (0, .ref (q 0)), (1, .int x1), (2, .int (nI j))]) hx hb dX1_maximal_20 rfl hl (by decide) rfl (fun ls hl => ?_)
        refine lv_iconst (v := 0) hx hb dX1_maximal_21 (by decide) ?_
        refine lv_istore (lv' := [(4, .int 0), (3, .int (b2i (fd1 j))), (0, .ref (q 0)), (1, .int x1), (2, .int (nI j))]) hx hb dX1_maximal_22 hl (by decide) rfl (fun ls hl => ?_)
        have lp24 : ∀ (nf k : Nat) (x3 : Int32), k ≤ 64 → 64 < k + nf → x3 = b2i (mxM fd1 j k) → ∀ (H : Heap) (locs : List Loc), XS D A s (MW dZ dJ q th kd hd ps ng fd1 bf) H locs → ∀ (ls : Array Slot), lv_has ls 5 [(0, .ref (q 0)), (1, .int x1), (2, .int (nI j)), (3, .int x3), (4, .int (nI k))] → W p l e ry_maximal s m args below meth c H locs 0 0 Q (F0 m 24 ls []) := by
          intro nf
          induction nf with
          | zero =>
            intro k x3 h1 h2
            exact absurd h2 (by omega)
          | succ nf ih24 =>
            intro k x3 hk0 hkn ek0 H locs hZ ls hl
            refine lv_iload hx hb dX1_maximal_24 (lv_at hl 4 rfl) ?_
            refine lv_bipush (v := 64) hx hb dX1_maximal_26 (by decide) ?_
            refine lv_icmp_ge (tgt := 72) hx hb dX1_maximal_28 (by decide) (fun c_2 => ?_) (fun c_2 => ?_)
            · skip
              have hk : k = 64 := lp_ge (N := 64) (by decide) hk0 c_2
              refine lv_iload_n hx hb dX1_maximal_72 rfl (lv_at hl 3 rfl) ?_
              refine lv_if_eq (tgt := 82) hx hb dX1_maximal_73 (by decide) (fun c_3 => ?_) (fun c_3 => ?_)
              · skip
                refine lv_iload_n hx hb dX1_maximal_82 rfl (lv_at hl 1 rfl) ?_
                refine lv_istore_n (lv' := [(1, .int x1), (0, .ref (q 0)), (2, .int (nI j)), (3, .int x3), (4, .int (nI k))]) hx hb dX1_maximal_83 rfl hl (by decide) rfl (fun ls hl => ?_)
                refine lv_incN (k := 2) (lv' := [(2, .int (nI (j + 1))), (1, .int x1), (0, .ref (q 0)), (3, .int x3), (4, .int (nI k))]) hx hb dX1_maximal_84 hl rfl (by decide) rfl (fun ls hl => ?_)
                refine lv_goto (tgt := 8) hx hb dX1_maximal_87 (by decide) ?_
                exact ih8 (j + 1) x1 (by omega) (by omega) (by rw [hk] at ek0; rw [aMaxM, ← ej0, ← ek0, if_pos c_3]) _ _ hZ ls (lv_sub hl [2, 1, 0] rfl)
              · skip
                refine lv_iload_n hx hb dX1_maximal_76 rfl (lv_at hl 1 rfl) ?_
                refine lv_iconst (v := 1) hx hb dX1_maximal_77 (by decide) ?_
                refine lv_iadd hx hb dX1_maximal_78 ?_
                refine lv_goto (tgt := 83) hx hb dX1_maximal_79 (by decide) ?_
                refine lv_istore_n (lv' := [(1, .int (x1 + 1)), (0, .ref (q 0)), (2, .int (nI j)), (3, .int x3), (4, .int (nI k))]) hx hb dX1_maximal_83 rfl hl (by decide) rfl (fun ls hl => ?_)
                refine lv_incN (k := 2) (lv' := [(2, .int (nI (j + 1))), (1, .int (x1 + 1)), (0, .ref (q 0)), (3, .int x3), (4, .int (nI k))]) hx hb dX1_maximal_84 hl rfl (by decide) rfl (fun ls hl => ?_)
                refine lv_goto (tgt := 8) hx hb dX1_maximal_87 (by decide) ?_
                exact ih8 (j + 1) (x1 + 1) (by omega) (by omega) (by rw [hk] at ek0; rw [aMaxM, ← ej0, ← ek0, if_neg c_3]) _ _ hZ ls (lv_sub hl [2, 1, 0] rfl)
            · skip
              have hk : k < 64 := lp_lt (N := 64) (by decide) hk0 c_2
              refine lv_iload_n hx hb dX1_maximal_31 rfl (lv_at hl 3 rfl) ?_
              refine lv_if_eq (tgt := 64) hx hb dX1_maximal_32 (by decide) (fun c_4 => ?_) (fun c_4 => ?_)
              · skip
                refine lv_iconst (v := 0) hx hb dX1_maximal_64 (by decide) ?_
                refine lv_istore_n (lv' := [(3, .int 0), (0, .ref (q 0)), (1, .int x1), (2, .int (nI j)), (4, .int (nI k))]) hx hb dX1_maximal_65 rfl hl (by decide) rfl (fun ls hl => ?_)
                refine lv_incN (k := 4) (lv' := [(4, .int (nI (k + 1))), (3, .int 0), (0, .ref (q 0)), (1, .int x1), (2, .int (nI j))]) hx hb dX1_maximal_66 hl rfl (by decide) rfl (fun ls hl => ?_)
                refine lv_goto (tgt := 24) hx hb dX1_maximal_69 (by decide) ?_
                exact ih24 (k + 1) 0 (by omega) (by omega) (by rw [mxM, ← ek0]; simp only [if_pos c_4] <;> rfl) _ _ hZ ls (lv_sub hl [2, 3, 4, 1, 0] rfl)
              · skip
                refine lv_aload_n hx hb dX1_maximal_35 rfl (lv_at hl 0 rfl) ?_
                refine mg_fd F hZ.1 dX1_maximal_36 ?_
                refine lv_iload hx hb dX1_maximal_39 (lv_at hl 4 rfl) ?_
                refine ma_fd F hZ.1 hk dX1_maximal_41 ?_
                refine lv_if_eq (tgt := 60) hx hb dX1_maximal_42 (by decide) (fun c_5 => ?_) (fun c_5 => ?_)
                · skip
                  refine lv_iconst (v := 1) hx hb dX1_maximal_60 (by decide) ?_
                  refine lv_goto (tgt := 65) hx hb dX1_maximal_61 (by decide) ?_
                  refine lv_istore_n (lv' := [(3, .int 1), (0, .ref (q 0)), (1, .int x1), (2, .int (nI j)), (4, .int (nI k))]) hx hb dX1_maximal_65 rfl hl (by decide) rfl (fun ls hl => ?_)
                  refine lv_incN (k := 4) (lv' := [(4, .int (nI (k + 1))), (3, .int 1), (0, .ref (q 0)), (1, .int x1), (2, .int (nI j))]) hx hb dX1_maximal_66 hl rfl (by decide) rfl (fun ls hl => ?_)
                  refine lv_goto (tgt := 24) hx hb dX1_maximal_69 (by decide) ?_
                  exact ih24 (k + 1) 1 (by omega) (by omega) (by rw [mxM, ← ek0]; simp only [if_neg c_4, if_pos c_5] <;> rfl) _ _ hZ ls (lv_sub hl [2, 3, 4, 1, 0] rfl)
                · skip
                  refine lv_iload hx hb dX1_maximal_45 (lv_at hl 4 rfl) ?_
                  refine lv_iload_n hx hb dX1_maximal_47 rfl (lv_at hl 2 rfl) ?_
                  refine lv_icmp_eq (tgt := 60) hx hb dX1_maximal_48 (by decide) (fun c_6 => ?_) (fun c_6 => ?_)
                  · skip
                    refine lv_iconst (v := 1) hx hb dX1_maximal_60 (by decide) ?_
                    refine lv_goto (tgt := 65) hx hb dX1_maximal_61 (by decide) ?_
                    refine lv_istore_n (lv' := [(3, .int 1), (0, .ref (q 0)), (1, .int x1), (2, .int (nI j)), (4, .int (nI k))]) hx hb dX1_maximal_65 rfl hl (by decide) rfl (fun ls hl => ?_)
                    refine lv_incN (k := 4) (lv' := [(4, .int (nI (k + 1))), (3, .int 1), (0, .ref (q 0)), (1, .int x1), (2, .int (nI j))]) hx hb dX1_maximal_66 hl rfl (by decide) rfl (fun ls hl => ?_)
                    refine lv_goto (tgt := 24) hx hb dX1_maximal_69 (by decide) ?_
                    exact ih24 (k + 1) 1 (by omega) (by omega) (by rw [mxM, ← ek0]; simp only [if_neg c_4, if_neg c_5, if_pos c_6] <;> rfl) _ _ hZ ls (lv_sub hl [2, 3, 4, 1, 0] rfl)
                  · skip
                    refine lv_iload_n hx hb dX1_maximal_51 rfl (lv_at hl 2 rfl) ?_
                    refine lv_iload hx hb dX1_maximal_52 (lv_at hl 4 rfl) ?_
                    refine lv_iconst (v := (-1)) hx hb dX1_maximal_54 (by decide) ?_
                    refine lv_ixor hx hb dX1_maximal_55 ?_
                    refine lv_iand hx hb dX1_maximal_56 ?_
                    refine lv_if_eq (tgt := 64) hx hb dX1_maximal_57 (by decide) (fun c_7 => ?_) (fun c_7 => ?_)
                    · skip
                      refine lv_iconst (v := 0) hx hb dX1_maximal_64 (by decide) ?_
                      refine lv_istore_n (lv' := [(3, .int 0), (0, .ref (q 0)), (1, .int x1), (2, .int (nI j)), (4, .int (nI k))]) hx hb dX1_maximal_65 rfl hl (by decide) rfl (fun ls hl => ?_)
                      refine lv_incN (k := 4) (lv' := [(4, .int (nI (k + 1))), (3, .int 0), (0, .ref (q 0)), (1, .int x1), (2, .int (nI j))]) hx hb dX1_maximal_66 hl rfl (by decide) rfl (fun ls hl => ?_)
                      refine lv_goto (tgt := 24) hx hb dX1_maximal_69 (by decide) ?_
                      exact ih24 (k + 1) 0 (by omega) (by omega) (by rw [mxM, ← ek0]; simp only [if_neg c_4, if_neg c_5, if_neg c_6, if_pos c_7] <;> rfl) _ _ hZ ls (lv_sub hl [2, 3, 4, 1, 0] rfl)
                    · skip
                      refine lv_iconst (v := 1) hx hb dX1_maximal_60 (by decide) ?_
                      refine lv_goto (tgt := 65) hx hb dX1_maximal_61 (by decide) ?_
                      refine lv_istore_n (lv' := [(3, .int 1), (0, .ref (q 0)), (1, .int x1), (2, .int (nI j)), (4, .int (nI k))]) hx hb dX1_maximal_65 rfl hl (by decide) rfl (fun ls hl => ?_)
                      refine lv_incN (k := 4) (lv' := [(4, .int (nI (k + 1))), (3, .int 1), (0, .ref (q 0)), (1, .int x1), (2, .int (nI j))]) hx hb dX1_maximal_66 hl rfl (by decide) rfl (fun ls hl => ?_)
                      refine lv_goto (tgt := 24) hx hb dX1_maximal_69 (by decide) ?_
                      exact ih24 (k + 1) 1 (by omega) (by omega) (by rw [mxM, ← ek0]; simp only [if_neg c_4, if_neg c_5, if_neg c_6, if_neg c_7] <;> rfl) _ _ hZ ls (lv_sub hl [2, 3, 4, 1, 0] rfl)
        exact lp24 65 0 (b2i (fd1 j)) (by omega) (by omega) rfl _ _ hZ ls (lv_sub hl [2, 3, 4, 1, 0] rfl)
  exact lp8 65 0 0 (by omega) (by omega) rfl _ _ hZ ls (lv_sub hl [2, 1, 0] rfl)
abbrev ry_remove : Room := { frames := 0, cells := 0, slots := 0, locals := 0 }
set_option maxHeartbeats 4000000 in
set_option maxRecDepth 100000 in
theorem cy_remove (l : Launch) (D : va_G) (dB dZ dJ : ClassId) (q : Nat → Nat) (th : Nat → Bool) (kd hd ps ng : Nat → Int32) (fd bf : Nat → Bool) (x : Int32) : MId l yX1_remove (ws_ yX1_remove cX1_remove 2 (some .boolean)) ry_remove D dB dZ dJ [.ref (q 0), .int x] (MW dZ dJ q th kd hd ps ng fd bf) (fun (r : Int32) (u : MU) => r = yHas th x) (fun u : MU => MW dZ dJ q (yRem th x) kd hd ps ng u.1 u.2) := by
  refine MId.of (by decide) (Nat.le_of_ble_eq_true rfl) (fun p e s m args below meth c Q A F hZ hret ls hl => ?_)
  obtain ⟨hx, hb, hml, hown, hts⟩ := id F.1
  have hl : lv_has ls 2 [(0, .ref (q 0)), (1, .int x)] := hl
  refine lv_iload_n hx hb dX1_remove_0 rfl (lv_at hl 1 rfl) ?_
  refine lv_if_lt (tgt := 19) hx hb dX1_remove_1 (by decide) (fun c_1 => ?_) (fun c_1 => ?_)
  · skip
    refine lv_iconst (v := 0) hx hb dX1_remove_19 (by decide) ?_
    have hy : yHas th x = 0 := by rw [yHas]; simp only [if_pos c_1]
    exact hret (fd, bf) dX1_remove_20 hy.symm rfl (by rw [yRem, if_pos hy]; exact hZ)
  · skip
    refine lv_iload_n hx hb dX1_remove_4 rfl (lv_at hl 1 rfl) ?_
    refine lv_bipush (v := 9) hx hb dX1_remove_5 (by decide) ?_
    refine lv_icmp_gt (tgt := 19) hx hb dX1_remove_7 (by decide) (fun c_2 => ?_) (fun c_2 => ?_)
    · skip
      refine lv_iconst (v := 0) hx hb dX1_remove_19 (by decide) ?_
      have hy : yHas th x = 0 := by rw [yHas]; simp only [if_neg c_1, if_pos c_2]
      exact hret (fd, bf) dX1_remove_20 hy.symm rfl (by rw [yRem, if_pos hy]; exact hZ)
    · skip
      obtain ⟨j, hj9, ej⟩ := small_of (n := 9) c_1 (by decide) c_2
      subst ej
      have hj : j < 10 := by omega
      have hcl : (nI j).toNatClampNeg = j := nI_clamp (by omega)
      refine lv_aload_n hx hb dX1_remove_10 rfl (lv_at hl 0 rfl) ?_
      refine mg_th F hZ.1 dX1_remove_11 ?_
      refine lv_iload_n hx hb dX1_remove_14 rfl (lv_at hl 1 rfl) ?_
      refine ma_th F hZ.1 hj dX1_remove_15 ?_
      refine lv_if_ne (tgt := 21) hx hb dX1_remove_16 (by decide) (fun c_3 => ?_) (fun c_3 => ?_)
      · skip
        refine lv_aload_n hx hb dX1_remove_21 rfl (lv_at hl 0 rfl) ?_
        refine mg_th F hZ.1 dX1_remove_22 ?_
        refine lv_iload_n hx hb dX1_remove_25 rfl (lv_at hl 1 rfl) ?_
        refine lv_iconst (v := 0) hx hb dX1_remove_26 (by decide) ?_
        refine mt_th F hZ hj (B := false) rfl dX1_remove_27 (fun H locs hZ => ?_)
        refine lv_iconst (v := 1) hx hb dX1_remove_28 (by decide) ?_
        have hy : yHas th (nI j) = 1 := by rw [yHas]; simp only [hcl, if_neg c_1, if_neg c_2, if_neg c_3]
        exact hret (fd, bf) dX1_remove_29 hy.symm rfl (by rw [yRem, if_neg (by rw [hy]; decide), hcl]; exact hZ)
      · skip
        refine lv_iconst (v := 0) hx hb dX1_remove_19 (by decide) ?_
        have hy : yHas th (nI j) = 0 := by rw [yHas]; simp only [hcl, if_neg c_1, if_neg c_2, if_pos c_3]
        exact hret (fd, bf) dX1_remove_20 hy.symm rfl (by rw [yRem, if_pos hy]; exact hZ)
abbrev ry_add : Room := { frames := 1, cells := 0, slots := 0, locals := 21 }
set_option maxHeartbeats 4000000 in
set_option maxRecDepth 100000 in
theorem cy_add (l : Launch) (D : va_G) (dB dZ dJ : ClassId) (q : Nat → Nat) (th : Nat → Bool) (kd hd ps ng : Nat → Int32) (fd bf : Nat → Bool) (kind head pos neg : Int32) : MId l yX1_add (ws_ yX1_add cX1_add 6 (some .int)) ry_add D dB dZ dJ [.ref (q 0), .int kind, .int head, .int pos, .int neg] (MW dZ dJ q th kd hd ps ng fd bf) (fun (r : Int32) (u : CM × MU) => (r, u.1) = addG th kd hd ps ng kind head pos neg) (fun u : CM × MU => MW dZ dJ q u.1.1 u.1.2.1 u.1.2.2.1 u.1.2.2.2.1 u.1.2.2.2.2 u.2.1 u.2.2) := by
  refine MId.of (by decide) (Nat.le_of_ble_eq_true rfl) (fun p e s m args below meth c Q A F hZ hret ls hl => ?_)
  obtain ⟨hx, hb, hml, hown, hts⟩ := id F.1
  have hl : lv_has ls 6 [(0, .ref (q 0)), (1, .int kind), (2, .int head), (3, .int pos), (4, .int neg)] := hl
  refine lv_iload_n hx hb dX1_add_0 rfl (lv_at hl 1 rfl) ?_
  refine lv_if_lt (tgt := 40) hx hb dX1_add_1 (by decide) (fun c_1 => ?_) (fun c_1 => ?_)
  · skip
    refine lv_iconst (v := (-1)) hx hb dX1_add_40 (by decide) ?_
    exact hret ((th, kd, hd, ps, ng), (fd, bf)) dX1_add_41 (by rw [addG, if_neg (show ¬ addOk kind head pos neg = true by simp [addOk, if_pos c_1])]) rfl hZ
  · skip
    refine lv_iload_n hx hb dX1_add_4 rfl (lv_at hl 1 rfl) ?_
    refine lv_iconst (v := 2) hx hb dX1_add_5 (by decide) ?_
    refine lv_icmp_gt (tgt := 40) hx hb dX1_add_6 (by decide) (fun c_2 => ?_) (fun c_2 => ?_)
    · skip
      refine lv_iconst (v := (-1)) hx hb dX1_add_40 (by decide) ?_
      exact hret ((th, kd, hd, ps, ng), (fd, bf)) dX1_add_41 (by rw [addG, if_neg (show ¬ addOk kind head pos neg = true by simp [addOk, if_neg c_1, if_pos c_2])]) rfl hZ
    · skip
      refine lv_iload_n hx hb dX1_add_9 rfl (lv_at hl 1 rfl) ?_
      refine lv_iconst (v := 2) hx hb dX1_add_10 (by decide) ?_
      refine lv_icmp_eq (tgt := 23) hx hb dX1_add_11 (by decide) (fun c_3 => ?_) (fun c_3 => ?_)
      · skip
        refine lv_aload_n hx hb dX1_add_23 rfl (lv_at hl 0 rfl) ?_
        refine lv_iload_n hx hb dX1_add_24 rfl (lv_at hl 3 rfl) ?_
        refine ky_set F hZ.1 hl.1 ⟨Nat.le_of_ble_eq_true rfl, Nat.le_of_ble_eq_true rfl⟩ (Nat.le_of_ble_eq_true rfl) dX1_add_25 ?_
        refine lv_if_eq (tgt := 40) hx hb dX1_add_28 (by decide) (fun c_4 => ?_) (fun c_4 => ?_)
        · skip
          refine lv_iconst (v := (-1)) hx hb dX1_add_40 (by decide) ?_
          exact hret ((th, kd, hd, ps, ng), (fd, bf)) dX1_add_41 (by rw [addG, if_neg (show ¬ addOk kind head pos neg = true by simp [addOk, if_neg c_1, if_neg c_2, if_pos c_3, if_pos c_4])]) rfl hZ
        · skip
          refine lv_aload_n hx hb dX1_add_31 rfl (lv_at hl 0 rfl) ?_
          refine lv_iload hx hb dX1_add_32 (lv_at hl 4 rfl) ?_
          refine ky_set F hZ.1 hl.1 ⟨Nat.le_of_ble_eq_true rfl, Nat.le_of_ble_eq_true rfl⟩ (Nat.le_of_ble_eq_true rfl) dX1_add_34 ?_
          refine lv_if_ne (tgt := 42) hx hb dX1_add_37 (by decide) (fun c_5 => ?_) (fun c_5 => ?_)
          · skip
            have hok : addOk kind head pos neg = true := by simp only [addOk, if_neg c_1, if_neg c_2, if_pos c_3, if_neg c_4, if_neg c_5]
            refine lv_iconst (v := 0) hx hb dX1_add_42 (by decide) ?_
            refine lv_istore (lv' := [(5, .int 0), (0, .ref (q 0)), (1, .int kind), (2, .int head), (3, .int pos), (4, .int neg)]) hx hb dX1_add_43 hl (by decide) rfl (fun ls hl => ?_)
            have lp45 : ∀ (nf j : Nat), j ≤ 10 → 10 < j + nf → ffr th (10 - j) = ffr th 10 → ∀ (H : Heap) (locs : List Loc), XS D A s (MW dZ dJ q th kd hd ps ng fd bf) H locs → ∀ (ls : Array Slot), lv_has ls 6 [(0, .ref (q 0)), (1, .int kind), (2, .int head), (3, .int pos), (4, .int neg), (5, .int (nI j))] → W p l e ry_add s m args below meth c H locs 0 0 Q (F0 m 45 ls []) := by
              intro nf
              induction nf with
              | zero =>
                intro j h1 h2
                exact absurd h2 (by omega)
              | succ nf ih45 =>
                intro j hj0 hjn ej0 H locs hZ ls hl
                refine lv_iload hx hb dX1_add_45 (lv_at hl 5 rfl) ?_
                refine lv_bipush (v := 10) hx hb dX1_add_47 (by decide) ?_
                refine lv_icmp_ge (tgt := 121) hx hb dX1_add_49 (by decide) (fun c_6 => ?_) (fun c_6 => ?_)
                · skip
                  have hj : j = 10 := lp_ge (N := 10) (by decide) hj0 c_6
                  subst hj
                  refine lv_bipush (v := (-2)) hx hb dX1_add_121 (by decide) ?_
                  exact hret ((th, kd, hd, ps, ng), (fd, bf)) dX1_add_123 (by rw [addG, if_pos hok, if_pos (show ffr th 10 = 10 from ej0.symm)]) rfl hZ
                · skip
                  have hj : j < 10 := lp_lt (N := 10) (by decide) hj0 c_6
                  refine lv_aload_n hx hb dX1_add_52 rfl (lv_at hl 0 rfl) ?_
                  refine mg_th F hZ.1 dX1_add_53 ?_
                  refine lv_iload hx hb dX1_add_56 (lv_at hl 5 rfl) ?_
                  refine ma_th F hZ.1 hj dX1_add_58 ?_
                  refine lv_if_ne (tgt := 115) hx hb dX1_add_59 (by decide) (fun c_7 => ?_) (fun c_7 => ?_)
                  · skip
                    refine lv_incN (k := 5) (lv' := [(5, .int (nI (j + 1))), (0, .ref (q 0)), (1, .int kind), (2, .int head), (3, .int pos), (4, .int neg)]) hx hb dX1_add_115 hl rfl (by decide) rfl (fun ls hl => ?_)
                    refine lv_goto (tgt := 45) hx hb dX1_add_118 (by decide) ?_
                    exact ih45 (j + 1) (by omega) (by omega) (by rw [show 10 - j = (9 - j) + 1 by omega, ffr, show 9 - (9 - j) = j by omega, if_pos (b2i_nz.mp c_7)] at ej0; rw [show 10 - (j + 1) = 9 - j by omega]; exact ej0) _ _ hZ ls (lv_sub hl [1, 2, 3, 4, 5, 0] rfl)
                  · skip
                    refine lv_aload_n hx hb dX1_add_62 rfl (lv_at hl 0 rfl) ?_
                    refine mg_th F hZ.1 dX1_add_63 ?_
                    refine lv_iload hx hb dX1_add_66 (lv_at hl 5 rfl) ?_
                    refine lv_iconst (v := 1) hx hb dX1_add_68 (by decide) ?_
                    refine mt_th F hZ hj (B := true) rfl dX1_add_69 (fun H locs hZ => ?_)
                    refine lv_aload_n hx hb dX1_add_70 rfl (lv_at hl 0 rfl) ?_
                    refine mg_kd F hZ.1 dX1_add_71 ?_
                    refine lv_iload hx hb dX1_add_74 (lv_at hl 5 rfl) ?_
                    refine lv_iload_n hx hb dX1_add_76 rfl (lv_at hl 1 rfl) ?_
                    refine mt_kd F hZ hj dX1_add_77 (fun H locs hZ => ?_)
                    refine lv_aload_n hx hb dX1_add_78 rfl (lv_at hl 0 rfl) ?_
                    refine mg_hd F hZ.1 dX1_add_79 ?_
                    refine lv_iload hx hb dX1_add_82 (lv_at hl 5 rfl) ?_
                    refine lv_iload_n hx hb dX1_add_84 rfl (lv_at hl 1 rfl) ?_
                    refine lv_iconst (v := 2) hx hb dX1_add_85 (by decide) ?_
                    refine lv_icmp_ne (tgt := 93) hx hb dX1_add_86 (by decide) (fun c9 => absurd c_3 c9) (fun _ => ?_)
                    refine lv_iconst (v := 0) hx hb dX1_add_89 (by decide) ?_
                    refine lv_goto (tgt := 94) hx hb dX1_add_90 (by decide) ?_
                    refine mt_hd F hZ hj dX1_add_94 (fun H locs hZ => ?_)
                    refine lv_aload_n hx hb dX1_add_95 rfl (lv_at hl 0 rfl) ?_
                    refine mg_ps F hZ.1 dX1_add_96 ?_
                    refine lv_iload hx hb dX1_add_99 (lv_at hl 5 rfl) ?_
                    refine lv_iload_n hx hb dX1_add_101 rfl (lv_at hl 3 rfl) ?_
                    refine mt_ps F hZ hj dX1_add_102 (fun H locs hZ => ?_)
                    refine lv_aload_n hx hb dX1_add_103 rfl (lv_at hl 0 rfl) ?_
                    refine mg_ng F hZ.1 dX1_add_104 ?_
                    refine lv_iload hx hb dX1_add_107 (lv_at hl 5 rfl) ?_
                    refine lv_iload hx hb dX1_add_109 (lv_at hl 4 rfl) ?_
                    refine mt_ng F hZ hj dX1_add_111 (fun H locs hZ => ?_)
                    refine lv_iload hx hb dX1_add_112 (lv_at hl 5 rfl) ?_
                    have hff : ffr th 10 = j := by rw [← ej0, show 10 - j = (9 - j) + 1 by omega, ffr, show 9 - (9 - j) = j by omega, if_neg (by rw [b2i_z.mp c_7]; decide)]
                    exact hret (((updB th j true), (upd kd j kind), (upd hd j 0), (upd ps j pos), (upd ng j neg)), (fd, bf)) dX1_add_114 (by rw [addG, if_pos hok, hff, if_neg (by omega), if_pos c_3]) rfl hZ
            exact lp45 11 0 (by omega) (by omega) rfl _ _ hZ ls (lv_sub hl [1, 2, 3, 4, 5, 0] rfl)
          · skip
            refine lv_iconst (v := (-1)) hx hb dX1_add_40 (by decide) ?_
            exact hret ((th, kd, hd, ps, ng), (fd, bf)) dX1_add_41 (by rw [addG, if_neg (show ¬ addOk kind head pos neg = true by simp [addOk, if_neg c_1, if_neg c_2, if_pos c_3, if_neg c_4, if_pos c_5])]) rfl hZ
      · skip
        refine lv_iload_n hx hb dX1_add_14 rfl (lv_at hl 2 rfl) ?_
        refine lv_if_lt (tgt := 40) hx hb dX1_add_15 (by decide) (fun c_8 => ?_) (fun c_8 => ?_)
        · skip
          refine lv_iconst (v := (-1)) hx hb dX1_add_40 (by decide) ?_
          exact hret ((th, kd, hd, ps, ng), (fd, bf)) dX1_add_41 (by rw [addG, if_neg (show ¬ addOk kind head pos neg = true by simp [addOk, if_neg c_1, if_neg c_2, if_neg c_3, if_pos c_8])]) rfl hZ
        · skip
          refine lv_iload_n hx hb dX1_add_18 rfl (lv_at hl 2 rfl) ?_
          refine lv_iconst (v := 5) hx hb dX1_add_19 (by decide) ?_
          refine lv_icmp_gt (tgt := 40) hx hb dX1_add_20 (by decide) (fun c_9 => ?_) (fun c_9 => ?_)
          · skip
            refine lv_iconst (v := (-1)) hx hb dX1_add_40 (by decide) ?_
            exact hret ((th, kd, hd, ps, ng), (fd, bf)) dX1_add_41 (by rw [addG, if_neg (show ¬ addOk kind head pos neg = true by simp [addOk, if_neg c_1, if_neg c_2, if_neg c_3, if_neg c_8, if_pos c_9])]) rfl hZ
          · skip
            refine lv_aload_n hx hb dX1_add_23 rfl (lv_at hl 0 rfl) ?_
            refine lv_iload_n hx hb dX1_add_24 rfl (lv_at hl 3 rfl) ?_
            refine ky_set F hZ.1 hl.1 ⟨Nat.le_of_ble_eq_true rfl, Nat.le_of_ble_eq_true rfl⟩ (Nat.le_of_ble_eq_true rfl) dX1_add_25 ?_
            refine lv_if_eq (tgt := 40) hx hb dX1_add_28 (by decide) (fun c_10 => ?_) (fun c_10 => ?_)
            · skip
              refine lv_iconst (v := (-1)) hx hb dX1_add_40 (by decide) ?_
              exact hret ((th, kd, hd, ps, ng), (fd, bf)) dX1_add_41 (by rw [addG, if_neg (show ¬ addOk kind head pos neg = true by simp [addOk, if_neg c_1, if_neg c_2, if_neg c_3, if_neg c_8, if_neg c_9, if_pos c_10])]) rfl hZ
            · skip
              refine lv_aload_n hx hb dX1_add_31 rfl (lv_at hl 0 rfl) ?_
              refine lv_iload hx hb dX1_add_32 (lv_at hl 4 rfl) ?_
              refine ky_set F hZ.1 hl.1 ⟨Nat.le_of_ble_eq_true rfl, Nat.le_of_ble_eq_true rfl⟩ (Nat.le_of_ble_eq_true rfl) dX1_add_34 ?_
              refine lv_if_ne (tgt := 42) hx hb dX1_add_37 (by decide) (fun c_11 => ?_) (fun c_11 => ?_)
              · skip
                have hok : addOk kind head pos neg = true := by simp only [addOk, if_neg c_1, if_neg c_2, if_neg c_3, if_neg c_8, if_neg c_9, if_neg c_10, if_neg c_11]
                refine lv_iconst (v := 0) hx hb dX1_add_42 (by decide) ?_
                refine lv_istore (lv' := [(5, .int 0), (0, .ref (q 0)), (1, .int kind), (2, .int head), (3, .int pos), (4, .int neg)]) hx hb dX1_add_43 hl (by decide) rfl (fun ls hl => ?_)
                have lp45 : ∀ (nf j : Nat), j ≤ 10 → 10 < j + nf → ffr th (10 - j) = ffr th 10 → ∀ (H : Heap) (locs : List Loc), XS D A s (MW dZ dJ q th kd hd ps ng fd bf) H locs → ∀ (ls : Array Slot), lv_has ls 6 [(0, .ref (q 0)), (1, .int kind), (2, .int head), (3, .int pos), (4, .int neg), (5, .int (nI j))] → W p l e ry_add s m args below meth c H locs 0 0 Q (F0 m 45 ls []) := by
                  intro nf
                  induction nf with
                  | zero =>
                    intro j h1 h2
                    exact absurd h2 (by omega)
                  | succ nf ih45 =>
                    intro j hj0 hjn ej0 H locs hZ ls hl
                    refine lv_iload hx hb dX1_add_45 (lv_at hl 5 rfl) ?_
                    refine lv_bipush (v := 10) hx hb dX1_add_47 (by decide) ?_
                    refine lv_icmp_ge (tgt := 121) hx hb dX1_add_49 (by decide) (fun c_12 => ?_) (fun c_12 => ?_)
                    · skip
                      have hj : j = 10 := lp_ge (N := 10) (by decide) hj0 c_12
                      subst hj
                      refine lv_bipush (v := (-2)) hx hb dX1_add_121 (by decide) ?_
                      exact hret ((th, kd, hd, ps, ng), (fd, bf)) dX1_add_123 (by rw [addG, if_pos hok, if_pos (show ffr th 10 = 10 from ej0.symm)]) rfl hZ
                    · skip
                      have hj : j < 10 := lp_lt (N := 10) (by decide) hj0 c_12
                      refine lv_aload_n hx hb dX1_add_52 rfl (lv_at hl 0 rfl) ?_
                      refine mg_th F hZ.1 dX1_add_53 ?_
                      refine lv_iload hx hb dX1_add_56 (lv_at hl 5 rfl) ?_
                      refine ma_th F hZ.1 hj dX1_add_58 ?_
                      refine lv_if_ne (tgt := 115) hx hb dX1_add_59 (by decide) (fun c_13 => ?_) (fun c_13 => ?_)
                      · skip
                        refine lv_incN (k := 5) (lv' := [(5, .int (nI (j + 1))), (0, .ref (q 0)), (1, .int kind), (2, .int head), (3, .int pos), (4, .int neg)]) hx hb dX1_add_115 hl rfl (by decide) rfl (fun ls hl => ?_)
                        refine lv_goto (tgt := 45) hx hb dX1_add_118 (by decide) ?_
                        exact ih45 (j + 1) (by omega) (by omega) (by rw [show 10 - j = (9 - j) + 1 by omega, ffr, show 9 - (9 - j) = j by omega, if_pos (b2i_nz.mp c_13)] at ej0; rw [show 10 - (j + 1) = 9 - j by omega]; exact ej0) _ _ hZ ls (lv_sub hl [1, 2, 3, 4, 5, 0] rfl)
                      · skip
                        refine lv_aload_n hx hb dX1_add_62 rfl (lv_at hl 0 rfl) ?_
                        refine mg_th F hZ.1 dX1_add_63 ?_
                        refine lv_iload hx hb dX1_add_66 (lv_at hl 5 rfl) ?_
                        refine lv_iconst (v := 1) hx hb dX1_add_68 (by decide) ?_
                        refine mt_th F hZ hj (B := true) rfl dX1_add_69 (fun H locs hZ => ?_)
                        refine lv_aload_n hx hb dX1_add_70 rfl (lv_at hl 0 rfl) ?_
                        refine mg_kd F hZ.1 dX1_add_71 ?_
                        refine lv_iload hx hb dX1_add_74 (lv_at hl 5 rfl) ?_
                        refine lv_iload_n hx hb dX1_add_76 rfl (lv_at hl 1 rfl) ?_
                        refine mt_kd F hZ hj dX1_add_77 (fun H locs hZ => ?_)
                        refine lv_aload_n hx hb dX1_add_78 rfl (lv_at hl 0 rfl) ?_
                        refine mg_hd F hZ.1 dX1_add_79 ?_
                        refine lv_iload hx hb dX1_add_82 (lv_at hl 5 rfl) ?_
                        refine lv_iload_n hx hb dX1_add_84 rfl (lv_at hl 1 rfl) ?_
                        refine lv_iconst (v := 2) hx hb dX1_add_85 (by decide) ?_
                        refine lv_icmp_ne (tgt := 93) hx hb dX1_add_86 (by decide) (fun _ => ?_) (fun c9 => absurd c9 c_3)
                        refine lv_iload_n hx hb dX1_add_93 rfl (lv_at hl 2 rfl) ?_
                        refine mt_hd F hZ hj dX1_add_94 (fun H locs hZ => ?_)
                        refine lv_aload_n hx hb dX1_add_95 rfl (lv_at hl 0 rfl) ?_
                        refine mg_ps F hZ.1 dX1_add_96 ?_
                        refine lv_iload hx hb dX1_add_99 (lv_at hl 5 rfl) ?_
                        refine lv_iload_n hx hb dX1_add_101 rfl (lv_at hl 3 rfl) ?_
                        refine mt_ps F hZ hj dX1_add_102 (fun H locs hZ => ?_)
                        refine lv_aload_n hx hb dX1_add_103 rfl (lv_at hl 0 rfl) ?_
                        refine mg_ng F hZ.1 dX1_add_104 ?_
                        refine lv_iload hx hb dX1_add_107 (lv_at hl 5 rfl) ?_
                        refine lv_iload hx hb dX1_add_109 (lv_at hl 4 rfl) ?_
                        refine mt_ng F hZ hj dX1_add_111 (fun H locs hZ => ?_)
                        refine lv_iload hx hb dX1_add_112 (lv_at hl 5 rfl) ?_
                        have hff : ffr th 10 = j := by rw [← ej0, show 10 - j = (9 - j) + 1 by omega, ffr, show 9 - (9 - j) = j by omega, if_neg (by rw [b2i_z.mp c_13]; decide)]
                        exact hret (((updB th j true), (upd kd j kind), (upd hd j head), (upd ps j pos), (upd ng j neg)), (fd, bf)) dX1_add_114 (by rw [addG, if_pos hok, hff, if_neg (by omega), if_neg c_3]) rfl hZ
                exact lp45 11 0 (by omega) (by omega) rfl _ _ hZ ls (lv_sub hl [1, 2, 3, 4, 5, 0] rfl)
              · skip
                refine lv_iconst (v := (-1)) hx hb dX1_add_40 (by decide) ?_
                exact hret ((th, kd, hd, ps, ng), (fd, bf)) dX1_add_41 (by rw [addG, if_neg (show ¬ addOk kind head pos neg = true by simp [addOk, if_neg c_1, if_neg c_2, if_neg c_3, if_neg c_8, if_neg c_9, if_neg c_10, if_pos c_11])]) rfl hZ
abbrev ry_matters : Room := { frames := 4, cells := 0, slots := 0, locals := 92 }
set_option maxHeartbeats 4000000 in
set_option maxRecDepth 100000 in
theorem cy_matters (l : Launch) (D : va_G) (dB dZ dJ : ClassId) (q : Nat → Nat) (th : Nat → Bool) (kd hd ps ng : Nat → Int32) (fd bf : Nat → Bool) (x : Int32) : MId l yX1_matters (ws_ yX1_matters cX1_matters 4 (some .boolean)) ry_matters D dB dZ dJ [.ref (q 0), .int x] (MW dZ dJ q th kd hd ps ng fd bf) (fun (r : Int32) (u : MU) => r = yMat th kd hd ps ng x) (fun u : MU => MW dZ dJ q th kd hd ps ng u.1 u.2) := by
  refine MId.of (by decide) (Nat.le_of_ble_eq_true rfl) (fun p e s m args below meth c Q A F hZ hret ls hl => ?_)
  obtain ⟨hx, hb, hml, hown, hts⟩ := id F.1
  have hl : lv_has ls 4 [(0, .ref (q 0)), (1, .int x)] := hl
  refine lv_iload_n hx hb dX1_matters_0 rfl (lv_at hl 1 rfl) ?_
  refine lv_if_lt (tgt := 19) hx hb dX1_matters_1 (by decide) (fun c_1 => ?_) (fun c_1 => ?_)
  · skip
    refine lv_iconst (v := 0) hx hb dX1_matters_19 (by decide) ?_
    have hy : yHas th x = 0 := by rw [yHas]; simp only [if_pos c_1]
    exact hret (fd, bf) dX1_matters_20 (by rw [yMat, if_pos hy]) rfl hZ
  · skip
    refine lv_iload_n hx hb dX1_matters_4 rfl (lv_at hl 1 rfl) ?_
    refine lv_bipush (v := 9) hx hb dX1_matters_5 (by decide) ?_
    refine lv_icmp_gt (tgt := 19) hx hb dX1_matters_7 (by decide) (fun c_2 => ?_) (fun c_2 => ?_)
    · skip
      refine lv_iconst (v := 0) hx hb dX1_matters_19 (by decide) ?_
      have hy : yHas th x = 0 := by rw [yHas]; simp only [if_neg c_1, if_pos c_2]
      exact hret (fd, bf) dX1_matters_20 (by rw [yMat, if_pos hy]) rfl hZ
    · skip
      obtain ⟨j, hj9, ej⟩ := small_of (n := 9) c_1 (by decide) c_2
      subst ej
      have hj : j < 10 := by omega
      have hcl : (nI j).toNatClampNeg = j := nI_clamp (by omega)
      refine lv_aload_n hx hb dX1_matters_10 rfl (lv_at hl 0 rfl) ?_
      refine mg_th F hZ.1 dX1_matters_11 ?_
      refine lv_iload_n hx hb dX1_matters_14 rfl (lv_at hl 1 rfl) ?_
      refine ma_th F hZ.1 hj dX1_matters_15 ?_
      refine lv_if_ne (tgt := 21) hx hb dX1_matters_16 (by decide) (fun c_3 => ?_) (fun c_3 => ?_)
      · skip
        refine lv_aload_n hx hb dX1_matters_21 rfl (lv_at hl 0 rfl) ?_
        refine ky_work F hZ hl.1 ⟨Nat.le_of_ble_eq_true rfl, Nat.le_of_ble_eq_true rfl⟩ (Nat.le_of_ble_eq_true rfl) dX1_matters_22 (fun fd1 H locs hfd1 hZ => ?_)
        refine lv_iconst (v := 0) hx hb dX1_matters_25 (by decide) ?_
        refine lv_istore_n (lv' := [(2, .int 0), (0, .ref (q 0)), (1, .int (nI j))]) hx hb dX1_matters_26 rfl hl (by decide) rfl (fun ls hl => ?_)
        have lp27 : ∀ (nf k : Nat) (bf1 : Nat → Bool), k ≤ 64 → 64 < k + nf → bf1 = wkF bf fd1 k → ∀ (H : Heap) (locs : List Loc), XS D A s (MW dZ dJ q th kd hd ps ng fd1 bf1) H locs → ∀ (ls : Array Slot), lv_has ls 4 [(0, .ref (q 0)), (1, .int (nI j)), (2, .int (nI k))] → W p l e ry_matters s m args below meth c H locs 0 0 Q (F0 m 27 ls []) := by
          intro nf
          induction nf with
          | zero =>
            intro k bf1 h1 h2
            exact absurd h2 (by omega)
          | succ nf ih27 =>
            intro k bf1 hk0 hkn ek0 H locs hZ ls hl
            refine lv_iload_n hx hb dX1_matters_27 rfl (lv_at hl 2 rfl) ?_
            refine lv_bipush (v := 64) hx hb dX1_matters_28 (by decide) ?_
            refine lv_icmp_ge (tgt := 51) hx hb dX1_matters_30 (by decide) (fun c_4 => ?_) (fun c_4 => ?_)
            · skip
              have hk : k = 64 := lp_ge (N := 64) (by decide) hk0 c_4
              subst hk
              refine lv_aload_n hx hb dX1_matters_51 rfl (lv_at hl 0 rfl) ?_
              refine mg_th F hZ.1 dX1_matters_52 ?_
              refine lv_iload_n hx hb dX1_matters_55 rfl (lv_at hl 1 rfl) ?_
              refine lv_iconst (v := 0) hx hb dX1_matters_56 (by decide) ?_
              refine mt_th F hZ hj (B := false) rfl dX1_matters_57 (fun H locs hZ => ?_)
              refine lv_aload_n hx hb dX1_matters_58 rfl (lv_at hl 0 rfl) ?_
              refine ky_work F hZ hl.1 ⟨Nat.le_of_ble_eq_true rfl, Nat.le_of_ble_eq_true rfl⟩ (Nat.le_of_ble_eq_true rfl) dX1_matters_59 (fun fd2 H locs hfd2 hZ => ?_)
              refine lv_aload_n hx hb dX1_matters_62 rfl (lv_at hl 0 rfl) ?_
              refine mg_th F hZ.1 dX1_matters_63 ?_
              refine lv_iload_n hx hb dX1_matters_66 rfl (lv_at hl 1 rfl) ?_
              refine lv_iconst (v := 1) hx hb dX1_matters_67 (by decide) ?_
              refine mt_th F hZ hj (B := true) rfl dX1_matters_68 (fun H locs hZ => ?_)
              refine lv_iconst (v := 0) hx hb dX1_matters_69 (by decide) ?_
              refine lv_istore_n (lv' := [(2, .int 0), (0, .ref (q 0)), (1, .int (nI j))]) hx hb dX1_matters_70 rfl hl (by decide) rfl (fun ls hl => ?_)
              refine lv_iconst (v := 0) hx hb dX1_matters_71 (by decide) ?_
              refine lv_istore_n (lv' := [(3, .int 0), (2, .int 0), (0, .ref (q 0)), (1, .int (nI j))]) hx hb dX1_matters_72 rfl hl (by decide) rfl (fun ls hl => ?_)
              have lp73 : ∀ (nf i : Nat) (x2 : Int32), i ≤ 64 → 64 < i + nf → x2 = b2i (dif fd2 bf1 i) → ∀ (H : Heap) (locs : List Loc), XS D A s (MW dZ dJ q (updB (updB th j false) j true) kd hd ps ng fd2 bf1) H locs → ∀ (ls : Array Slot), lv_has ls 4 [(0, .ref (q 0)), (1, .int (nI j)), (2, .int x2), (3, .int (nI i))] → W p l e ry_matters s m args below meth c H locs 0 0 Q (F0 m 73 ls []) := by
                intro nf
                induction nf with
                | zero =>
                  intro i x2 h1 h2
                  exact absurd h2 (by omega)
                | succ nf ih73 =>
                  intro i x2 hi0 hin ei0 H locs hZ ls hl
                  refine lv_iload_n hx hb dX1_matters_73 rfl (lv_at hl 3 rfl) ?_
                  refine lv_bipush (v := 64) hx hb dX1_matters_74 (by decide) ?_
                  refine lv_icmp_ge (tgt := 110) hx hb dX1_matters_76 (by decide) (fun c_5 => ?_) (fun c_5 => ?_)
                  · skip
                    have hi : i = 64 := lp_ge (N := 64) (by decide) hi0 c_5
                    subst hi
                    refine lv_iload_n hx hb dX1_matters_110 rfl (lv_at hl 2 rfl) ?_
                    have hy : yHas th (nI j) = 1 := by rw [yHas]; simp only [hcl, if_neg c_1, if_neg c_2, if_neg c_3]
                    rw [updB_back (b2i_nz.mp c_3)] at hZ
                    exact hret (fd2, bf1) dX1_matters_111 (by rw [yMat, if_neg (by rw [hy]; decide), hcl, ei0]; exact congrArg b2i (dif_cg (fun m hm => by rw [hfd2]; exact wk_at 64 m hm) (fun m hm => by rw [ek0, wk_at 64 m hm, hfd1]; exact wk_at 64 m hm) 64 (by omega))) (by rw [ei0]; exact b2i_nar _) hZ
                  · skip
                    have hi : i < 64 := lp_lt (N := 64) (by decide) hi0 c_5
                    refine lv_iload_n hx hb dX1_matters_79 rfl (lv_at hl 2 rfl) ?_
                    refine lv_if_ne (tgt := 98) hx hb dX1_matters_80 (by decide) (fun c_6 => ?_) (fun c_6 => ?_)
                    · skip
                      refine lv_iconst (v := 1) hx hb dX1_matters_98 (by decide) ?_
                      refine lv_goto (tgt := 103) hx hb dX1_matters_99 (by decide) ?_
                      refine lv_istore_n (lv' := [(2, .int 1), (0, .ref (q 0)), (1, .int (nI j)), (3, .int (nI i))]) hx hb dX1_matters_103 rfl hl (by decide) rfl (fun ls hl => ?_)
                      refine lv_incN (k := 3) (lv' := [(3, .int (nI (i + 1))), (2, .int 1), (0, .ref (q 0)), (1, .int (nI j))]) hx hb dX1_matters_104 hl rfl (by decide) rfl (fun ls hl => ?_)
                      refine lv_goto (tgt := 73) hx hb dX1_matters_107 (by decide) ?_
                      exact ih73 (i + 1) 1 (by omega) (by omega) (by rw [dif, ← ei0]; simp only [if_neg c_6] <;> rfl) _ _ hZ ls (lv_sub hl [2, 3, 1, 0] rfl)
                    · skip
                      refine lv_aload_n hx hb dX1_matters_83 rfl (lv_at hl 0 rfl) ?_
                      refine mg_fd F hZ.1 dX1_matters_84 ?_
                      refine lv_iload_n hx hb dX1_matters_87 rfl (lv_at hl 3 rfl) ?_
                      refine ma_fd F hZ.1 hi dX1_matters_88 ?_
                      refine lv_aload_n hx hb dX1_matters_89 rfl (lv_at hl 0 rfl) ?_
                      refine mg_bf F hZ.1 dX1_matters_90 ?_
                      refine lv_iload_n hx hb dX1_matters_93 rfl (lv_at hl 3 rfl) ?_
                      refine ma_bf F hZ.1 hi dX1_matters_94 ?_
                      refine lv_icmp_eq (tgt := 102) hx hb dX1_matters_95 (by decide) (fun c_7 => ?_) (fun c_7 => ?_)
                      · skip
                        refine lv_iconst (v := 0) hx hb dX1_matters_102 (by decide) ?_
                        refine lv_istore_n (lv' := [(2, .int 0), (0, .ref (q 0)), (1, .int (nI j)), (3, .int (nI i))]) hx hb dX1_matters_103 rfl hl (by decide) rfl (fun ls hl => ?_)
                        refine lv_incN (k := 3) (lv' := [(3, .int (nI (i + 1))), (2, .int 0), (0, .ref (q 0)), (1, .int (nI j))]) hx hb dX1_matters_104 hl rfl (by decide) rfl (fun ls hl => ?_)
                        refine lv_goto (tgt := 73) hx hb dX1_matters_107 (by decide) ?_
                        exact ih73 (i + 1) 0 (by omega) (by omega) (by rw [dif, ← ei0]; simp only [if_pos c_6, if_pos c_7] <;> rfl) _ _ hZ ls (lv_sub hl [2, 3, 1, 0] rfl)
                      · skip
                        refine lv_iconst (v := 1) hx hb dX1_matters_98 (by decide) ?_
                        refine lv_goto (tgt := 103) hx hb dX1_matters_99 (by decide) ?_
                        refine lv_istore_n (lv' := [(2, .int 1), (0, .ref (q 0)), (1, .int (nI j)), (3, .int (nI i))]) hx hb dX1_matters_103 rfl hl (by decide) rfl (fun ls hl => ?_)
                        refine lv_incN (k := 3) (lv' := [(3, .int (nI (i + 1))), (2, .int 1), (0, .ref (q 0)), (1, .int (nI j))]) hx hb dX1_matters_104 hl rfl (by decide) rfl (fun ls hl => ?_)
                        refine lv_goto (tgt := 73) hx hb dX1_matters_107 (by decide) ?_
                        exact ih73 (i + 1) 1 (by omega) (by omega) (by rw [dif, ← ei0]; simp only [if_pos c_6, if_neg c_7] <;> rfl) _ _ hZ ls (lv_sub hl [2, 3, 1, 0] rfl)
              exact lp73 65 0 0 (by omega) (by omega) rfl _ _ hZ ls (lv_sub hl [2, 3, 1, 0] rfl)
            · skip
              have hk : k < 64 := lp_lt (N := 64) (by decide) hk0 c_4
              refine lv_aload_n hx hb dX1_matters_33 rfl (lv_at hl 0 rfl) ?_
              refine mg_bf F hZ.1 dX1_matters_34 ?_
              refine lv_iload_n hx hb dX1_matters_37 rfl (lv_at hl 2 rfl) ?_
              refine lv_aload_n hx hb dX1_matters_38 rfl (lv_at hl 0 rfl) ?_
              refine mg_fd F hZ.1 dX1_matters_39 ?_
              refine lv_iload_n hx hb dX1_matters_42 rfl (lv_at hl 2 rfl) ?_
              refine ma_fd F hZ.1 hk dX1_matters_43 ?_
              refine mt_bf F hZ hk (B := (fd1 k)) rfl dX1_matters_44 (fun H locs hZ => ?_)
              refine lv_incN (k := 2) (lv' := [(2, .int (nI (k + 1))), (0, .ref (q 0)), (1, .int (nI j))]) hx hb dX1_matters_45 hl rfl (by decide) rfl (fun ls hl => ?_)
              refine lv_goto (tgt := 27) hx hb dX1_matters_48 (by decide) ?_
              exact ih27 (k + 1) (updB bf1 k (fd1 k)) (by omega) (by omega) (by rw [wkF, ← ek0]) _ _ hZ ls (lv_sub hl [1, 2, 0] rfl)
        exact lp27 65 0 bf (by omega) (by omega) rfl _ _ hZ ls (lv_sub hl [1, 2, 0] rfl)
      · skip
        refine lv_iconst (v := 0) hx hb dX1_matters_19 (by decide) ?_
        have hy : yHas th (nI j) = 0 := by rw [yHas]; simp only [hcl, if_neg c_1, if_neg c_2, if_pos c_3]
        exact hret (fd, bf) dX1_matters_20 (by rw [yMat, if_pos hy]) rfl hZ
end YM1
end
section
set_option maxRecDepth 100000
abbrev rx_init : Room := { frames := 1, cells := 8, slots := 72, locals := 12 }
set_option maxHeartbeats 4000000 in
set_option maxRecDepth 100000 in
theorem cx_init (l : Launch) (D : va_G) (dB dZ dJ : ClassId) (h0 sz : Nat) : Met l yX0_init (ws_ yX0_init cX0_init 1 none) rx_init (va_Pc [.ref h0] (fun U => U.heap.size = sz ∧ va_P D vwCl [(h0, .inr (0, [.int 0, .null, .null, .null, .null, .int 0, .int 0, .int 0, .int 0, .null, .null, .null, .null, .int 0, .long 0]))] U.heap ∧ va_K D vwCl (tyA dB dZ dJ) U ∧ va_D (fun _ => True) [(h0, .inr (0, [.int 0, .null, .null, .null, .null, .int 0, .int 0, .int 0, .int 0, .null, .null, .null, .null, .int 0, .long 0]))])) (va_Qv (fun u : Nat → Nat => u 0 = h0) (fun u t => va_P D vwCl (XW dB u 0 (fun _ => 0) (fun _ => 0) (fun _ => 0) (fun _ => 0) 0 0 false false (fun _ => 0) (fun _ => 0) (fun _ => 0) (fun _ => 0) false 0) t.heap ∧ va_D (va_A [(h0, .inr (0, [.int 0, .null, .null, .null, .null, .int 0, .int 0, .int 0, .int 0, .null, .null, .null, .null, .int 0, .long 0]))] sz) (XW dB u 0 (fun _ => 0) (fun _ => 0) (fun _ => 0) (fun _ => 0) 0 0 false false (fun _ => 0) (fun _ => 0) (fun _ => 0) (fun _ => 0) false 0)) (va_A [(h0, .inr (0, [.int 0, .null, .null, .null, .null, .int 0, .int 0, .int 0, .int 0, .null, .null, .null, .null, .int 0, .long 0]))] sz)) 8 72 (va_A [(h0, .inr (0, [.int 0, .null, .null, .null, .null, .int 0, .int 0, .int 0, .int 0, .null, .null, .null, .null, .int 0, .long 0]))] sz) := by
  refine Met.ofW (cc := cX0_init) (maxL := 1) (ret := none) (by decide) rfl ?_
  intro p e s m args below meth c s₁ B hml hv
  obtain ⟨rfl, hsz, hP, hK, hD0⟩ := hv
  have hx := B.exec
  have hb := B.bytes
  have hr := B.returns
  have hts := atoms_spec (ws := ws_ yX0_init cX0_init 1 none) B.pre
  have hts : ∀ w ∈ lw_all, w.before _ s = true := fun w h => hts w (List.mem_cons_of_mem _ h)
  have hown : s.vm.findClass RX0 = some m.cls := findClass_of_methodNamed B.named
  have hlocks := B.notSynchronized
  have hin : meth.name = "<init>" := (name_of_methodNamed B.named B.method).1
  subst hsz
  have hD := hD0.self (sz := s.heap.size)
  generalize hAe : va_A [(h0, .inr (0, [.int 0, .null, .null, .null, .null, .int 0, .int 0, .int 0, .int 0, .null, .null, .null, .null, .int 0, .long 0]))] s.heap.size = A at hD ⊢
  have hA : ∀ q : Nat, s.heap.size ≤ q → A q := fun q h => by rw [← hAe]; exact Or.inr h
  have hS : va_S A s.heap s.heap [] := va_S.rf
  have hl := lv_entry ([.ref h0]) (n := 1) (Nat.le_of_ble_eq_true rfl)
  rw [lg_entry_eq]
  generalize (lg_sl ([.ref h0]) ++ List.replicate (1 - (lg_sl ([.ref h0])).length) Slot.unset).toArray = ls at hl ⊢
  have hl : lv_has ls 1 [(0, .ref h0)] := hl
  refine lv_aload_n hx hb dX0_init_0 rfl (lv_at hl 0 rfl) ?_
  refine W.objInit hx hb hown (hts _ q27) (hts _ q28) (hts _ q29) rfl (by rw [hml]; exact hl.1) rfl dX0_init_1 (Nat.le_of_ble_eq_true rfl) (Nat.le_of_ble_eq_true rfl) ?_
  refine W.eq (g2 := F0 m 4 ls []) rfl ?_
  refine lv_aload_n hx hb dX0_init_4 rfl (lv_at hl 0 rfl) ?_
  refine lv_bipush (v := 10) hx hb dX0_init_5 (by decide) ?_
  refine va_newa (atype := .byte) (a0 := (10, .inl (fun _ => 0))) hx hb (hts _ q76) (ty := .byte) rfl hK hP hD hS hA (fun _ => rfl) (by decide) (by decide) (by decide) (Nat.le_of_ble_eq_true rfl) (Nat.le_of_ble_eq_true rfl) dX0_init_7 (fun q1_ cA H hK1 hP hD hS => ?_)
  have eA : dB = cA := Option.some.inj ((va_nm_byte (hK.2 0 _ rfl).2).symm.trans (va_nm_byte (hK1.2 3 _ rfl).2))
  subst eA
  have hP : va_P D vwCl [(h0, .inr (0, [.int 0, .null, .null, .null, .null, .int 0, .int 0, .int 0, .int 0, .null, .null, .null, .null, .int 0, .long 0])), (q1_, .inl (dB, 10, .inl (fun _ => 0)))] H := hP
  have hD : va_D A [(h0, .inr (0, [.int 0, .null, .null, .null, .null, .int 0, .int 0, .int 0, .int 0, .null, .null, .null, .null, .int 0, .long 0])), (q1_, .inl (dB, 10, .inl (fun _ => 0)))] := hD
  refine W.widen (k := 1) (n := 10) (Nat.le_refl _) (Nat.le_refl _) ?_
  refine va_putF (D := D) (ci := 0) (v := .ref q1_) (ty := .array .byte) (C := RX0) (T := TX0) (N := 15) hx hb hts in_X0 tyX0 tyX0_ok nmX0 hown hK hP hD hS 0 rfl rfl 1 (by decide) (hts _ q31) (fun _ h9 => h9) rfl hin rfl (by decide +kernel) rfl rfl (Nat.le_of_ble_eq_true rfl) dX0_init_9 (fun H locs hP hD hS => ?_)
  have hP : va_P D vwCl [(h0, .inr (0, [.int 0, .ref q1_, .null, .null, .null, .int 0, .int 0, .int 0, .int 0, .null, .null, .null, .null, .int 0, .long 0])), (q1_, .inl (dB, 10, .inl (fun _ => 0)))] H := hP
  have hD : va_D A [(h0, .inr (0, [.int 0, .ref q1_, .null, .null, .null, .int 0, .int 0, .int 0, .int 0, .null, .null, .null, .null, .int 0, .long 0])), (q1_, .inl (dB, 10, .inl (fun _ => 0)))] := hD
  refine lv_aload_n hx hb dX0_init_12 rfl (lv_at hl 0 rfl) ?_
  refine lv_bipush (v := 10) hx hb dX0_init_13 (by decide) ?_
  refine va_newa (atype := .byte) (a0 := (10, .inl (fun _ => 0))) hx hb (hts _ q76) (ty := .byte) rfl hK hP hD hS hA (fun _ => rfl) (by decide) (by decide) (by decide) (Nat.le_of_ble_eq_true rfl) (Nat.le_of_ble_eq_true rfl) dX0_init_15 (fun q2_ cA H hK1 hP hD hS => ?_)
  have eA : dB = cA := Option.some.inj ((va_nm_byte (hK.2 0 _ rfl).2).symm.trans (va_nm_byte (hK1.2 3 _ rfl).2))
  subst eA
  have hP : va_P D vwCl [(h0, .inr (0, [.int 0, .ref q1_, .null, .null, .null, .int 0, .int 0, .int 0, .int 0, .null, .null, .null, .null, .int 0, .long 0])), (q1_, .inl (dB, 10, .inl (fun _ => 0))), (q2_, .inl (dB, 10, .inl (fun _ => 0)))] H := hP
  have hD : va_D A [(h0, .inr (0, [.int 0, .ref q1_, .null, .null, .null, .int 0, .int 0, .int 0, .int 0, .null, .null, .null, .null, .int 0, .long 0])), (q1_, .inl (dB, 10, .inl (fun _ => 0))), (q2_, .inl (dB, 10, .inl (fun _ => 0)))] := hD
  refine W.widen (k := 2) (n := 20) (Nat.le_refl _) (Nat.le_refl _) ?_
  refine va_putF (D := D) (ci := 0) (v := .ref q2_) (ty := .array .byte) (C := RX0) (T := TX0) (N := 15) hx hb hts in_X0 tyX0 tyX0_ok nmX0 hown hK hP hD hS 0 rfl rfl 2 (by decide) (hts _ q32) (fun _ h9 => h9) rfl hin rfl (by decide +kernel) rfl rfl (Nat.le_of_ble_eq_true rfl) dX0_init_17 (fun H locs hP hD hS => ?_)
  have hP : va_P D vwCl [(h0, .inr (0, [.int 0, .ref q1_, .ref q2_, .null, .null, .int 0, .int 0, .int 0, .int 0, .null, .null, .null, .null, .int 0, .long 0])), (q1_, .inl (dB, 10, .inl (fun _ => 0))), (q2_, .inl (dB, 10, .inl (fun _ => 0)))] H := hP
  have hD : va_D A [(h0, .inr (0, [.int 0, .ref q1_, .ref q2_, .null, .null, .int 0, .int 0, .int 0, .int 0, .null, .null, .null, .null, .int 0, .long 0])), (q1_, .inl (dB, 10, .inl (fun _ => 0))), (q2_, .inl (dB, 10, .inl (fun _ => 0)))] := hD
  refine lv_aload_n hx hb dX0_init_20 rfl (lv_at hl 0 rfl) ?_
  refine lv_bipush (v := 10) hx hb dX0_init_21 (by decide) ?_
  refine va_newa (atype := .byte) (a0 := (10, .inl (fun _ => 0))) hx hb (hts _ q76) (ty := .byte) rfl hK hP hD hS hA (fun _ => rfl) (by decide) (by decide) (by decide) (Nat.le_of_ble_eq_true rfl) (Nat.le_of_ble_eq_true rfl) dX0_init_23 (fun q3_ cA H hK1 hP hD hS => ?_)
  have eA : dB = cA := Option.some.inj ((va_nm_byte (hK.2 0 _ rfl).2).symm.trans (va_nm_byte (hK1.2 3 _ rfl).2))
  subst eA
  have hP : va_P D vwCl [(h0, .inr (0, [.int 0, .ref q1_, .ref q2_, .null, .null, .int 0, .int 0, .int 0, .int 0, .null, .null, .null, .null, .int 0, .long 0])), (q1_, .inl (dB, 10, .inl (fun _ => 0))), (q2_, .inl (dB, 10, .inl (fun _ => 0))), (q3_, .inl (dB, 10, .inl (fun _ => 0)))] H := hP
  have hD : va_D A [(h0, .inr (0, [.int 0, .ref q1_, .ref q2_, .null, .null, .int 0, .int 0, .int 0, .int 0, .null, .null, .null, .null, .int 0, .long 0])), (q1_, .inl (dB, 10, .inl (fun _ => 0))), (q2_, .inl (dB, 10, .inl (fun _ => 0))), (q3_, .inl (dB, 10, .inl (fun _ => 0)))] := hD
  refine W.widen (k := 3) (n := 30) (Nat.le_refl _) (Nat.le_refl _) ?_
  refine va_putF (D := D) (ci := 0) (v := .ref q3_) (ty := .array .byte) (C := RX0) (T := TX0) (N := 15) hx hb hts in_X0 tyX0 tyX0_ok nmX0 hown hK hP hD hS 0 rfl rfl 3 (by decide) (hts _ q33) (fun _ h9 => h9) rfl hin rfl (by decide +kernel) rfl rfl (Nat.le_of_ble_eq_true rfl) dX0_init_25 (fun H locs hP hD hS => ?_)
  have hP : va_P D vwCl [(h0, .inr (0, [.int 0, .ref q1_, .ref q2_, .ref q3_, .null, .int 0, .int 0, .int 0, .int 0, .null, .null, .null, .null, .int 0, .long 0])), (q1_, .inl (dB, 10, .inl (fun _ => 0))), (q2_, .inl (dB, 10, .inl (fun _ => 0))), (q3_, .inl (dB, 10, .inl (fun _ => 0)))] H := hP
  have hD : va_D A [(h0, .inr (0, [.int 0, .ref q1_, .ref q2_, .ref q3_, .null, .int 0, .int 0, .int 0, .int 0, .null, .null, .null, .null, .int 0, .long 0])), (q1_, .inl (dB, 10, .inl (fun _ => 0))), (q2_, .inl (dB, 10, .inl (fun _ => 0))), (q3_, .inl (dB, 10, .inl (fun _ => 0)))] := hD
  refine lv_aload_n hx hb dX0_init_28 rfl (lv_at hl 0 rfl) ?_
  refine lv_bipush (v := 10) hx hb dX0_init_29 (by decide) ?_
  refine va_newa (atype := .byte) (a0 := (10, .inl (fun _ => 0))) hx hb (hts _ q76) (ty := .byte) rfl hK hP hD hS hA (fun _ => rfl) (by decide) (by decide) (by decide) (Nat.le_of_ble_eq_true rfl) (Nat.le_of_ble_eq_true rfl) dX0_init_31 (fun q4_ cA H hK1 hP hD hS => ?_)
  have eA : dB = cA := Option.some.inj ((va_nm_byte (hK.2 0 _ rfl).2).symm.trans (va_nm_byte (hK1.2 3 _ rfl).2))
  subst eA
  have hP : va_P D vwCl [(h0, .inr (0, [.int 0, .ref q1_, .ref q2_, .ref q3_, .null, .int 0, .int 0, .int 0, .int 0, .null, .null, .null, .null, .int 0, .long 0])), (q1_, .inl (dB, 10, .inl (fun _ => 0))), (q2_, .inl (dB, 10, .inl (fun _ => 0))), (q3_, .inl (dB, 10, .inl (fun _ => 0))), (q4_, .inl (dB, 10, .inl (fun _ => 0)))] H := hP
  have hD : va_D A [(h0, .inr (0, [.int 0, .ref q1_, .ref q2_, .ref q3_, .null, .int 0, .int 0, .int 0, .int 0, .null, .null, .null, .null, .int 0, .long 0])), (q1_, .inl (dB, 10, .inl (fun _ => 0))), (q2_, .inl (dB, 10, .inl (fun _ => 0))), (q3_, .inl (dB, 10, .inl (fun _ => 0))), (q4_, .inl (dB, 10, .inl (fun _ => 0)))] := hD
  refine W.widen (k := 4) (n := 40) (Nat.le_refl _) (Nat.le_refl _) ?_
  refine va_putF (D := D) (ci := 0) (v := .ref q4_) (ty := .array .byte) (C := RX0) (T := TX0) (N := 15) hx hb hts in_X0 tyX0 tyX0_ok nmX0 hown hK hP hD hS 0 rfl rfl 4 (by decide) (hts _ q34) (fun _ h9 => h9) rfl hin rfl (by decide +kernel) rfl rfl (Nat.le_of_ble_eq_true rfl) dX0_init_33 (fun H locs hP hD hS => ?_)
  have hP : va_P D vwCl [(h0, .inr (0, [.int 0, .ref q1_, .ref q2_, .ref q3_, .ref q4_, .int 0, .int 0, .int 0, .int 0, .null, .null, .null, .null, .int 0, .long 0])), (q1_, .inl (dB, 10, .inl (fun _ => 0))), (q2_, .inl (dB, 10, .inl (fun _ => 0))), (q3_, .inl (dB, 10, .inl (fun _ => 0))), (q4_, .inl (dB, 10, .inl (fun _ => 0)))] H := hP
  have hD : va_D A [(h0, .inr (0, [.int 0, .ref q1_, .ref q2_, .ref q3_, .ref q4_, .int 0, .int 0, .int 0, .int 0, .null, .null, .null, .null, .int 0, .long 0])), (q1_, .inl (dB, 10, .inl (fun _ => 0))), (q2_, .inl (dB, 10, .inl (fun _ => 0))), (q3_, .inl (dB, 10, .inl (fun _ => 0))), (q4_, .inl (dB, 10, .inl (fun _ => 0)))] := hD
  refine lv_aload_n hx hb dX0_init_36 rfl (lv_at hl 0 rfl) ?_
  refine lv_bipush (v := 8) hx hb dX0_init_37 (by decide) ?_
  refine va_newa (atype := .byte) (a0 := (8, .inl (fun _ => 0))) hx hb (hts _ q76) (ty := .byte) rfl hK hP hD hS hA (fun _ => rfl) (by decide) (by decide) (by decide) (Nat.le_of_ble_eq_true rfl) (Nat.le_of_ble_eq_true rfl) dX0_init_39 (fun q5_ cA H hK1 hP hD hS => ?_)
  have eA : dB = cA := Option.some.inj ((va_nm_byte (hK.2 0 _ rfl).2).symm.trans (va_nm_byte (hK1.2 3 _ rfl).2))
  subst eA
  have hP : va_P D vwCl [(h0, .inr (0, [.int 0, .ref q1_, .ref q2_, .ref q3_, .ref q4_, .int 0, .int 0, .int 0, .int 0, .null, .null, .null, .null, .int 0, .long 0])), (q1_, .inl (dB, 10, .inl (fun _ => 0))), (q2_, .inl (dB, 10, .inl (fun _ => 0))), (q3_, .inl (dB, 10, .inl (fun _ => 0))), (q4_, .inl (dB, 10, .inl (fun _ => 0))), (q5_, .inl (dB, 8, .inl (fun _ => 0)))] H := hP
  have hD : va_D A [(h0, .inr (0, [.int 0, .ref q1_, .ref q2_, .ref q3_, .ref q4_, .int 0, .int 0, .int 0, .int 0, .null, .null, .null, .null, .int 0, .long 0])), (q1_, .inl (dB, 10, .inl (fun _ => 0))), (q2_, .inl (dB, 10, .inl (fun _ => 0))), (q3_, .inl (dB, 10, .inl (fun _ => 0))), (q4_, .inl (dB, 10, .inl (fun _ => 0))), (q5_, .inl (dB, 8, .inl (fun _ => 0)))] := hD
  refine W.widen (k := 5) (n := 48) (Nat.le_refl _) (Nat.le_refl _) ?_
  refine va_putF (D := D) (ci := 0) (v := .ref q5_) (ty := .array .byte) (C := RX0) (T := TX0) (N := 15) hx hb hts in_X0 tyX0 tyX0_ok nmX0 hown hK hP hD hS 0 rfl rfl 9 (by decide) (hts _ q39) (fun _ h9 => h9) rfl hin rfl (by decide +kernel) rfl rfl (Nat.le_of_ble_eq_true rfl) dX0_init_41 (fun H locs hP hD hS => ?_)
  have hP : va_P D vwCl [(h0, .inr (0, [.int 0, .ref q1_, .ref q2_, .ref q3_, .ref q4_, .int 0, .int 0, .int 0, .int 0, .ref q5_, .null, .null, .null, .int 0, .long 0])), (q1_, .inl (dB, 10, .inl (fun _ => 0))), (q2_, .inl (dB, 10, .inl (fun _ => 0))), (q3_, .inl (dB, 10, .inl (fun _ => 0))), (q4_, .inl (dB, 10, .inl (fun _ => 0))), (q5_, .inl (dB, 8, .inl (fun _ => 0)))] H := hP
  have hD : va_D A [(h0, .inr (0, [.int 0, .ref q1_, .ref q2_, .ref q3_, .ref q4_, .int 0, .int 0, .int 0, .int 0, .ref q5_, .null, .null, .null, .int 0, .long 0])), (q1_, .inl (dB, 10, .inl (fun _ => 0))), (q2_, .inl (dB, 10, .inl (fun _ => 0))), (q3_, .inl (dB, 10, .inl (fun _ => 0))), (q4_, .inl (dB, 10, .inl (fun _ => 0))), (q5_, .inl (dB, 8, .inl (fun _ => 0)))] := hD
  refine lv_aload_n hx hb dX0_init_44 rfl (lv_at hl 0 rfl) ?_
  refine lv_bipush (v := 8) hx hb dX0_init_45 (by decide) ?_
  refine va_newa (atype := .byte) (a0 := (8, .inl (fun _ => 0))) hx hb (hts _ q76) (ty := .byte) rfl hK hP hD hS hA (fun _ => rfl) (by decide) (by decide) (by decide) (Nat.le_of_ble_eq_true rfl) (Nat.le_of_ble_eq_true rfl) dX0_init_47 (fun q6_ cA H hK1 hP hD hS => ?_)
  have eA : dB = cA := Option.some.inj ((va_nm_byte (hK.2 0 _ rfl).2).symm.trans (va_nm_byte (hK1.2 3 _ rfl).2))
  subst eA
  have hP : va_P D vwCl [(h0, .inr (0, [.int 0, .ref q1_, .ref q2_, .ref q3_, .ref q4_, .int 0, .int 0, .int 0, .int 0, .ref q5_, .null, .null, .null, .int 0, .long 0])), (q1_, .inl (dB, 10, .inl (fun _ => 0))), (q2_, .inl (dB, 10, .inl (fun _ => 0))), (q3_, .inl (dB, 10, .inl (fun _ => 0))), (q4_, .inl (dB, 10, .inl (fun _ => 0))), (q5_, .inl (dB, 8, .inl (fun _ => 0))), (q6_, .inl (dB, 8, .inl (fun _ => 0)))] H := hP
  have hD : va_D A [(h0, .inr (0, [.int 0, .ref q1_, .ref q2_, .ref q3_, .ref q4_, .int 0, .int 0, .int 0, .int 0, .ref q5_, .null, .null, .null, .int 0, .long 0])), (q1_, .inl (dB, 10, .inl (fun _ => 0))), (q2_, .inl (dB, 10, .inl (fun _ => 0))), (q3_, .inl (dB, 10, .inl (fun _ => 0))), (q4_, .inl (dB, 10, .inl (fun _ => 0))), (q5_, .inl (dB, 8, .inl (fun _ => 0))), (q6_, .inl (dB, 8, .inl (fun _ => 0)))] := hD
  refine W.widen (k := 6) (n := 56) (Nat.le_refl _) (Nat.le_refl _) ?_
  refine va_putF (D := D) (ci := 0) (v := .ref q6_) (ty := .array .byte) (C := RX0) (T := TX0) (N := 15) hx hb hts in_X0 tyX0 tyX0_ok nmX0 hown hK hP hD hS 0 rfl rfl 10 (by decide) (hts _ q40) (fun _ h9 => h9) rfl hin rfl (by decide +kernel) rfl rfl (Nat.le_of_ble_eq_true rfl) dX0_init_49 (fun H locs hP hD hS => ?_)
  have hP : va_P D vwCl [(h0, .inr (0, [.int 0, .ref q1_, .ref q2_, .ref q3_, .ref q4_, .int 0, .int 0, .int 0, .int 0, .ref q5_, .ref q6_, .null, .null, .int 0, .long 0])), (q1_, .inl (dB, 10, .inl (fun _ => 0))), (q2_, .inl (dB, 10, .inl (fun _ => 0))), (q3_, .inl (dB, 10, .inl (fun _ => 0))), (q4_, .inl (dB, 10, .inl (fun _ => 0))), (q5_, .inl (dB, 8, .inl (fun _ => 0))), (q6_, .inl (dB, 8, .inl (fun _ => 0)))] H := hP
  have hD : va_D A [(h0, .inr (0, [.int 0, .ref q1_, .ref q2_, .ref q3_, .ref q4_, .int 0, .int 0, .int 0, .int 0, .ref q5_, .ref q6_, .null, .null, .int 0, .long 0])), (q1_, .inl (dB, 10, .inl (fun _ => 0))), (q2_, .inl (dB, 10, .inl (fun _ => 0))), (q3_, .inl (dB, 10, .inl (fun _ => 0))), (q4_, .inl (dB, 10, .inl (fun _ => 0))), (q5_, .inl (dB, 8, .inl (fun _ => 0))), (q6_, .inl (dB, 8, .inl (fun _ => 0)))] := hD
  refine lv_aload_n hx hb dX0_init_52 rfl (lv_at hl 0 rfl) ?_
  refine lv_bipush (v := 8) hx hb dX0_init_53 (by decide) ?_
  refine va_newa (atype := .byte) (a0 := (8, .inl (fun _ => 0))) hx hb (hts _ q76) (ty := .byte) rfl hK hP hD hS hA (fun _ => rfl) (by decide) (by decide) (by decide) (Nat.le_of_ble_eq_true rfl) (Nat.le_of_ble_eq_true rfl) dX0_init_55 (fun q7_ cA H hK1 hP hD hS => ?_)
  have eA : dB = cA := Option.some.inj ((va_nm_byte (hK.2 0 _ rfl).2).symm.trans (va_nm_byte (hK1.2 3 _ rfl).2))
  subst eA
  have hP : va_P D vwCl [(h0, .inr (0, [.int 0, .ref q1_, .ref q2_, .ref q3_, .ref q4_, .int 0, .int 0, .int 0, .int 0, .ref q5_, .ref q6_, .null, .null, .int 0, .long 0])), (q1_, .inl (dB, 10, .inl (fun _ => 0))), (q2_, .inl (dB, 10, .inl (fun _ => 0))), (q3_, .inl (dB, 10, .inl (fun _ => 0))), (q4_, .inl (dB, 10, .inl (fun _ => 0))), (q5_, .inl (dB, 8, .inl (fun _ => 0))), (q6_, .inl (dB, 8, .inl (fun _ => 0))), (q7_, .inl (dB, 8, .inl (fun _ => 0)))] H := hP
  have hD : va_D A [(h0, .inr (0, [.int 0, .ref q1_, .ref q2_, .ref q3_, .ref q4_, .int 0, .int 0, .int 0, .int 0, .ref q5_, .ref q6_, .null, .null, .int 0, .long 0])), (q1_, .inl (dB, 10, .inl (fun _ => 0))), (q2_, .inl (dB, 10, .inl (fun _ => 0))), (q3_, .inl (dB, 10, .inl (fun _ => 0))), (q4_, .inl (dB, 10, .inl (fun _ => 0))), (q5_, .inl (dB, 8, .inl (fun _ => 0))), (q6_, .inl (dB, 8, .inl (fun _ => 0))), (q7_, .inl (dB, 8, .inl (fun _ => 0)))] := hD
  refine W.widen (k := 7) (n := 64) (Nat.le_refl _) (Nat.le_refl _) ?_
  refine va_putF (D := D) (ci := 0) (v := .ref q7_) (ty := .array .byte) (C := RX0) (T := TX0) (N := 15) hx hb hts in_X0 tyX0 tyX0_ok nmX0 hown hK hP hD hS 0 rfl rfl 11 (by decide) (hts _ q41) (fun _ h9 => h9) rfl hin rfl (by decide +kernel) rfl rfl (Nat.le_of_ble_eq_true rfl) dX0_init_57 (fun H locs hP hD hS => ?_)
  have hP : va_P D vwCl [(h0, .inr (0, [.int 0, .ref q1_, .ref q2_, .ref q3_, .ref q4_, .int 0, .int 0, .int 0, .int 0, .ref q5_, .ref q6_, .ref q7_, .null, .int 0, .long 0])), (q1_, .inl (dB, 10, .inl (fun _ => 0))), (q2_, .inl (dB, 10, .inl (fun _ => 0))), (q3_, .inl (dB, 10, .inl (fun _ => 0))), (q4_, .inl (dB, 10, .inl (fun _ => 0))), (q5_, .inl (dB, 8, .inl (fun _ => 0))), (q6_, .inl (dB, 8, .inl (fun _ => 0))), (q7_, .inl (dB, 8, .inl (fun _ => 0)))] H := hP
  have hD : va_D A [(h0, .inr (0, [.int 0, .ref q1_, .ref q2_, .ref q3_, .ref q4_, .int 0, .int 0, .int 0, .int 0, .ref q5_, .ref q6_, .ref q7_, .null, .int 0, .long 0])), (q1_, .inl (dB, 10, .inl (fun _ => 0))), (q2_, .inl (dB, 10, .inl (fun _ => 0))), (q3_, .inl (dB, 10, .inl (fun _ => 0))), (q4_, .inl (dB, 10, .inl (fun _ => 0))), (q5_, .inl (dB, 8, .inl (fun _ => 0))), (q6_, .inl (dB, 8, .inl (fun _ => 0))), (q7_, .inl (dB, 8, .inl (fun _ => 0)))] := hD
  refine lv_aload_n hx hb dX0_init_60 rfl (lv_at hl 0 rfl) ?_
  refine lv_bipush (v := 8) hx hb dX0_init_61 (by decide) ?_
  refine va_newa (atype := .byte) (a0 := (8, .inl (fun _ => 0))) hx hb (hts _ q76) (ty := .byte) rfl hK hP hD hS hA (fun _ => rfl) (by decide) (by decide) (by decide) (Nat.le_of_ble_eq_true rfl) (Nat.le_of_ble_eq_true rfl) dX0_init_63 (fun q8_ cA H hK1 hP hD hS => ?_)
  have eA : dB = cA := Option.some.inj ((va_nm_byte (hK.2 0 _ rfl).2).symm.trans (va_nm_byte (hK1.2 3 _ rfl).2))
  subst eA
  have hP : va_P D vwCl [(h0, .inr (0, [.int 0, .ref q1_, .ref q2_, .ref q3_, .ref q4_, .int 0, .int 0, .int 0, .int 0, .ref q5_, .ref q6_, .ref q7_, .null, .int 0, .long 0])), (q1_, .inl (dB, 10, .inl (fun _ => 0))), (q2_, .inl (dB, 10, .inl (fun _ => 0))), (q3_, .inl (dB, 10, .inl (fun _ => 0))), (q4_, .inl (dB, 10, .inl (fun _ => 0))), (q5_, .inl (dB, 8, .inl (fun _ => 0))), (q6_, .inl (dB, 8, .inl (fun _ => 0))), (q7_, .inl (dB, 8, .inl (fun _ => 0))), (q8_, .inl (dB, 8, .inl (fun _ => 0)))] H := hP
  have hD : va_D A [(h0, .inr (0, [.int 0, .ref q1_, .ref q2_, .ref q3_, .ref q4_, .int 0, .int 0, .int 0, .int 0, .ref q5_, .ref q6_, .ref q7_, .null, .int 0, .long 0])), (q1_, .inl (dB, 10, .inl (fun _ => 0))), (q2_, .inl (dB, 10, .inl (fun _ => 0))), (q3_, .inl (dB, 10, .inl (fun _ => 0))), (q4_, .inl (dB, 10, .inl (fun _ => 0))), (q5_, .inl (dB, 8, .inl (fun _ => 0))), (q6_, .inl (dB, 8, .inl (fun _ => 0))), (q7_, .inl (dB, 8, .inl (fun _ => 0))), (q8_, .inl (dB, 8, .inl (fun _ => 0)))] := hD
  refine W.widen (k := 8) (n := 72) (Nat.le_refl _) (Nat.le_refl _) ?_
  refine va_putF (D := D) (ci := 0) (v := .ref q8_) (ty := .array .byte) (C := RX0) (T := TX0) (N := 15) hx hb hts in_X0 tyX0 tyX0_ok nmX0 hown hK hP hD hS 0 rfl rfl 12 (by decide) (hts _ q42) (fun _ h9 => h9) rfl hin rfl (by decide +kernel) rfl rfl (Nat.le_of_ble_eq_true rfl) dX0_init_65 (fun H locs hP hD hS => ?_)
  have hP : va_P D vwCl [(h0, .inr (0, [.int 0, .ref q1_, .ref q2_, .ref q3_, .ref q4_, .int 0, .int 0, .int 0, .int 0, .ref q5_, .ref q6_, .ref q7_, .ref q8_, .int 0, .long 0])), (q1_, .inl (dB, 10, .inl (fun _ => 0))), (q2_, .inl (dB, 10, .inl (fun _ => 0))), (q3_, .inl (dB, 10, .inl (fun _ => 0))), (q4_, .inl (dB, 10, .inl (fun _ => 0))), (q5_, .inl (dB, 8, .inl (fun _ => 0))), (q6_, .inl (dB, 8, .inl (fun _ => 0))), (q7_, .inl (dB, 8, .inl (fun _ => 0))), (q8_, .inl (dB, 8, .inl (fun _ => 0)))] H := hP
  have hD : va_D A [(h0, .inr (0, [.int 0, .ref q1_, .ref q2_, .ref q3_, .ref q4_, .int 0, .int 0, .int 0, .int 0, .ref q5_, .ref q6_, .ref q7_, .ref q8_, .int 0, .long 0])), (q1_, .inl (dB, 10, .inl (fun _ => 0))), (q2_, .inl (dB, 10, .inl (fun _ => 0))), (q3_, .inl (dB, 10, .inl (fun _ => 0))), (q4_, .inl (dB, 10, .inl (fun _ => 0))), (q5_, .inl (dB, 8, .inl (fun _ => 0))), (q6_, .inl (dB, 8, .inl (fun _ => 0))), (q7_, .inl (dB, 8, .inl (fun _ => 0))), (q8_, .inl (dB, 8, .inl (fun _ => 0)))] := hD
  exact W.vret hx hb hr (fun t ht hW => ⟨⟨(fun k => match k with | 0 => h0 | 1 => q1_ | 2 => q2_ | 3 => q3_ | 4 => q4_ | 5 => q5_ | 6 => q6_ | 7 => q7_ | _ => q8_), rfl, rfl, by rw [ht]; exact hP, hD⟩, hS.F ht⟩) hS.2.2 dX0_init_68
abbrev ry_init : Room := { frames := 1, cells := 7, slots := 178, locals := 12 }
set_option maxHeartbeats 4000000 in
set_option maxRecDepth 100000 in
theorem cy_init (l : Launch) (D : va_G) (dB dZ dJ : ClassId) (h0 sz : Nat) : Met l yX1_init (ws_ yX1_init cX1_init 1 none) ry_init (va_Pc [.ref h0] (fun U => U.heap.size = sz ∧ va_P D vwCl [(h0, .inr (1, [.null, .null, .null, .null, .null, .null, .null]))] U.heap ∧ va_K D vwCl (tyA dB dZ dJ) U ∧ va_D (fun _ => True) [(h0, .inr (1, [.null, .null, .null, .null, .null, .null, .null]))])) (va_Qv (fun u : Nat → Nat => u 0 = h0) (fun u t => va_P D vwCl (MW dZ dJ u (fun _ => false) (fun _ => 0) (fun _ => 0) (fun _ => 0) (fun _ => 0) (fun _ => false) (fun _ => false)) t.heap ∧ va_D (va_A [(h0, .inr (1, [.null, .null, .null, .null, .null, .null, .null]))] sz) (MW dZ dJ u (fun _ => false) (fun _ => 0) (fun _ => 0) (fun _ => 0) (fun _ => 0) (fun _ => false) (fun _ => false))) (va_A [(h0, .inr (1, [.null, .null, .null, .null, .null, .null, .null]))] sz)) 7 178 (va_A [(h0, .inr (1, [.null, .null, .null, .null, .null, .null, .null]))] sz) := by
  refine Met.ofW (cc := cX1_init) (maxL := 1) (ret := none) (by decide) rfl ?_
  intro p e s m args below meth c s₁ B hml hv
  obtain ⟨rfl, hsz, hP, hK, hD0⟩ := hv
  have hx := B.exec
  have hb := B.bytes
  have hr := B.returns
  have hts := atoms_spec (ws := ws_ yX1_init cX1_init 1 none) B.pre
  have hts : ∀ w ∈ lw_all, w.before _ s = true := fun w h => hts w (List.mem_cons_of_mem _ h)
  have hown : s.vm.findClass RX1 = some m.cls := findClass_of_methodNamed B.named
  have hlocks := B.notSynchronized
  have hin : meth.name = "<init>" := (name_of_methodNamed B.named B.method).1
  subst hsz
  have hD := hD0.self (sz := s.heap.size)
  generalize hAe : va_A [(h0, .inr (1, [.null, .null, .null, .null, .null, .null, .null]))] s.heap.size = A at hD ⊢
  have hA : ∀ q : Nat, s.heap.size ≤ q → A q := fun q h => by rw [← hAe]; exact Or.inr h
  have hS : va_S A s.heap s.heap [] := va_S.rf
  have hl := lv_entry ([.ref h0]) (n := 1) (Nat.le_of_ble_eq_true rfl)
  rw [lg_entry_eq]
  generalize (lg_sl ([.ref h0]) ++ List.replicate (1 - (lg_sl ([.ref h0])).length) Slot.unset).toArray = ls at hl ⊢
  have hl : lv_has ls 1 [(0, .ref h0)] := hl
  refine lv_aload_n hx hb dX1_init_0 rfl (lv_at hl 0 rfl) ?_
  refine W.objInit hx hb hown (hts _ q200) (hts _ q28) (hts _ q29) rfl (by rw [hml]; exact hl.1) rfl dX1_init_1 (Nat.le_of_ble_eq_true rfl) (Nat.le_of_ble_eq_true rfl) ?_
  refine W.eq (g2 := F0 m 4 ls []) rfl ?_
  refine lv_aload_n hx hb dX1_init_4 rfl (lv_at hl 0 rfl) ?_
  refine lv_bipush (v := 10) hx hb dX1_init_5 (by decide) ?_
  refine va_newa (atype := .boolean) (a0 := (10, .inl (fun _ => 0))) hx hb (hts _ q223) (ty := .boolean) rfl hK hP hD hS hA (fun _ => rfl) (by decide) (by decide) (by decide) (Nat.le_of_ble_eq_true rfl) (Nat.le_of_ble_eq_true rfl) dX1_init_7 (fun q1_ cA H hK1 hP hD hS => ?_)
  have eA : dZ = cA := Option.some.inj ((va_nm_boolean (hK.2 1 _ rfl).2).symm.trans (va_nm_boolean (hK1.2 3 _ rfl).2))
  subst eA
  have hP : va_P D vwCl [(h0, .inr (1, [.null, .null, .null, .null, .null, .null, .null])), (q1_, .inl (dZ, 10, .inl (fun _ => 0)))] H := hP
  have hD : va_D A [(h0, .inr (1, [.null, .null, .null, .null, .null, .null, .null])), (q1_, .inl (dZ, 10, .inl (fun _ => 0)))] := hD
  refine W.widen (k := 1) (n := 10) (Nat.le_refl _) (Nat.le_refl _) ?_
  refine va_put (D := D) (ci := 1) (v := .ref q1_) (ty := .array .boolean) (C := RX1) (T := TX1) (N := 7) hx hb hts in_X1 tyX1 tyX1_ok nmX1 hown hK hP hD hS 0 rfl rfl 0 (by decide) (hts _ q201) (fun _ h9 => h9) rfl (by decide +kernel) rfl rfl (Nat.le_of_ble_eq_true rfl) dX1_init_9 (fun H locs hP hD hS => ?_)
  have hP : va_P D vwCl [(h0, .inr (1, [.ref q1_, .null, .null, .null, .null, .null, .null])), (q1_, .inl (dZ, 10, .inl (fun _ => 0)))] H := hP
  have hD : va_D A [(h0, .inr (1, [.ref q1_, .null, .null, .null, .null, .null, .null])), (q1_, .inl (dZ, 10, .inl (fun _ => 0)))] := hD
  refine lv_aload_n hx hb dX1_init_12 rfl (lv_at hl 0 rfl) ?_
  refine lv_bipush (v := 10) hx hb dX1_init_13 (by decide) ?_
  refine va_newa (atype := .int) (a0 := (10, .inl (fun _ => 0))) hx hb (hts _ q224) (ty := .int) rfl hK hP hD hS hA (fun _ => rfl) (by decide) (by decide) (by decide) (Nat.le_of_ble_eq_true rfl) (Nat.le_of_ble_eq_true rfl) dX1_init_15 (fun q2_ cA H hK1 hP hD hS => ?_)
  have eA : dJ = cA := Option.some.inj ((va_nm_int (hK.2 2 _ rfl).2).symm.trans (va_nm_int (hK1.2 3 _ rfl).2))
  subst eA
  have hP : va_P D vwCl [(h0, .inr (1, [.ref q1_, .null, .null, .null, .null, .null, .null])), (q1_, .inl (dZ, 10, .inl (fun _ => 0))), (q2_, .inl (dJ, 10, .inl (fun _ => 0)))] H := hP
  have hD : va_D A [(h0, .inr (1, [.ref q1_, .null, .null, .null, .null, .null, .null])), (q1_, .inl (dZ, 10, .inl (fun _ => 0))), (q2_, .inl (dJ, 10, .inl (fun _ => 0)))] := hD
  refine W.widen (k := 2) (n := 20) (Nat.le_refl _) (Nat.le_refl _) ?_
  refine va_put (D := D) (ci := 1) (v := .ref q2_) (ty := .array .int) (C := RX1) (T := TX1) (N := 7) hx hb hts in_X1 tyX1 tyX1_ok nmX1 hown hK hP hD hS 0 rfl rfl 1 (by decide) (hts _ q202) (fun _ h9 => h9) rfl (by decide +kernel) rfl rfl (Nat.le_of_ble_eq_true rfl) dX1_init_17 (fun H locs hP hD hS => ?_)
  have hP : va_P D vwCl [(h0, .inr (1, [.ref q1_, .ref q2_, .null, .null, .null, .null, .null])), (q1_, .inl (dZ, 10, .inl (fun _ => 0))), (q2_, .inl (dJ, 10, .inl (fun _ => 0)))] H := hP
  have hD : va_D A [(h0, .inr (1, [.ref q1_, .ref q2_, .null, .null, .null, .null, .null])), (q1_, .inl (dZ, 10, .inl (fun _ => 0))), (q2_, .inl (dJ, 10, .inl (fun _ => 0)))] := hD
  refine lv_aload_n hx hb dX1_init_20 rfl (lv_at hl 0 rfl) ?_
  refine lv_bipush (v := 10) hx hb dX1_init_21 (by decide) ?_
  refine va_newa (atype := .int) (a0 := (10, .inl (fun _ => 0))) hx hb (hts _ q224) (ty := .int) rfl hK hP hD hS hA (fun _ => rfl) (by decide) (by decide) (by decide) (Nat.le_of_ble_eq_true rfl) (Nat.le_of_ble_eq_true rfl) dX1_init_23 (fun q3_ cA H hK1 hP hD hS => ?_)
  have eA : dJ = cA := Option.some.inj ((va_nm_int (hK.2 2 _ rfl).2).symm.trans (va_nm_int (hK1.2 3 _ rfl).2))
  subst eA
  have hP : va_P D vwCl [(h0, .inr (1, [.ref q1_, .ref q2_, .null, .null, .null, .null, .null])), (q1_, .inl (dZ, 10, .inl (fun _ => 0))), (q2_, .inl (dJ, 10, .inl (fun _ => 0))), (q3_, .inl (dJ, 10, .inl (fun _ => 0)))] H := hP
  have hD : va_D A [(h0, .inr (1, [.ref q1_, .ref q2_, .null, .null, .null, .null, .null])), (q1_, .inl (dZ, 10, .inl (fun _ => 0))), (q2_, .inl (dJ, 10, .inl (fun _ => 0))), (q3_, .inl (dJ, 10, .inl (fun _ => 0)))] := hD
  refine W.widen (k := 3) (n := 30) (Nat.le_refl _) (Nat.le_refl _) ?_
  refine va_put (D := D) (ci := 1) (v := .ref q3_) (ty := .array .int) (C := RX1) (T := TX1) (N := 7) hx hb hts in_X1 tyX1 tyX1_ok nmX1 hown hK hP hD hS 0 rfl rfl 2 (by decide) (hts _ q203) (fun _ h9 => h9) rfl (by decide +kernel) rfl rfl (Nat.le_of_ble_eq_true rfl) dX1_init_25 (fun H locs hP hD hS => ?_)
  have hP : va_P D vwCl [(h0, .inr (1, [.ref q1_, .ref q2_, .ref q3_, .null, .null, .null, .null])), (q1_, .inl (dZ, 10, .inl (fun _ => 0))), (q2_, .inl (dJ, 10, .inl (fun _ => 0))), (q3_, .inl (dJ, 10, .inl (fun _ => 0)))] H := hP
  have hD : va_D A [(h0, .inr (1, [.ref q1_, .ref q2_, .ref q3_, .null, .null, .null, .null])), (q1_, .inl (dZ, 10, .inl (fun _ => 0))), (q2_, .inl (dJ, 10, .inl (fun _ => 0))), (q3_, .inl (dJ, 10, .inl (fun _ => 0)))] := hD
  refine lv_aload_n hx hb dX1_init_28 rfl (lv_at hl 0 rfl) ?_
  refine lv_bipush (v := 10) hx hb dX1_init_29 (by decide) ?_
  refine va_newa (atype := .int) (a0 := (10, .inl (fun _ => 0))) hx hb (hts _ q224) (ty := .int) rfl hK hP hD hS hA (fun _ => rfl) (by decide) (by decide) (by decide) (Nat.le_of_ble_eq_true rfl) (Nat.le_of_ble_eq_true rfl) dX1_init_31 (fun q4_ cA H hK1 hP hD hS => ?_)
  have eA : dJ = cA := Option.some.inj ((va_nm_int (hK.2 2 _ rfl).2).symm.trans (va_nm_int (hK1.2 3 _ rfl).2))
  subst eA
  have hP : va_P D vwCl [(h0, .inr (1, [.ref q1_, .ref q2_, .ref q3_, .null, .null, .null, .null])), (q1_, .inl (dZ, 10, .inl (fun _ => 0))), (q2_, .inl (dJ, 10, .inl (fun _ => 0))), (q3_, .inl (dJ, 10, .inl (fun _ => 0))), (q4_, .inl (dJ, 10, .inl (fun _ => 0)))] H := hP
  have hD : va_D A [(h0, .inr (1, [.ref q1_, .ref q2_, .ref q3_, .null, .null, .null, .null])), (q1_, .inl (dZ, 10, .inl (fun _ => 0))), (q2_, .inl (dJ, 10, .inl (fun _ => 0))), (q3_, .inl (dJ, 10, .inl (fun _ => 0))), (q4_, .inl (dJ, 10, .inl (fun _ => 0)))] := hD
  refine W.widen (k := 4) (n := 40) (Nat.le_refl _) (Nat.le_refl _) ?_
  refine va_put (D := D) (ci := 1) (v := .ref q4_) (ty := .array .int) (C := RX1) (T := TX1) (N := 7) hx hb hts in_X1 tyX1 tyX1_ok nmX1 hown hK hP hD hS 0 rfl rfl 3 (by decide) (hts _ q204) (fun _ h9 => h9) rfl (by decide +kernel) rfl rfl (Nat.le_of_ble_eq_true rfl) dX1_init_33 (fun H locs hP hD hS => ?_)
  have hP : va_P D vwCl [(h0, .inr (1, [.ref q1_, .ref q2_, .ref q3_, .ref q4_, .null, .null, .null])), (q1_, .inl (dZ, 10, .inl (fun _ => 0))), (q2_, .inl (dJ, 10, .inl (fun _ => 0))), (q3_, .inl (dJ, 10, .inl (fun _ => 0))), (q4_, .inl (dJ, 10, .inl (fun _ => 0)))] H := hP
  have hD : va_D A [(h0, .inr (1, [.ref q1_, .ref q2_, .ref q3_, .ref q4_, .null, .null, .null])), (q1_, .inl (dZ, 10, .inl (fun _ => 0))), (q2_, .inl (dJ, 10, .inl (fun _ => 0))), (q3_, .inl (dJ, 10, .inl (fun _ => 0))), (q4_, .inl (dJ, 10, .inl (fun _ => 0)))] := hD
  refine lv_aload_n hx hb dX1_init_36 rfl (lv_at hl 0 rfl) ?_
  refine lv_bipush (v := 10) hx hb dX1_init_37 (by decide) ?_
  refine va_newa (atype := .int) (a0 := (10, .inl (fun _ => 0))) hx hb (hts _ q224) (ty := .int) rfl hK hP hD hS hA (fun _ => rfl) (by decide) (by decide) (by decide) (Nat.le_of_ble_eq_true rfl) (Nat.le_of_ble_eq_true rfl) dX1_init_39 (fun q5_ cA H hK1 hP hD hS => ?_)
  have eA : dJ = cA := Option.some.inj ((va_nm_int (hK.2 2 _ rfl).2).symm.trans (va_nm_int (hK1.2 3 _ rfl).2))
  subst eA
  have hP : va_P D vwCl [(h0, .inr (1, [.ref q1_, .ref q2_, .ref q3_, .ref q4_, .null, .null, .null])), (q1_, .inl (dZ, 10, .inl (fun _ => 0))), (q2_, .inl (dJ, 10, .inl (fun _ => 0))), (q3_, .inl (dJ, 10, .inl (fun _ => 0))), (q4_, .inl (dJ, 10, .inl (fun _ => 0))), (q5_, .inl (dJ, 10, .inl (fun _ => 0)))] H := hP
  have hD : va_D A [(h0, .inr (1, [.ref q1_, .ref q2_, .ref q3_, .ref q4_, .null, .null, .null])), (q1_, .inl (dZ, 10, .inl (fun _ => 0))), (q2_, .inl (dJ, 10, .inl (fun _ => 0))), (q3_, .inl (dJ, 10, .inl (fun _ => 0))), (q4_, .inl (dJ, 10, .inl (fun _ => 0))), (q5_, .inl (dJ, 10, .inl (fun _ => 0)))] := hD
  refine W.widen (k := 5) (n := 50) (Nat.le_refl _) (Nat.le_refl _) ?_
  refine va_put (D := D) (ci := 1) (v := .ref q5_) (ty := .array .int) (C := RX1) (T := TX1) (N := 7) hx hb hts in_X1 tyX1 tyX1_ok nmX1 hown hK hP hD hS 0 rfl rfl 4 (by decide) (hts _ q205) (fun _ h9 => h9) rfl (by decide +kernel) rfl rfl (Nat.le_of_ble_eq_true rfl) dX1_init_41 (fun H locs hP hD hS => ?_)
  have hP : va_P D vwCl [(h0, .inr (1, [.ref q1_, .ref q2_, .ref q3_, .ref q4_, .ref q5_, .null, .null])), (q1_, .inl (dZ, 10, .inl (fun _ => 0))), (q2_, .inl (dJ, 10, .inl (fun _ => 0))), (q3_, .inl (dJ, 10, .inl (fun _ => 0))), (q4_, .inl (dJ, 10, .inl (fun _ => 0))), (q5_, .inl (dJ, 10, .inl (fun _ => 0)))] H := hP
  have hD : va_D A [(h0, .inr (1, [.ref q1_, .ref q2_, .ref q3_, .ref q4_, .ref q5_, .null, .null])), (q1_, .inl (dZ, 10, .inl (fun _ => 0))), (q2_, .inl (dJ, 10, .inl (fun _ => 0))), (q3_, .inl (dJ, 10, .inl (fun _ => 0))), (q4_, .inl (dJ, 10, .inl (fun _ => 0))), (q5_, .inl (dJ, 10, .inl (fun _ => 0)))] := hD
  refine lv_aload_n hx hb dX1_init_44 rfl (lv_at hl 0 rfl) ?_
  refine lv_bipush (v := 64) hx hb dX1_init_45 (by decide) ?_
  refine va_newa (atype := .boolean) (a0 := (64, .inl (fun _ => 0))) hx hb (hts _ q223) (ty := .boolean) rfl hK hP hD hS hA (fun _ => rfl) (by decide) (by decide) (by decide) (Nat.le_of_ble_eq_true rfl) (Nat.le_of_ble_eq_true rfl) dX1_init_47 (fun q6_ cA H hK1 hP hD hS => ?_)
  have eA : dZ = cA := Option.some.inj ((va_nm_boolean (hK.2 1 _ rfl).2).symm.trans (va_nm_boolean (hK1.2 3 _ rfl).2))
  subst eA
  have hP : va_P D vwCl [(h0, .inr (1, [.ref q1_, .ref q2_, .ref q3_, .ref q4_, .ref q5_, .null, .null])), (q1_, .inl (dZ, 10, .inl (fun _ => 0))), (q2_, .inl (dJ, 10, .inl (fun _ => 0))), (q3_, .inl (dJ, 10, .inl (fun _ => 0))), (q4_, .inl (dJ, 10, .inl (fun _ => 0))), (q5_, .inl (dJ, 10, .inl (fun _ => 0))), (q6_, .inl (dZ, 64, .inl (fun _ => 0)))] H := hP
  have hD : va_D A [(h0, .inr (1, [.ref q1_, .ref q2_, .ref q3_, .ref q4_, .ref q5_, .null, .null])), (q1_, .inl (dZ, 10, .inl (fun _ => 0))), (q2_, .inl (dJ, 10, .inl (fun _ => 0))), (q3_, .inl (dJ, 10, .inl (fun _ => 0))), (q4_, .inl (dJ, 10, .inl (fun _ => 0))), (q5_, .inl (dJ, 10, .inl (fun _ => 0))), (q6_, .inl (dZ, 64, .inl (fun _ => 0)))] := hD
  refine W.widen (k := 6) (n := 114) (Nat.le_refl _) (Nat.le_refl _) ?_
  refine va_put (D := D) (ci := 1) (v := .ref q6_) (ty := .array .boolean) (C := RX1) (T := TX1) (N := 7) hx hb hts in_X1 tyX1 tyX1_ok nmX1 hown hK hP hD hS 0 rfl rfl 5 (by decide) (hts _ q206) (fun _ h9 => h9) rfl (by decide +kernel) rfl rfl (Nat.le_of_ble_eq_true rfl) dX1_init_49 (fun H locs hP hD hS => ?_)
  have hP : va_P D vwCl [(h0, .inr (1, [.ref q1_, .ref q2_, .ref q3_, .ref q4_, .ref q5_, .ref q6_, .null])), (q1_, .inl (dZ, 10, .inl (fun _ => 0))), (q2_, .inl (dJ, 10, .inl (fun _ => 0))), (q3_, .inl (dJ, 10, .inl (fun _ => 0))), (q4_, .inl (dJ, 10, .inl (fun _ => 0))), (q5_, .inl (dJ, 10, .inl (fun _ => 0))), (q6_, .inl (dZ, 64, .inl (fun _ => 0)))] H := hP
  have hD : va_D A [(h0, .inr (1, [.ref q1_, .ref q2_, .ref q3_, .ref q4_, .ref q5_, .ref q6_, .null])), (q1_, .inl (dZ, 10, .inl (fun _ => 0))), (q2_, .inl (dJ, 10, .inl (fun _ => 0))), (q3_, .inl (dJ, 10, .inl (fun _ => 0))), (q4_, .inl (dJ, 10, .inl (fun _ => 0))), (q5_, .inl (dJ, 10, .inl (fun _ => 0))), (q6_, .inl (dZ, 64, .inl (fun _ => 0)))] := hD
  refine lv_aload_n hx hb dX1_init_52 rfl (lv_at hl 0 rfl) ?_
  refine lv_bipush (v := 64) hx hb dX1_init_53 (by decide) ?_
  refine va_newa (atype := .boolean) (a0 := (64, .inl (fun _ => 0))) hx hb (hts _ q223) (ty := .boolean) rfl hK hP hD hS hA (fun _ => rfl) (by decide) (by decide) (by decide) (Nat.le_of_ble_eq_true rfl) (Nat.le_of_ble_eq_true rfl) dX1_init_55 (fun q7_ cA H hK1 hP hD hS => ?_)
  have eA : dZ = cA := Option.some.inj ((va_nm_boolean (hK.2 1 _ rfl).2).symm.trans (va_nm_boolean (hK1.2 3 _ rfl).2))
  subst eA
  have hP : va_P D vwCl [(h0, .inr (1, [.ref q1_, .ref q2_, .ref q3_, .ref q4_, .ref q5_, .ref q6_, .null])), (q1_, .inl (dZ, 10, .inl (fun _ => 0))), (q2_, .inl (dJ, 10, .inl (fun _ => 0))), (q3_, .inl (dJ, 10, .inl (fun _ => 0))), (q4_, .inl (dJ, 10, .inl (fun _ => 0))), (q5_, .inl (dJ, 10, .inl (fun _ => 0))), (q6_, .inl (dZ, 64, .inl (fun _ => 0))), (q7_, .inl (dZ, 64, .inl (fun _ => 0)))] H := hP
  have hD : va_D A [(h0, .inr (1, [.ref q1_, .ref q2_, .ref q3_, .ref q4_, .ref q5_, .ref q6_, .null])), (q1_, .inl (dZ, 10, .inl (fun _ => 0))), (q2_, .inl (dJ, 10, .inl (fun _ => 0))), (q3_, .inl (dJ, 10, .inl (fun _ => 0))), (q4_, .inl (dJ, 10, .inl (fun _ => 0))), (q5_, .inl (dJ, 10, .inl (fun _ => 0))), (q6_, .inl (dZ, 64, .inl (fun _ => 0))), (q7_, .inl (dZ, 64, .inl (fun _ => 0)))] := hD
  refine W.widen (k := 7) (n := 178) (Nat.le_refl _) (Nat.le_refl _) ?_
  refine va_put (D := D) (ci := 1) (v := .ref q7_) (ty := .array .boolean) (C := RX1) (T := TX1) (N := 7) hx hb hts in_X1 tyX1 tyX1_ok nmX1 hown hK hP hD hS 0 rfl rfl 6 (by decide) (hts _ q207) (fun _ h9 => h9) rfl (by decide +kernel) rfl rfl (Nat.le_of_ble_eq_true rfl) dX1_init_57 (fun H locs hP hD hS => ?_)
  have hP : va_P D vwCl [(h0, .inr (1, [.ref q1_, .ref q2_, .ref q3_, .ref q4_, .ref q5_, .ref q6_, .ref q7_])), (q1_, .inl (dZ, 10, .inl (fun _ => 0))), (q2_, .inl (dJ, 10, .inl (fun _ => 0))), (q3_, .inl (dJ, 10, .inl (fun _ => 0))), (q4_, .inl (dJ, 10, .inl (fun _ => 0))), (q5_, .inl (dJ, 10, .inl (fun _ => 0))), (q6_, .inl (dZ, 64, .inl (fun _ => 0))), (q7_, .inl (dZ, 64, .inl (fun _ => 0)))] H := hP
  have hD : va_D A [(h0, .inr (1, [.ref q1_, .ref q2_, .ref q3_, .ref q4_, .ref q5_, .ref q6_, .ref q7_])), (q1_, .inl (dZ, 10, .inl (fun _ => 0))), (q2_, .inl (dJ, 10, .inl (fun _ => 0))), (q3_, .inl (dJ, 10, .inl (fun _ => 0))), (q4_, .inl (dJ, 10, .inl (fun _ => 0))), (q5_, .inl (dJ, 10, .inl (fun _ => 0))), (q6_, .inl (dZ, 64, .inl (fun _ => 0))), (q7_, .inl (dZ, 64, .inl (fun _ => 0)))] := hD
  exact W.vret hx hb hr (fun t ht hW => ⟨⟨(fun k => match k with | 0 => h0 | 1 => q1_ | 2 => q2_ | 3 => q3_ | 4 => q4_ | 5 => q5_ | 6 => q6_ | _ => q7_), rfl, rfl, by rw [ht]; exact hP, hD⟩, hS.F ht⟩) hS.2.2 dX1_init_60
end
section
set_option maxRecDepth 100000
/-! THE CLAIM OUT OF ONE WALK OF THE LAW'S BODY. Your part is whole_start (and what it stands on); all else here is the same for every law, but numbers. -/
def R_law : String := "StableModelsLaw"
def lw_P (b : Addr) (xs : List Int32) (args : Array Value) (s : State) : Prop := args = #[.ref b] ∧ s.IntsAt b xs ∧ xs.length ≤ 320 ∧ (Jvm.Cond.and given_1 narrow_1).before args s = true
def lw_Q (_ : Array Value) (s : State) (o : Outcome) (t : State) : Prop := o = .returned (some (.int 1)) ∧ Framed s o t [] 600000 7290000
def lw_Z (below : List Frame) (a : Array Value) (s : State) : State → Prop := fun t => ∃ o, t.status = .running ∧ Ended t below o ∧ lw_Q a s o t
/-- the law's own end, with 1 on the stack, nothing written that was there before, its room as the claim has it -/
theorem lw_ret {p : Program} {l : Launch} {e : Env} {s : State} {m : MethodId} {below : List Frame} {meth : Method} {c : Code} {b : Nat} (hx : p.tables.exec = Jvm.exec) (hb : c.code = code) (hr : meth.sig.returnType = ret) (hlocks : meth.locks = false) {pc : Nat} {H : Heap} {ls : Array Slot} (hdg : decode code pc = .ok (.ireturn, 1)) : W p l e room_1 s m #[Value.ref b] below meth c H [] 600000 7290000 (lw_Z below #[Value.ref b] s) (F0 m pc ls [.int 1]) := by
  intro T hT X
  obtain ⟨fs, hret, hrun, hended, hW, hframe⟩ := X.leave (v := some (.int 1)) (hlocks := hlocks) (fun h => by rw [hr] at h; cases h)
  have hmeth' : T.vm.method? m = some meth := X.method'
  refine ⟨T.setFrames fs, ?_, .returned (some (.int 1)), hrun, hended, rfl, ⟨_, rfl⟩, hW, hframe⟩
  jvm_step X.here [X.here.top, hx, hb, hdg, hmeth', hr, ret, narrow_b1]
  (try refine ⟨rfl, ?_⟩); (try refine ⟨rfl, ?_⟩)
  first | (intro acts; rw [hret _ acts rfl rfl rfl]) | rw [hret _ _ rfl rfl rfl]
  exact Steps.refl _
/-- what holds at the law's entry: the machine, the code, the tables' words (any of lw_tbl by 'hts w (by decide +kernel)'), the script of L ints xs at the cell b, what the Statement gives of the start (any of its parts by flat_of_before) -/
def lw_At (p : Program) (s : State) (m : MethodId) (meth : Method) (c : Code) (b L : Nat) (xs : Nat → Int32) : Prop :=
  p.tables.exec = Jvm.exec ∧ c.code = code ∧ meth.sig.returnType = ret ∧ c.maxLocals = 4 ∧ s.vm.findClass R_law = some m.cls ∧ (∀ w ∈ lw_tbl, w.before #[Value.ref b] s = true) ∧ va_X b L xs s s.heap ∧ b < s.heap.size ∧ meth.locks = false ∧ (Jvm.Cond.and given_1 narrow_1).before #[Value.ref b] s = true

/-- the two objects' worlds side by side -/
def LW2 (D : va_G) (A : Nat → Prop) (s : State) (wx wm : va_W) (H : Heap) (locs : List Loc) : Prop :=
  va_P D vwCl wx H ∧ va_P D vwCl wm H ∧ va_D A (wx ++ wm) ∧ va_S A s.heap H locs ∧ ∀ q : Nat, s.heap.size ≤ q → A q
theorem ls_Dx {A : Nat → Prop} {wx wm : va_W} (h : va_D A (wx ++ wm)) : va_D A wx := by
  have key : ∀ (k : Nat) (q : Nat × va_E), wx[k]? = some q → (wx ++ wm)[k]? = some q := by
    intro k q hk
    rw [List.getElem?_append_left (List.getElem?_eq_some_iff.mp hk).1]
    exact hk
  exact ⟨fun i j x y hi hj => h.1 i j x y (key i x hi) (key j y hj), fun k q hk => h.2 k q (key k q hk)⟩
theorem ls_Dm {A : Nat → Prop} {wx wm : va_W} (h : va_D A (wx ++ wm)) : va_D A wm := by
  have key : ∀ (k : Nat) (q : Nat × va_E), wm[k]? = some q → (wx ++ wm)[wx.length + k]? = some q := by
    intro k q hk
    rw [List.getElem?_append_right (by omega), Nat.add_sub_cancel_left]
    exact hk
  refine ⟨fun i j x y hi hj hxy => ?_, fun k q hk => h.2 _ q (key k q hk)⟩
  have := h.1 _ _ x y (key i x hi) (key j y hj) hxy
  omega
theorem ls_ne {A : Nat → Prop} {wx wm : va_W} (h : va_D A (wx ++ wm)) {i j : Nat} {x y : Nat × va_E} (hi : wx[i]? = some x) (hj : wm[j]? = some y) : x.1 ≠ y.1 := by
  intro e
  have h1 : (wx ++ wm)[i]? = some x := by
    rw [List.getElem?_append_left (List.getElem?_eq_some_iff.mp hi).1]
    exact hi
  have h2 : (wx ++ wm)[wx.length + j]? = some y := by
    rw [List.getElem?_append_right (by omega), Nat.add_sub_cancel_left]
    exact hj
  have := h.1 _ _ x y h1 h2 e
  have := (List.getElem?_eq_some_iff.mp hi).1
  omega
theorem ls_keepx {D : va_G} {A : Nat → Prop} {wx wm : va_W} {H H1 : Heap} (hP : va_P D vwCl wm H) (hD : va_D A (wx ++ wm)) (hk : ∀ q : Nat, q < H.size → ¬ va_A wx H.size q → H1[q]? = H[q]?) : va_P D vwCl wm H1 := by
  refine hP.kept (fun k x hx => hk x.1 (hP k x hx).lt (fun h => ?_))
  rcases h with ⟨i, e, h⟩ | h
  · exact ls_ne hD h hx rfl
  · exact absurd (hP k x hx).lt (Nat.not_lt.mpr h)
theorem ls_keepm {D : va_G} {A : Nat → Prop} {wx wm : va_W} {H H1 : Heap} (hP : va_P D vwCl wx H) (hD : va_D A (wx ++ wm)) (hk : ∀ q : Nat, q < H.size → ¬ va_A wm H.size q → H1[q]? = H[q]?) : va_P D vwCl wx H1 := by
  refine hP.kept (fun k x hx => hk x.1 (hP k x hx).lt (fun h => ?_))
  rcases h with ⟨i, e, h⟩ | h
  · exact ls_ne hD hx h rfl
  · exact absurd (hP k x hx).lt (Nat.not_lt.mpr h)
section LC
variable {p : Program} {l : Launch} {e : Env} {R : Room} {s : State} {m : MethodId} {args : Array Value} {below : List Frame} {meth : Method} {c : Code} {H : Heap} {locs : List Loc} {cells slots : Nat} {Q : State → Prop}
variable {cc : ByteArray} {pc nL : Nat} {ls : Array Slot} {rest : List Value} {D : va_G} {dB dZ dJ : ClassId} {A : Nat → Prop}
variable {y : MethodName} {bytes : ByteArray} {maxL idx n : Nat} {ty : FieldType} {rm : Room} {own : String} {a : Nat} {As st : List Value} {wx wm : va_W}
theorem cl_IX {q0 ci : Nat} {fs : List Value} {T : u_T} {N : Nat} {S : Type} {post : Int32 → S → Prop} {wl' : S → va_W} (F : Fx own D dB dZ dJ p m c cc nL s args) (hL : LW2 D A s wx wm H locs) (hM : MId l y (ws_ y bytes maxL (some ty)) rm D dB dZ dJ (.ref a :: As) wx post wl')
    (hadr : ∀ u, (wl' u).map (fun q => q.1) = wx.map (fun q => q.1)) (he : wx[q0]? = some (a, .inr (ci, fs))) (hc : vwCl[ci]? = some (y.cls, T, N)) (hw : GoodIn lw_all (wsV own idx y.cls y (ws_ y bytes maxL (some ty))))
    (hd : y.cls = y.cls ∧ y.cls ≠ "java/lang/invoke/MethodHandle" ∧ y.cls ≠ "java/lang/invoke/VarHandle" ∧ (parseMethodDescriptor y.desc).map (fun d => d.parameters.length) = some n) (hn : As.length = n) (hrm : rm.cells = 0 ∧ rm.slots = 0)
    (hR : rm.frames + 1 ≤ R.frames ∧ 8 + (maxL + 11) + rm.locals ≤ R.locals) (hsz : ls.size = nL) (hst : st = As.reverse ++ .ref a :: rest) (hroom : (rest.map fun v => v.category).sum ≤ 8) (hdg : decode cc pc = .ok (.invokevirtual idx, 3)) (hf : cells ≤ R.cells ∧ slots ≤ R.slots)
    (kk : ∀ (r : Int32) (u : S) (H1 : Heap) (locs1 : List Loc), post r u → LW2 D A s (wl' u) wm H1 locs1 → W p l e R s m args below meth c H1 locs1 cells slots Q (F0 m (pc + 3) ls (.int r :: rest))) : W p l e R s m args below meth c H locs cells slots Q (F0 m pc ls st) := by
  subst hst
  obtain ⟨hPx, hPm, hD, hS, hA⟩ := hL
  have hDc : va_D A wx := ls_Dx hD
  have hP := hPx
  have hFc : ∀ q, va_A wx H.size q → A q := by
    intro q h
    rcases h with ⟨k, e, h⟩ | h
    · exact hDc.2 k (q, e) h
    · exact hA q (Nat.le_trans hS.1 h)
  refine va_calli (va_runV (As := As) (rest := rest) F.1 (hM H.size) (cwV n F.1.2.2.2.2 hw rfl hrm.1 hrm.2 hd hR) ⟨fun a U g mk q => by obtain ⟨q0, q1, qP, qK, qD⟩ := q; exact ⟨q0, q1, qP, va_K.moved (u := U) (U := U.calling g mk a) (Vm.Alike.refl U.vm) qK, qD⟩, va_recv F.2 hP hc he, fun U hU hW => ⟨rfl, by rw [hU], by rw [hU]; exact hP, va_K.moved hW.alike F.2, hDc.weaken (fun _ _ _ _ => trivial)⟩⟩ rfl hn hsz rfl (lv_room hroom) hdg hf) hS (fun q _ h => hFc q h) hFc (fun r u t H1 locs1 ht hvm hu hB hz1 hk1 hS1 => ?_)
  have hB' : va_P D vwCl (wl' u) H1 := by rw [← ht]; exact hB
  exact kk r u H1 locs1 hu ⟨hB', ls_keepx hPm hD hk1, va_D_adr hD (by rw [List.map_append, List.map_append, hadr u]), hS1, hA⟩
theorem cl_IM {q0 ci : Nat} {fs : List Value} {T : u_T} {N : Nat} {S : Type} {post : Int32 → S → Prop} {wl' : S → va_W} (F : Fx own D dB dZ dJ p m c cc nL s args) (hL : LW2 D A s wx wm H locs) (hM : MId l y (ws_ y bytes maxL (some ty)) rm D dB dZ dJ (.ref a :: As) wm post wl')
    (hadr : ∀ u, (wl' u).map (fun q => q.1) = wm.map (fun q => q.1)) (he : wm[q0]? = some (a, .inr (ci, fs))) (hc : vwCl[ci]? = some (y.cls, T, N)) (hw : GoodIn lw_all (wsV own idx y.cls y (ws_ y bytes maxL (some ty))))
    (hd : y.cls = y.cls ∧ y.cls ≠ "java/lang/invoke/MethodHandle" ∧ y.cls ≠ "java/lang/invoke/VarHandle" ∧ (parseMethodDescriptor y.desc).map (fun d => d.parameters.length) = some n) (hn : As.length = n) (hrm : rm.cells = 0 ∧ rm.slots = 0)
    (hR : rm.frames + 1 ≤ R.frames ∧ 8 + (maxL + 11) + rm.locals ≤ R.locals) (hsz : ls.size = nL) (hst : st = As.reverse ++ .ref a :: rest) (hroom : (rest.map fun v => v.category).sum ≤ 8) (hdg : decode cc pc = .ok (.invokevirtual idx, 3)) (hf : cells ≤ R.cells ∧ slots ≤ R.slots)
    (kk : ∀ (r : Int32) (u : S) (H1 : Heap) (locs1 : List Loc), post r u → LW2 D A s wx (wl' u) H1 locs1 → W p l e R s m args below meth c H1 locs1 cells slots Q (F0 m (pc + 3) ls (.int r :: rest))) : W p l e R s m args below meth c H locs cells slots Q (F0 m pc ls st) := by
  subst hst
  obtain ⟨hPx, hPm, hD, hS, hA⟩ := hL
  have hDc : va_D A wm := ls_Dm hD
  have hP := hPm
  have hFc : ∀ q, va_A wm H.size q → A q := by
    intro q h
    rcases h with ⟨k, e, h⟩ | h
    · exact hDc.2 k (q, e) h
    · exact hA q (Nat.le_trans hS.1 h)
  refine va_calli (va_runV (As := As) (rest := rest) F.1 (hM H.size) (cwV n F.1.2.2.2.2 hw rfl hrm.1 hrm.2 hd hR) ⟨fun a U g mk q => by obtain ⟨q0, q1, qP, qK, qD⟩ := q; exact ⟨q0, q1, qP, va_K.moved (u := U) (U := U.calling g mk a) (Vm.Alike.refl U.vm) qK, qD⟩, va_recv F.2 hP hc he, fun U hU hW => ⟨rfl, by rw [hU], by rw [hU]; exact hP, va_K.moved hW.alike F.2, hDc.weaken (fun _ _ _ _ => trivial)⟩⟩ rfl hn hsz rfl (lv_room hroom) hdg hf) hS (fun q _ h => hFc q h) hFc (fun r u t H1 locs1 ht hvm hu hB hz1 hk1 hS1 => ?_)
  have hB' : va_P D vwCl (wl' u) H1 := by rw [← ht]; exact hB
  exact kk r u H1 locs1 hu ⟨ls_keepm hPx hD hk1, hB', va_D_adr hD (by rw [List.map_append, List.map_append, hadr u]), hS1, hA⟩
/-- script[i + k] -/
theorem lw_arg {b L i k : Nat} {xs : Nat → Int32} {kI : Int} {H0 : Heap} (hx : p.tables.exec = Jvm.exec) (hb : c.code = cc) (hX : va_X b L xs s H0) (hbl : b < H0.size) (hbA : ¬ A b) (hS : va_S A H0 H locs) (h0 : ls[0]? = some (.val (.ref b))) (h3 : ls[3]? = some (.val (.int (nI i)))) (hk : Int32.ofInt kI = nI k) (hi : i + k < L) (hL : L < 2 ^ 31)
    (d0 : decode cc pc = .ok (.aload_n 0, 1)) (d1 : decode cc (pc + 1) = .ok (.iload_n 3, 1)) (d2 : decode cc (pc + 2) = .ok (.iconst kI, 1)) (d3 : decode cc (pc + 3) = .ok (.iadd, 1)) (d4 : decode cc (pc + 4) = .ok (.iaload, 1))
    (kk : W p l e R s m args below meth c H locs cells slots Q (F0 m (pc + 5) ls (.int (xs (i + k)) :: rest))) : W p l e R s m args below meth c H locs cells slots Q (F0 m pc ls rest) := by
  refine lv_aload_n hx hb d0 rfl h0 ?_
  refine lv_iload_n hx hb d1 rfl h3 ?_
  refine lv_iconst (v := nI k) hx hb d2 hk ?_
  refine lv_iadd hx hb d3 ?_
  rw [nI_add]
  refine va_sld hx hb hX hbl hbA hS (vp_in_nI hi hL) d4 ?_
  rw [nI_clamp (by omega)]
  exact kk
end LC
end
section
set_option maxRecDepth 100000
/-- what the law keeps between the two -/
def LI (pr : Int32) (kd hd ps ng : Nat → Int32) (th : Nat → Bool) (kn : Bool) (ms : Int64) : Prop :=
  WF kd hd ps ng ∧ (∀ j, j < 10 → th j = bt pr j) ∧ (∀ i, 10 ≤ i → bt pr i = false) ∧ (kn = true → MSok pr kd hd ps ng ms)
abbrev XU (dB : ClassId) (q : Nat → Nat) (pr : Int32) (kd hd ps ng : Nat → Int32) (u : PU) : va_W := XW dB q pr kd hd ps ng u.1 u.2.1 u.2.2.1 u.2.2.2.1 u.2.2.2.2.1 u.2.2.2.2.2.1 u.2.2.2.2.2.2.1 u.2.2.2.2.2.2.2.1 u.2.2.2.2.2.2.2.2.1 u.2.2.2.2.2.2.2.2.2
abbrev MV (dZ dJ : ClassId) (q : Nat → Nat) (th : Nat → Bool) (kd hd ps ng : Nat → Int32) (v : MU) : va_W := MW dZ dJ q th kd hd ps ng v.1 v.2
section CG
variable {th th' : Nat → Bool} {kd hd ps ng : Nat → Int32} {M : Int32}
theorem tk_cg (h : ∀ j, j < 10 → th j = th' j) {j : Nat} (hj : j < 10) : tkI th kd hd ng j M = tkI th' kd hd ng j M := by unfold tkI; rw [h j hj]
theorem msI_cg (h : ∀ j, j < 10 → th j = th' j) (s : Int32) : ∀ j, j ≤ 10 → msI th kd hd ps ng M s j = msI th' kd hd ps ng M s j
  | 0, _ => rfl
  | j + 1, hj => by rw [msI, msI, msI_cg h s j (by omega), msS, msS, tk_cg h (by omega)]
theorem msR_cg (h : ∀ j, j < 10 → th j = th' j) : ∀ t, msR th kd hd ps ng M t = msR th' kd hd ps ng M t
  | 0 => rfl
  | t + 1 => by rw [msR, msR, msR_cg h t, msI_cg h _ 10 (Nat.le_refl _)]
theorem mSup_cg (h : ∀ j, j < 10 → th j = th' j) : mSup th kd hd ps ng M = mSup th' kd hd ps ng M := by unfold mSup; rw [msR_cg h]
theorem stL_cg (h : ∀ j, j < 10 → th j = th' j) : ∀ j, j ≤ 10 → stL th kd hd ps ng M j = stL th' kd hd ps ng M j
  | 0, _ => by rw [stL, stL, mSup_cg h]
  | j + 1, hj => by rw [stL, stL, stL_cg h j (by omega), banI, banI, h j (by omega)]
theorem stb_cg (h : ∀ j, j < 10 → th j = th' j) : stb th kd hd ps ng M = stb th' kd hd ps ng M := stL_cg h 10 (Nat.le_refl _)
theorem stL_un (h : setI M = 0) : ∀ j, stL th kd hd ps ng M j = false
  | 0 => by rw [stL, if_pos h]
  | j + 1 => by rw [stL, stL_un h j, if_pos (by decide)]
theorem ffr_cg {f g : Nat → Bool} (h : ∀ j, j < 10 → f j = g j) : ∀ r, ffr f r = ffr g r
  | 0 => rfl
  | r + 1 => by rw [ffr, ffr, h (9 - r) (by omega), ffr_cg h r]
theorem ffr_le (f : Nat → Bool) : ∀ r, ffr f r ≤ 10
  | 0 => Nat.le_refl _
  | r + 1 => by
    rw [ffr]
    split
    · exact ffr_le f r
    · omega
theorem rl_bit : ∀ j, j ≤ 10 → ∀ i, i < 32 → bt (rlI th j) i = (decide (i < j) && th i)
  | 0, _, i, _ => by rw [rlI, b_0]; simp
  | j + 1, hj, i, hi => by
    have ih := rl_bit j (by omega) i hi
    rw [rlI]
    split
    · rename_i h
      rw [ih]
      by_cases e : i = j
      · subst e; simp [b2i_z.mp h]
      · rw [show decide (i < j + 1) = decide (i < j) from by simp only [decide_eq_decide]; omega]
    · rename_i h
      rw [b_or, ih, bit1 0 (by omega) hi]
      by_cases e : i = j
      · subst e; simp [b2i_nz.mp h]
      · rw [show decide (i < j + 1) = decide (i < j) from by simp only [decide_eq_decide]; omega, decide_eq_false e]; simp
end CG
section LW
variable {pr : Int32} {kd hd ps ng : Nat → Int32} {th : Nat → Bool} {kn : Bool} {ms : Int64}
theorem LI_0 : LI 0 (fun _ => 0) (fun _ => 0) (fun _ => 0) (fun _ => 0) (fun _ => false) false 0 :=
  ⟨fun _ _ => ⟨Or.inl rfl, ⟨0, by omega, rfl⟩, S6_0, S6_0⟩, fun j _ => (b_0 j).symm, fun i _ => b_0 i, fun h => by cases h⟩
theorem LI_st (h : LI pr kd hd ps ng th kn ms) : stF pr kd hd ps ng = stG th kd hd ps ng := by
  funext m
  exact stb_cg (fun j hj => (h.2.1 j hj).symm)
theorem LI_stb (h : LI pr kd hd ps ng th kn ms) (x : Int32) : xStb pr kd hd ps ng x = b2i (stb th kd hd ps ng x) := by
  unfold xStb
  split
  · rename_i h1
    rw [stb, stL_un h1]
    rfl
  · rw [stb_cg (fun j hj => (h.2.1 j hj).symm)]
theorem LI_rul (h : LI pr kd hd ps ng th kn ms) : pr = rlI th 10 := by
  apply b_ext
  intro i hi
  rw [rl_bit 10 (Nat.le_refl _) i hi]
  by_cases e : i < 10
  · rw [decide_eq_true e, h.2.1 i e]; rfl
  · rw [decide_eq_false e, h.2.2.1 i (by omega)]; rfl
theorem sup_step (h : LI pr kd hd ps ng th kn ms) (mm s : Int32) {j : Nat} (hj : j < 10) : supS pr kd hd ps ng mm j s = msS th kd hd ps ng mm j s := by
  obtain ⟨hk, ⟨a, ha, eh⟩, -, -⟩ := h.1 j hj
  have ht := h.2.1 j hj
  have h10 : ((mm >>> (hd j &&& 31)) &&& 1) = 0 ∨ ((mm >>> (hd j &&& 31)) &&& 1) = 1 := by
    rw [eh, and1 mm (by omega)]
    cases bt mm a
    · exact Or.inl rfl
    · exact Or.inr rfl
  have z1 : ¬ ((1 : Int32) = 0) := by decide
  unfold supS msS tkI
  by_cases c1 : hasI pr (nI j) = 0
  · have e1 : b2i (th j) = 0 := by rw [ht, (has_bt hj).mp c1]; rfl
    simp only [if_pos c1, if_pos e1, if_true]
  · have e1 : ¬ b2i (th j) = 0 := fun q => c1 ((has_bt hj).mpr (by rw [← ht]; exact b2i_z.mp q))
    by_cases c2 : (ng j &&& mm) = 0
    · rcases hk with q | q | q
      · have n2 : ¬ kd j = 2 := by rw [q]; decide
        simp only [if_neg c1, if_neg n2, if_pos c2, if_pos q, if_neg e1, if_neg z1]
      · have n2 : ¬ kd j = 2 := by rw [q]; decide
        have n0 : ¬ kd j = 0 := by rw [q]; decide
        rcases h10 with r | r
        · have r1 : ¬ ((mm >>> (hd j &&& 31)) &&& 1) = 1 := by rw [r]; decide
          simp only [if_neg c1, if_neg n2, if_pos c2, if_neg n0, if_pos q, if_neg e1, if_pos r, if_neg r1, ite_self, if_true]
        · have r0 : ¬ ((mm >>> (hd j &&& 31)) &&& 1) = 0 := by rw [r]; decide
          simp only [if_neg c1, if_neg n2, if_pos c2, if_neg n0, if_pos q, if_neg e1, if_neg r0, if_pos r, if_neg z1]
      · have n1 : ¬ kd j = 1 := by rw [q]; decide
        have n0 : ¬ kd j = 0 := by rw [q]; decide
        simp only [if_neg c1, if_pos q, if_pos c2, if_neg n0, if_neg n1, if_neg e1, if_true]
    · simp only [if_neg c1, if_neg c2, if_neg e1, ite_self, if_true]
theorem sup_in (h : LI pr kd hd ps ng th kn ms) (mm s : Int32) : ∀ j, j ≤ 10 → supI pr kd hd ps ng mm s j = msI th kd hd ps ng mm s j
  | 0, _ => rfl
  | j + 1, hj => by rw [supI, msI, sup_in h mm s j (by omega), sup_step h mm _ (by omega)]
theorem sup_rd (h : LI pr kd hd ps ng th kn ms) (mm : Int32) : ∀ t, supR pr kd hd ps ng mm t = msR th kd hd ps ng mm t
  | 0 => rfl
  | t + 1 => by rw [supR, msR, sup_rd h mm t, sup_in h mm _ 10 (Nat.le_refl _)]
theorem LI_sup (h : LI pr kd hd ps ng th kn ms) (x : Int32) : xSup pr kd hd ps ng x = mSup th kd hd ps ng x := by
  unfold xSup mSup
  rw [sup_rd h]
theorem LI_has (h : LI pr kd hd ps ng th kn ms) (x : Int32) : hasI pr x = yHas th x := by
  by_cases c0 : x < 0
  · rw [hasI, yHas, if_pos c0, if_pos c0]
  · obtain ⟨j, hj, e⟩ := nI_of c0
    subst e
    by_cases c1 : j < 10
    · have n9 : ¬ (9 : Int32) < nI j := show ¬ nI 9 < nI j from nI_nlt (by omega) (by decide)
      rw [yHas, if_neg c0, if_neg n9, nI_clamp hj, h.2.1 j c1]
      cases hb : bt pr j with
      | false => rw [(has_bt c1).mpr hb, if_pos (by decide)]
      | true => rw [if_neg (by decide)]; exact (hasI_01 pr (nI j)).resolve_left (fun q => by rw [(has_bt c1).mp q] at hb; cases hb)
    · have y9 : (9 : Int32) < nI j := show nI 9 < nI j from nI_lt (by omega) hj
      have y10 : (10 : Int32) ≤ nI j := show nI 10 ≤ nI j from nI_le (by omega) hj
      rw [hasI, yHas, if_neg c0, if_neg c0, if_pos y9, if_pos y10]
theorem rem_bit (pr : Int32) {j : Nat} (hj : j < 10) (i : Nat) : bt (pr &&& (((1 : Int32) <<< (nI j &&& 31)) ^^^ (-1))) i = (bt pr i && !decide (i = j)) := by
  rcases Nat.lt_or_ge i 32 with hi | hi
  · rw [b_and, b_not _ hi, bit1 0 (by omega) hi]
  · rw [b_big hi, b_big hi]; rfl
theorem LI_rem (h : LI pr kd hd ps ng th kn ms) (x : Int32) {kn' : Bool} {ms' : Int64} (hk : kn' = true → MSok (remP pr x) kd hd ps ng ms') : LI (remP pr x) kd hd ps ng (yRem th x) kn' ms' := by
  refine ⟨h.1, ?_, ?_, hk⟩
  · intro i hi
    by_cases c : hasI pr x = 0
    · rw [remP, if_pos c, yRem, if_pos (by rw [← LI_has h]; exact c)]
      exact h.2.1 i hi
    · obtain ⟨j, hj, e, hb⟩ := has_nI c
      rw [remP, if_neg c, yRem, if_neg (by rw [← LI_has h]; exact c), e, nI_clamp (by omega), rem_bit pr hj, updB]
      by_cases e2 : i = j
      · simp [e2]
      · simp [e2, h.2.1 i hi]
  · intro i hi
    by_cases c : hasI pr x = 0
    · rw [remP, if_pos c]; exact h.2.2.1 i hi
    · obtain ⟨j, hj, e, hb⟩ := has_nI c
      rw [remP, if_neg c, e, rem_bit pr hj, h.2.2.1 i hi]; rfl
theorem LI_mat (h : LI pr kd hd ps ng th kn ms) (x : Int32) : xMat pr kd hd ps ng x = yMat th kd hd ps ng x := by
  have h' := LI_rem h x (kn' := false) (ms' := 0) (fun q => by cases q)
  unfold xMat yMat
  rw [LI_has h]
  split
  · rfl
  · rename_i c
    rw [LI_st h, LI_st h', yRem, if_neg c]
theorem ok_eq (kind head pos neg : Int32) : addOkX kind head pos neg = addOk kind head pos neg := by
  have h56 : (6 : Int32) ≤ head ↔ (5 : Int32) < head := by
    rw [Int32.le_iff_toInt_le, Int32.lt_iff_toInt_lt, show (6 : Int32).toInt = 6 from by decide, show (5 : Int32).toInt = 5 from by decide]
    omega
  unfold addOkX addOk
  by_cases k2 : kind = 2
  · simp only [if_pos k2]
  · simp only [if_neg k2]
    by_cases k0 : kind < 0
    · simp only [if_pos k0, ite_self]
    · by_cases k3 : 2 < kind
      · simp only [if_neg k0, if_pos k3, ite_self]
      · by_cases h5 : (5 : Int32) < head
        · simp only [if_neg k0, if_neg k3, if_pos h5, if_pos (h56.mpr h5)]
        · simp only [if_neg k0, if_neg k3, if_neg h5, if_neg (fun q => h5 (h56.mp q))]
theorem ok_spec {kind head pos neg : Int32} (h : addOk kind head pos neg = true) : (kind = 0 ∨ kind = 1 ∨ kind = 2) ∧ (∃ a, a < 6 ∧ (if kind = 2 then 0 else head) = nI a) ∧ S6 pos ∧ S6 neg := by
  unfold addOk at h
  by_cases k0 : kind < 0
  · rw [if_pos k0] at h; cases h
  · rw [if_neg k0] at h
    by_cases k3 : 2 < kind
    · rw [if_pos k3] at h; cases h
    · rw [if_neg k3] at h
      have hk : kind = 0 ∨ kind = 1 ∨ kind = 2 := by
        obtain ⟨j, hj, e⟩ := small_of (n := 2) k0 (by decide) k3
        have : j = 0 ∨ j = 1 ∨ j = 2 := by omega
        rcases this with q | q | q <;> subst q
        · exact Or.inl e
        · exact Or.inr (Or.inl e)
        · exact Or.inr (Or.inr e)
      refine ⟨hk, ?_⟩
      by_cases k2 : kind = 2
      · rw [if_pos k2] at h
        refine ⟨⟨0, by omega, by rw [if_pos k2]; rfl⟩, ?_⟩
        by_cases c1 : setI pos = 0
        · rw [if_pos c1] at h; cases h
        · rw [if_neg c1] at h
          by_cases c2 : setI neg = 0
          · rw [if_pos c2] at h; cases h
          · exact ⟨set_S6 c1, set_S6 c2⟩
      · rw [if_neg k2] at h
        by_cases h0 : head < 0
        · rw [if_pos h0] at h; cases h
        · rw [if_neg h0] at h
          by_cases h5 : 5 < head
          · rw [if_pos h5] at h; cases h
          · rw [if_neg h5] at h
            obtain ⟨a, ha, e⟩ := small_of (n := 5) h0 (by decide) h5
            refine ⟨⟨a, by omega, by rw [if_neg k2]; exact e⟩, ?_⟩
            by_cases c1 : setI pos = 0
            · rw [if_pos c1] at h; cases h
            · rw [if_neg c1] at h
              by_cases c2 : setI neg = 0
              · rw [if_pos c2] at h; cases h
              · exact ⟨set_S6 c1, set_S6 c2⟩
theorem LI_add (h : LI pr kd hd ps ng th kn ms) (kind head pos neg : Int32) {r r' : Int32} {u : CR} {v : CM} (e : (r, u) = addF pr kd hd ps ng kind head pos neg) (e' : (r', v) = addG th kd hd ps ng kind head pos neg) {kn' : Bool} {ms' : Int64} (hk : kn' = true → MSok u.1 u.2.1 u.2.2.1 u.2.2.2.1 u.2.2.2.2 ms') : r = r' ∧ u.2 = v.2 ∧ LI u.1 u.2.1 u.2.2.1 u.2.2.2.1 u.2.2.2.2 v.1 kn' ms' := by
  have hff : ffr th 10 = ffr (bt pr) 10 := ffr_cg h.2.1 10
  rw [addF, ok_eq] at e
  rw [addG, hff] at e'
  by_cases c : addOk kind head pos neg = true
  · rw [if_pos c] at e e'
    by_cases c10 : ffr (bt pr) 10 = 10
    · rw [if_pos c10] at e e'
      cases e
      cases e'
      exact ⟨rfl, rfl, h.1, h.2.1, h.2.2.1, hk⟩
    · rw [if_neg c10] at e e'
      have hlt : ffr (bt pr) 10 < 10 := by have := ffr_le (bt pr) 10; omega
      generalize ffr (bt pr) 10 = f at e e' hlt
      cases e
      cases e'
      refine ⟨rfl, rfl, fun j hj => ?_, fun j hj => ?_, fun i hi => ?_, hk⟩
      · obtain ⟨w1, w2, w3, w4⟩ := ok_spec c
        by_cases ej : j = f
        · subst ej
          show (upd kd j kind j = 0 ∨ upd kd j kind j = 1 ∨ upd kd j kind j = 2) ∧ (∃ a, a < 6 ∧ upd hd j (if kind = 2 then 0 else head) j = nI a) ∧ S6 (upd ps j pos j) ∧ S6 (upd ng j neg j)
          rw [upd_s, upd_s, upd_s, upd_s]
          exact ⟨w1, w2, w3, w4⟩
        · show (upd kd f kind j = 0 ∨ upd kd f kind j = 1 ∨ upd kd f kind j = 2) ∧ (∃ a, a < 6 ∧ upd hd f (if kind = 2 then 0 else head) j = nI a) ∧ S6 (upd ps f pos j) ∧ S6 (upd ng f neg j)
          rw [upd_n _ _ ej, upd_n _ _ ej, upd_n _ _ ej, upd_n _ _ ej]
          exact h.1 j hj
      · show updB th f true j = bt (pr ||| ((1 : Int32) <<< (nI f &&& 31))) j
        rw [b_or, bit1 0 (by omega) (by omega), updB]
        by_cases ej : j = f
        · simp [ej]
        · simp [ej, h.2.1 j hj]
      · show bt (pr ||| ((1 : Int32) <<< (nI f &&& 31))) i = false
        rcases Nat.lt_or_ge i 32 with q | q
        · rw [b_or, bit1 0 (by omega) q, h.2.2.1 i hi, decide_eq_false (by omega)]; rfl
        · exact b_big q
  · rw [if_neg c] at e e'
    cases e
    cases e'
    exact ⟨rfl, rfl, h.1, h.2.1, h.2.2.1, hk⟩
theorem aCau_63 (f : Nat → Bool) : ∀ j, aCau f j &&& 63 = aCau f j
  | 0 => by show (63 : Int32) &&& 63 = 63; decide
  | j + 1 => by
    have ih := aCau_63 f j
    rw [aCau]
    split
    · exact ih
    · apply b_ext
      intro i hi
      have e : bt (aCau f j &&& 63) i = bt (aCau f j) i := by rw [ih]
      rw [b_and] at e
      rw [b_and, b_and]
      revert e
      cases bt (aCau f j) i <;> cases bt (nI j) i <;> cases bt 63 i <;> decide
theorem aCau_j (f : Nat → Bool) : ∀ j, aCauX f j = aCau f j
  | 0 => rfl
  | j + 1 => by rw [aCauX, aCau, aCau_j f j, aCau_63]
theorem aCau_eq (f : Nat → Bool) : aCauX f 64 = aCau f 64 := aCau_j f 64
theorem sub_le : ∀ a, a < 64 → ∀ b, b < 64 → (nI a &&& (nI b ^^^ (-1))) = 0 → a ≤ b := by decide +kernel
theorem mxX_iff (f : Nat → Bool) (mm : Nat) : ∀ r, r ≤ 64 → (mxX f mm r = 0 ↔ ∃ k, 64 - r ≤ k ∧ k < 64 ∧ f k = true ∧ (nI mm &&& (nI k ^^^ (-1))) = 0)
  | 0, _ => by
    rw [mxX]
    constructor
    · intro h; exact absurd h (by decide)
    · rintro ⟨k, h1, h2, -⟩; omega
  | r + 1, hr => by
    have ih := mxX_iff f mm r (by omega)
    rw [mxX]
    split
    · rename_i h1
      rw [ih]
      constructor
      · rintro ⟨k, a1, a2, a3⟩; exact ⟨k, by omega, a2, a3⟩
      · rintro ⟨k, a1, a2, a3, a4⟩
        refine ⟨k, ?_, a2, a3, a4⟩
        rcases Nat.lt_or_ge k (64 - r) with q | q
        · have e : k = 63 - r := by omega
          rw [e, b2i_z.mp h1] at a3; cases a3
        · exact q
    · rename_i h1
      split
      · rename_i h2
        exact ⟨fun _ => ⟨63 - r, by omega, by omega, b2i_nz.mp h1, h2⟩, fun _ => rfl⟩
      · rename_i h2
        rw [ih]
        constructor
        · rintro ⟨k, a1, a2, a3⟩; exact ⟨k, by omega, a2, a3⟩
        · rintro ⟨k, a1, a2, a3, a4⟩
          refine ⟨k, ?_, a2, a3, a4⟩
          rcases Nat.lt_or_ge k (64 - r) with q | q
          · have e : k = 63 - r := by omega
            rw [e] at a4; exact absurd a4 h2
          · exact q
theorem mxM_iff (f : Nat → Bool) (mm : Nat) (hm : mm < 64) : ∀ j, j ≤ 64 → (mxM f mm j = true ↔ f mm = true ∧ ∀ k, k < j → ¬ (f k = true ∧ k ≠ mm ∧ (nI mm &&& (nI k ^^^ (-1))) = 0))
  | 0, _ => ⟨fun h => ⟨h, fun k hk => absurd hk (Nat.not_lt_zero k)⟩, fun h => h.1⟩
  | j + 1, hj => by
    have ih := mxM_iff f mm hm j (by omega)
    have enI : nI j = nI mm ↔ j = mm := nI_eq (by omega) (by omega)
    rw [mxM]
    constructor
    · intro h
      split at h
      · cases h
      · rename_i h1
        obtain ⟨a1, a2⟩ := ih.mp (b2i_nz.mp h1)
        refine ⟨a1, fun k hk => ?_⟩
        rcases Nat.lt_succ_iff_lt_or_eq.mp hk with q | q
        · exact a2 k q
        · subst q
          rintro ⟨b1, b2, b3⟩
          rw [if_neg (b2i_nz.mpr b1), if_neg (fun q => b2 (enI.mp q)), if_pos b3] at h
          cases h
    · rintro ⟨a1, a2⟩
      have h1 := ih.mpr ⟨a1, fun k hk => a2 k (by omega)⟩
      rw [h1, if_neg (by decide)]
      split
      · rfl
      · rename_i c1
        split
        · rfl
        · rename_i c2
          split
          · rename_i c3
            exact absurd ⟨b2i_nz.mp c1, fun q => c2 (enI.mpr q), c3⟩ (a2 j (by omega))
          · rfl
theorem mx_same (f : Nat → Bool) {j : Nat} (hj : j < 64) : mxM f j 64 = true ↔ f j = true ∧ ¬ mxX f j (63 - j) = 0 := by
  rw [mxM_iff f j hj 64 (Nat.le_refl _), mxX_iff f j (63 - j) (by omega)]
  constructor
  · rintro ⟨a, b⟩
    refine ⟨a, ?_⟩
    rintro ⟨k, h1, h2, h3, h4⟩
    exact b k h2 ⟨h3, by omega, h4⟩
  · rintro ⟨a, b⟩
    refine ⟨a, fun k hk => ?_⟩
    rintro ⟨h1, h2, h3⟩
    have := sub_le j hj k hk h3
    exact b ⟨k, by omega, hk, h1, h3⟩
theorem aMax_j (f : Nat → Bool) : ∀ j, j ≤ 64 → aMaxX f j = aMaxM f j
  | 0, _ => rfl
  | j + 1, hj => by
    have ih := aMax_j f j (by omega)
    have hs := mx_same f (show j < 64 by omega)
    rw [aMaxX, aMaxM, ih]
    by_cases c1 : b2i (f j) = 0
    · rw [if_pos c1, if_pos]
      cases hc : mxM f j 64 with
      | false => rfl
      | true => have := (hs.mp hc).1; rw [b2i_z.mp c1] at this; cases this
    · rw [if_neg c1]
      by_cases c2 : mxX f j (63 - j) = 0
      · rw [if_pos c2, if_pos]
        cases hc : mxM f j 64 with
        | false => rfl
        | true => exact absurd c2 (hs.mp hc).2
      · rw [if_neg c2, if_neg]
        rw [hs.mpr ⟨b2i_nz.mp c1, c2⟩]
        decide
theorem aMax_eq (f : Nat → Bool) : aMaxX f 64 = aMaxM f 64 := aMax_j f 64 (Nat.le_refl _)
end LW
end
section
set_option maxRecDepth 100000
set_option maxHeartbeats 8000000 in
set_option maxRecDepth 100000 in
/-- THE LAW'S LOOP: at its head, the two agree -/
theorem law_loop {p : Program} {l : Launch} {e : Env} {s : State} {m : MethodId} {below : List Frame} {meth : Method} {c : Code} {D : va_G} {dB dZ dJ : ClassId} {b L : Nat} {xs : Nat → Int32} {qx qm : Nat → Nat} (hL : L ≤ 320) (C0 : lw_At p s m meth c b L xs) (hK : va_K D vwCl (tyA dB dZ dJ) s) :
    ∀ (nf i : Nat) (pr : Int32) (kd hd ps ng : Nat → Int32) (u : PU) (th : Nat → Bool) (v : MU), i ≤ L + 5 → L + 5 < i + nf → LI pr kd hd ps ng th u.2.2.2.2.2.2.2.2.1 u.2.2.2.2.2.2.2.2.2 → ∀ (H : Heap) (locs : List Loc), LW2 D (fun q : Nat => s.heap.size ≤ q) s (XU dB qx pr kd hd ps ng u) (MV dZ dJ qm th kd hd ps ng v) H locs → ∀ (ls : Array Slot), lv_has ls 4 [(0, .ref b), (1, .ref (qx 0)), (2, .ref (qm 0)), (3, .int (nI i))] → W p l e room_1 s m #[Value.ref b] below meth c H locs 17 272 (lw_Z below #[Value.ref b] s) (F0 m 18 ls []) := by
  obtain ⟨hx, hb, hr, hml, hown, hts, hX, hbl, hlocks, hgv⟩ := C0
  have hts0 : ∀ w ∈ lw_all, w.before #[Value.ref b] s = true := fun w h => hts w (lw_all_tbl h)
  have F : Fx R_law D dB dZ dJ p m c code 4 s #[Value.ref b] := ⟨⟨hx, hb, hml, hown, hts0⟩, hK⟩
  have hbA : ¬ (fun q : Nat => s.heap.size ≤ q) b := Nat.not_le.mpr hbl
  intro nf
  induction nf with
  | zero =>
    intro i pr kd hd ps ng u th v h1 h2
    exact absurd h2 (by omega)
  | succ nf ih =>
    intro i pr kd hd ps ng u th v hi hin hI H locs hZ ls hl
    have back : ∀ (pr : Int32) (kd hd ps ng : Nat → Int32) (u : PU) (th : Nat → Bool) (v : MU), LI pr kd hd ps ng th u.2.2.2.2.2.2.2.2.1 u.2.2.2.2.2.2.2.2.2 → ∀ (H : Heap) (locs : List Loc), LW2 D (fun q : Nat => s.heap.size ≤ q) s (XU dB qx pr kd hd ps ng u) (MV dZ dJ qm th kd hd ps ng v) H locs → i + 5 ≤ L → W p l e room_1 s m #[Value.ref b] below meth c H locs 17 272 (lw_Z below #[Value.ref b] s) (F0 m 379 ls []) := by
      intro pr kd hd ps ng u th v hI H locs hZ hi5
      refine lv_iinc (v := nI (i + 5)) (k := 3) (lv' := [(3, .int (nI (i + 5))), (0, .ref b), (1, .ref (qx 0)), (2, .ref (qm 0))]) hx hb dL_law_379 hl rfl (nI_add i 5) (by decide) rfl (fun ls hl => ?_)
      refine lv_goto (tgt := 18) hx hb dL_law_382 (by decide) ?_
      exact ih (i + 5) pr kd hd ps ng u th v (by omega) (by omega) hI _ _ hZ ls (lv_sub hl [1, 2, 3, 0] rfl)
    have l0 := lv_at hl 0 rfl
    have l1 := lv_at hl 1 rfl
    have l2 := lv_at hl 2 rfl
    have l3 := lv_at hl 3 rfl
    refine lv_iload_n hx hb dL_law_18 rfl l3 ?_
    refine lv_aload_n hx hb dL_law_19 rfl l0 ?_
    refine va_slen hx hb hX hbl hbA hZ.2.2.2.1 dL_law_20 ?_
    refine lv_iconst (v := 5) hx hb dL_law_21 (by decide) ?_
    refine lv_isub hx hb dL_law_22 ?_
    have e5 : (Int32.ofNat L - 5).toInt = (L : Int) - 5 := pk_sub_toInt (a := L) (b := 5) (by omega) (by decide)
    have ei : (nI i).toInt = (i : Int) := nI_toInt (by omega)
    refine lv_icmp_gt (tgt := 385) hx hb dL_law_23 (by decide) (fun c1 => ?_) (fun c1 => ?_)
    · refine lv_iconst (v := 1) hx hb dL_law_385 (by decide) ?_
      refine va_forget (fun q hq => hZ.2.2.2.1.2.2 q hq) ?_
      refine W.widen (k := 600000) (n := 7290000) (by decide) (by decide) ?_
      exact lw_ret hx hb hr hlocks dL_law_386
    · have hi5 : i + 5 ≤ L := by
        rw [Int32.lt_iff_toInt_lt, e5, ei] at c1
        omega
      refine lv_aload_n hx hb dL_law_26 rfl l0 ?_
      refine lv_iload_n hx hb dL_law_27 rfl l3 ?_
      refine va_sld hx hb hX hbl hbA hZ.2.2.2.1 (vp_in_nI (show i < L by omega) (by omega)) dL_law_28 ?_
      refine lv_bipush (v := 15) hx hb dL_law_29 (by decide) ?_
      refine lv_iand hx hb dL_law_31 ?_
      obtain ⟨n, hn, en⟩ := pk_andE (xs (nI i).toNatClampNeg) (m := 15) 4 (by decide)
      rw [en]
      have hn16 : n < 16 := hn
      have hcs : n = 0 ∨ n = 1 ∨ n = 2 ∨ n = 3 ∨ n = 4 ∨ n = 5 ∨ n = 6 ∨ n = 7 ∨ n = 8 ∨ n = 9 ∨ n = 10 ∨ n = 11 ∨ n = 12 ∨ n = 13 ∨ n = 14 ∨ n = 15 := by omega
      rcases hcs with rfl | rfl | rfl | rfl | rfl | rfl | rfl | rfl | rfl | rfl | rfl | rfl | rfl | rfl | rfl | rfl
      · refine lv_tableIn (off := 68) (tgt := 100) hx hb dL_law_32 (by decide) (by decide) rfl (by decide) ?_
        refine lv_aload_n hx hb dL_law_100 rfl l1 ?_
        refine lw_arg (k := 1) hx hb hX hbl hbA hZ.2.2.2.1 l0 l3 (by decide) (by omega) (by omega) dL_law_101 dL_law_102 dL_law_103 dL_law_104 dL_law_105 ?_
        refine lw_arg (k := 2) hx hb hX hbl hbA hZ.2.2.2.1 l0 l3 (by decide) (by omega) (by omega) dL_law_106 dL_law_107 dL_law_108 dL_law_109 dL_law_110 ?_
        refine lw_arg (k := 3) hx hb hX hbl hbA hZ.2.2.2.1 l0 l3 (by decide) (by omega) (by omega) dL_law_111 dL_law_112 dL_law_113 dL_law_114 dL_law_115 ?_
        refine lw_arg (k := 4) hx hb hX hbl hbA hZ.2.2.2.1 l0 l3 (by decide) (by omega) (by omega) dL_law_116 dL_law_117 dL_law_118 dL_law_119 dL_law_120 ?_
        refine cl_IX (q0 := 0) (ci := 0) (n := 4) (As := [.int (xs (i + 1)), .int (xs (i + 2)), .int (xs (i + 3)), .int (xs (i + 4))]) F hZ (cx_add l D dB dZ dJ qx pr kd hd ps ng u.1 u.2.1 u.2.2.1 u.2.2.2.1 u.2.2.2.2.1 u.2.2.2.2.2.1 u.2.2.2.2.2.2.1 u.2.2.2.2.2.2.2.1 u.2.2.2.2.2.2.2.2.1 u.2.2.2.2.2.2.2.2.2 hI.1 hI.2.2.2 (xs (i + 1)) (xs (i + 2)) (xs (i + 3)) (xs (i + 4))) (fun _ => rfl) rfl rfl (lw_V q77 q78 q79 q20 q80) (by decide +kernel) rfl ⟨rfl, rfl⟩ ⟨Nat.le_of_ble_eq_true rfl, Nat.le_of_ble_eq_true rfl⟩ hl.1 rfl (Nat.le_of_ble_eq_true rfl) dL_law_121 ⟨Nat.le_of_ble_eq_true rfl, Nat.le_of_ble_eq_true rfl⟩ (fun r1 u1 H locs hu hZ => ?_)
        refine lv_aload_n hx hb dL_law_124 rfl l2 ?_
        refine lw_arg (k := 1) hx hb hX hbl hbA hZ.2.2.2.1 l0 l3 (by decide) (by omega) (by omega) dL_law_125 dL_law_126 dL_law_127 dL_law_128 dL_law_129 ?_
        refine lw_arg (k := 2) hx hb hX hbl hbA hZ.2.2.2.1 l0 l3 (by decide) (by omega) (by omega) dL_law_130 dL_law_131 dL_law_132 dL_law_133 dL_law_134 ?_
        refine lw_arg (k := 3) hx hb hX hbl hbA hZ.2.2.2.1 l0 l3 (by decide) (by omega) (by omega) dL_law_135 dL_law_136 dL_law_137 dL_law_138 dL_law_139 ?_
        refine lw_arg (k := 4) hx hb hX hbl hbA hZ.2.2.2.1 l0 l3 (by decide) (by omega) (by omega) dL_law_140 dL_law_141 dL_law_142 dL_law_143 dL_law_144 ?_
        refine cl_IM (q0 := 0) (ci := 1) (n := 4) (As := [.int (xs (i + 1)), .int (xs (i + 2)), .int (xs (i + 3)), .int (xs (i + 4))]) F hZ (cy_add l D dB dZ dJ qm th kd hd ps ng v.1 v.2 (xs (i + 1)) (xs (i + 2)) (xs (i + 3)) (xs (i + 4))) (fun _ => rfl) rfl rfl (lw_V q225 q226 q227 q21 q228) (by decide +kernel) rfl ⟨rfl, rfl⟩ ⟨Nat.le_of_ble_eq_true rfl, Nat.le_of_ble_eq_true rfl⟩ hl.1 rfl (Nat.le_of_ble_eq_true rfl) dL_law_145 ⟨Nat.le_of_ble_eq_true rfl, Nat.le_of_ble_eq_true rfl⟩ (fun r2 v1 H locs hv hZ => ?_)
        obtain ⟨eR, eC, hI⟩ := LI_add hI _ _ _ _ hu.1 hv hu.2
        refine lv_icmp_eq (tgt := 379) hx hb dL_law_148 (by decide) (fun _ => ?_) (fun c2 => absurd eR c2)
        refine back u1.1.1 u1.1.2.1 u1.1.2.2.1 u1.1.2.2.2.1 u1.1.2.2.2.2 u1.2 v1.1.1 v1.2 hI _ _ ?_ hi5
        rw [eC]
        rw [eC] at hZ
        exact hZ
      · refine lv_tableIn (off := 121) (tgt := 153) hx hb dL_law_32 (by decide) (by decide) rfl (by decide) ?_
        refine lv_aload_n hx hb dL_law_153 rfl l1 ?_
        refine lw_arg (k := 1) hx hb hX hbl hbA hZ.2.2.2.1 l0 l3 (by decide) (by omega) (by omega) dL_law_154 dL_law_155 dL_law_156 dL_law_157 dL_law_158 ?_
        refine cl_IX (q0 := 0) (ci := 0) (n := 1) (As := [.int (xs (i + 1))]) F hZ (cx_remove l D dB dZ dJ qx pr kd hd ps ng u.1 u.2.1 u.2.2.1 u.2.2.2.1 u.2.2.2.2.1 u.2.2.2.2.2.1 u.2.2.2.2.2.2.1 u.2.2.2.2.2.2.2.1 u.2.2.2.2.2.2.2.2.1 u.2.2.2.2.2.2.2.2.2 hI.1 hI.2.2.2 (xs (i + 1))) (fun _ => rfl) rfl rfl (lw_V q88 q89 q90 q20 q91) (by decide +kernel) rfl ⟨rfl, rfl⟩ ⟨Nat.le_of_ble_eq_true rfl, Nat.le_of_ble_eq_true rfl⟩ hl.1 rfl (Nat.le_of_ble_eq_true rfl) dL_law_159 ⟨Nat.le_of_ble_eq_true rfl, Nat.le_of_ble_eq_true rfl⟩ (fun r1 u1 H locs hu hZ => ?_)
        refine lv_aload_n hx hb dL_law_162 rfl l2 ?_
        refine lw_arg (k := 1) hx hb hX hbl hbA hZ.2.2.2.1 l0 l3 (by decide) (by omega) (by omega) dL_law_163 dL_law_164 dL_law_165 dL_law_166 dL_law_167 ?_
        refine cl_IM (q0 := 0) (ci := 1) (n := 1) (As := [.int (xs (i + 1))]) F hZ (cy_remove l D dB dZ dJ qm th kd hd ps ng v.1 v.2 (xs (i + 1))) (fun _ => rfl) rfl rfl (lw_V q233 q234 q235 q21 q236) (by decide +kernel) rfl ⟨rfl, rfl⟩ ⟨Nat.le_of_ble_eq_true rfl, Nat.le_of_ble_eq_true rfl⟩ hl.1 rfl (Nat.le_of_ble_eq_true rfl) dL_law_168 ⟨Nat.le_of_ble_eq_true rfl, Nat.le_of_ble_eq_true rfl⟩ (fun r2 v1 H locs hv hZ => ?_)
        refine lv_icmp_eq (tgt := 379) hx hb dL_law_171 (by decide) (fun _ => ?_) (fun c2 => absurd (hu.1.trans ((LI_has hI _).trans hv.symm)) c2)
        exact back _ kd hd ps ng u1 _ v1 (LI_rem hI _ hu.2) _ _ hZ hi5
      · refine lv_tableIn (off := 144) (tgt := 176) hx hb dL_law_32 (by decide) (by decide) rfl (by decide) ?_
        refine lv_aload_n hx hb dL_law_176 rfl l1 ?_
        refine cl_R (q0 := 0) (ci := 0) (n := 0) (As := []) F hZ.1 (cx_rules l D dB dZ dJ qx pr kd hd ps ng u.1 u.2.1 u.2.2.1 u.2.2.2.1 u.2.2.2.2.1 u.2.2.2.2.2.1 u.2.2.2.2.2.2.1 u.2.2.2.2.2.2.2.1 u.2.2.2.2.2.2.2.2.1 u.2.2.2.2.2.2.2.2.2 ) rfl rfl (lw_V q92 q93 q94 q20 q95) (by decide +kernel) rfl ⟨rfl, rfl⟩ ⟨Nat.le_of_ble_eq_true rfl, Nat.le_of_ble_eq_true rfl⟩ hl.1 rfl (Nat.le_of_ble_eq_true rfl) dL_law_177 ⟨Nat.le_of_ble_eq_true rfl, Nat.le_of_ble_eq_true rfl⟩ ?_
        refine lv_aload_n hx hb dL_law_180 rfl l2 ?_
        refine cl_R (q0 := 0) (ci := 1) (n := 0) (As := []) F hZ.2.1 (cy_rules l D dB dZ dJ qm th kd hd ps ng v.1 v.2 ) rfl rfl (lw_V q237 q238 q239 q21 q240) (by decide +kernel) rfl ⟨rfl, rfl⟩ ⟨Nat.le_of_ble_eq_true rfl, Nat.le_of_ble_eq_true rfl⟩ hl.1 rfl (Nat.le_of_ble_eq_true rfl) dL_law_181 ⟨Nat.le_of_ble_eq_true rfl, Nat.le_of_ble_eq_true rfl⟩ ?_
        refine lv_icmp_eq (tgt := 379) hx hb dL_law_184 (by decide) (fun _ => ?_) (fun c2 => absurd (LI_rul hI) c2)
        exact back pr kd hd ps ng u th v hI _ _ hZ hi5
      · refine lv_tableIn (off := 157) (tgt := 189) hx hb dL_law_32 (by decide) (by decide) rfl (by decide) ?_
        refine lv_aload_n hx hb dL_law_189 rfl l1 ?_
        refine lw_arg (k := 1) hx hb hX hbl hbA hZ.2.2.2.1 l0 l3 (by decide) (by omega) (by omega) dL_law_190 dL_law_191 dL_law_192 dL_law_193 dL_law_194 ?_
        refine cl_R (q0 := 0) (ci := 0) (n := 1) (As := [.int (xs (i + 1))]) F hZ.1 (cx_support l D dB dZ dJ qx pr kd hd ps ng u.1 u.2.1 u.2.2.1 u.2.2.2.1 u.2.2.2.2.1 u.2.2.2.2.2.1 u.2.2.2.2.2.2.1 u.2.2.2.2.2.2.2.1 u.2.2.2.2.2.2.2.2.1 u.2.2.2.2.2.2.2.2.2 (xs (i + 1))) rfl rfl (lw_V q96 q97 q98 q20 q99) (by decide +kernel) rfl ⟨rfl, rfl⟩ ⟨Nat.le_of_ble_eq_true rfl, Nat.le_of_ble_eq_true rfl⟩ hl.1 rfl (Nat.le_of_ble_eq_true rfl) dL_law_195 ⟨Nat.le_of_ble_eq_true rfl, Nat.le_of_ble_eq_true rfl⟩ ?_
        refine lv_aload_n hx hb dL_law_198 rfl l2 ?_
        refine lw_arg (k := 1) hx hb hX hbl hbA hZ.2.2.2.1 l0 l3 (by decide) (by omega) (by omega) dL_law_199 dL_law_200 dL_law_201 dL_law_202 dL_law_203 ?_
        refine cl_R (q0 := 0) (ci := 1) (n := 1) (As := [.int (xs (i + 1))]) F hZ.2.1 (cy_support l D dB dZ dJ qm th kd hd ps ng v.1 v.2 (xs (i + 1))) rfl rfl (lw_V q241 q242 q243 q21 q244) (by decide +kernel) rfl ⟨rfl, rfl⟩ ⟨Nat.le_of_ble_eq_true rfl, Nat.le_of_ble_eq_true rfl⟩ hl.1 rfl (Nat.le_of_ble_eq_true rfl) dL_law_204 ⟨Nat.le_of_ble_eq_true rfl, Nat.le_of_ble_eq_true rfl⟩ ?_
        refine lv_icmp_eq (tgt := 379) hx hb dL_law_207 (by decide) (fun _ => ?_) (fun c2 => absurd (LI_sup hI _) c2)
        exact back pr kd hd ps ng u th v hI _ _ hZ hi5
      · refine lv_tableIn (off := 180) (tgt := 212) hx hb dL_law_32 (by decide) (by decide) rfl (by decide) ?_
        refine lv_aload_n hx hb dL_law_212 rfl l1 ?_
        refine lw_arg (k := 1) hx hb hX hbl hbA hZ.2.2.2.1 l0 l3 (by decide) (by omega) (by omega) dL_law_213 dL_law_214 dL_law_215 dL_law_216 dL_law_217 ?_
        refine cl_IX (q0 := 0) (ci := 0) (n := 1) (As := [.int (xs (i + 1))]) F hZ (cx_stable l D dB dZ dJ qx pr kd hd ps ng u.1 u.2.1 u.2.2.1 u.2.2.2.1 u.2.2.2.2.1 u.2.2.2.2.2.1 u.2.2.2.2.2.2.1 u.2.2.2.2.2.2.2.1 u.2.2.2.2.2.2.2.2.1 u.2.2.2.2.2.2.2.2.2 hI.1 hI.2.2.2 (xs (i + 1))) (fun _ => rfl) rfl rfl (lw_V q104 q105 q106 q20 q107) (by decide +kernel) rfl ⟨rfl, rfl⟩ ⟨Nat.le_of_ble_eq_true rfl, Nat.le_of_ble_eq_true rfl⟩ hl.1 rfl (Nat.le_of_ble_eq_true rfl) dL_law_218 ⟨Nat.le_of_ble_eq_true rfl, Nat.le_of_ble_eq_true rfl⟩ (fun r1 u1 H locs hu hZ => ?_)
        refine lv_aload_n hx hb dL_law_221 rfl l2 ?_
        refine lw_arg (k := 1) hx hb hX hbl hbA hZ.2.2.2.1 l0 l3 (by decide) (by omega) (by omega) dL_law_222 dL_law_223 dL_law_224 dL_law_225 dL_law_226 ?_
        refine cl_R (q0 := 0) (ci := 1) (n := 1) (As := [.int (xs (i + 1))]) F hZ.2.1 (cy_stable l D dB dZ dJ qm th kd hd ps ng v.1 v.2 (xs (i + 1))) rfl rfl (lw_V q249 q250 q251 q21 q252) (by decide +kernel) rfl ⟨rfl, rfl⟩ ⟨Nat.le_of_ble_eq_true rfl, Nat.le_of_ble_eq_true rfl⟩ hl.1 rfl (Nat.le_of_ble_eq_true rfl) dL_law_227 ⟨Nat.le_of_ble_eq_true rfl, Nat.le_of_ble_eq_true rfl⟩ ?_
        refine lv_icmp_eq (tgt := 379) hx hb dL_law_230 (by decide) (fun _ => ?_) (fun c2 => absurd (hu.1.trans (LI_stb hI _)) c2)
        exact back pr kd hd ps ng u1 th v ⟨hI.1, hI.2.1, hI.2.2.1, hu.2⟩ _ _ hZ hi5
      · refine lv_tableIn (off := 203) (tgt := 235) hx hb dL_law_32 (by decide) (by decide) rfl (by decide) ?_
        refine lv_aload_n hx hb dL_law_235 rfl l1 ?_
        refine cl_IX (q0 := 0) (ci := 0) (n := 0) (As := []) F hZ (cx_models l D dB dZ dJ qx pr kd hd ps ng u.1 u.2.1 u.2.2.1 u.2.2.2.1 u.2.2.2.2.1 u.2.2.2.2.2.1 u.2.2.2.2.2.2.1 u.2.2.2.2.2.2.2.1 u.2.2.2.2.2.2.2.2.1 u.2.2.2.2.2.2.2.2.2 hI.1 hI.2.2.2 ) (fun _ => rfl) rfl rfl (lw_V q159 q160 q161 q20 q162) (by decide +kernel) rfl ⟨rfl, rfl⟩ ⟨Nat.le_of_ble_eq_true rfl, Nat.le_of_ble_eq_true rfl⟩ hl.1 rfl (Nat.le_of_ble_eq_true rfl) dL_law_236 ⟨Nat.le_of_ble_eq_true rfl, Nat.le_of_ble_eq_true rfl⟩ (fun r1 u1 H locs hu hZ => ?_)
        refine lv_aload_n hx hb dL_law_239 rfl l2 ?_
        refine cl_R (q0 := 0) (ci := 1) (n := 0) (As := []) F hZ.2.1 (cy_models l D dB dZ dJ qm th kd hd ps ng v.1 v.2 ) rfl rfl (lw_V q254 q255 q256 q21 q257) (by decide +kernel) rfl ⟨rfl, rfl⟩ ⟨Nat.le_of_ble_eq_true rfl, Nat.le_of_ble_eq_true rfl⟩ hl.1 rfl (Nat.le_of_ble_eq_true rfl) dL_law_240 ⟨Nat.le_of_ble_eq_true rfl, Nat.le_of_ble_eq_true rfl⟩ ?_
        refine lv_icmp_eq (tgt := 379) hx hb dL_law_243 (by decide) (fun _ => ?_) (fun c2 => absurd (hu.1.trans (by rw [LI_st hI])) c2)
        exact back pr kd hd ps ng u1 th v ⟨hI.1, hI.2.1, hI.2.2.1, hu.2⟩ _ _ hZ hi5
      · refine lv_tableIn (off := 216) (tgt := 248) hx hb dL_law_32 (by decide) (by decide) rfl (by decide) ?_
        refine lv_aload_n hx hb dL_law_248 rfl l1 ?_
        refine lw_arg (k := 1) hx hb hX hbl hbA hZ.2.2.2.1 l0 l3 (by decide) (by omega) (by omega) dL_law_249 dL_law_250 dL_law_251 dL_law_252 dL_law_253 ?_
        refine cl_IX (q0 := 0) (ci := 0) (n := 1) (As := [.int (xs (i + 1))]) F hZ (cx_model l D dB dZ dJ qx pr kd hd ps ng u.1 u.2.1 u.2.2.1 u.2.2.2.1 u.2.2.2.2.1 u.2.2.2.2.2.1 u.2.2.2.2.2.2.1 u.2.2.2.2.2.2.2.1 u.2.2.2.2.2.2.2.2.1 u.2.2.2.2.2.2.2.2.2 hI.1 hI.2.2.2 (xs (i + 1))) (fun _ => rfl) rfl rfl (lw_V q163 q164 q165 q20 q166) (by decide +kernel) rfl ⟨rfl, rfl⟩ ⟨Nat.le_of_ble_eq_true rfl, Nat.le_of_ble_eq_true rfl⟩ hl.1 rfl (Nat.le_of_ble_eq_true rfl) dL_law_254 ⟨Nat.le_of_ble_eq_true rfl, Nat.le_of_ble_eq_true rfl⟩ (fun r1 u1 H locs hu hZ => ?_)
        refine lv_aload_n hx hb dL_law_257 rfl l2 ?_
        refine lw_arg (k := 1) hx hb hX hbl hbA hZ.2.2.2.1 l0 l3 (by decide) (by omega) (by omega) dL_law_258 dL_law_259 dL_law_260 dL_law_261 dL_law_262 ?_
        refine cl_R (q0 := 0) (ci := 1) (n := 1) (As := [.int (xs (i + 1))]) F hZ.2.1 (cy_model l D dB dZ dJ qm th kd hd ps ng v.1 v.2 (xs (i + 1))) rfl rfl (lw_V q259 q260 q261 q21 q262) (by decide +kernel) rfl ⟨rfl, rfl⟩ ⟨Nat.le_of_ble_eq_true rfl, Nat.le_of_ble_eq_true rfl⟩ hl.1 rfl (Nat.le_of_ble_eq_true rfl) dL_law_263 ⟨Nat.le_of_ble_eq_true rfl, Nat.le_of_ble_eq_true rfl⟩ ?_
        refine lv_icmp_eq (tgt := 379) hx hb dL_law_266 (by decide) (fun _ => ?_) (fun c2 => absurd (hu.1.trans (by rw [LI_st hI])) c2)
        exact back pr kd hd ps ng u1 th v ⟨hI.1, hI.2.1, hI.2.2.1, hu.2⟩ _ _ hZ hi5
      · refine lv_tableIn (off := 239) (tgt := 271) hx hb dL_law_32 (by decide) (by decide) rfl (by decide) ?_
        refine lv_aload_n hx hb dL_law_271 rfl l1 ?_
        refine cl_IX (q0 := 0) (ci := 0) (n := 0) (As := []) F hZ (cx_brave l D dB dZ dJ qx pr kd hd ps ng u.1 u.2.1 u.2.2.1 u.2.2.2.1 u.2.2.2.2.1 u.2.2.2.2.2.1 u.2.2.2.2.2.2.1 u.2.2.2.2.2.2.2.1 u.2.2.2.2.2.2.2.2.1 u.2.2.2.2.2.2.2.2.2 hI.1 hI.2.2.2 ) (fun _ => rfl) rfl rfl (lw_V q167 q168 q169 q20 q170) (by decide +kernel) rfl ⟨rfl, rfl⟩ ⟨Nat.le_of_ble_eq_true rfl, Nat.le_of_ble_eq_true rfl⟩ hl.1 rfl (Nat.le_of_ble_eq_true rfl) dL_law_272 ⟨Nat.le_of_ble_eq_true rfl, Nat.le_of_ble_eq_true rfl⟩ (fun r1 u1 H locs hu hZ => ?_)
        refine lv_aload_n hx hb dL_law_275 rfl l2 ?_
        refine cl_R (q0 := 0) (ci := 1) (n := 0) (As := []) F hZ.2.1 (cy_brave l D dB dZ dJ qm th kd hd ps ng v.1 v.2 ) rfl rfl (lw_V q263 q264 q265 q21 q266) (by decide +kernel) rfl ⟨rfl, rfl⟩ ⟨Nat.le_of_ble_eq_true rfl, Nat.le_of_ble_eq_true rfl⟩ hl.1 rfl (Nat.le_of_ble_eq_true rfl) dL_law_276 ⟨Nat.le_of_ble_eq_true rfl, Nat.le_of_ble_eq_true rfl⟩ ?_
        refine lv_icmp_eq (tgt := 379) hx hb dL_law_279 (by decide) (fun _ => ?_) (fun c2 => absurd (hu.1.trans (by rw [LI_st hI])) c2)
        exact back pr kd hd ps ng u1 th v ⟨hI.1, hI.2.1, hI.2.2.1, hu.2⟩ _ _ hZ hi5
      · refine lv_tableIn (off := 252) (tgt := 284) hx hb dL_law_32 (by decide) (by decide) rfl (by decide) ?_
        refine lv_aload_n hx hb dL_law_284 rfl l1 ?_
        refine cl_IX (q0 := 0) (ci := 0) (n := 0) (As := []) F hZ (cx_cautious l D dB dZ dJ qx pr kd hd ps ng u.1 u.2.1 u.2.2.1 u.2.2.2.1 u.2.2.2.2.1 u.2.2.2.2.2.1 u.2.2.2.2.2.2.1 u.2.2.2.2.2.2.2.1 u.2.2.2.2.2.2.2.2.1 u.2.2.2.2.2.2.2.2.2 hI.1 hI.2.2.2 ) (fun _ => rfl) rfl rfl (lw_V q171 q172 q173 q20 q174) (by decide +kernel) rfl ⟨rfl, rfl⟩ ⟨Nat.le_of_ble_eq_true rfl, Nat.le_of_ble_eq_true rfl⟩ hl.1 rfl (Nat.le_of_ble_eq_true rfl) dL_law_285 ⟨Nat.le_of_ble_eq_true rfl, Nat.le_of_ble_eq_true rfl⟩ (fun r1 u1 H locs hu hZ => ?_)
        refine lv_aload_n hx hb dL_law_288 rfl l2 ?_
        refine cl_R (q0 := 0) (ci := 1) (n := 0) (As := []) F hZ.2.1 (cy_cautious l D dB dZ dJ qm th kd hd ps ng v.1 v.2 ) rfl rfl (lw_V q267 q268 q269 q21 q270) (by decide +kernel) rfl ⟨rfl, rfl⟩ ⟨Nat.le_of_ble_eq_true rfl, Nat.le_of_ble_eq_true rfl⟩ hl.1 rfl (Nat.le_of_ble_eq_true rfl) dL_law_289 ⟨Nat.le_of_ble_eq_true rfl, Nat.le_of_ble_eq_true rfl⟩ ?_
        refine lv_icmp_eq (tgt := 379) hx hb dL_law_292 (by decide) (fun _ => ?_) (fun c2 => absurd (hu.1.trans (by rw [LI_st hI]; exact aCau_eq _)) c2)
        exact back pr kd hd ps ng u1 th v ⟨hI.1, hI.2.1, hI.2.2.1, hu.2⟩ _ _ hZ hi5
      · refine lv_tableIn (off := 265) (tgt := 297) hx hb dL_law_32 (by decide) (by decide) rfl (by decide) ?_
        refine lv_aload_n hx hb dL_law_297 rfl l1 ?_
        refine lw_arg (k := 1) hx hb hX hbl hbA hZ.2.2.2.1 l0 l3 (by decide) (by omega) (by omega) dL_law_298 dL_law_299 dL_law_300 dL_law_301 dL_law_302 ?_
        refine lw_arg (k := 2) hx hb hX hbl hbA hZ.2.2.2.1 l0 l3 (by decide) (by omega) (by omega) dL_law_303 dL_law_304 dL_law_305 dL_law_306 dL_law_307 ?_
        refine cl_IX (q0 := 0) (ci := 0) (n := 2) (As := [.int (xs (i + 1)), .int (xs (i + 2))]) F hZ (cx_find l D dB dZ dJ qx pr kd hd ps ng u.1 u.2.1 u.2.2.1 u.2.2.2.1 u.2.2.2.2.1 u.2.2.2.2.2.1 u.2.2.2.2.2.2.1 u.2.2.2.2.2.2.2.1 u.2.2.2.2.2.2.2.2.1 u.2.2.2.2.2.2.2.2.2 hI.1 hI.2.2.2 (xs (i + 1)) (xs (i + 2))) (fun _ => rfl) rfl rfl (lw_V q175 q176 q177 q20 q178) (by decide +kernel) rfl ⟨rfl, rfl⟩ ⟨Nat.le_of_ble_eq_true rfl, Nat.le_of_ble_eq_true rfl⟩ hl.1 rfl (Nat.le_of_ble_eq_true rfl) dL_law_308 ⟨Nat.le_of_ble_eq_true rfl, Nat.le_of_ble_eq_true rfl⟩ (fun r1 u1 H locs hu hZ => ?_)
        refine lv_aload_n hx hb dL_law_311 rfl l2 ?_
        refine lw_arg (k := 1) hx hb hX hbl hbA hZ.2.2.2.1 l0 l3 (by decide) (by omega) (by omega) dL_law_312 dL_law_313 dL_law_314 dL_law_315 dL_law_316 ?_
        refine lw_arg (k := 2) hx hb hX hbl hbA hZ.2.2.2.1 l0 l3 (by decide) (by omega) (by omega) dL_law_317 dL_law_318 dL_law_319 dL_law_320 dL_law_321 ?_
        refine cl_R (q0 := 0) (ci := 1) (n := 2) (As := [.int (xs (i + 1)), .int (xs (i + 2))]) F hZ.2.1 (cy_find l D dB dZ dJ qm th kd hd ps ng v.1 v.2 (xs (i + 1)) (xs (i + 2))) rfl rfl (lw_V q271 q272 q273 q21 q274) (by decide +kernel) rfl ⟨rfl, rfl⟩ ⟨Nat.le_of_ble_eq_true rfl, Nat.le_of_ble_eq_true rfl⟩ hl.1 rfl (Nat.le_of_ble_eq_true rfl) dL_law_322 ⟨Nat.le_of_ble_eq_true rfl, Nat.le_of_ble_eq_true rfl⟩ ?_
        refine lv_icmp_eq (tgt := 379) hx hb dL_law_325 (by decide) (fun _ => ?_) (fun c2 => absurd (hu.1.trans (by rw [LI_st hI]; rfl)) c2)
        exact back pr kd hd ps ng u1 th v ⟨hI.1, hI.2.1, hI.2.2.1, hu.2⟩ _ _ hZ hi5
      · refine lv_tableIn (off := 298) (tgt := 330) hx hb dL_law_32 (by decide) (by decide) rfl (by decide) ?_
        refine lv_aload_n hx hb dL_law_330 rfl l1 ?_
        refine cl_IX (q0 := 0) (ci := 0) (n := 0) (As := []) F hZ (cx_fewest l D dB dZ dJ qx pr kd hd ps ng u.1 u.2.1 u.2.2.1 u.2.2.2.1 u.2.2.2.2.1 u.2.2.2.2.2.1 u.2.2.2.2.2.2.1 u.2.2.2.2.2.2.2.1 u.2.2.2.2.2.2.2.2.1 u.2.2.2.2.2.2.2.2.2 hI.1 hI.2.2.2 ) (fun _ => rfl) rfl rfl (lw_V q179 q180 q181 q20 q182) (by decide +kernel) rfl ⟨rfl, rfl⟩ ⟨Nat.le_of_ble_eq_true rfl, Nat.le_of_ble_eq_true rfl⟩ hl.1 rfl (Nat.le_of_ble_eq_true rfl) dL_law_331 ⟨Nat.le_of_ble_eq_true rfl, Nat.le_of_ble_eq_true rfl⟩ (fun r1 u1 H locs hu hZ => ?_)
        refine lv_aload_n hx hb dL_law_334 rfl l2 ?_
        refine cl_R (q0 := 0) (ci := 1) (n := 0) (As := []) F hZ.2.1 (cy_fewest l D dB dZ dJ qm th kd hd ps ng v.1 v.2 ) rfl rfl (lw_V q275 q276 q277 q21 q278) (by decide +kernel) rfl ⟨rfl, rfl⟩ ⟨Nat.le_of_ble_eq_true rfl, Nat.le_of_ble_eq_true rfl⟩ hl.1 rfl (Nat.le_of_ble_eq_true rfl) dL_law_335 ⟨Nat.le_of_ble_eq_true rfl, Nat.le_of_ble_eq_true rfl⟩ ?_
        refine lv_icmp_eq (tgt := 379) hx hb dL_law_338 (by decide) (fun _ => ?_) (fun c2 => absurd (hu.1.trans (by rw [LI_st hI])) c2)
        exact back pr kd hd ps ng u1 th v ⟨hI.1, hI.2.1, hI.2.2.1, hu.2⟩ _ _ hZ hi5
      · refine lv_tableIn (off := 311) (tgt := 343) hx hb dL_law_32 (by decide) (by decide) rfl (by decide) ?_
        refine lv_aload_n hx hb dL_law_343 rfl l1 ?_
        refine cl_IX (q0 := 0) (ci := 0) (n := 0) (As := []) F hZ (cx_maximal l D dB dZ dJ qx pr kd hd ps ng u.1 u.2.1 u.2.2.1 u.2.2.2.1 u.2.2.2.2.1 u.2.2.2.2.2.1 u.2.2.2.2.2.2.1 u.2.2.2.2.2.2.2.1 u.2.2.2.2.2.2.2.2.1 u.2.2.2.2.2.2.2.2.2 hI.1 hI.2.2.2 ) (fun _ => rfl) rfl rfl (lw_V q183 q184 q185 q20 q186) (by decide +kernel) rfl ⟨rfl, rfl⟩ ⟨Nat.le_of_ble_eq_true rfl, Nat.le_of_ble_eq_true rfl⟩ hl.1 rfl (Nat.le_of_ble_eq_true rfl) dL_law_344 ⟨Nat.le_of_ble_eq_true rfl, Nat.le_of_ble_eq_true rfl⟩ (fun r1 u1 H locs hu hZ => ?_)
        refine lv_aload_n hx hb dL_law_347 rfl l2 ?_
        refine cl_IM (q0 := 0) (ci := 1) (n := 0) (As := []) F hZ (cy_maximal l D dB dZ dJ qm th kd hd ps ng v.1 v.2 ) (fun _ => rfl) rfl rfl (lw_V q283 q284 q285 q21 q286) (by decide +kernel) rfl ⟨rfl, rfl⟩ ⟨Nat.le_of_ble_eq_true rfl, Nat.le_of_ble_eq_true rfl⟩ hl.1 rfl (Nat.le_of_ble_eq_true rfl) dL_law_348 ⟨Nat.le_of_ble_eq_true rfl, Nat.le_of_ble_eq_true rfl⟩ (fun r2 v1 H locs hv hZ => ?_)
        refine lv_icmp_eq (tgt := 379) hx hb dL_law_351 (by decide) (fun _ => ?_) (fun c2 => absurd (hu.1.trans (by rw [LI_st hI]; exact (aMax_eq _).trans hv.symm)) c2)
        exact back pr kd hd ps ng u1 th v1 ⟨hI.1, hI.2.1, hI.2.2.1, hu.2⟩ _ _ hZ hi5
      · refine lv_tableIn (off := 324) (tgt := 356) hx hb dL_law_32 (by decide) (by decide) rfl (by decide) ?_
        refine lv_aload_n hx hb dL_law_356 rfl l1 ?_
        refine lw_arg (k := 1) hx hb hX hbl hbA hZ.2.2.2.1 l0 l3 (by decide) (by omega) (by omega) dL_law_357 dL_law_358 dL_law_359 dL_law_360 dL_law_361 ?_
        refine cl_IX (q0 := 0) (ci := 0) (n := 1) (As := [.int (xs (i + 1))]) F hZ (cx_matters l D dB dZ dJ qx pr kd hd ps ng u.1 u.2.1 u.2.2.1 u.2.2.2.1 u.2.2.2.2.1 u.2.2.2.2.2.1 u.2.2.2.2.2.2.1 u.2.2.2.2.2.2.2.1 u.2.2.2.2.2.2.2.2.1 u.2.2.2.2.2.2.2.2.2 hI.1 hI.2.2.2 (xs (i + 1))) (fun _ => rfl) rfl rfl (lw_V q191 q192 q193 q20 q194) (by decide +kernel) rfl ⟨rfl, rfl⟩ ⟨Nat.le_of_ble_eq_true rfl, Nat.le_of_ble_eq_true rfl⟩ hl.1 rfl (Nat.le_of_ble_eq_true rfl) dL_law_362 ⟨Nat.le_of_ble_eq_true rfl, Nat.le_of_ble_eq_true rfl⟩ (fun r1 u1 H locs hu hZ => ?_)
        refine lv_aload_n hx hb dL_law_365 rfl l2 ?_
        refine lw_arg (k := 1) hx hb hX hbl hbA hZ.2.2.2.1 l0 l3 (by decide) (by omega) (by omega) dL_law_366 dL_law_367 dL_law_368 dL_law_369 dL_law_370 ?_
        refine cl_IM (q0 := 0) (ci := 1) (n := 1) (As := [.int (xs (i + 1))]) F hZ (cy_matters l D dB dZ dJ qm th kd hd ps ng v.1 v.2 (xs (i + 1))) (fun _ => rfl) rfl rfl (lw_V q291 q292 q293 q21 q294) (by decide +kernel) rfl ⟨rfl, rfl⟩ ⟨Nat.le_of_ble_eq_true rfl, Nat.le_of_ble_eq_true rfl⟩ hl.1 rfl (Nat.le_of_ble_eq_true rfl) dL_law_371 ⟨Nat.le_of_ble_eq_true rfl, Nat.le_of_ble_eq_true rfl⟩ (fun r2 v1 H locs hv hZ => ?_)
        refine lv_icmp_eq (tgt := 379) hx hb dL_law_374 (by decide) (fun _ => ?_) (fun c2 => absurd (hu.1.trans ((LI_mat hI _).trans hv.symm)) c2)
        exact back pr kd hd ps ng u1 th v1 ⟨hI.1, hI.2.1, hI.2.2.1, hu.2⟩ _ _ hZ hi5
      · refine lv_tableOut (tgt := 379) hx hb dL_law_32 (by decide) (by decide) ?_
        exact back pr kd hd ps ng u th v hI _ _ hZ hi5
      · refine lv_tableOut (tgt := 379) hx hb dL_law_32 (by decide) (by decide) ?_
        exact back pr kd hd ps ng u th v hI _ _ hZ hi5
      · refine lv_tableOut (tgt := 379) hx hb dL_law_32 (by decide) (by decide) ?_
        exact back pr kd hd ps ng u th v hI _ _ hZ hi5
end
section
set_option maxRecDepth 100000
theorem arr_known {args : Array Value} {s : State} {ty : FieldType} (h : (Cond.arrayClass ty).before args s = true) : ∃ cA : ClassId, ArrOfT s cA ty ∧ s.vm.findClass ("[" ++ ty.toString) = some cA := by
  obtain ⟨cA, kA, comp, h1, h2, h3⟩ := Cond.arrayClass_spec h
  exact ⟨cA, fun n z => ⟨fun k h => (by cases h), kA, h2, comp, h3⟩, h1⟩
set_option maxHeartbeats 8000000 in
set_option maxRecDepth 100000 in
/-- THE LAW, from its entry -/
theorem whole_start {p : Program} {e : Env} {s : State} {m : MethodId} {below : List Frame} {meth : Method} {c : Code} (l : Launch) {b L : Nat} {xs : Nat → Int32} (hL : L ≤ 320) (C0 : lw_At p s m meth c b L xs) : W p l e room_1 s m #[Value.ref b] below meth c s.heap [] 0 0 (lw_Z below #[Value.ref b] s) (entryFrame m ([Value.ref b] : List Value).toArray 4) := by
  obtain ⟨hx, hb, hr, hml, hown, hts9, hX, hbl, hlocks, hgv⟩ := id C0
  have hts : ∀ w ∈ lw_all, w.before #[Value.ref b] s = true := fun w h => hts9 w (lw_all_tbl h)
  have hA : ∀ q : Nat, s.heap.size ≤ q → (fun q : Nat => s.heap.size ≤ q) q := fun _ h => h
  obtain ⟨c0_, iS0, hKn0⟩ := u_known (C := RX0) (T := TX0) (N := 15) (n := 15) hts in_X0 (hts _ q23)
  obtain ⟨c1_, iS1, hKn1⟩ := u_known (C := RX1) (T := TX1) (N := 7) (n := 7) hts in_X1 (hts _ q196)
  obtain ⟨dC, dI, hKc⟩ : ∃ (dC : Nat → ClassId) (dI : Nat → Nat → Nat), ∀ (k : Nat) (q : vw_C), vwCl[k]? = some q → u_Kn s q.1 q.2.1 q.2.2 (dC k) (dI k) := by
    refine ⟨fun k => if k = 0 then c0_ else c1_, fun k => if k = 0 then iS0 else iS1, ?_⟩
    intro k q hq
    match k, hq with
    | 0, hq => cases hq; exact hKn0
    | 1, hq => cases hq; exact hKn1
    | k + 2, hq => simp [vwCl] at hq
  obtain ⟨dB, hB1, hB2⟩ := arr_known (hts _ q76)
  obtain ⟨dZ, hZ1, hZ2⟩ := arr_known (hts _ q223)
  obtain ⟨dJ, hJ1, hJ2⟩ := arr_known (hts _ q224)
  have hK : va_K (dC, dI) vwCl (tyA dB dZ dJ) s := by
    refine ⟨hKc, fun k q h => ?_⟩
    match k, h with
    | 0, h => cases h; exact ⟨hB1, hB2⟩
    | 1, h => cases h; exact ⟨hZ1, hZ2⟩
    | 2, h => cases h; exact ⟨hJ1, hJ2⟩
    | k + 3, h => simp at h
  have hS : va_S (fun q : Nat => s.heap.size ≤ q) s.heap s.heap [] := va_S.rf
  have hP : va_P (dC, dI) vwCl [] s.heap := fun k q h => by simp at h
  have hD : va_D (fun q : Nat => s.heap.size ≤ q) [] := ⟨fun i j p q h => by simp at h, fun k q h => by simp at h⟩
  have hl := lv_entry ([.ref b]) (n := 4) (Nat.le_of_ble_eq_true rfl)
  rw [lg_entry_eq]
  generalize (lg_sl ([.ref b]) ++ List.replicate (4 - (lg_sl ([.ref b])).length) Slot.unset).toArray = ls at hl ⊢
  have hl : lv_has ls 4 [(0, .ref b)] := hl
  have F : CallFix p m c code 4 s #[Value.ref b] lw_all R_law := ⟨hx, hb, hml, hown, hts⟩
  refine va_new (ci := 0) (fs := [.int 0, .null, .null, .null, .null, .int 0, .int 0, .int 0, .int 0, .null, .null, .null, .null, .int 0, .long 0]) (C := RX0) (T := TX0) (N := 15) hx hb hts in_X0 tyX0 tyX0_ok hown (hts _ q22) (hts _ q23) (hts _ q20) hK hP hD hS hA rfl (fun j hj => by
    match j, hj with
    | 0, _ => rfl
    | 1, _ => rfl
    | 2, _ => rfl
    | 3, _ => rfl
    | 4, _ => rfl
    | 5, _ => rfl
    | 6, _ => rfl
    | 7, _ => rfl
    | 8, _ => rfl
    | 9, _ => rfl
    | 10, _ => rfl
    | 11, _ => rfl
    | 12, _ => rfl
    | 13, _ => rfl
    | 14, _ => rfl
    | j + 15, h => omega) (Nat.le_of_ble_eq_true rfl) (Nat.le_of_ble_eq_true rfl) dL_law_0 (fun a0 H hP hD hS => ?_)
  have hP : va_P (dC, dI) vwCl [(a0, .inr (0, [.int 0, .null, .null, .null, .null, .int 0, .int 0, .int 0, .int 0, .null, .null, .null, .null, .int 0, .long 0]))] H := hP
  have hD : va_D (fun q : Nat => s.heap.size ≤ q) [(a0, .inr (0, [.int 0, .null, .null, .null, .null, .int 0, .int 0, .int 0, .int 0, .null, .null, .null, .null, .int 0, .long 0]))] := hD
  refine W.widen (k := 1) (n := 15) (Nat.le_refl _) (Nat.le_refl _) ?_
  refine lv_dup hx hb dL_law_3 rfl ?_
  have hFc := va_free (wc := [(a0, .inr (0, [.int 0, .null, .null, .null, .null, .int 0, .int 0, .int 0, .int 0, .null, .null, .null, .null, .int 0, .long 0]))]) hD hS hA [0] rfl
  refine va_callv (va_runI (As := []) (rest := [.ref a0]) F (cx_init l (dC, dI) dB dZ dJ a0 H.size) (cwI 0 hts (lw_meth q26) rfl rfl rfl (hts _ q20) (hts _ q24) (hts _ q25) rfl (by decide +kernel) ⟨Nat.le_of_ble_eq_true rfl, Nat.le_of_ble_eq_true rfl⟩) ⟨fun a U g mk q => by obtain ⟨q0, q1, qP, qK, qD⟩ := q; exact ⟨q0, q1, qP, va_K.moved (u := U) (U := U.calling g mk a) (Vm.Alike.refl U.vm) qK, qD⟩, fun U hU hW => ⟨rfl, by rw [hU], by rw [hU]; exact hP, va_K.moved hW.alike hK, hD.weaken (fun _ _ _ _ => trivial)⟩⟩ rfl rfl hl.1 rfl (lv_room (Nat.le_of_ble_eq_true rfl)) dL_law_4 ⟨Nat.le_of_ble_eq_true rfl, Nat.le_of_ble_eq_true rfl⟩) hS (fun q _ h => hFc q h) hFc (fun qx t H1 locs ht hvm hq0 hB hz1 hk1 hS => ?_)
  obtain ⟨hP1, hD1⟩ := hB
  rw [ht] at hP1
  have hq0 : qx 0 = a0 := hq0
  subst hq0
  obtain ⟨hP, hD⟩ := va_join (wr := []) (w1 := XW dB qx 0 (fun _ => 0) (fun _ => 0) (fun _ => 0) (fun _ => 0) 0 0 false false (fun _ => 0) (fun _ => 0) (fun _ => 0) (fun _ => 0) false 0) hP hD [0] [] rfl rfl (by decide) (by decide) hk1 hFc hP1 hD1
  generalize H1 = H at hP hS ⊢
  have hP : va_P (dC, dI) vwCl (XW dB qx 0 (fun _ => 0) (fun _ => 0) (fun _ => 0) (fun _ => 0) 0 0 false false (fun _ => 0) (fun _ => 0) (fun _ => 0) (fun _ => 0) false 0) H := hP
  have hD : va_D (fun q : Nat => s.heap.size ≤ q) (XW dB qx 0 (fun _ => 0) (fun _ => 0) (fun _ => 0) (fun _ => 0) 0 0 false false (fun _ => 0) (fun _ => 0) (fun _ => 0) (fun _ => 0) false 0) := hD
  refine W.widen (k := 9) (n := 87) (Nat.le_refl _) (Nat.le_refl _) ?_
  refine lv_astore_n (lv' := [(1, .ref (qx 0)), (0, .ref b)]) hx hb dL_law_7 rfl hl (by decide) rfl (fun ls hl => ?_)
  refine va_new (ci := 1) (fs := [.null, .null, .null, .null, .null, .null, .null]) (C := RX1) (T := TX1) (N := 7) hx hb hts in_X1 tyX1 tyX1_ok hown (hts _ q195) (hts _ q196) (hts _ q21) hK hP hD hS hA rfl (fun j hj => by
    match j, hj with
    | 0, _ => rfl
    | 1, _ => rfl
    | 2, _ => rfl
    | 3, _ => rfl
    | 4, _ => rfl
    | 5, _ => rfl
    | 6, _ => rfl
    | j + 7, h => omega) (Nat.le_of_ble_eq_true rfl) (Nat.le_of_ble_eq_true rfl) dL_law_8 (fun a1 H hP hD hS => ?_)
  refine W.widen (k := 10) (n := 94) (Nat.le_refl _) (Nat.le_refl _) ?_
  refine lv_dup hx hb dL_law_11 rfl ?_
  have hPc := hP.sub (ws' := [(a1, .inr (1, [.null, .null, .null, .null, .null, .null, .null]))]) [9] rfl
  have hDc := hD.sub (ws' := [(a1, .inr (1, [.null, .null, .null, .null, .null, .null, .null]))]) [9] (by decide) rfl
  have hFc := va_free (wc := [(a1, .inr (1, [.null, .null, .null, .null, .null, .null, .null]))]) hD hS hA [9] rfl
  refine va_callv (va_runI (As := []) (rest := [.ref a1]) F (cy_init l (dC, dI) dB dZ dJ a1 H.size) (cwI 0 hts (lw_meth q199) rfl rfl rfl (hts _ q21) (hts _ q197) (hts _ q198) rfl (by decide +kernel) ⟨Nat.le_of_ble_eq_true rfl, Nat.le_of_ble_eq_true rfl⟩) ⟨fun a U g mk q => by obtain ⟨q0, q1, qP, qK, qD⟩ := q; exact ⟨q0, q1, qP, va_K.moved (u := U) (U := U.calling g mk a) (Vm.Alike.refl U.vm) qK, qD⟩, fun U hU hW => ⟨rfl, by rw [hU], by rw [hU]; exact hPc, va_K.moved hW.alike hK, hDc.weaken (fun _ _ _ _ => trivial)⟩⟩ rfl rfl hl.1 rfl (lv_room (Nat.le_of_ble_eq_true rfl)) dL_law_12 ⟨Nat.le_of_ble_eq_true rfl, Nat.le_of_ble_eq_true rfl⟩) hS (fun q _ h => hFc q h) hFc (fun qm t H1 locs ht hvm hq0 hB hz1 hk1 hS => ?_)
  obtain ⟨hP1, hD1⟩ := hB
  rw [ht] at hP1
  have hq0 : qm 0 = a1 := hq0
  subst hq0
  obtain ⟨hP, hD⟩ := va_join (wr := XW dB qx 0 (fun _ => 0) (fun _ => 0) (fun _ => 0) (fun _ => 0) 0 0 false false (fun _ => 0) (fun _ => 0) (fun _ => 0) (fun _ => 0) false 0) (w1 := MW dZ dJ qm (fun _ => false) (fun _ => 0) (fun _ => 0) (fun _ => 0) (fun _ => 0) (fun _ => false) (fun _ => false)) hP hD [9] [0, 1, 2, 3, 4, 5, 6, 7, 8] rfl rfl (by decide) (by decide) hk1 hFc hP1 hD1
  generalize H1 = H at hP hS ⊢
  refine W.widen (k := 17) (n := 272) (Nat.le_refl _) (Nat.le_refl _) ?_
  refine lv_astore_n (lv' := [(2, .ref (qm 0)), (1, .ref (qx 0)), (0, .ref b)]) hx hb dL_law_15 rfl hl (by decide) rfl (fun ls hl => ?_)
  refine lv_iconst (v := 0) hx hb dL_law_16 (by decide) ?_
  refine lv_istore_n (lv' := [(3, .int 0), (2, .ref (qm 0)), (1, .ref (qx 0)), (0, .ref b)]) hx hb dL_law_17 rfl hl (by decide) rfl (fun ls hl => ?_)
  have hPx := hP.sub (ws' := XW dB qx 0 (fun _ => 0) (fun _ => 0) (fun _ => 0) (fun _ => 0) 0 0 false false (fun _ => 0) (fun _ => 0) (fun _ => 0) (fun _ => 0) false 0) [0, 1, 2, 3, 4, 5, 6, 7, 8] rfl
  have hPm := hP.sub (ws' := MW dZ dJ qm (fun _ => false) (fun _ => 0) (fun _ => 0) (fun _ => 0) (fun _ => 0) (fun _ => false) (fun _ => false)) [9, 10, 11, 12, 13, 14, 15, 16] rfl
  exact law_loop hL C0 hK (L + 6) 0 0 (fun _ => 0) (fun _ => 0) (fun _ => 0) (fun _ => 0) (0, 0, false, false, (fun _ => 0), (fun _ => 0), (fun _ => 0), (fun _ => 0), false, 0) (fun _ => false) ((fun _ => false), (fun _ => false)) (by omega) (by omega) LI_0 _ _ ⟨hPx, hPm, hD, hS, hA⟩ ls (lv_sub hl [3, 2, 1, 0] rfl)
end
section
set_option maxRecDepth 100000
set_option maxHeartbeats 4000000 in
theorem lw_walk (l : Launch) (b : Addr) (xs : List Int32) : MetFree l x (headSpec (Jvm.Cond.code x code maxLocals ret :: tables_1) room_1) (lw_P b xs) (fun _ _ _ _ _ => True) lw_Q := by
  refine MetFree.of_bodyS (code := code) (maxLocals := maxLocals) (ret := ret) (by decide) ?_ ?_
  · intro args s m h hn
    obtain ⟨meth, c, h1, h2, h3, h4, h5, h6, -, -⟩ := Cond.code_spec hn (atoms_spec (ws := Jvm.Cond.code x code maxLocals ret :: tables_1) h _ List.mem_cons_self)
    exact ⟨meth, c, h1, h2, h3, h4, h5, h6⟩
  · intro p e s m args below meth c s₁ B hml0 hP _
    obtain ⟨rfl, hx, hbd, hgv⟩ := hP
    obtain ⟨scr, harrAt, hlist, hof, hsmall⟩ := hx
    obtain ⟨hcb, hkn, -, -⟩ := State.arrayAt?_spec harrAt
    have hown : s.vm.findClass R_law = some m.cls := findClass_of_methodNamed B.named
    have hts0 : ∀ c ∈ (Jvm.Cond.code x code maxLocals ret :: tables_1), c.before #[Value.ref b] s = true := atoms_spec (ws := Jvm.Cond.code x code maxLocals ret :: tables_1) B.pre
    have hts : ∀ w ∈ lw_tbl, w.before #[Value.ref b] s = true := k2_hts_sels lw_privs (fun w hw => hts0 w (List.mem_cons_of_mem _ hw)) lw_privs_ok
    have hml : c.maxLocals = 4 := B.maxLocals_eq (hts0 _ List.mem_cons_self)
    have X₀ : Stand p l e room_1 s m #[Value.ref b] below meth c s₁ [] 0 0 := Stand.of_body B
    have hh0 : s₁.heap = s.heap := by rw [B.state]; rfl
    have hsz : scr.slots.size = xs.length := by rw [← Array.length_toList, hlist, List.length_map]
    have hval : ∀ j : Nat, j < xs.length → scr.slots[j]? = some (.int (xs.getD j 0)) := fun j hj => by
      rw [← Array.getElem?_toList, hlist]
      simp [hj]
    have hbl : b < s.heap.size := (Array.getElem?_eq_some_iff.mp hcb).1
    have hX : va_X b xs.length (fun j => xs.getD j 0) s s.heap := ⟨scr, hcb, hof, hkn, hsz, hval⟩
    have K : W p l e room_1 s m #[Value.ref b] below meth c s₁.heap [] 0 0 (lw_Z below #[Value.ref b] s) (entryFrame m ([Value.ref b] : List Value).toArray 4) := by
      rw [hh0]
      exact whole_start l hbd ⟨B.exec, B.bytes, B.returns, hml, hown, hts, hX, hbl, B.notSynchronized, hgv⟩
    obtain ⟨t, a1, o, b1, b2, b3⟩ := K s₁ rfl X₀
    exact ⟨t, o, a1, b1, b2, b3⟩
theorem lw_pre_spec {args : Array Value} {s : State} (h : (Jvm.Cond.and given_1 narrow_1).before args s = true) (hr : rest_1_c.before args s = true) : ∃ (b : Addr) (xs : List Int32), lw_P b xs args s := by
  have hs := flat_of_before _ h
  have hq := flat_of_before _ hr
  have hc : (Cond.count 1).before args s = true := hs _ (by decide +kernel)
  have harr : (Cond.arrayOf (.arg 0) .int).before args s = true := hs _ (by decide +kernel)
  have hle : (Cond.le (.length (.arg 0)) (.int 320)).before args s = true := hs _ (by decide +kernel)
  have hlen : (Cond.isInt (.length (.arg 0))).before args s = true := hq _ (by decide +kernel)
  have hall : (Cond.all (.arg 0) (.isInt (.elem (.arg 0) (.index 0)))).before args s = true := hq _ (by decide +kernel)
  obtain ⟨b, xs, hb, hx⟩ := State.ints_of_pre rfl harr hlen hall
  have hsm : xs.length < 2 ^ 31 := hx.choose_spec.2.2.2
  have hev : (Term.length (.arg 0)).eval args s none [] s = some (.int xs.length.toInt32) := hx.length_eval hb
  have hv := Cond.le_ints hev (show (Term.int 320).eval args s none [] s = some (.int 320) from rfl)
  have hd : xs.length.toInt32 ≤ 320 := by
    simpa [Cond.before, Cond.holds, hv] using hle
  have hN : xs.length ≤ 320 := (Int32.ofNat_le_ofNat hsm (by decide)).mp (show Int32.ofNat xs.length ≤ Int32.ofNat 320 from hd)
  exact ⟨b, xs, Cond.one_arg hc (show args[0]? = some (.ref b) from hb), hx, hN, h⟩
theorem lw_comes (l : Launch) : Comes l x (Jvm.Cond.code x code maxLocals ret :: tables_1) room_1 (fun tb e args s => Calls_1 tb e args s ∧ rest_1 tb e args s ∧ Pre_1 tb e args s)
    (fun _ _ args s o t => lw_Q args s o t) := by
  intro p e ha hc hk s m args below hf hfit hheap happ hpre
  obtain ⟨b, xs, hP⟩ := lw_pre_spec hpre.2.2 hpre.2.1
  obtain ⟨k, o, h1, h2, h3, hQ⟩ := lw_walk l b xs p e ha hc hk s m args below hf ((Spec.applies_iff_loose hf).mp happ).1 hP trivial
  exact ⟨k, o, h1, h2, h3, hQ⟩
theorem lw_frame {s t : State} {o : Outcome} {args : Array Value} (h : Framed s o t [] 600000 7290000) :
    Framed s o t (fieldLocs frame_1_writes args s ++ arrayLocs frame_1_arrays args s ++ staticLocs frame_1_statics s) 600000 7290000 := h
theorem lw_limb (L : Cond) (hL : ∀ (args : Array Value) (s t : State), L.after args s (.returned (some (.int 1))) t = true) :
    ArmFor flags0 classFile x code maxLocals ret World_1 tables_1 room_1 Calls_1 rest_1 Pre_1
      (fun tb e a s o t => postC L tb e a s o t ∧ Framed s o t (fieldLocs frame_1_writes a s ++ arrayLocs frame_1_arrays a s ++ staticLocs frame_1_statics s) 600000 7290000) := by
  intro l _ _ _ p e ha hc hk s m args below hf hfit hheap happ hpre
  obtain ⟨k, o, h1, h2, h3, rfl, hF⟩ := lw_comes l p e ha hc hk s m args below hf hfit hheap happ hpre
  exact ⟨k, _, h1, h2, h3, hL args s _, lw_frame hF⟩
theorem i_vc : Claimed_1_1 ∧ Claimed_1_2 := ⟨lw_limb limb_1_1 (fun args s t => by simp [limb_1_1, Cond.after, Cond.holds, Cond.value]), lw_limb limb_1_2 (fun args s t => Cond.after_iff.mpr (by
  first | (rw [show limb_1_2 = Cond.eq .result (.int 1) from rfl, Cond.eq_ints (x := 1) (y := 1) rfl rfl]; simp; done) | (simp [limb_1_2, Cond.value, Term.eval]; done)))⟩
end
