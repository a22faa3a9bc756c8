section
-- ===== PART A: goes FIRST, ahead of the names: the tables' words, and 'selects' of the private methods out of them =====
/-- a private method of a class that the tables say can be made, by its rows of tables_1 -/
def lw_okq (q : MethodName × Nat) : Prop := (q.1.cls ≠ "java/lang/invoke/MethodHandle" ∧ q.1.cls ≠ "java/lang/invoke/VarHandle") ∧ Cond.instantiable q.1.cls q.2 ∈ tables_1 ∧ Cond.privateMethod q.1 ∈ tables_1 ∧ Cond.instanceMethod q.1 ∈ tables_1
set_option maxRecDepth 100000
theorem lw_t1 {w : Cond} (h : w ∈ tables_1_1) : w ∈ tables_1 := List.mem_append_left _ h
theorem lw_t2 {w : Cond} (h : w ∈ tables_1_2) : w ∈ tables_1 := List.mem_append_right _ h
theorem lw_p0 : lw_okq (⟨"ReplayDesk", "has", "(I)Z"⟩, 18) := ⟨⟨by decide +kernel, by decide +kernel⟩, lw_t1 (List.mem_of_getElem? (i := 4) rfl), lw_t1 (List.mem_of_getElem? (i := 81) rfl), lw_t1 (List.mem_of_getElem? (i := 82) rfl)⟩
theorem lw_p1 : lw_okq (⟨"ReplayDesk", "freeMoment", "()I"⟩, 18) := ⟨⟨by decide +kernel, by decide +kernel⟩, lw_t1 (List.mem_of_getElem? (i := 4) rfl), lw_t1 (List.mem_of_getElem? (i := 94) rfl), lw_t1 (List.mem_of_getElem? (i := 95) rfl)⟩
theorem lw_p2 : lw_okq (⟨"ReplayDesk", "freshPage", "()I"⟩, 18) := ⟨⟨by decide +kernel, by decide +kernel⟩, lw_t1 (List.mem_of_getElem? (i := 4) rfl), lw_t1 (List.mem_of_getElem? (i := 98) rfl), lw_t1 (List.mem_of_getElem? (i := 99) rfl)⟩
theorem lw_p3 : lw_okq (⟨"ReplayDesk", "stretch", "()I"⟩, 18) := ⟨⟨by decide +kernel, by decide +kernel⟩, lw_t1 (List.mem_of_getElem? (i := 4) rfl), lw_t1 (List.mem_of_getElem? (i := 102) rfl), lw_t1 (List.mem_of_getElem? (i := 103) rfl)⟩
theorem lw_p4 : lw_okq (⟨"ReplayDesk", "carry", "(III)V"⟩, 18) := ⟨⟨by decide +kernel, by decide +kernel⟩, lw_t1 (List.mem_of_getElem? (i := 4) rfl), lw_t1 (List.mem_of_getElem? (i := 106) rfl), lw_t1 (List.mem_of_getElem? (i := 107) rfl)⟩
theorem lw_p5 : lw_okq (⟨"ReplayDesk", "say", "(I)V"⟩, 18) := ⟨⟨by decide +kernel, by decide +kernel⟩, lw_t1 (List.mem_of_getElem? (i := 4) rfl), lw_t1 (List.mem_of_getElem? (i := 110) rfl), lw_t1 (List.mem_of_getElem? (i := 111) rfl)⟩
theorem lw_p6 : lw_okq (⟨"ReplayDesk", "work", "(III)V"⟩, 18) := ⟨⟨by decide +kernel, by decide +kernel⟩, lw_t1 (List.mem_of_getElem? (i := 4) rfl), lw_t1 (List.mem_of_getElem? (i := 114) rfl), lw_t1 (List.mem_of_getElem? (i := 115) rfl)⟩
theorem lw_p7 : lw_okq (⟨"ReplayDesk", "loadCell", "(I)I"⟩, 18) := ⟨⟨by decide +kernel, by decide +kernel⟩, lw_t1 (List.mem_of_getElem? (i := 4) rfl), lw_t1 (List.mem_of_getElem? (i := 118) rfl), lw_t1 (List.mem_of_getElem? (i := 119) rfl)⟩
theorem lw_p8 : lw_okq (⟨"ReplayDesk", "storeCell", "(II)V"⟩, 18) := ⟨⟨by decide +kernel, by decide +kernel⟩, lw_t1 (List.mem_of_getElem? (i := 4) rfl), lw_t1 (List.mem_of_getElem? (i := 122) rfl), lw_t1 (List.mem_of_getElem? (i := 123) rfl)⟩
theorem lw_p9 : lw_okq (⟨"ReplayDesk", "keep", "(II)V"⟩, 18) := ⟨⟨by decide +kernel, by decide +kernel⟩, lw_t1 (List.mem_of_getElem? (i := 4) rfl), lw_t1 (List.mem_of_getElem? (i := 126) rfl), lw_t1 (List.mem_of_getElem? (i := 127) rfl)⟩
theorem lw_p10 : lw_okq (⟨"ReplayDesk", "recall", "(I)V"⟩, 18) := ⟨⟨by decide +kernel, by decide +kernel⟩, lw_t1 (List.mem_of_getElem? (i := 4) rfl), lw_t1 (List.mem_of_getElem? (i := 134) rfl), lw_t1 (List.mem_of_getElem? (i := 135) rfl)⟩
theorem lw_p11 : lw_okq (⟨"ReplayDesk", "differing", "(II)I"⟩, 18) := ⟨⟨by decide +kernel, by decide +kernel⟩, lw_t1 (List.mem_of_getElem? (i := 4) rfl), lw_t1 (List.mem_of_getElem? (i := 171) rfl), lw_t1 (List.mem_of_getElem? (i := 172) rfl)⟩
theorem lw_p12 : lw_okq (⟨"ReplayDeskModel", "room", "()I"⟩, 14) := ⟨⟨by decide +kernel, by decide +kernel⟩, lw_t1 (List.mem_of_getElem? (i := 175) rfl), lw_t2 (List.mem_of_getElem? (i := 6) rfl), lw_t2 (List.mem_of_getElem? (i := 7) rfl)⟩
theorem lw_p13 : lw_okq (⟨"ReplayDeskModel", "stretch", "(I)V"⟩, 14) := ⟨⟨by decide +kernel, by decide +kernel⟩, lw_t1 (List.mem_of_getElem? (i := 175) rfl), lw_t2 (List.mem_of_getElem? (i := 10) rfl), lw_t2 (List.mem_of_getElem? (i := 11) rfl)⟩
theorem lw_p14 : lw_okq (⟨"ReplayDeskModel", "carryOut", "(III)V"⟩, 14) := ⟨⟨by decide +kernel, by decide +kernel⟩, lw_t1 (List.mem_of_getElem? (i := 175) rfl), lw_t2 (List.mem_of_getElem? (i := 14) rfl), lw_t2 (List.mem_of_getElem? (i := 15) rfl)⟩
theorem lw_p15 : lw_okq (⟨"ReplayDeskModel", "is", "(II)Z"⟩, 14) := ⟨⟨by decide +kernel, by decide +kernel⟩, lw_t1 (List.mem_of_getElem? (i := 175) rfl), lw_t2 (List.mem_of_getElem? (i := 22) rfl), lw_t2 (List.mem_of_getElem? (i := 23) rfl)⟩
def lw_privs_1 : List (MethodName × Nat) := [(⟨"ReplayDesk", "has", "(I)Z"⟩, 18), (⟨"ReplayDesk", "freeMoment", "()I"⟩, 18), (⟨"ReplayDesk", "freshPage", "()I"⟩, 18), (⟨"ReplayDesk", "stretch", "()I"⟩, 18), (⟨"ReplayDesk", "carry", "(III)V"⟩, 18), (⟨"ReplayDesk", "say", "(I)V"⟩, 18), (⟨"ReplayDesk", "work", "(III)V"⟩, 18), (⟨"ReplayDesk", "loadCell", "(I)I"⟩, 18), (⟨"ReplayDesk", "storeCell", "(II)V"⟩, 18), (⟨"ReplayDesk", "keep", "(II)V"⟩, 18), (⟨"ReplayDesk", "recall", "(I)V"⟩, 18), (⟨"ReplayDesk", "differing", "(II)I"⟩, 18), (⟨"ReplayDeskModel", "room", "()I"⟩, 14), (⟨"ReplayDeskModel", "stretch", "(I)V"⟩, 14), (⟨"ReplayDeskModel", "carryOut", "(III)V"⟩, 14), (⟨"ReplayDeskModel", "is", "(II)Z"⟩, 14)]
theorem lw_r1 : ∀ q ∈ lw_privs_1, lw_okq q := List.forall_mem_cons.mpr ⟨lw_p0, List.forall_mem_cons.mpr ⟨lw_p1, List.forall_mem_cons.mpr ⟨lw_p2, List.forall_mem_cons.mpr ⟨lw_p3, List.forall_mem_cons.mpr ⟨lw_p4, List.forall_mem_cons.mpr ⟨lw_p5, List.forall_mem_cons.mpr ⟨lw_p6, List.forall_mem_cons.mpr ⟨lw_p7, List.forall_mem_cons.mpr ⟨lw_p8, List.forall_mem_cons.mpr ⟨lw_p9, List.forall_mem_cons.mpr ⟨lw_p10, List.forall_mem_cons.mpr ⟨lw_p11, List.forall_mem_cons.mpr ⟨lw_p12, List.forall_mem_cons.mpr ⟨lw_p13, List.forall_mem_cons.mpr ⟨lw_p14, List.forall_mem_cons.mpr ⟨lw_p15, fun _ h => absurd h List.not_mem_nil⟩⟩⟩⟩⟩⟩⟩⟩⟩⟩⟩⟩⟩⟩⟩⟩
theorem lw_p16 : lw_okq (⟨"ReplayDeskModel", "take", "(I)V"⟩, 14) := ⟨⟨by decide +kernel, by decide +kernel⟩, lw_t1 (List.mem_of_getElem? (i := 175) rfl), lw_t2 (List.mem_of_getElem? (i := 26) rfl), lw_t2 (List.mem_of_getElem? (i := 27) rfl)⟩
theorem lw_p17 : lw_okq (⟨"ReplayDeskModel", "kept", "(I)Z"⟩, 14) := ⟨⟨by decide +kernel, by decide +kernel⟩, lw_t1 (List.mem_of_getElem? (i := 175) rfl), lw_t2 (List.mem_of_getElem? (i := 43) rfl), lw_t2 (List.mem_of_getElem? (i := 44) rfl)⟩
def lw_privs_2 : List (MethodName × Nat) := [(⟨"ReplayDeskModel", "take", "(I)V"⟩, 14), (⟨"ReplayDeskModel", "kept", "(I)Z"⟩, 14)]
theorem lw_r2 : ∀ q ∈ lw_privs_2, lw_okq q := List.forall_mem_cons.mpr ⟨lw_p16, List.forall_mem_cons.mpr ⟨lw_p17, fun _ h => absurd h List.not_mem_nil⟩⟩
def lw_privs : List (MethodName × Nat) := lw_privs_1 ++ (lw_privs_2)
def lw_tbl : List Cond := k2_sels lw_privs ++ tables_1
theorem lw_privs_ok : ∀ q ∈ lw_privs, lw_okq q := by
  show ∀ q ∈ lw_privs_1 ++ (lw_privs_2), lw_okq q
  exact List.forall_mem_append.mpr ⟨lw_r1, lw_r2⟩
-- ===== ONE list of words for every method: the tables' words that hold all through a run =====
def lw_all : List Cond := lw_tbl.filter goodWord
/-- a word of the tables by its place: claim/WORDS.tsv -/
theorem lw_w {w : Cond} (i : Nat) (h : lw_tbl[i]? = some w) (g : goodWord w = true) : w ∈ lw_all := List.mem_filter.mpr ⟨List.mem_of_getElem? h, g⟩
theorem lw_all_tbl {w : Cond} (h : w ∈ lw_all) : w ∈ lw_tbl := (List.mem_filter.mp h).1
theorem lw_self : GoodIn lw_all lw_all := fun w h => ⟨h, good_of_word (List.mem_filter.mp h).2⟩
/-- a class's field words, by their places -/
theorem lw_in (ws : List Cond) (ps : List Nat) (hp : ws = ps.filterMap (fun i => lw_tbl[i]?)) (hg : ws.all goodWord = true) : ∀ w ∈ ws, w ∈ lw_all := by
  intro w h
  have h1 := List.all_eq_true.mp hg w h
  rw [hp] at h
  obtain ⟨i, -, hi⟩ := List.mem_filterMap.mp h
  exact lw_w i hi h1
/-- the words of a contract for the method y with code b, L locals, answer r -/
abbrev ws_ (y : MethodName) (b : ByteArray) (L : Nat) (r : Option FieldType) : List Cond := Cond.code y b L r :: lw_all
theorem lw_meth {y : MethodName} {b : ByteArray} {L : Nat} {r : Option FieldType} (h : Cond.code y b L r ∈ lw_all) : GoodIn lw_all (ws_ y b L r) := by
  intro w hw
  rcases List.mem_cons.mp hw with e | e
  · rw [e]
    exact lw_self _ h
  · exact lw_self _ e
theorem lw_app {a c : List Cond} (ha : ∀ w ∈ a, w ∈ lw_all) (hc : GoodIn lw_all c) : GoodIn lw_all (a ++ c) := by
  intro w hw
  rcases List.mem_append.mp hw with e | e
  · exact lw_self w (ha w e)
  · exact hc w e
/-- what a call through an object asks: cwV n hts (lw_V ..) -/
theorem lw_V {own : String} {idx : Nat} {C : String} {y : MethodName} {b : ByteArray} {L : Nat} {r : Option FieldType} (h1 : Cond.methodLink own idx y ∈ lw_all) (h2 : Cond.instanceMethod y ∈ lw_all) (h3 : Cond.selects C y y ∈ lw_all) (h4 : Cond.initialized C ∈ lw_all) (h5 : Cond.code y b L r ∈ lw_all) : GoodIn lw_all (wsV own idx C y (ws_ y b L r)) := by
  refine lw_app ?_ (lw_meth h5)
  intro w hw
  simp only [List.mem_cons, List.not_mem_nil, or_false] at hw
  rcases hw with e | e | e | e
  · rw [e]; exact h1
  · rw [e]; exact h2
  · rw [e]; exact h3
  · rw [e]; exact h4
/-- what a static call asks: va_cwS n hts (lw_S ..) -/
theorem lw_S {own : String} {idx : Nat} {y : MethodName} {b : ByteArray} {L : Nat} {r : Option FieldType} (h1 : Cond.methodLink own idx y ∈ lw_all) (h2 : Cond.static y ∈ lw_all) (h3 : Cond.initialized y.cls ∈ lw_all) (h4 : Cond.code y b L r ∈ lw_all) : GoodIn lw_all (va_wsS own idx y (ws_ y b L r)) := by
  refine lw_app ?_ (lw_meth h4)
  intro w hw
  simp only [List.mem_cons, List.not_mem_nil, or_false] at hw
  rcases hw with e | e | e
  · rw [e]; exact h1
  · rw [e]; exact h2
  · rw [e]; exact h3
/-- the words of a contract for a method WITH HANDLERS (hh: its table) -/
abbrev wsW_ (y : MethodName) (b : ByteArray) (L : Nat) (r : Option FieldType) (hh : List (Nat × Nat × Nat × Nat)) : List Cond := Cond.codeWith y b L r hh :: lw_all
theorem lw_methW {y : MethodName} {b : ByteArray} {L : Nat} {r : Option FieldType} {hh : List (Nat × Nat × Nat × Nat)} (h : Cond.codeWith y b L r hh ∈ lw_all) : GoodIn lw_all (wsW_ y b L r hh) := by
  intro w hw
  rcases List.mem_cons.mp hw with e | e
  · rw [e]
    exact lw_self _ h
  · exact lw_self _ e
/-- any list of words by their places (lw_in), good -/
theorem lw_good {ws : List Cond} (h : ∀ w ∈ ws, w ∈ lw_all) : GoodIn lw_all ws := fun w hw => lw_self w (h w hw)
/-- what a call of a method with handlers asks: vx_cwVW n hts (lw_VW ..), vx_cwSW n hts (lw_SW ..) -/
theorem lw_VW {own : String} {idx : Nat} {C : String} {y : MethodName} {b : ByteArray} {L : Nat} {r : Option FieldType} {hh : List (Nat × Nat × Nat × Nat)} (h1 : Cond.methodLink own idx y ∈ lw_all) (h2 : Cond.instanceMethod y ∈ lw_all) (h3 : Cond.selects C y y ∈ lw_all) (h4 : Cond.initialized C ∈ lw_all) (h5 : Cond.codeWith y b L r hh ∈ lw_all) : GoodIn lw_all (wsV own idx C y (wsW_ y b L r hh)) := by
  refine lw_app ?_ (lw_methW h5)
  intro w hw
  simp only [List.mem_cons, List.not_mem_nil, or_false] at hw
  rcases hw with e | e | e | e
  · rw [e]; exact h1
  · rw [e]; exact h2
  · rw [e]; exact h3
  · rw [e]; exact h4
theorem lw_SW {own : String} {idx : Nat} {y : MethodName} {b : ByteArray} {L : Nat} {r : Option FieldType} {hh : List (Nat × Nat × Nat × Nat)} (h1 : Cond.methodLink own idx y ∈ lw_all) (h2 : Cond.static y ∈ lw_all) (h3 : Cond.initialized y.cls ∈ lw_all) (h4 : Cond.codeWith y b L r hh ∈ lw_all) : GoodIn lw_all (va_wsS own idx y (wsW_ y b L r hh)) := by
  refine lw_app ?_ (lw_methW h4)
  intro w hw
  simp only [List.mem_cons, List.not_mem_nil, or_false] at hw
  rcases hw with e | e | e
  · rw [e]; exact h1
  · rw [e]; exact h2
  · rw [e]; exact h3
/-- a word by its place in its run of the tables -/
theorem lw_at {r : List Cond} (hr : ∀ w ∈ r, w ∈ lw_tbl) {w : Cond} (i : Nat) (h : r[i]? = some w) : w ∈ lw_tbl := hr w (List.mem_of_getElem? h)
theorem lw_g {w : Cond} (h : w ∈ lw_tbl) (g : goodWord w = true) : w ∈ lw_all := List.mem_filter.mpr ⟨h, g⟩
theorem lw_ms : ∀ w ∈ k2_sels lw_privs, w ∈ lw_tbl := fun w h => show w ∈ k2_sels lw_privs ++ tables_1 from List.mem_append_left _ h
theorem lw_m1 : ∀ w ∈ tables_1_1, w ∈ lw_tbl := fun w h => show w ∈ k2_sels lw_privs ++ tables_1 from List.mem_append_right (k2_sels lw_privs) (show w ∈ tables_1 from List.mem_append_left _ h)
theorem lw_m2 : ∀ w ∈ tables_1_2, w ∈ lw_tbl := fun w h => show w ∈ k2_sels lw_privs ++ tables_1 from List.mem_append_right (k2_sels lw_privs) (show w ∈ tables_1 from List.mem_append_right _ h)
theorem qs0 : (Cond.selects "ReplayDesk" ⟨"ReplayDesk", "has", "(I)Z"⟩ ⟨"ReplayDesk", "has", "(I)Z"⟩) ∈ lw_all := lw_g (lw_at lw_ms 0 rfl) rfl
theorem qs1 : (Cond.selects "ReplayDesk" ⟨"ReplayDesk", "freeMoment", "()I"⟩ ⟨"ReplayDesk", "freeMoment", "()I"⟩) ∈ lw_all := lw_g (lw_at lw_ms 1 rfl) rfl
theorem qs2 : (Cond.selects "ReplayDesk" ⟨"ReplayDesk", "freshPage", "()I"⟩ ⟨"ReplayDesk", "freshPage", "()I"⟩) ∈ lw_all := lw_g (lw_at lw_ms 2 rfl) rfl
theorem qs3 : (Cond.selects "ReplayDesk" ⟨"ReplayDesk", "stretch", "()I"⟩ ⟨"ReplayDesk", "stretch", "()I"⟩) ∈ lw_all := lw_g (lw_at lw_ms 3 rfl) rfl
theorem qs4 : (Cond.selects "ReplayDesk" ⟨"ReplayDesk", "carry", "(III)V"⟩ ⟨"ReplayDesk", "carry", "(III)V"⟩) ∈ lw_all := lw_g (lw_at lw_ms 4 rfl) rfl
theorem qs5 : (Cond.selects "ReplayDesk" ⟨"ReplayDesk", "say", "(I)V"⟩ ⟨"ReplayDesk", "say", "(I)V"⟩) ∈ lw_all := lw_g (lw_at lw_ms 5 rfl) rfl
theorem qs6 : (Cond.selects "ReplayDesk" ⟨"ReplayDesk", "work", "(III)V"⟩ ⟨"ReplayDesk", "work", "(III)V"⟩) ∈ lw_all := lw_g (lw_at lw_ms 6 rfl) rfl
theorem qs7 : (Cond.selects "ReplayDesk" ⟨"ReplayDesk", "loadCell", "(I)I"⟩ ⟨"ReplayDesk", "loadCell", "(I)I"⟩) ∈ lw_all := lw_g (lw_at lw_ms 7 rfl) rfl
theorem qs8 : (Cond.selects "ReplayDesk" ⟨"ReplayDesk", "storeCell", "(II)V"⟩ ⟨"ReplayDesk", "storeCell", "(II)V"⟩) ∈ lw_all := lw_g (lw_at lw_ms 8 rfl) rfl
theorem qs9 : (Cond.selects "ReplayDesk" ⟨"ReplayDesk", "keep", "(II)V"⟩ ⟨"ReplayDesk", "keep", "(II)V"⟩) ∈ lw_all := lw_g (lw_at lw_ms 9 rfl) rfl
theorem qs10 : (Cond.selects "ReplayDesk" ⟨"ReplayDesk", "recall", "(I)V"⟩ ⟨"ReplayDesk", "recall", "(I)V"⟩) ∈ lw_all := lw_g (lw_at lw_ms 10 rfl) rfl
theorem qs11 : (Cond.selects "ReplayDesk" ⟨"ReplayDesk", "differing", "(II)I"⟩ ⟨"ReplayDesk", "differing", "(II)I"⟩) ∈ lw_all := lw_g (lw_at lw_ms 11 rfl) rfl
theorem qs12 : (Cond.selects "ReplayDeskModel" ⟨"ReplayDeskModel", "room", "()I"⟩ ⟨"ReplayDeskModel", "room", "()I"⟩) ∈ lw_all := lw_g (lw_at lw_ms 12 rfl) rfl
theorem qs13 : (Cond.selects "ReplayDeskModel" ⟨"ReplayDeskModel", "stretch", "(I)V"⟩ ⟨"ReplayDeskModel", "stretch", "(I)V"⟩) ∈ lw_all := lw_g (lw_at lw_ms 13 rfl) rfl
theorem qs14 : (Cond.selects "ReplayDeskModel" ⟨"ReplayDeskModel", "carryOut", "(III)V"⟩ ⟨"ReplayDeskModel", "carryOut", "(III)V"⟩) ∈ lw_all := lw_g (lw_at lw_ms 14 rfl) rfl
theorem qs15 : (Cond.selects "ReplayDeskModel" ⟨"ReplayDeskModel", "is", "(II)Z"⟩ ⟨"ReplayDeskModel", "is", "(II)Z"⟩) ∈ lw_all := lw_g (lw_at lw_ms 15 rfl) rfl
theorem qs16 : (Cond.selects "ReplayDeskModel" ⟨"ReplayDeskModel", "take", "(I)V"⟩ ⟨"ReplayDeskModel", "take", "(I)V"⟩) ∈ lw_all := lw_g (lw_at lw_ms 16 rfl) rfl
theorem qs17 : (Cond.selects "ReplayDeskModel" ⟨"ReplayDeskModel", "kept", "(I)Z"⟩ ⟨"ReplayDeskModel", "kept", "(I)Z"⟩) ∈ lw_all := lw_g (lw_at lw_ms 17 rfl) rfl
end
section
/-! ReplayDesk -/
set_option maxRecDepth 100000
def RX0 : String := "ReplayDesk"
def TX0 : u_T := fun k => match k with
  | 0 => ("ReplayDesk", "ops", "[B", true)
  | 1 => ("ReplayDesk", "as", "[B", true)
  | 2 => ("ReplayDesk", "bs", "[I", true)
  | 3 => ("ReplayDesk", "size", "I", false)
  | 4 => ("ReplayDesk", "pageCells", "[I", true)
  | 5 => ("ReplayDesk", "owners", "[B", true)
  | 6 => ("ReplayDesk", "kept", "I", false)
  | 7 => ("ReplayDesk", "kinds", "[B", true)
  | 8 => ("ReplayDesk", "places", "[I", true)
  | 9 => ("ReplayDesk", "keptRegisters", "[I", true)
  | 10 => ("ReplayDesk", "keptPages", "[B", true)
  | 11 => ("ReplayDesk", "saidCounts", "[I", true)
  | 12 => ("ReplayDesk", "keptSaid", "[I", true)
  | 13 => ("ReplayDesk", "at", "I", false)
  | 14 => ("ReplayDesk", "registers", "[I", true)
  | 15 => ("ReplayDesk", "pages", "[B", true)
  | 16 => ("ReplayDesk", "saidCount", "I", false)
  | _ => ("ReplayDesk", "lately", "[I", true)
def tyX0 : Nat → FieldType := fun k => match k with
  | 0 => .array .byte
  | 1 => .array .byte
  | 2 => .array .int
  | 3 => .int
  | 4 => .array .int
  | 5 => .array .byte
  | 6 => .int
  | 7 => .array .byte
  | 8 => .array .int
  | 9 => .array .int
  | 10 => .array .byte
  | 11 => .array .int
  | 12 => .array .int
  | 13 => .int
  | 14 => .array .int
  | 15 => .array .byte
  | 16 => .int
  | _ => .array .int
abbrev wsX00 : List Cond := u_ws RX0 TX0 18
set_option maxRecDepth 100000 in
theorem nmX0 : ∀ a, a < 18 → ∀ b, b < 18 → a ≠ b → (TX0 a).2.1 ≠ (TX0 b).2.1 := by decide +kernel
set_option maxRecDepth 100000 in
theorem tyX0_ok : ∀ k, k < 18 → parseFieldDescriptor (TX0 k).2.2.1 = some (tyX0 k) := by decide +kernel
abbrev cX0_init : ByteArray := prog_1_method_1_code
def yX0_init : MethodName := ⟨RX0, "<init>", "()V"⟩
theorem dX0_init_0 : decode cX0_init 0 = .ok (.aload_n 0, 1) := by decide +kernel
theorem dX0_init_1 : decode cX0_init 1 = .ok (.invokespecial 1, 3) := by decide +kernel
theorem dX0_init_4 : decode cX0_init 4 = .ok (.aload_n 0, 1) := by decide +kernel
theorem dX0_init_5 : decode cX0_init 5 = .ok (.bipush 16, 2) := by decide +kernel
theorem dX0_init_7 : decode cX0_init 7 = .ok (.newarray .byte, 2) := by decide +kernel
theorem dX0_init_9 : decode cX0_init 9 = .ok (.putfield 7, 3) := by decide +kernel
theorem dX0_init_12 : decode cX0_init 12 = .ok (.aload_n 0, 1) := by decide +kernel
theorem dX0_init_13 : decode cX0_init 13 = .ok (.bipush 16, 2) := by decide +kernel
theorem dX0_init_15 : decode cX0_init 15 = .ok (.newarray .byte, 2) := by decide +kernel
theorem dX0_init_17 : decode cX0_init 17 = .ok (.putfield 13, 3) := by decide +kernel
theorem dX0_init_20 : decode cX0_init 20 = .ok (.aload_n 0, 1) := by decide +kernel
theorem dX0_init_21 : decode cX0_init 21 = .ok (.bipush 16, 2) := by decide +kernel
theorem dX0_init_23 : decode cX0_init 23 = .ok (.newarray .int, 2) := by decide +kernel
theorem dX0_init_25 : decode cX0_init 25 = .ok (.putfield 16, 3) := by decide +kernel
theorem dX0_init_28 : decode cX0_init 28 = .ok (.aload_n 0, 1) := by decide +kernel
theorem dX0_init_29 : decode cX0_init 29 = .ok (.sipush 224, 3) := by decide +kernel
theorem dX0_init_32 : decode cX0_init 32 = .ok (.newarray .int, 2) := by decide +kernel
theorem dX0_init_34 : decode cX0_init 34 = .ok (.putfield 20, 3) := by decide +kernel
theorem dX0_init_37 : decode cX0_init 37 = .ok (.aload_n 0, 1) := by decide +kernel
theorem dX0_init_38 : decode cX0_init 38 = .ok (.bipush 56, 2) := by decide +kernel
theorem dX0_init_40 : decode cX0_init 40 = .ok (.newarray .byte, 2) := by decide +kernel
theorem dX0_init_42 : decode cX0_init 42 = .ok (.putfield 23, 3) := by decide +kernel
theorem dX0_init_45 : decode cX0_init 45 = .ok (.aload_n 0, 1) := by decide +kernel
theorem dX0_init_46 : decode cX0_init 46 = .ok (.bipush 12, 2) := by decide +kernel
theorem dX0_init_48 : decode cX0_init 48 = .ok (.newarray .byte, 2) := by decide +kernel
theorem dX0_init_50 : decode cX0_init 50 = .ok (.putfield 26, 3) := by decide +kernel
theorem dX0_init_53 : decode cX0_init 53 = .ok (.aload_n 0, 1) := by decide +kernel
theorem dX0_init_54 : decode cX0_init 54 = .ok (.bipush 12, 2) := by decide +kernel
theorem dX0_init_56 : decode cX0_init 56 = .ok (.newarray .int, 2) := by decide +kernel
theorem dX0_init_58 : decode cX0_init 58 = .ok (.putfield 29, 3) := by decide +kernel
theorem dX0_init_61 : decode cX0_init 61 = .ok (.aload_n 0, 1) := by decide +kernel
theorem dX0_init_62 : decode cX0_init 62 = .ok (.bipush 48, 2) := by decide +kernel
theorem dX0_init_64 : decode cX0_init 64 = .ok (.newarray .int, 2) := by decide +kernel
theorem dX0_init_66 : decode cX0_init 66 = .ok (.putfield 32, 3) := by decide +kernel
theorem dX0_init_69 : decode cX0_init 69 = .ok (.aload_n 0, 1) := by decide +kernel
theorem dX0_init_70 : decode cX0_init 70 = .ok (.bipush 48, 2) := by decide +kernel
theorem dX0_init_72 : decode cX0_init 72 = .ok (.newarray .byte, 2) := by decide +kernel
theorem dX0_init_74 : decode cX0_init 74 = .ok (.putfield 35, 3) := by decide +kernel
theorem dX0_init_77 : decode cX0_init 77 = .ok (.aload_n 0, 1) := by decide +kernel
theorem dX0_init_78 : decode cX0_init 78 = .ok (.bipush 12, 2) := by decide +kernel
theorem dX0_init_80 : decode cX0_init 80 = .ok (.newarray .int, 2) := by decide +kernel
theorem dX0_init_82 : decode cX0_init 82 = .ok (.putfield 38, 3) := by decide +kernel
theorem dX0_init_85 : decode cX0_init 85 = .ok (.aload_n 0, 1) := by decide +kernel
theorem dX0_init_86 : decode cX0_init 86 = .ok (.bipush 96, 2) := by decide +kernel
theorem dX0_init_88 : decode cX0_init 88 = .ok (.newarray .int, 2) := by decide +kernel
theorem dX0_init_90 : decode cX0_init 90 = .ok (.putfield 41, 3) := by decide +kernel
theorem dX0_init_93 : decode cX0_init 93 = .ok (.aload_n 0, 1) := by decide +kernel
theorem dX0_init_94 : decode cX0_init 94 = .ok (.iconst 4, 1) := by decide +kernel
theorem dX0_init_95 : decode cX0_init 95 = .ok (.newarray .int, 2) := by decide +kernel
theorem dX0_init_97 : decode cX0_init 97 = .ok (.putfield 44, 3) := by decide +kernel
theorem dX0_init_100 : decode cX0_init 100 = .ok (.aload_n 0, 1) := by decide +kernel
theorem dX0_init_101 : decode cX0_init 101 = .ok (.iconst 4, 1) := by decide +kernel
theorem dX0_init_102 : decode cX0_init 102 = .ok (.newarray .byte, 2) := by decide +kernel
theorem dX0_init_104 : decode cX0_init 104 = .ok (.putfield 47, 3) := by decide +kernel
theorem dX0_init_107 : decode cX0_init 107 = .ok (.aload_n 0, 1) := by decide +kernel
theorem dX0_init_108 : decode cX0_init 108 = .ok (.bipush 8, 2) := by decide +kernel
theorem dX0_init_110 : decode cX0_init 110 = .ok (.newarray .int, 2) := by decide +kernel
theorem dX0_init_112 : decode cX0_init 112 = .ok (.putfield 50, 3) := by decide +kernel
theorem dX0_init_115 : decode cX0_init 115 = .ok (.return_, 1) := by decide +kernel
abbrev cX0_emit : ByteArray := prog_1_method_2_code
def yX0_emit : MethodName := ⟨RX0, "emit", "(III)I"⟩
theorem dX0_emit_0 : decode cX0_emit 0 = .ok (.iload_n 1, 1) := by decide +kernel
theorem dX0_emit_1 : decode cX0_emit 1 = .ok (.iconst 1, 1) := by decide +kernel
theorem dX0_emit_2 : decode cX0_emit 2 = .ok (.if_icmp .lt 12, 3) := by decide +kernel
theorem dX0_emit_5 : decode cX0_emit 5 = .ok (.iload_n 1, 1) := by decide +kernel
theorem dX0_emit_6 : decode cX0_emit 6 = .ok (.iconst 4, 1) := by decide +kernel
theorem dX0_emit_7 : decode cX0_emit 7 = .ok (.if_icmp .gt 7, 3) := by decide +kernel
theorem dX0_emit_10 : decode cX0_emit 10 = .ok (.iconst 1, 1) := by decide +kernel
theorem dX0_emit_11 : decode cX0_emit 11 = .ok (.goto 4, 3) := by decide +kernel
theorem dX0_emit_14 : decode cX0_emit 14 = .ok (.iconst 0, 1) := by decide +kernel
theorem dX0_emit_15 : decode cX0_emit 15 = .ok (.istore 4, 2) := by decide +kernel
theorem dX0_emit_17 : decode cX0_emit 17 = .ok (.iload_n 1, 1) := by decide +kernel
theorem dX0_emit_18 : decode cX0_emit 18 = .ok (.ifCond .lt 32, 3) := by decide +kernel
theorem dX0_emit_21 : decode cX0_emit 21 = .ok (.iload_n 1, 1) := by decide +kernel
theorem dX0_emit_22 : decode cX0_emit 22 = .ok (.bipush 9, 2) := by decide +kernel
theorem dX0_emit_24 : decode cX0_emit 24 = .ok (.if_icmp .gt 26, 3) := by decide +kernel
theorem dX0_emit_27 : decode cX0_emit 27 = .ok (.iload_n 2, 1) := by decide +kernel
theorem dX0_emit_28 : decode cX0_emit 28 = .ok (.ifCond .lt 22, 3) := by decide +kernel
theorem dX0_emit_31 : decode cX0_emit 31 = .ok (.iload_n 2, 1) := by decide +kernel
theorem dX0_emit_32 : decode cX0_emit 32 = .ok (.iconst 3, 1) := by decide +kernel
theorem dX0_emit_33 : decode cX0_emit 33 = .ok (.if_icmp .gt 17, 3) := by decide +kernel
theorem dX0_emit_36 : decode cX0_emit 36 = .ok (.iload 4, 2) := by decide +kernel
theorem dX0_emit_38 : decode cX0_emit 38 = .ok (.ifCond .eq 14, 3) := by decide +kernel
theorem dX0_emit_41 : decode cX0_emit 41 = .ok (.iload_n 3, 1) := by decide +kernel
theorem dX0_emit_42 : decode cX0_emit 42 = .ok (.ifCond .lt 8, 3) := by decide +kernel
theorem dX0_emit_45 : decode cX0_emit 45 = .ok (.iload_n 3, 1) := by decide +kernel
theorem dX0_emit_46 : decode cX0_emit 46 = .ok (.iconst 3, 1) := by decide +kernel
theorem dX0_emit_47 : decode cX0_emit 47 = .ok (.if_icmp .le 5, 3) := by decide +kernel
theorem dX0_emit_50 : decode cX0_emit 50 = .ok (.iconst (-1), 1) := by decide +kernel
theorem dX0_emit_51 : decode cX0_emit 51 = .ok (.ireturn, 1) := by decide +kernel
theorem dX0_emit_52 : decode cX0_emit 52 = .ok (.aload_n 0, 1) := by decide +kernel
theorem dX0_emit_53 : decode cX0_emit 53 = .ok (.getfield 53, 3) := by decide +kernel
theorem dX0_emit_56 : decode cX0_emit 56 = .ok (.bipush 16, 2) := by decide +kernel
theorem dX0_emit_58 : decode cX0_emit 58 = .ok (.if_icmp .lt 6, 3) := by decide +kernel
theorem dX0_emit_61 : decode cX0_emit 61 = .ok (.bipush (-2), 2) := by decide +kernel
theorem dX0_emit_63 : decode cX0_emit 63 = .ok (.ireturn, 1) := by decide +kernel
theorem dX0_emit_64 : decode cX0_emit 64 = .ok (.aload_n 0, 1) := by decide +kernel
theorem dX0_emit_65 : decode cX0_emit 65 = .ok (.getfield 57, 3) := by decide +kernel
theorem dX0_emit_68 : decode cX0_emit 68 = .ok (.ifCond .eq 5, 3) := by decide +kernel
theorem dX0_emit_71 : decode cX0_emit 71 = .ok (.iconst (-1), 1) := by decide +kernel
theorem dX0_emit_72 : decode cX0_emit 72 = .ok (.ireturn, 1) := by decide +kernel
theorem dX0_emit_73 : decode cX0_emit 73 = .ok (.aload_n 0, 1) := by decide +kernel
theorem dX0_emit_74 : decode cX0_emit 74 = .ok (.getfield 7, 3) := by decide +kernel
theorem dX0_emit_77 : decode cX0_emit 77 = .ok (.aload_n 0, 1) := by decide +kernel
theorem dX0_emit_78 : decode cX0_emit 78 = .ok (.getfield 53, 3) := by decide +kernel
theorem dX0_emit_81 : decode cX0_emit 81 = .ok (.iload_n 1, 1) := by decide +kernel
theorem dX0_emit_82 : decode cX0_emit 82 = .ok (.i2b, 1) := by decide +kernel
theorem dX0_emit_83 : decode cX0_emit 83 = .ok (.bastore, 1) := by decide +kernel
theorem dX0_emit_84 : decode cX0_emit 84 = .ok (.aload_n 0, 1) := by decide +kernel
theorem dX0_emit_85 : decode cX0_emit 85 = .ok (.getfield 13, 3) := by decide +kernel
theorem dX0_emit_88 : decode cX0_emit 88 = .ok (.aload_n 0, 1) := by decide +kernel
theorem dX0_emit_89 : decode cX0_emit 89 = .ok (.getfield 53, 3) := by decide +kernel
theorem dX0_emit_92 : decode cX0_emit 92 = .ok (.iload_n 2, 1) := by decide +kernel
theorem dX0_emit_93 : decode cX0_emit 93 = .ok (.i2b, 1) := by decide +kernel
theorem dX0_emit_94 : decode cX0_emit 94 = .ok (.bastore, 1) := by decide +kernel
theorem dX0_emit_95 : decode cX0_emit 95 = .ok (.aload_n 0, 1) := by decide +kernel
theorem dX0_emit_96 : decode cX0_emit 96 = .ok (.getfield 16, 3) := by decide +kernel
theorem dX0_emit_99 : decode cX0_emit 99 = .ok (.aload_n 0, 1) := by decide +kernel
theorem dX0_emit_100 : decode cX0_emit 100 = .ok (.getfield 53, 3) := by decide +kernel
theorem dX0_emit_103 : decode cX0_emit 103 = .ok (.iload_n 3, 1) := by decide +kernel
theorem dX0_emit_104 : decode cX0_emit 104 = .ok (.iastore, 1) := by decide +kernel
theorem dX0_emit_105 : decode cX0_emit 105 = .ok (.aload_n 0, 1) := by decide +kernel
theorem dX0_emit_106 : decode cX0_emit 106 = .ok (.dup, 1) := by decide +kernel
theorem dX0_emit_107 : decode cX0_emit 107 = .ok (.getfield 53, 3) := by decide +kernel
theorem dX0_emit_110 : decode cX0_emit 110 = .ok (.iconst 1, 1) := by decide +kernel
theorem dX0_emit_111 : decode cX0_emit 111 = .ok (.iadd, 1) := by decide +kernel
theorem dX0_emit_112 : decode cX0_emit 112 = .ok (.putfield 53, 3) := by decide +kernel
theorem dX0_emit_115 : decode cX0_emit 115 = .ok (.aload_n 0, 1) := by decide +kernel
theorem dX0_emit_116 : decode cX0_emit 116 = .ok (.getfield 53, 3) := by decide +kernel
theorem dX0_emit_119 : decode cX0_emit 119 = .ok (.iconst 1, 1) := by decide +kernel
theorem dX0_emit_120 : decode cX0_emit 120 = .ok (.isub, 1) := by decide +kernel
theorem dX0_emit_121 : decode cX0_emit 121 = .ok (.ireturn, 1) := by decide +kernel
abbrev cX0_forgetAll : ByteArray := prog_1_method_3_code
def yX0_forgetAll : MethodName := ⟨RX0, "forgetAll", "()V"⟩
theorem dX0_forgetAll_0 : decode cX0_forgetAll 0 = .ok (.iconst 0, 1) := by decide +kernel
theorem dX0_forgetAll_1 : decode cX0_forgetAll 1 = .ok (.istore_n 1, 1) := by decide +kernel
theorem dX0_forgetAll_2 : decode cX0_forgetAll 2 = .ok (.iload_n 1, 1) := by decide +kernel
theorem dX0_forgetAll_3 : decode cX0_forgetAll 3 = .ok (.bipush 12, 2) := by decide +kernel
theorem dX0_forgetAll_5 : decode cX0_forgetAll 5 = .ok (.if_icmp .ge 15, 3) := by decide +kernel
theorem dX0_forgetAll_8 : decode cX0_forgetAll 8 = .ok (.aload_n 0, 1) := by decide +kernel
theorem dX0_forgetAll_9 : decode cX0_forgetAll 9 = .ok (.iload_n 1, 1) := by decide +kernel
theorem dX0_forgetAll_10 : decode cX0_forgetAll 10 = .ok (.invokevirtual 60, 3) := by decide +kernel
theorem dX0_forgetAll_13 : decode cX0_forgetAll 13 = .ok (.pop, 1) := by decide +kernel
theorem dX0_forgetAll_14 : decode cX0_forgetAll 14 = .ok (.iinc 1 1, 3) := by decide +kernel
theorem dX0_forgetAll_17 : decode cX0_forgetAll 17 = .ok (.goto (-15), 3) := by decide +kernel
theorem dX0_forgetAll_20 : decode cX0_forgetAll 20 = .ok (.return_, 1) := by decide +kernel
abbrev cX0_forget : ByteArray := prog_1_method_15_code
def yX0_forget : MethodName := ⟨RX0, "forget", "(I)Z"⟩
theorem dX0_forget_0 : decode cX0_forget 0 = .ok (.aload_n 0, 1) := by decide +kernel
theorem dX0_forget_1 : decode cX0_forget 1 = .ok (.iload_n 1, 1) := by decide +kernel
theorem dX0_forget_2 : decode cX0_forget 2 = .ok (.invokevirtual 71, 3) := by decide +kernel
theorem dX0_forget_5 : decode cX0_forget 5 = .ok (.ifCond .ne 5, 3) := by decide +kernel
theorem dX0_forget_8 : decode cX0_forget 8 = .ok (.iconst 0, 1) := by decide +kernel
theorem dX0_forget_9 : decode cX0_forget 9 = .ok (.ireturn, 1) := by decide +kernel
theorem dX0_forget_10 : decode cX0_forget 10 = .ok (.aload_n 0, 1) := by decide +kernel
theorem dX0_forget_11 : decode cX0_forget 11 = .ok (.dup, 1) := by decide +kernel
theorem dX0_forget_12 : decode cX0_forget 12 = .ok (.getfield 57, 3) := by decide +kernel
theorem dX0_forget_15 : decode cX0_forget 15 = .ok (.iconst 1, 1) := by decide +kernel
theorem dX0_forget_16 : decode cX0_forget 16 = .ok (.iload_n 1, 1) := by decide +kernel
theorem dX0_forget_17 : decode cX0_forget 17 = .ok (.ishl, 1) := by decide +kernel
theorem dX0_forget_18 : decode cX0_forget 18 = .ok (.iconst (-1), 1) := by decide +kernel
theorem dX0_forget_19 : decode cX0_forget 19 = .ok (.ixor, 1) := by decide +kernel
theorem dX0_forget_20 : decode cX0_forget 20 = .ok (.iand, 1) := by decide +kernel
theorem dX0_forget_21 : decode cX0_forget 21 = .ok (.putfield 57, 3) := by decide +kernel
theorem dX0_forget_24 : decode cX0_forget 24 = .ok (.iconst 0, 1) := by decide +kernel
theorem dX0_forget_25 : decode cX0_forget 25 = .ok (.istore_n 2, 1) := by decide +kernel
theorem dX0_forget_26 : decode cX0_forget 26 = .ok (.iload_n 2, 1) := by decide +kernel
theorem dX0_forget_27 : decode cX0_forget 27 = .ok (.iconst 4, 1) := by decide +kernel
theorem dX0_forget_28 : decode cX0_forget 28 = .ok (.if_icmp .ge 29, 3) := by decide +kernel
theorem dX0_forget_31 : decode cX0_forget 31 = .ok (.aload_n 0, 1) := by decide +kernel
theorem dX0_forget_32 : decode cX0_forget 32 = .ok (.getfield 23, 3) := by decide +kernel
theorem dX0_forget_35 : decode cX0_forget 35 = .ok (.aload_n 0, 1) := by decide +kernel
theorem dX0_forget_36 : decode cX0_forget 36 = .ok (.getfield 35, 3) := by decide +kernel
theorem dX0_forget_39 : decode cX0_forget 39 = .ok (.iload_n 1, 1) := by decide +kernel
theorem dX0_forget_40 : decode cX0_forget 40 = .ok (.iconst 4, 1) := by decide +kernel
theorem dX0_forget_41 : decode cX0_forget 41 = .ok (.imul, 1) := by decide +kernel
theorem dX0_forget_42 : decode cX0_forget 42 = .ok (.iload_n 2, 1) := by decide +kernel
theorem dX0_forget_43 : decode cX0_forget 43 = .ok (.iadd, 1) := by decide +kernel
theorem dX0_forget_44 : decode cX0_forget 44 = .ok (.baload, 1) := by decide +kernel
theorem dX0_forget_45 : decode cX0_forget 45 = .ok (.dup2, 1) := by decide +kernel
theorem dX0_forget_46 : decode cX0_forget 46 = .ok (.baload, 1) := by decide +kernel
theorem dX0_forget_47 : decode cX0_forget 47 = .ok (.iconst 1, 1) := by decide +kernel
theorem dX0_forget_48 : decode cX0_forget 48 = .ok (.isub, 1) := by decide +kernel
theorem dX0_forget_49 : decode cX0_forget 49 = .ok (.i2b, 1) := by decide +kernel
theorem dX0_forget_50 : decode cX0_forget 50 = .ok (.bastore, 1) := by decide +kernel
theorem dX0_forget_51 : decode cX0_forget 51 = .ok (.iinc 2 1, 3) := by decide +kernel
theorem dX0_forget_54 : decode cX0_forget 54 = .ok (.goto (-28), 3) := by decide +kernel
theorem dX0_forget_57 : decode cX0_forget 57 = .ok (.iconst 1, 1) := by decide +kernel
theorem dX0_forget_58 : decode cX0_forget 58 = .ok (.ireturn, 1) := by decide +kernel
abbrev cX0_has : ByteArray := prog_1_method_8_code
def yX0_has : MethodName := ⟨RX0, "has", "(I)Z"⟩
theorem dX0_has_0 : decode cX0_has 0 = .ok (.iload_n 1, 1) := by decide +kernel
theorem dX0_has_1 : decode cX0_has 1 = .ok (.ifCond .lt 24, 3) := by decide +kernel
theorem dX0_has_4 : decode cX0_has 4 = .ok (.iload_n 1, 1) := by decide +kernel
theorem dX0_has_5 : decode cX0_has 5 = .ok (.bipush 12, 2) := by decide +kernel
theorem dX0_has_7 : decode cX0_has 7 = .ok (.if_icmp .ge 18, 3) := by decide +kernel
theorem dX0_has_10 : decode cX0_has 10 = .ok (.aload_n 0, 1) := by decide +kernel
theorem dX0_has_11 : decode cX0_has 11 = .ok (.getfield 57, 3) := by decide +kernel
theorem dX0_has_14 : decode cX0_has 14 = .ok (.iload_n 1, 1) := by decide +kernel
theorem dX0_has_15 : decode cX0_has 15 = .ok (.ishr, 1) := by decide +kernel
theorem dX0_has_16 : decode cX0_has 16 = .ok (.iconst 1, 1) := by decide +kernel
theorem dX0_has_17 : decode cX0_has 17 = .ok (.iand, 1) := by decide +kernel
theorem dX0_has_18 : decode cX0_has 18 = .ok (.ifCond .eq 7, 3) := by decide +kernel
theorem dX0_has_21 : decode cX0_has 21 = .ok (.iconst 1, 1) := by decide +kernel
theorem dX0_has_22 : decode cX0_has 22 = .ok (.goto 4, 3) := by decide +kernel
theorem dX0_has_25 : decode cX0_has 25 = .ok (.iconst 0, 1) := by decide +kernel
theorem dX0_has_26 : decode cX0_has 26 = .ok (.ireturn, 1) := by decide +kernel
abbrev cX0_clear : ByteArray := prog_1_method_4_code
def yX0_clear : MethodName := ⟨RX0, "clear", "()V"⟩
theorem dX0_clear_0 : decode cX0_clear 0 = .ok (.aload_n 0, 1) := by decide +kernel
theorem dX0_clear_1 : decode cX0_clear 1 = .ok (.invokevirtual 64, 3) := by decide +kernel
theorem dX0_clear_4 : decode cX0_clear 4 = .ok (.aload_n 0, 1) := by decide +kernel
theorem dX0_clear_5 : decode cX0_clear 5 = .ok (.iconst 0, 1) := by decide +kernel
theorem dX0_clear_6 : decode cX0_clear 6 = .ok (.putfield 53, 3) := by decide +kernel
theorem dX0_clear_9 : decode cX0_clear 9 = .ok (.return_, 1) := by decide +kernel
abbrev cX0_start : ByteArray := prog_1_method_12_code
def yX0_start : MethodName := ⟨RX0, "start", "()I"⟩
theorem dX0_start_0 : decode cX0_start 0 = .ok (.aload_n 0, 1) := by decide +kernel
theorem dX0_start_1 : decode cX0_start 1 = .ok (.invokevirtual 80, 3) := by decide +kernel
theorem dX0_start_4 : decode cX0_start 4 = .ok (.istore_n 1, 1) := by decide +kernel
theorem dX0_start_5 : decode cX0_start 5 = .ok (.iload_n 1, 1) := by decide +kernel
theorem dX0_start_6 : decode cX0_start 6 = .ok (.ifCond .ge 6, 3) := by decide +kernel
theorem dX0_start_9 : decode cX0_start 9 = .ok (.bipush (-2), 2) := by decide +kernel
theorem dX0_start_11 : decode cX0_start 11 = .ok (.ireturn, 1) := by decide +kernel
theorem dX0_start_12 : decode cX0_start 12 = .ok (.aload_n 0, 1) := by decide +kernel
theorem dX0_start_13 : decode cX0_start 13 = .ok (.iconst 0, 1) := by decide +kernel
theorem dX0_start_14 : decode cX0_start 14 = .ok (.putfield 74, 3) := by decide +kernel
theorem dX0_start_17 : decode cX0_start 17 = .ok (.aload_n 0, 1) := by decide +kernel
theorem dX0_start_18 : decode cX0_start 18 = .ok (.iconst 0, 1) := by decide +kernel
theorem dX0_start_19 : decode cX0_start 19 = .ok (.putfield 77, 3) := by decide +kernel
theorem dX0_start_22 : decode cX0_start 22 = .ok (.iconst 0, 1) := by decide +kernel
theorem dX0_start_23 : decode cX0_start 23 = .ok (.istore_n 2, 1) := by decide +kernel
theorem dX0_start_24 : decode cX0_start 24 = .ok (.iload_n 2, 1) := by decide +kernel
theorem dX0_start_25 : decode cX0_start 25 = .ok (.iconst 4, 1) := by decide +kernel
theorem dX0_start_26 : decode cX0_start 26 = .ok (.if_icmp .ge 27, 3) := by decide +kernel
theorem dX0_start_29 : decode cX0_start 29 = .ok (.aload_n 0, 1) := by decide +kernel
theorem dX0_start_30 : decode cX0_start 30 = .ok (.getfield 44, 3) := by decide +kernel
theorem dX0_start_33 : decode cX0_start 33 = .ok (.iload_n 2, 1) := by decide +kernel
theorem dX0_start_34 : decode cX0_start 34 = .ok (.iconst 0, 1) := by decide +kernel
theorem dX0_start_35 : decode cX0_start 35 = .ok (.iastore, 1) := by decide +kernel
theorem dX0_start_36 : decode cX0_start 36 = .ok (.aload_n 0, 1) := by decide +kernel
theorem dX0_start_37 : decode cX0_start 37 = .ok (.getfield 47, 3) := by decide +kernel
theorem dX0_start_40 : decode cX0_start 40 = .ok (.iload_n 2, 1) := by decide +kernel
theorem dX0_start_41 : decode cX0_start 41 = .ok (.aload_n 0, 1) := by decide +kernel
theorem dX0_start_42 : decode cX0_start 42 = .ok (.invokevirtual 67, 3) := by decide +kernel
theorem dX0_start_45 : decode cX0_start 45 = .ok (.i2b, 1) := by decide +kernel
theorem dX0_start_46 : decode cX0_start 46 = .ok (.bastore, 1) := by decide +kernel
theorem dX0_start_47 : decode cX0_start 47 = .ok (.iinc 2 1, 3) := by decide +kernel
theorem dX0_start_50 : decode cX0_start 50 = .ok (.goto (-26), 3) := by decide +kernel
theorem dX0_start_53 : decode cX0_start 53 = .ok (.iconst 0, 1) := by decide +kernel
theorem dX0_start_54 : decode cX0_start 54 = .ok (.istore_n 2, 1) := by decide +kernel
theorem dX0_start_55 : decode cX0_start 55 = .ok (.iload_n 2, 1) := by decide +kernel
theorem dX0_start_56 : decode cX0_start 56 = .ok (.bipush 8, 2) := by decide +kernel
theorem dX0_start_58 : decode cX0_start 58 = .ok (.if_icmp .ge 16, 3) := by decide +kernel
theorem dX0_start_61 : decode cX0_start 61 = .ok (.aload_n 0, 1) := by decide +kernel
theorem dX0_start_62 : decode cX0_start 62 = .ok (.getfield 50, 3) := by decide +kernel
theorem dX0_start_65 : decode cX0_start 65 = .ok (.iload_n 2, 1) := by decide +kernel
theorem dX0_start_66 : decode cX0_start 66 = .ok (.iconst 0, 1) := by decide +kernel
theorem dX0_start_67 : decode cX0_start 67 = .ok (.iastore, 1) := by decide +kernel
theorem dX0_start_68 : decode cX0_start 68 = .ok (.iinc 2 1, 3) := by decide +kernel
theorem dX0_start_71 : decode cX0_start 71 = .ok (.goto (-16), 3) := by decide +kernel
theorem dX0_start_74 : decode cX0_start 74 = .ok (.aload_n 0, 1) := by decide +kernel
theorem dX0_start_75 : decode cX0_start 75 = .ok (.invokevirtual 83, 3) := by decide +kernel
theorem dX0_start_78 : decode cX0_start 78 = .ok (.istore_n 2, 1) := by decide +kernel
theorem dX0_start_79 : decode cX0_start 79 = .ok (.aload_n 0, 1) := by decide +kernel
theorem dX0_start_80 : decode cX0_start 80 = .ok (.iload_n 1, 1) := by decide +kernel
theorem dX0_start_81 : decode cX0_start 81 = .ok (.iload_n 2, 1) := by decide +kernel
theorem dX0_start_82 : decode cX0_start 82 = .ok (.invokevirtual 86, 3) := by decide +kernel
theorem dX0_start_85 : decode cX0_start 85 = .ok (.iload_n 1, 1) := by decide +kernel
theorem dX0_start_86 : decode cX0_start 86 = .ok (.ireturn, 1) := by decide +kernel
abbrev cX0_freeMoment : ByteArray := prog_1_method_9_code
def yX0_freeMoment : MethodName := ⟨RX0, "freeMoment", "()I"⟩
theorem dX0_freeMoment_0 : decode cX0_freeMoment 0 = .ok (.iconst 0, 1) := by decide +kernel
theorem dX0_freeMoment_1 : decode cX0_freeMoment 1 = .ok (.istore_n 1, 1) := by decide +kernel
theorem dX0_freeMoment_2 : decode cX0_freeMoment 2 = .ok (.iload_n 1, 1) := by decide +kernel
theorem dX0_freeMoment_3 : decode cX0_freeMoment 3 = .ok (.bipush 12, 2) := by decide +kernel
theorem dX0_freeMoment_5 : decode cX0_freeMoment 5 = .ok (.if_icmp .ge 19, 3) := by decide +kernel
theorem dX0_freeMoment_8 : decode cX0_freeMoment 8 = .ok (.aload_n 0, 1) := by decide +kernel
theorem dX0_freeMoment_9 : decode cX0_freeMoment 9 = .ok (.iload_n 1, 1) := by decide +kernel
theorem dX0_freeMoment_10 : decode cX0_freeMoment 10 = .ok (.invokevirtual 71, 3) := by decide +kernel
theorem dX0_freeMoment_13 : decode cX0_freeMoment 13 = .ok (.ifCond .ne 5, 3) := by decide +kernel
theorem dX0_freeMoment_16 : decode cX0_freeMoment 16 = .ok (.iload_n 1, 1) := by decide +kernel
theorem dX0_freeMoment_17 : decode cX0_freeMoment 17 = .ok (.ireturn, 1) := by decide +kernel
theorem dX0_freeMoment_18 : decode cX0_freeMoment 18 = .ok (.iinc 1 1, 3) := by decide +kernel
theorem dX0_freeMoment_21 : decode cX0_freeMoment 21 = .ok (.goto (-19), 3) := by decide +kernel
theorem dX0_freeMoment_24 : decode cX0_freeMoment 24 = .ok (.bipush (-2), 2) := by decide +kernel
theorem dX0_freeMoment_26 : decode cX0_freeMoment 26 = .ok (.ireturn, 1) := by decide +kernel
abbrev cX0_freshPage : ByteArray := prog_1_method_5_code
def yX0_freshPage : MethodName := ⟨RX0, "freshPage", "()I"⟩
theorem dX0_freshPage_0 : decode cX0_freshPage 0 = .ok (.iconst 0, 1) := by decide +kernel
theorem dX0_freshPage_1 : decode cX0_freshPage 1 = .ok (.istore_n 1, 1) := by decide +kernel
theorem dX0_freshPage_2 : decode cX0_freshPage 2 = .ok (.iload_n 1, 1) := by decide +kernel
theorem dX0_freshPage_3 : decode cX0_freshPage 3 = .ok (.bipush 56, 2) := by decide +kernel
theorem dX0_freshPage_5 : decode cX0_freshPage 5 = .ok (.if_icmp .ge 51, 3) := by decide +kernel
theorem dX0_freshPage_8 : decode cX0_freshPage 8 = .ok (.aload_n 0, 1) := by decide +kernel
theorem dX0_freshPage_9 : decode cX0_freshPage 9 = .ok (.getfield 23, 3) := by decide +kernel
theorem dX0_freshPage_12 : decode cX0_freshPage 12 = .ok (.iload_n 1, 1) := by decide +kernel
theorem dX0_freshPage_13 : decode cX0_freshPage 13 = .ok (.baload, 1) := by decide +kernel
theorem dX0_freshPage_14 : decode cX0_freshPage 14 = .ok (.ifCond .ne 36, 3) := by decide +kernel
theorem dX0_freshPage_17 : decode cX0_freshPage 17 = .ok (.aload_n 0, 1) := by decide +kernel
theorem dX0_freshPage_18 : decode cX0_freshPage 18 = .ok (.getfield 23, 3) := by decide +kernel
theorem dX0_freshPage_21 : decode cX0_freshPage 21 = .ok (.iload_n 1, 1) := by decide +kernel
theorem dX0_freshPage_22 : decode cX0_freshPage 22 = .ok (.iconst 1, 1) := by decide +kernel
theorem dX0_freshPage_23 : decode cX0_freshPage 23 = .ok (.bastore, 1) := by decide +kernel
theorem dX0_freshPage_24 : decode cX0_freshPage 24 = .ok (.iconst 0, 1) := by decide +kernel
theorem dX0_freshPage_25 : decode cX0_freshPage 25 = .ok (.istore_n 2, 1) := by decide +kernel
theorem dX0_freshPage_26 : decode cX0_freshPage 26 = .ok (.iload_n 2, 1) := by decide +kernel
theorem dX0_freshPage_27 : decode cX0_freshPage 27 = .ok (.iconst 4, 1) := by decide +kernel
theorem dX0_freshPage_28 : decode cX0_freshPage 28 = .ok (.if_icmp .ge 20, 3) := by decide +kernel
theorem dX0_freshPage_31 : decode cX0_freshPage 31 = .ok (.aload_n 0, 1) := by decide +kernel
theorem dX0_freshPage_32 : decode cX0_freshPage 32 = .ok (.getfield 20, 3) := by decide +kernel
theorem dX0_freshPage_35 : decode cX0_freshPage 35 = .ok (.iload_n 1, 1) := by decide +kernel
theorem dX0_freshPage_36 : decode cX0_freshPage 36 = .ok (.iconst 4, 1) := by decide +kernel
theorem dX0_freshPage_37 : decode cX0_freshPage 37 = .ok (.imul, 1) := by decide +kernel
theorem dX0_freshPage_38 : decode cX0_freshPage 38 = .ok (.iload_n 2, 1) := by decide +kernel
theorem dX0_freshPage_39 : decode cX0_freshPage 39 = .ok (.iadd, 1) := by decide +kernel
theorem dX0_freshPage_40 : decode cX0_freshPage 40 = .ok (.iconst 0, 1) := by decide +kernel
theorem dX0_freshPage_41 : decode cX0_freshPage 41 = .ok (.iastore, 1) := by decide +kernel
theorem dX0_freshPage_42 : decode cX0_freshPage 42 = .ok (.iinc 2 1, 3) := by decide +kernel
theorem dX0_freshPage_45 : decode cX0_freshPage 45 = .ok (.goto (-19), 3) := by decide +kernel
theorem dX0_freshPage_48 : decode cX0_freshPage 48 = .ok (.iload_n 1, 1) := by decide +kernel
theorem dX0_freshPage_49 : decode cX0_freshPage 49 = .ok (.ireturn, 1) := by decide +kernel
theorem dX0_freshPage_50 : decode cX0_freshPage 50 = .ok (.iinc 1 1, 3) := by decide +kernel
theorem dX0_freshPage_53 : decode cX0_freshPage 53 = .ok (.goto (-51), 3) := by decide +kernel
theorem dX0_freshPage_56 : decode cX0_freshPage 56 = .ok (.iconst 0, 1) := by decide +kernel
theorem dX0_freshPage_57 : decode cX0_freshPage 57 = .ok (.ireturn, 1) := by decide +kernel
abbrev cX0_stretch : ByteArray := prog_1_method_16_code
def yX0_stretch : MethodName := ⟨RX0, "stretch", "()I"⟩
theorem dX0_stretch_0 : decode cX0_stretch 0 = .ok (.iconst 0, 1) := by decide +kernel
theorem dX0_stretch_1 : decode cX0_stretch 1 = .ok (.istore_n 1, 1) := by decide +kernel
theorem dX0_stretch_2 : decode cX0_stretch 2 = .ok (.iload_n 1, 1) := by decide +kernel
theorem dX0_stretch_3 : decode cX0_stretch 3 = .ok (.bipush 60, 2) := by decide +kernel
theorem dX0_stretch_5 : decode cX0_stretch 5 = .ok (.if_icmp .gt 86, 3) := by decide +kernel
theorem dX0_stretch_8 : decode cX0_stretch 8 = .ok (.aload_n 0, 1) := by decide +kernel
theorem dX0_stretch_9 : decode cX0_stretch 9 = .ok (.getfield 74, 3) := by decide +kernel
theorem dX0_stretch_12 : decode cX0_stretch 12 = .ok (.ifCond .lt 14, 3) := by decide +kernel
theorem dX0_stretch_15 : decode cX0_stretch 15 = .ok (.aload_n 0, 1) := by decide +kernel
theorem dX0_stretch_16 : decode cX0_stretch 16 = .ok (.getfield 74, 3) := by decide +kernel
theorem dX0_stretch_19 : decode cX0_stretch 19 = .ok (.aload_n 0, 1) := by decide +kernel
theorem dX0_stretch_20 : decode cX0_stretch 20 = .ok (.getfield 53, 3) := by decide +kernel
theorem dX0_stretch_23 : decode cX0_stretch 23 = .ok (.if_icmp .lt 5, 3) := by decide +kernel
theorem dX0_stretch_26 : decode cX0_stretch 26 = .ok (.iconst 0, 1) := by decide +kernel
theorem dX0_stretch_27 : decode cX0_stretch 27 = .ok (.ireturn, 1) := by decide +kernel
theorem dX0_stretch_28 : decode cX0_stretch 28 = .ok (.aload_n 0, 1) := by decide +kernel
theorem dX0_stretch_29 : decode cX0_stretch 29 = .ok (.getfield 7, 3) := by decide +kernel
theorem dX0_stretch_32 : decode cX0_stretch 32 = .ok (.aload_n 0, 1) := by decide +kernel
theorem dX0_stretch_33 : decode cX0_stretch 33 = .ok (.getfield 74, 3) := by decide +kernel
theorem dX0_stretch_36 : decode cX0_stretch 36 = .ok (.baload, 1) := by decide +kernel
theorem dX0_stretch_37 : decode cX0_stretch 37 = .ok (.istore_n 2, 1) := by decide +kernel
theorem dX0_stretch_38 : decode cX0_stretch 38 = .ok (.iload_n 2, 1) := by decide +kernel
theorem dX0_stretch_39 : decode cX0_stretch 39 = .ok (.bipush 9, 2) := by decide +kernel
theorem dX0_stretch_41 : decode cX0_stretch 41 = .ok (.if_icmp .ne 5, 3) := by decide +kernel
theorem dX0_stretch_44 : decode cX0_stretch 44 = .ok (.iconst 1, 1) := by decide +kernel
theorem dX0_stretch_45 : decode cX0_stretch 45 = .ok (.ireturn, 1) := by decide +kernel
theorem dX0_stretch_46 : decode cX0_stretch 46 = .ok (.iload_n 2, 1) := by decide +kernel
theorem dX0_stretch_47 : decode cX0_stretch 47 = .ok (.bipush 8, 2) := by decide +kernel
theorem dX0_stretch_49 : decode cX0_stretch 49 = .ok (.if_icmp .ne 5, 3) := by decide +kernel
theorem dX0_stretch_52 : decode cX0_stretch 52 = .ok (.iconst 2, 1) := by decide +kernel
theorem dX0_stretch_53 : decode cX0_stretch 53 = .ok (.ireturn, 1) := by decide +kernel
theorem dX0_stretch_54 : decode cX0_stretch 54 = .ok (.iload_n 1, 1) := by decide +kernel
theorem dX0_stretch_55 : decode cX0_stretch 55 = .ok (.bipush 60, 2) := by decide +kernel
theorem dX0_stretch_57 : decode cX0_stretch 57 = .ok (.if_icmp .ge 28, 3) := by decide +kernel
theorem dX0_stretch_60 : decode cX0_stretch 60 = .ok (.aload_n 0, 1) := by decide +kernel
theorem dX0_stretch_61 : decode cX0_stretch 61 = .ok (.getfield 13, 3) := by decide +kernel
theorem dX0_stretch_64 : decode cX0_stretch 64 = .ok (.aload_n 0, 1) := by decide +kernel
theorem dX0_stretch_65 : decode cX0_stretch 65 = .ok (.getfield 74, 3) := by decide +kernel
theorem dX0_stretch_68 : decode cX0_stretch 68 = .ok (.baload, 1) := by decide +kernel
theorem dX0_stretch_69 : decode cX0_stretch 69 = .ok (.istore_n 3, 1) := by decide +kernel
theorem dX0_stretch_70 : decode cX0_stretch 70 = .ok (.aload_n 0, 1) := by decide +kernel
theorem dX0_stretch_71 : decode cX0_stretch 71 = .ok (.iload_n 2, 1) := by decide +kernel
theorem dX0_stretch_72 : decode cX0_stretch 72 = .ok (.iload_n 3, 1) := by decide +kernel
theorem dX0_stretch_73 : decode cX0_stretch 73 = .ok (.aload_n 0, 1) := by decide +kernel
theorem dX0_stretch_74 : decode cX0_stretch 74 = .ok (.getfield 16, 3) := by decide +kernel
theorem dX0_stretch_77 : decode cX0_stretch 77 = .ok (.aload_n 0, 1) := by decide +kernel
theorem dX0_stretch_78 : decode cX0_stretch 78 = .ok (.getfield 74, 3) := by decide +kernel
theorem dX0_stretch_81 : decode cX0_stretch 81 = .ok (.iaload, 1) := by decide +kernel
theorem dX0_stretch_82 : decode cX0_stretch 82 = .ok (.invokevirtual 94, 3) := by decide +kernel
theorem dX0_stretch_85 : decode cX0_stretch 85 = .ok (.iinc 1 1, 3) := by decide +kernel
theorem dX0_stretch_88 : decode cX0_stretch 88 = .ok (.goto (-86), 3) := by decide +kernel
theorem dX0_stretch_91 : decode cX0_stretch 91 = .ok (.iconst 3, 1) := by decide +kernel
theorem dX0_stretch_92 : decode cX0_stretch 92 = .ok (.ireturn, 1) := by decide +kernel
abbrev cX0_carry : ByteArray := prog_1_method_17_code
def yX0_carry : MethodName := ⟨RX0, "carry", "(III)V"⟩
theorem dX0_carry_0 : decode cX0_carry 0 = .ok (.iload_n 1, 1) := by decide +kernel
theorem dX0_carry_1 : decode cX0_carry 1 = .ok (.iconst 5, 1) := by decide +kernel
theorem dX0_carry_2 : decode cX0_carry 2 = .ok (.if_icmp .ne 27, 3) := by decide +kernel
theorem dX0_carry_5 : decode cX0_carry 5 = .ok (.aload_n 0, 1) := by decide +kernel
theorem dX0_carry_6 : decode cX0_carry 6 = .ok (.aload_n 0, 1) := by decide +kernel
theorem dX0_carry_7 : decode cX0_carry 7 = .ok (.getfield 44, 3) := by decide +kernel
theorem dX0_carry_10 : decode cX0_carry 10 = .ok (.iload_n 2, 1) := by decide +kernel
theorem dX0_carry_11 : decode cX0_carry 11 = .ok (.iaload, 1) := by decide +kernel
theorem dX0_carry_12 : decode cX0_carry 12 = .ok (.ifCond .ne 7, 3) := by decide +kernel
theorem dX0_carry_15 : decode cX0_carry 15 = .ok (.iload_n 3, 1) := by decide +kernel
theorem dX0_carry_16 : decode cX0_carry 16 = .ok (.goto 9, 3) := by decide +kernel
theorem dX0_carry_19 : decode cX0_carry 19 = .ok (.aload_n 0, 1) := by decide +kernel
theorem dX0_carry_20 : decode cX0_carry 20 = .ok (.getfield 74, 3) := by decide +kernel
theorem dX0_carry_23 : decode cX0_carry 23 = .ok (.iconst 1, 1) := by decide +kernel
theorem dX0_carry_24 : decode cX0_carry 24 = .ok (.iadd, 1) := by decide +kernel
theorem dX0_carry_25 : decode cX0_carry 25 = .ok (.putfield 74, 3) := by decide +kernel
theorem dX0_carry_28 : decode cX0_carry 28 = .ok (.return_, 1) := by decide +kernel
theorem dX0_carry_29 : decode cX0_carry 29 = .ok (.iload_n 1, 1) := by decide +kernel
theorem dX0_carry_30 : decode cX0_carry 30 = .ok (.bipush 6, 2) := by decide +kernel
theorem dX0_carry_32 : decode cX0_carry 32 = .ok (.if_icmp .ne 9, 3) := by decide +kernel
theorem dX0_carry_35 : decode cX0_carry 35 = .ok (.aload_n 0, 1) := by decide +kernel
theorem dX0_carry_36 : decode cX0_carry 36 = .ok (.iload_n 3, 1) := by decide +kernel
theorem dX0_carry_37 : decode cX0_carry 37 = .ok (.putfield 74, 3) := by decide +kernel
theorem dX0_carry_40 : decode cX0_carry 40 = .ok (.return_, 1) := by decide +kernel
theorem dX0_carry_41 : decode cX0_carry 41 = .ok (.iload_n 1, 1) := by decide +kernel
theorem dX0_carry_42 : decode cX0_carry 42 = .ok (.bipush 7, 2) := by decide +kernel
theorem dX0_carry_44 : decode cX0_carry 44 = .ok (.if_icmp .ne 16, 3) := by decide +kernel
theorem dX0_carry_47 : decode cX0_carry 47 = .ok (.aload_n 0, 1) := by decide +kernel
theorem dX0_carry_48 : decode cX0_carry 48 = .ok (.aload_n 0, 1) := by decide +kernel
theorem dX0_carry_49 : decode cX0_carry 49 = .ok (.getfield 44, 3) := by decide +kernel
theorem dX0_carry_52 : decode cX0_carry 52 = .ok (.iload_n 2, 1) := by decide +kernel
theorem dX0_carry_53 : decode cX0_carry 53 = .ok (.iaload, 1) := by decide +kernel
theorem dX0_carry_54 : decode cX0_carry 54 = .ok (.invokevirtual 98, 3) := by decide +kernel
theorem dX0_carry_57 : decode cX0_carry 57 = .ok (.goto 10, 3) := by decide +kernel
theorem dX0_carry_60 : decode cX0_carry 60 = .ok (.aload_n 0, 1) := by decide +kernel
theorem dX0_carry_61 : decode cX0_carry 61 = .ok (.iload_n 1, 1) := by decide +kernel
theorem dX0_carry_62 : decode cX0_carry 62 = .ok (.iload_n 2, 1) := by decide +kernel
theorem dX0_carry_63 : decode cX0_carry 63 = .ok (.iload_n 3, 1) := by decide +kernel
theorem dX0_carry_64 : decode cX0_carry 64 = .ok (.invokevirtual 101, 3) := by decide +kernel
theorem dX0_carry_67 : decode cX0_carry 67 = .ok (.aload_n 0, 1) := by decide +kernel
theorem dX0_carry_68 : decode cX0_carry 68 = .ok (.dup, 1) := by decide +kernel
theorem dX0_carry_69 : decode cX0_carry 69 = .ok (.getfield 74, 3) := by decide +kernel
theorem dX0_carry_72 : decode cX0_carry 72 = .ok (.iconst 1, 1) := by decide +kernel
theorem dX0_carry_73 : decode cX0_carry 73 = .ok (.iadd, 1) := by decide +kernel
theorem dX0_carry_74 : decode cX0_carry 74 = .ok (.putfield 74, 3) := by decide +kernel
theorem dX0_carry_77 : decode cX0_carry 77 = .ok (.return_, 1) := by decide +kernel
abbrev cX0_say : ByteArray := prog_1_method_19_code
def yX0_say : MethodName := ⟨RX0, "say", "(I)V"⟩
theorem dX0_say_0 : decode cX0_say 0 = .ok (.bipush 7, 2) := by decide +kernel
theorem dX0_say_2 : decode cX0_say 2 = .ok (.istore_n 2, 1) := by decide +kernel
theorem dX0_say_3 : decode cX0_say 3 = .ok (.iload_n 2, 1) := by decide +kernel
theorem dX0_say_4 : decode cX0_say 4 = .ok (.ifCond .le 23, 3) := by decide +kernel
theorem dX0_say_7 : decode cX0_say 7 = .ok (.aload_n 0, 1) := by decide +kernel
theorem dX0_say_8 : decode cX0_say 8 = .ok (.getfield 50, 3) := by decide +kernel
theorem dX0_say_11 : decode cX0_say 11 = .ok (.iload_n 2, 1) := by decide +kernel
theorem dX0_say_12 : decode cX0_say 12 = .ok (.aload_n 0, 1) := by decide +kernel
theorem dX0_say_13 : decode cX0_say 13 = .ok (.getfield 50, 3) := by decide +kernel
theorem dX0_say_16 : decode cX0_say 16 = .ok (.iload_n 2, 1) := by decide +kernel
theorem dX0_say_17 : decode cX0_say 17 = .ok (.iconst 1, 1) := by decide +kernel
theorem dX0_say_18 : decode cX0_say 18 = .ok (.isub, 1) := by decide +kernel
theorem dX0_say_19 : decode cX0_say 19 = .ok (.iaload, 1) := by decide +kernel
theorem dX0_say_20 : decode cX0_say 20 = .ok (.iastore, 1) := by decide +kernel
theorem dX0_say_21 : decode cX0_say 21 = .ok (.iinc 2 (-1), 3) := by decide +kernel
theorem dX0_say_24 : decode cX0_say 24 = .ok (.goto (-21), 3) := by decide +kernel
theorem dX0_say_27 : decode cX0_say 27 = .ok (.aload_n 0, 1) := by decide +kernel
theorem dX0_say_28 : decode cX0_say 28 = .ok (.getfield 50, 3) := by decide +kernel
theorem dX0_say_31 : decode cX0_say 31 = .ok (.iconst 0, 1) := by decide +kernel
theorem dX0_say_32 : decode cX0_say 32 = .ok (.iload_n 1, 1) := by decide +kernel
theorem dX0_say_33 : decode cX0_say 33 = .ok (.iastore, 1) := by decide +kernel
theorem dX0_say_34 : decode cX0_say 34 = .ok (.aload_n 0, 1) := by decide +kernel
theorem dX0_say_35 : decode cX0_say 35 = .ok (.dup, 1) := by decide +kernel
theorem dX0_say_36 : decode cX0_say 36 = .ok (.getfield 77, 3) := by decide +kernel
theorem dX0_say_39 : decode cX0_say 39 = .ok (.iconst 1, 1) := by decide +kernel
theorem dX0_say_40 : decode cX0_say 40 = .ok (.iadd, 1) := by decide +kernel
theorem dX0_say_41 : decode cX0_say 41 = .ok (.putfield 77, 3) := by decide +kernel
theorem dX0_say_44 : decode cX0_say 44 = .ok (.return_, 1) := by decide +kernel
abbrev cX0_work : ByteArray := prog_1_method_18_code
def yX0_work : MethodName := ⟨RX0, "work", "(III)V"⟩
theorem dX0_work_0 : decode cX0_work 0 = .ok (.iload_n 1, 1) := by decide +kernel
theorem dX0_work_1 : decode cX0_work 1 = .ok (.ifCond .ne 13, 3) := by decide +kernel
theorem dX0_work_4 : decode cX0_work 4 = .ok (.aload_n 0, 1) := by decide +kernel
theorem dX0_work_5 : decode cX0_work 5 = .ok (.getfield 44, 3) := by decide +kernel
theorem dX0_work_8 : decode cX0_work 8 = .ok (.iload_n 2, 1) := by decide +kernel
theorem dX0_work_9 : decode cX0_work 9 = .ok (.iload_n 3, 1) := by decide +kernel
theorem dX0_work_10 : decode cX0_work 10 = .ok (.iastore, 1) := by decide +kernel
theorem dX0_work_11 : decode cX0_work 11 = .ok (.goto 95, 3) := by decide +kernel
theorem dX0_work_14 : decode cX0_work 14 = .ok (.iload_n 1, 1) := by decide +kernel
theorem dX0_work_15 : decode cX0_work 15 = .ok (.iconst 1, 1) := by decide +kernel
theorem dX0_work_16 : decode cX0_work 16 = .ok (.if_icmp .ne 21, 3) := by decide +kernel
theorem dX0_work_19 : decode cX0_work 19 = .ok (.aload_n 0, 1) := by decide +kernel
theorem dX0_work_20 : decode cX0_work 20 = .ok (.getfield 44, 3) := by decide +kernel
theorem dX0_work_23 : decode cX0_work 23 = .ok (.iload_n 2, 1) := by decide +kernel
theorem dX0_work_24 : decode cX0_work 24 = .ok (.dup2, 1) := by decide +kernel
theorem dX0_work_25 : decode cX0_work 25 = .ok (.iaload, 1) := by decide +kernel
theorem dX0_work_26 : decode cX0_work 26 = .ok (.aload_n 0, 1) := by decide +kernel
theorem dX0_work_27 : decode cX0_work 27 = .ok (.getfield 44, 3) := by decide +kernel
theorem dX0_work_30 : decode cX0_work 30 = .ok (.iload_n 3, 1) := by decide +kernel
theorem dX0_work_31 : decode cX0_work 31 = .ok (.iaload, 1) := by decide +kernel
theorem dX0_work_32 : decode cX0_work 32 = .ok (.iadd, 1) := by decide +kernel
theorem dX0_work_33 : decode cX0_work 33 = .ok (.iastore, 1) := by decide +kernel
theorem dX0_work_34 : decode cX0_work 34 = .ok (.goto 72, 3) := by decide +kernel
theorem dX0_work_37 : decode cX0_work 37 = .ok (.iload_n 1, 1) := by decide +kernel
theorem dX0_work_38 : decode cX0_work 38 = .ok (.iconst 2, 1) := by decide +kernel
theorem dX0_work_39 : decode cX0_work 39 = .ok (.if_icmp .ne 21, 3) := by decide +kernel
theorem dX0_work_42 : decode cX0_work 42 = .ok (.aload_n 0, 1) := by decide +kernel
theorem dX0_work_43 : decode cX0_work 43 = .ok (.getfield 44, 3) := by decide +kernel
theorem dX0_work_46 : decode cX0_work 46 = .ok (.iload_n 2, 1) := by decide +kernel
theorem dX0_work_47 : decode cX0_work 47 = .ok (.dup2, 1) := by decide +kernel
theorem dX0_work_48 : decode cX0_work 48 = .ok (.iaload, 1) := by decide +kernel
theorem dX0_work_49 : decode cX0_work 49 = .ok (.aload_n 0, 1) := by decide +kernel
theorem dX0_work_50 : decode cX0_work 50 = .ok (.getfield 44, 3) := by decide +kernel
theorem dX0_work_53 : decode cX0_work 53 = .ok (.iload_n 3, 1) := by decide +kernel
theorem dX0_work_54 : decode cX0_work 54 = .ok (.iaload, 1) := by decide +kernel
theorem dX0_work_55 : decode cX0_work 55 = .ok (.isub, 1) := by decide +kernel
theorem dX0_work_56 : decode cX0_work 56 = .ok (.iastore, 1) := by decide +kernel
theorem dX0_work_57 : decode cX0_work 57 = .ok (.goto 49, 3) := by decide +kernel
theorem dX0_work_60 : decode cX0_work 60 = .ok (.iload_n 1, 1) := by decide +kernel
theorem dX0_work_61 : decode cX0_work 61 = .ok (.iconst 3, 1) := by decide +kernel
theorem dX0_work_62 : decode cX0_work 62 = .ok (.if_icmp .ne 25, 3) := by decide +kernel
theorem dX0_work_65 : decode cX0_work 65 = .ok (.aload_n 0, 1) := by decide +kernel
theorem dX0_work_66 : decode cX0_work 66 = .ok (.getfield 44, 3) := by decide +kernel
theorem dX0_work_69 : decode cX0_work 69 = .ok (.iload_n 2, 1) := by decide +kernel
theorem dX0_work_70 : decode cX0_work 70 = .ok (.aload_n 0, 1) := by decide +kernel
theorem dX0_work_71 : decode cX0_work 71 = .ok (.aload_n 0, 1) := by decide +kernel
theorem dX0_work_72 : decode cX0_work 72 = .ok (.getfield 44, 3) := by decide +kernel
theorem dX0_work_75 : decode cX0_work 75 = .ok (.iload_n 3, 1) := by decide +kernel
theorem dX0_work_76 : decode cX0_work 76 = .ok (.iaload, 1) := by decide +kernel
theorem dX0_work_77 : decode cX0_work 77 = .ok (.bipush 15, 2) := by decide +kernel
theorem dX0_work_79 : decode cX0_work 79 = .ok (.iand, 1) := by decide +kernel
theorem dX0_work_80 : decode cX0_work 80 = .ok (.invokevirtual 104, 3) := by decide +kernel
theorem dX0_work_83 : decode cX0_work 83 = .ok (.iastore, 1) := by decide +kernel
theorem dX0_work_84 : decode cX0_work 84 = .ok (.goto 22, 3) := by decide +kernel
theorem dX0_work_87 : decode cX0_work 87 = .ok (.aload_n 0, 1) := by decide +kernel
theorem dX0_work_88 : decode cX0_work 88 = .ok (.aload_n 0, 1) := by decide +kernel
theorem dX0_work_89 : decode cX0_work 89 = .ok (.getfield 44, 3) := by decide +kernel
theorem dX0_work_92 : decode cX0_work 92 = .ok (.iload_n 3, 1) := by decide +kernel
theorem dX0_work_93 : decode cX0_work 93 = .ok (.iaload, 1) := by decide +kernel
theorem dX0_work_94 : decode cX0_work 94 = .ok (.bipush 15, 2) := by decide +kernel
theorem dX0_work_96 : decode cX0_work 96 = .ok (.iand, 1) := by decide +kernel
theorem dX0_work_97 : decode cX0_work 97 = .ok (.aload_n 0, 1) := by decide +kernel
theorem dX0_work_98 : decode cX0_work 98 = .ok (.getfield 44, 3) := by decide +kernel
theorem dX0_work_101 : decode cX0_work 101 = .ok (.iload_n 2, 1) := by decide +kernel
theorem dX0_work_102 : decode cX0_work 102 = .ok (.iaload, 1) := by decide +kernel
theorem dX0_work_103 : decode cX0_work 103 = .ok (.invokevirtual 108, 3) := by decide +kernel
theorem dX0_work_106 : decode cX0_work 106 = .ok (.return_, 1) := by decide +kernel
abbrev cX0_loadCell : ByteArray := prog_1_method_6_code
def yX0_loadCell : MethodName := ⟨RX0, "loadCell", "(I)I"⟩
theorem dX0_loadCell_0 : decode cX0_loadCell 0 = .ok (.aload_n 0, 1) := by decide +kernel
theorem dX0_loadCell_1 : decode cX0_loadCell 1 = .ok (.getfield 20, 3) := by decide +kernel
theorem dX0_loadCell_4 : decode cX0_loadCell 4 = .ok (.aload_n 0, 1) := by decide +kernel
theorem dX0_loadCell_5 : decode cX0_loadCell 5 = .ok (.getfield 47, 3) := by decide +kernel
theorem dX0_loadCell_8 : decode cX0_loadCell 8 = .ok (.iload_n 1, 1) := by decide +kernel
theorem dX0_loadCell_9 : decode cX0_loadCell 9 = .ok (.iconst 2, 1) := by decide +kernel
theorem dX0_loadCell_10 : decode cX0_loadCell 10 = .ok (.ishr, 1) := by decide +kernel
theorem dX0_loadCell_11 : decode cX0_loadCell 11 = .ok (.baload, 1) := by decide +kernel
theorem dX0_loadCell_12 : decode cX0_loadCell 12 = .ok (.iconst 4, 1) := by decide +kernel
theorem dX0_loadCell_13 : decode cX0_loadCell 13 = .ok (.imul, 1) := by decide +kernel
theorem dX0_loadCell_14 : decode cX0_loadCell 14 = .ok (.iload_n 1, 1) := by decide +kernel
theorem dX0_loadCell_15 : decode cX0_loadCell 15 = .ok (.iconst 3, 1) := by decide +kernel
theorem dX0_loadCell_16 : decode cX0_loadCell 16 = .ok (.iand, 1) := by decide +kernel
theorem dX0_loadCell_17 : decode cX0_loadCell 17 = .ok (.iadd, 1) := by decide +kernel
theorem dX0_loadCell_18 : decode cX0_loadCell 18 = .ok (.iaload, 1) := by decide +kernel
theorem dX0_loadCell_19 : decode cX0_loadCell 19 = .ok (.ireturn, 1) := by decide +kernel
end
section
set_option maxRecDepth 100000
abbrev cX0_storeCell : ByteArray := prog_1_method_7_code
def yX0_storeCell : MethodName := ⟨RX0, "storeCell", "(II)V"⟩
theorem dX0_storeCell_0 : decode cX0_storeCell 0 = .ok (.aload_n 0, 1) := by decide +kernel
theorem dX0_storeCell_1 : decode cX0_storeCell 1 = .ok (.getfield 47, 3) := by decide +kernel
theorem dX0_storeCell_4 : decode cX0_storeCell 4 = .ok (.iload_n 1, 1) := by decide +kernel
theorem dX0_storeCell_5 : decode cX0_storeCell 5 = .ok (.iconst 2, 1) := by decide +kernel
theorem dX0_storeCell_6 : decode cX0_storeCell 6 = .ok (.ishr, 1) := by decide +kernel
theorem dX0_storeCell_7 : decode cX0_storeCell 7 = .ok (.baload, 1) := by decide +kernel
theorem dX0_storeCell_8 : decode cX0_storeCell 8 = .ok (.istore_n 3, 1) := by decide +kernel
theorem dX0_storeCell_9 : decode cX0_storeCell 9 = .ok (.iload_n 3, 1) := by decide +kernel
theorem dX0_storeCell_10 : decode cX0_storeCell 10 = .ok (.istore 4, 2) := by decide +kernel
theorem dX0_storeCell_12 : decode cX0_storeCell 12 = .ok (.aload_n 0, 1) := by decide +kernel
theorem dX0_storeCell_13 : decode cX0_storeCell 13 = .ok (.getfield 23, 3) := by decide +kernel
theorem dX0_storeCell_16 : decode cX0_storeCell 16 = .ok (.iload_n 3, 1) := by decide +kernel
theorem dX0_storeCell_17 : decode cX0_storeCell 17 = .ok (.baload, 1) := by decide +kernel
theorem dX0_storeCell_18 : decode cX0_storeCell 18 = .ok (.iconst 1, 1) := by decide +kernel
theorem dX0_storeCell_19 : decode cX0_storeCell 19 = .ok (.if_icmp .le 69, 3) := by decide +kernel
theorem dX0_storeCell_22 : decode cX0_storeCell 22 = .ok (.aload_n 0, 1) := by decide +kernel
theorem dX0_storeCell_23 : decode cX0_storeCell 23 = .ok (.invokevirtual 67, 3) := by decide +kernel
theorem dX0_storeCell_26 : decode cX0_storeCell 26 = .ok (.istore 4, 2) := by decide +kernel
theorem dX0_storeCell_28 : decode cX0_storeCell 28 = .ok (.iconst 0, 1) := by decide +kernel
theorem dX0_storeCell_29 : decode cX0_storeCell 29 = .ok (.istore 5, 2) := by decide +kernel
theorem dX0_storeCell_31 : decode cX0_storeCell 31 = .ok (.iload 5, 2) := by decide +kernel
theorem dX0_storeCell_33 : decode cX0_storeCell 33 = .ok (.iconst 4, 1) := by decide +kernel
theorem dX0_storeCell_34 : decode cX0_storeCell 34 = .ok (.if_icmp .ge 32, 3) := by decide +kernel
theorem dX0_storeCell_37 : decode cX0_storeCell 37 = .ok (.aload_n 0, 1) := by decide +kernel
theorem dX0_storeCell_38 : decode cX0_storeCell 38 = .ok (.getfield 20, 3) := by decide +kernel
theorem dX0_storeCell_41 : decode cX0_storeCell 41 = .ok (.iload 4, 2) := by decide +kernel
theorem dX0_storeCell_43 : decode cX0_storeCell 43 = .ok (.iconst 4, 1) := by decide +kernel
theorem dX0_storeCell_44 : decode cX0_storeCell 44 = .ok (.imul, 1) := by decide +kernel
theorem dX0_storeCell_45 : decode cX0_storeCell 45 = .ok (.iload 5, 2) := by decide +kernel
theorem dX0_storeCell_47 : decode cX0_storeCell 47 = .ok (.iadd, 1) := by decide +kernel
theorem dX0_storeCell_48 : decode cX0_storeCell 48 = .ok (.aload_n 0, 1) := by decide +kernel
theorem dX0_storeCell_49 : decode cX0_storeCell 49 = .ok (.getfield 20, 3) := by decide +kernel
theorem dX0_storeCell_52 : decode cX0_storeCell 52 = .ok (.iload_n 3, 1) := by decide +kernel
theorem dX0_storeCell_53 : decode cX0_storeCell 53 = .ok (.iconst 4, 1) := by decide +kernel
theorem dX0_storeCell_54 : decode cX0_storeCell 54 = .ok (.imul, 1) := by decide +kernel
theorem dX0_storeCell_55 : decode cX0_storeCell 55 = .ok (.iload 5, 2) := by decide +kernel
theorem dX0_storeCell_57 : decode cX0_storeCell 57 = .ok (.iadd, 1) := by decide +kernel
theorem dX0_storeCell_58 : decode cX0_storeCell 58 = .ok (.iaload, 1) := by decide +kernel
theorem dX0_storeCell_59 : decode cX0_storeCell 59 = .ok (.iastore, 1) := by decide +kernel
theorem dX0_storeCell_60 : decode cX0_storeCell 60 = .ok (.iinc 5 1, 3) := by decide +kernel
theorem dX0_storeCell_63 : decode cX0_storeCell 63 = .ok (.goto (-32), 3) := by decide +kernel
theorem dX0_storeCell_66 : decode cX0_storeCell 66 = .ok (.aload_n 0, 1) := by decide +kernel
theorem dX0_storeCell_67 : decode cX0_storeCell 67 = .ok (.getfield 23, 3) := by decide +kernel
theorem dX0_storeCell_70 : decode cX0_storeCell 70 = .ok (.iload_n 3, 1) := by decide +kernel
theorem dX0_storeCell_71 : decode cX0_storeCell 71 = .ok (.dup2, 1) := by decide +kernel
theorem dX0_storeCell_72 : decode cX0_storeCell 72 = .ok (.baload, 1) := by decide +kernel
theorem dX0_storeCell_73 : decode cX0_storeCell 73 = .ok (.iconst 1, 1) := by decide +kernel
theorem dX0_storeCell_74 : decode cX0_storeCell 74 = .ok (.isub, 1) := by decide +kernel
theorem dX0_storeCell_75 : decode cX0_storeCell 75 = .ok (.i2b, 1) := by decide +kernel
theorem dX0_storeCell_76 : decode cX0_storeCell 76 = .ok (.bastore, 1) := by decide +kernel
theorem dX0_storeCell_77 : decode cX0_storeCell 77 = .ok (.aload_n 0, 1) := by decide +kernel
theorem dX0_storeCell_78 : decode cX0_storeCell 78 = .ok (.getfield 47, 3) := by decide +kernel
theorem dX0_storeCell_81 : decode cX0_storeCell 81 = .ok (.iload_n 1, 1) := by decide +kernel
theorem dX0_storeCell_82 : decode cX0_storeCell 82 = .ok (.iconst 2, 1) := by decide +kernel
theorem dX0_storeCell_83 : decode cX0_storeCell 83 = .ok (.ishr, 1) := by decide +kernel
theorem dX0_storeCell_84 : decode cX0_storeCell 84 = .ok (.iload 4, 2) := by decide +kernel
theorem dX0_storeCell_86 : decode cX0_storeCell 86 = .ok (.i2b, 1) := by decide +kernel
theorem dX0_storeCell_87 : decode cX0_storeCell 87 = .ok (.bastore, 1) := by decide +kernel
theorem dX0_storeCell_88 : decode cX0_storeCell 88 = .ok (.aload_n 0, 1) := by decide +kernel
theorem dX0_storeCell_89 : decode cX0_storeCell 89 = .ok (.getfield 20, 3) := by decide +kernel
theorem dX0_storeCell_92 : decode cX0_storeCell 92 = .ok (.iload 4, 2) := by decide +kernel
theorem dX0_storeCell_94 : decode cX0_storeCell 94 = .ok (.iconst 4, 1) := by decide +kernel
theorem dX0_storeCell_95 : decode cX0_storeCell 95 = .ok (.imul, 1) := by decide +kernel
theorem dX0_storeCell_96 : decode cX0_storeCell 96 = .ok (.iload_n 1, 1) := by decide +kernel
theorem dX0_storeCell_97 : decode cX0_storeCell 97 = .ok (.iconst 3, 1) := by decide +kernel
theorem dX0_storeCell_98 : decode cX0_storeCell 98 = .ok (.iand, 1) := by decide +kernel
theorem dX0_storeCell_99 : decode cX0_storeCell 99 = .ok (.iadd, 1) := by decide +kernel
theorem dX0_storeCell_100 : decode cX0_storeCell 100 = .ok (.iload_n 2, 1) := by decide +kernel
theorem dX0_storeCell_101 : decode cX0_storeCell 101 = .ok (.iastore, 1) := by decide +kernel
theorem dX0_storeCell_102 : decode cX0_storeCell 102 = .ok (.return_, 1) := by decide +kernel
abbrev cX0_keep : ByteArray := prog_1_method_11_code
def yX0_keep : MethodName := ⟨RX0, "keep", "(II)V"⟩
theorem dX0_keep_0 : decode cX0_keep 0 = .ok (.aload_n 0, 1) := by decide +kernel
theorem dX0_keep_1 : decode cX0_keep 1 = .ok (.dup, 1) := by decide +kernel
theorem dX0_keep_2 : decode cX0_keep 2 = .ok (.getfield 57, 3) := by decide +kernel
theorem dX0_keep_5 : decode cX0_keep 5 = .ok (.iconst 1, 1) := by decide +kernel
theorem dX0_keep_6 : decode cX0_keep 6 = .ok (.iload_n 1, 1) := by decide +kernel
theorem dX0_keep_7 : decode cX0_keep 7 = .ok (.ishl, 1) := by decide +kernel
theorem dX0_keep_8 : decode cX0_keep 8 = .ok (.ior, 1) := by decide +kernel
theorem dX0_keep_9 : decode cX0_keep 9 = .ok (.putfield 57, 3) := by decide +kernel
theorem dX0_keep_12 : decode cX0_keep 12 = .ok (.aload_n 0, 1) := by decide +kernel
theorem dX0_keep_13 : decode cX0_keep 13 = .ok (.getfield 26, 3) := by decide +kernel
theorem dX0_keep_16 : decode cX0_keep 16 = .ok (.iload_n 1, 1) := by decide +kernel
theorem dX0_keep_17 : decode cX0_keep 17 = .ok (.iload_n 2, 1) := by decide +kernel
theorem dX0_keep_18 : decode cX0_keep 18 = .ok (.i2b, 1) := by decide +kernel
theorem dX0_keep_19 : decode cX0_keep 19 = .ok (.bastore, 1) := by decide +kernel
theorem dX0_keep_20 : decode cX0_keep 20 = .ok (.aload_n 0, 1) := by decide +kernel
theorem dX0_keep_21 : decode cX0_keep 21 = .ok (.getfield 29, 3) := by decide +kernel
theorem dX0_keep_24 : decode cX0_keep 24 = .ok (.iload_n 1, 1) := by decide +kernel
theorem dX0_keep_25 : decode cX0_keep 25 = .ok (.aload_n 0, 1) := by decide +kernel
theorem dX0_keep_26 : decode cX0_keep 26 = .ok (.getfield 74, 3) := by decide +kernel
theorem dX0_keep_29 : decode cX0_keep 29 = .ok (.iastore, 1) := by decide +kernel
theorem dX0_keep_30 : decode cX0_keep 30 = .ok (.aload_n 0, 1) := by decide +kernel
theorem dX0_keep_31 : decode cX0_keep 31 = .ok (.getfield 38, 3) := by decide +kernel
theorem dX0_keep_34 : decode cX0_keep 34 = .ok (.iload_n 1, 1) := by decide +kernel
theorem dX0_keep_35 : decode cX0_keep 35 = .ok (.aload_n 0, 1) := by decide +kernel
theorem dX0_keep_36 : decode cX0_keep 36 = .ok (.getfield 77, 3) := by decide +kernel
theorem dX0_keep_39 : decode cX0_keep 39 = .ok (.iastore, 1) := by decide +kernel
theorem dX0_keep_40 : decode cX0_keep 40 = .ok (.iconst 0, 1) := by decide +kernel
theorem dX0_keep_41 : decode cX0_keep 41 = .ok (.istore_n 3, 1) := by decide +kernel
theorem dX0_keep_42 : decode cX0_keep 42 = .ok (.iload_n 3, 1) := by decide +kernel
theorem dX0_keep_43 : decode cX0_keep 43 = .ok (.iconst 4, 1) := by decide +kernel
theorem dX0_keep_44 : decode cX0_keep 44 = .ok (.if_icmp .ge 41, 3) := by decide +kernel
theorem dX0_keep_47 : decode cX0_keep 47 = .ok (.aload_n 0, 1) := by decide +kernel
theorem dX0_keep_48 : decode cX0_keep 48 = .ok (.getfield 32, 3) := by decide +kernel
theorem dX0_keep_51 : decode cX0_keep 51 = .ok (.iload_n 1, 1) := by decide +kernel
theorem dX0_keep_52 : decode cX0_keep 52 = .ok (.iconst 4, 1) := by decide +kernel
theorem dX0_keep_53 : decode cX0_keep 53 = .ok (.imul, 1) := by decide +kernel
theorem dX0_keep_54 : decode cX0_keep 54 = .ok (.iload_n 3, 1) := by decide +kernel
theorem dX0_keep_55 : decode cX0_keep 55 = .ok (.iadd, 1) := by decide +kernel
theorem dX0_keep_56 : decode cX0_keep 56 = .ok (.aload_n 0, 1) := by decide +kernel
theorem dX0_keep_57 : decode cX0_keep 57 = .ok (.getfield 44, 3) := by decide +kernel
theorem dX0_keep_60 : decode cX0_keep 60 = .ok (.iload_n 3, 1) := by decide +kernel
theorem dX0_keep_61 : decode cX0_keep 61 = .ok (.iaload, 1) := by decide +kernel
theorem dX0_keep_62 : decode cX0_keep 62 = .ok (.iastore, 1) := by decide +kernel
theorem dX0_keep_63 : decode cX0_keep 63 = .ok (.aload_n 0, 1) := by decide +kernel
theorem dX0_keep_64 : decode cX0_keep 64 = .ok (.getfield 35, 3) := by decide +kernel
theorem dX0_keep_67 : decode cX0_keep 67 = .ok (.iload_n 1, 1) := by decide +kernel
theorem dX0_keep_68 : decode cX0_keep 68 = .ok (.iconst 4, 1) := by decide +kernel
theorem dX0_keep_69 : decode cX0_keep 69 = .ok (.imul, 1) := by decide +kernel
theorem dX0_keep_70 : decode cX0_keep 70 = .ok (.iload_n 3, 1) := by decide +kernel
theorem dX0_keep_71 : decode cX0_keep 71 = .ok (.iadd, 1) := by decide +kernel
theorem dX0_keep_72 : decode cX0_keep 72 = .ok (.aload_n 0, 1) := by decide +kernel
theorem dX0_keep_73 : decode cX0_keep 73 = .ok (.getfield 47, 3) := by decide +kernel
theorem dX0_keep_76 : decode cX0_keep 76 = .ok (.iload_n 3, 1) := by decide +kernel
theorem dX0_keep_77 : decode cX0_keep 77 = .ok (.baload, 1) := by decide +kernel
theorem dX0_keep_78 : decode cX0_keep 78 = .ok (.bastore, 1) := by decide +kernel
theorem dX0_keep_79 : decode cX0_keep 79 = .ok (.iinc 3 1, 3) := by decide +kernel
theorem dX0_keep_82 : decode cX0_keep 82 = .ok (.goto (-40), 3) := by decide +kernel
theorem dX0_keep_85 : decode cX0_keep 85 = .ok (.iconst 0, 1) := by decide +kernel
theorem dX0_keep_86 : decode cX0_keep 86 = .ok (.istore_n 3, 1) := by decide +kernel
theorem dX0_keep_87 : decode cX0_keep 87 = .ok (.iload_n 3, 1) := by decide +kernel
theorem dX0_keep_88 : decode cX0_keep 88 = .ok (.bipush 8, 2) := by decide +kernel
theorem dX0_keep_90 : decode cX0_keep 90 = .ok (.if_icmp .ge 26, 3) := by decide +kernel
theorem dX0_keep_93 : decode cX0_keep 93 = .ok (.aload_n 0, 1) := by decide +kernel
theorem dX0_keep_94 : decode cX0_keep 94 = .ok (.getfield 41, 3) := by decide +kernel
theorem dX0_keep_97 : decode cX0_keep 97 = .ok (.iload_n 1, 1) := by decide +kernel
theorem dX0_keep_98 : decode cX0_keep 98 = .ok (.bipush 8, 2) := by decide +kernel
theorem dX0_keep_100 : decode cX0_keep 100 = .ok (.imul, 1) := by decide +kernel
theorem dX0_keep_101 : decode cX0_keep 101 = .ok (.iload_n 3, 1) := by decide +kernel
theorem dX0_keep_102 : decode cX0_keep 102 = .ok (.iadd, 1) := by decide +kernel
theorem dX0_keep_103 : decode cX0_keep 103 = .ok (.aload_n 0, 1) := by decide +kernel
theorem dX0_keep_104 : decode cX0_keep 104 = .ok (.getfield 50, 3) := by decide +kernel
theorem dX0_keep_107 : decode cX0_keep 107 = .ok (.iload_n 3, 1) := by decide +kernel
theorem dX0_keep_108 : decode cX0_keep 108 = .ok (.iaload, 1) := by decide +kernel
theorem dX0_keep_109 : decode cX0_keep 109 = .ok (.iastore, 1) := by decide +kernel
theorem dX0_keep_110 : decode cX0_keep 110 = .ok (.iinc 3 1, 3) := by decide +kernel
theorem dX0_keep_113 : decode cX0_keep 113 = .ok (.goto (-26), 3) := by decide +kernel
theorem dX0_keep_116 : decode cX0_keep 116 = .ok (.return_, 1) := by decide +kernel
abbrev cX0_answer : ByteArray := prog_1_method_13_code
def yX0_answer : MethodName := ⟨RX0, "answer", "(II)I"⟩
theorem dX0_answer_0 : decode cX0_answer 0 = .ok (.aload_n 0, 1) := by decide +kernel
theorem dX0_answer_1 : decode cX0_answer 1 = .ok (.iload_n 1, 1) := by decide +kernel
theorem dX0_answer_2 : decode cX0_answer 2 = .ok (.invokevirtual 71, 3) := by decide +kernel
theorem dX0_answer_5 : decode cX0_answer 5 = .ok (.ifCond .eq 13, 3) := by decide +kernel
theorem dX0_answer_8 : decode cX0_answer 8 = .ok (.aload_n 0, 1) := by decide +kernel
theorem dX0_answer_9 : decode cX0_answer 9 = .ok (.getfield 26, 3) := by decide +kernel
theorem dX0_answer_12 : decode cX0_answer 12 = .ok (.iload_n 1, 1) := by decide +kernel
theorem dX0_answer_13 : decode cX0_answer 13 = .ok (.baload, 1) := by decide +kernel
theorem dX0_answer_14 : decode cX0_answer 14 = .ok (.iconst 2, 1) := by decide +kernel
theorem dX0_answer_15 : decode cX0_answer 15 = .ok (.if_icmp .eq 5, 3) := by decide +kernel
theorem dX0_answer_18 : decode cX0_answer 18 = .ok (.iconst (-1), 1) := by decide +kernel
theorem dX0_answer_19 : decode cX0_answer 19 = .ok (.ireturn, 1) := by decide +kernel
theorem dX0_answer_20 : decode cX0_answer 20 = .ok (.aload_n 0, 1) := by decide +kernel
theorem dX0_answer_21 : decode cX0_answer 21 = .ok (.invokevirtual 80, 3) := by decide +kernel
theorem dX0_answer_24 : decode cX0_answer 24 = .ok (.istore_n 3, 1) := by decide +kernel
theorem dX0_answer_25 : decode cX0_answer 25 = .ok (.iload_n 3, 1) := by decide +kernel
theorem dX0_answer_26 : decode cX0_answer 26 = .ok (.ifCond .ge 6, 3) := by decide +kernel
theorem dX0_answer_29 : decode cX0_answer 29 = .ok (.bipush (-2), 2) := by decide +kernel
theorem dX0_answer_31 : decode cX0_answer 31 = .ok (.ireturn, 1) := by decide +kernel
theorem dX0_answer_32 : decode cX0_answer 32 = .ok (.aload_n 0, 1) := by decide +kernel
theorem dX0_answer_33 : decode cX0_answer 33 = .ok (.iload_n 1, 1) := by decide +kernel
theorem dX0_answer_34 : decode cX0_answer 34 = .ok (.invokevirtual 90, 3) := by decide +kernel
theorem dX0_answer_37 : decode cX0_answer 37 = .ok (.aload_n 0, 1) := by decide +kernel
theorem dX0_answer_38 : decode cX0_answer 38 = .ok (.getfield 44, 3) := by decide +kernel
theorem dX0_answer_41 : decode cX0_answer 41 = .ok (.aload_n 0, 1) := by decide +kernel
theorem dX0_answer_42 : decode cX0_answer 42 = .ok (.getfield 13, 3) := by decide +kernel
theorem dX0_answer_45 : decode cX0_answer 45 = .ok (.aload_n 0, 1) := by decide +kernel
theorem dX0_answer_46 : decode cX0_answer 46 = .ok (.getfield 74, 3) := by decide +kernel
theorem dX0_answer_49 : decode cX0_answer 49 = .ok (.baload, 1) := by decide +kernel
theorem dX0_answer_50 : decode cX0_answer 50 = .ok (.iload_n 2, 1) := by decide +kernel
theorem dX0_answer_51 : decode cX0_answer 51 = .ok (.iastore, 1) := by decide +kernel
theorem dX0_answer_52 : decode cX0_answer 52 = .ok (.aload_n 0, 1) := by decide +kernel
theorem dX0_answer_53 : decode cX0_answer 53 = .ok (.dup, 1) := by decide +kernel
theorem dX0_answer_54 : decode cX0_answer 54 = .ok (.getfield 74, 3) := by decide +kernel
theorem dX0_answer_57 : decode cX0_answer 57 = .ok (.iconst 1, 1) := by decide +kernel
theorem dX0_answer_58 : decode cX0_answer 58 = .ok (.iadd, 1) := by decide +kernel
theorem dX0_answer_59 : decode cX0_answer 59 = .ok (.putfield 74, 3) := by decide +kernel
theorem dX0_answer_62 : decode cX0_answer 62 = .ok (.aload_n 0, 1) := by decide +kernel
theorem dX0_answer_63 : decode cX0_answer 63 = .ok (.invokevirtual 83, 3) := by decide +kernel
theorem dX0_answer_66 : decode cX0_answer 66 = .ok (.istore 4, 2) := by decide +kernel
theorem dX0_answer_68 : decode cX0_answer 68 = .ok (.aload_n 0, 1) := by decide +kernel
theorem dX0_answer_69 : decode cX0_answer 69 = .ok (.iload_n 3, 1) := by decide +kernel
theorem dX0_answer_70 : decode cX0_answer 70 = .ok (.iload 4, 2) := by decide +kernel
theorem dX0_answer_72 : decode cX0_answer 72 = .ok (.invokevirtual 86, 3) := by decide +kernel
theorem dX0_answer_75 : decode cX0_answer 75 = .ok (.iload_n 3, 1) := by decide +kernel
theorem dX0_answer_76 : decode cX0_answer 76 = .ok (.ireturn, 1) := by decide +kernel
abbrev cX0_recall : ByteArray := prog_1_method_10_code
def yX0_recall : MethodName := ⟨RX0, "recall", "(I)V"⟩
theorem dX0_recall_0 : decode cX0_recall 0 = .ok (.aload_n 0, 1) := by decide +kernel
theorem dX0_recall_1 : decode cX0_recall 1 = .ok (.aload_n 0, 1) := by decide +kernel
theorem dX0_recall_2 : decode cX0_recall 2 = .ok (.getfield 29, 3) := by decide +kernel
theorem dX0_recall_5 : decode cX0_recall 5 = .ok (.iload_n 1, 1) := by decide +kernel
theorem dX0_recall_6 : decode cX0_recall 6 = .ok (.iaload, 1) := by decide +kernel
theorem dX0_recall_7 : decode cX0_recall 7 = .ok (.putfield 74, 3) := by decide +kernel
theorem dX0_recall_10 : decode cX0_recall 10 = .ok (.aload_n 0, 1) := by decide +kernel
theorem dX0_recall_11 : decode cX0_recall 11 = .ok (.aload_n 0, 1) := by decide +kernel
theorem dX0_recall_12 : decode cX0_recall 12 = .ok (.getfield 38, 3) := by decide +kernel
theorem dX0_recall_15 : decode cX0_recall 15 = .ok (.iload_n 1, 1) := by decide +kernel
theorem dX0_recall_16 : decode cX0_recall 16 = .ok (.iaload, 1) := by decide +kernel
theorem dX0_recall_17 : decode cX0_recall 17 = .ok (.putfield 77, 3) := by decide +kernel
theorem dX0_recall_20 : decode cX0_recall 20 = .ok (.iconst 0, 1) := by decide +kernel
theorem dX0_recall_21 : decode cX0_recall 21 = .ok (.istore_n 2, 1) := by decide +kernel
theorem dX0_recall_22 : decode cX0_recall 22 = .ok (.iload_n 2, 1) := by decide +kernel
theorem dX0_recall_23 : decode cX0_recall 23 = .ok (.iconst 4, 1) := by decide +kernel
theorem dX0_recall_24 : decode cX0_recall 24 = .ok (.if_icmp .ge 57, 3) := by decide +kernel
theorem dX0_recall_27 : decode cX0_recall 27 = .ok (.aload_n 0, 1) := by decide +kernel
theorem dX0_recall_28 : decode cX0_recall 28 = .ok (.getfield 44, 3) := by decide +kernel
theorem dX0_recall_31 : decode cX0_recall 31 = .ok (.iload_n 2, 1) := by decide +kernel
theorem dX0_recall_32 : decode cX0_recall 32 = .ok (.aload_n 0, 1) := by decide +kernel
theorem dX0_recall_33 : decode cX0_recall 33 = .ok (.getfield 32, 3) := by decide +kernel
theorem dX0_recall_36 : decode cX0_recall 36 = .ok (.iload_n 1, 1) := by decide +kernel
theorem dX0_recall_37 : decode cX0_recall 37 = .ok (.iconst 4, 1) := by decide +kernel
theorem dX0_recall_38 : decode cX0_recall 38 = .ok (.imul, 1) := by decide +kernel
theorem dX0_recall_39 : decode cX0_recall 39 = .ok (.iload_n 2, 1) := by decide +kernel
theorem dX0_recall_40 : decode cX0_recall 40 = .ok (.iadd, 1) := by decide +kernel
theorem dX0_recall_41 : decode cX0_recall 41 = .ok (.iaload, 1) := by decide +kernel
theorem dX0_recall_42 : decode cX0_recall 42 = .ok (.iastore, 1) := by decide +kernel
theorem dX0_recall_43 : decode cX0_recall 43 = .ok (.aload_n 0, 1) := by decide +kernel
theorem dX0_recall_44 : decode cX0_recall 44 = .ok (.getfield 47, 3) := by decide +kernel
theorem dX0_recall_47 : decode cX0_recall 47 = .ok (.iload_n 2, 1) := by decide +kernel
theorem dX0_recall_48 : decode cX0_recall 48 = .ok (.aload_n 0, 1) := by decide +kernel
theorem dX0_recall_49 : decode cX0_recall 49 = .ok (.getfield 35, 3) := by decide +kernel
theorem dX0_recall_52 : decode cX0_recall 52 = .ok (.iload_n 1, 1) := by decide +kernel
theorem dX0_recall_53 : decode cX0_recall 53 = .ok (.iconst 4, 1) := by decide +kernel
theorem dX0_recall_54 : decode cX0_recall 54 = .ok (.imul, 1) := by decide +kernel
theorem dX0_recall_55 : decode cX0_recall 55 = .ok (.iload_n 2, 1) := by decide +kernel
theorem dX0_recall_56 : decode cX0_recall 56 = .ok (.iadd, 1) := by decide +kernel
theorem dX0_recall_57 : decode cX0_recall 57 = .ok (.baload, 1) := by decide +kernel
theorem dX0_recall_58 : decode cX0_recall 58 = .ok (.bastore, 1) := by decide +kernel
theorem dX0_recall_59 : decode cX0_recall 59 = .ok (.aload_n 0, 1) := by decide +kernel
theorem dX0_recall_60 : decode cX0_recall 60 = .ok (.getfield 23, 3) := by decide +kernel
theorem dX0_recall_63 : decode cX0_recall 63 = .ok (.aload_n 0, 1) := by decide +kernel
theorem dX0_recall_64 : decode cX0_recall 64 = .ok (.getfield 47, 3) := by decide +kernel
theorem dX0_recall_67 : decode cX0_recall 67 = .ok (.iload_n 2, 1) := by decide +kernel
theorem dX0_recall_68 : decode cX0_recall 68 = .ok (.baload, 1) := by decide +kernel
theorem dX0_recall_69 : decode cX0_recall 69 = .ok (.dup2, 1) := by decide +kernel
theorem dX0_recall_70 : decode cX0_recall 70 = .ok (.baload, 1) := by decide +kernel
theorem dX0_recall_71 : decode cX0_recall 71 = .ok (.iconst 1, 1) := by decide +kernel
theorem dX0_recall_72 : decode cX0_recall 72 = .ok (.iadd, 1) := by decide +kernel
theorem dX0_recall_73 : decode cX0_recall 73 = .ok (.i2b, 1) := by decide +kernel
theorem dX0_recall_74 : decode cX0_recall 74 = .ok (.bastore, 1) := by decide +kernel
theorem dX0_recall_75 : decode cX0_recall 75 = .ok (.iinc 2 1, 3) := by decide +kernel
theorem dX0_recall_78 : decode cX0_recall 78 = .ok (.goto (-56), 3) := by decide +kernel
theorem dX0_recall_81 : decode cX0_recall 81 = .ok (.iconst 0, 1) := by decide +kernel
theorem dX0_recall_82 : decode cX0_recall 82 = .ok (.istore_n 2, 1) := by decide +kernel
theorem dX0_recall_83 : decode cX0_recall 83 = .ok (.iload_n 2, 1) := by decide +kernel
theorem dX0_recall_84 : decode cX0_recall 84 = .ok (.bipush 8, 2) := by decide +kernel
theorem dX0_recall_86 : decode cX0_recall 86 = .ok (.if_icmp .ge 26, 3) := by decide +kernel
theorem dX0_recall_89 : decode cX0_recall 89 = .ok (.aload_n 0, 1) := by decide +kernel
theorem dX0_recall_90 : decode cX0_recall 90 = .ok (.getfield 50, 3) := by decide +kernel
theorem dX0_recall_93 : decode cX0_recall 93 = .ok (.iload_n 2, 1) := by decide +kernel
theorem dX0_recall_94 : decode cX0_recall 94 = .ok (.aload_n 0, 1) := by decide +kernel
theorem dX0_recall_95 : decode cX0_recall 95 = .ok (.getfield 41, 3) := by decide +kernel
theorem dX0_recall_98 : decode cX0_recall 98 = .ok (.iload_n 1, 1) := by decide +kernel
theorem dX0_recall_99 : decode cX0_recall 99 = .ok (.bipush 8, 2) := by decide +kernel
theorem dX0_recall_101 : decode cX0_recall 101 = .ok (.imul, 1) := by decide +kernel
theorem dX0_recall_102 : decode cX0_recall 102 = .ok (.iload_n 2, 1) := by decide +kernel
theorem dX0_recall_103 : decode cX0_recall 103 = .ok (.iadd, 1) := by decide +kernel
theorem dX0_recall_104 : decode cX0_recall 104 = .ok (.iaload, 1) := by decide +kernel
theorem dX0_recall_105 : decode cX0_recall 105 = .ok (.iastore, 1) := by decide +kernel
theorem dX0_recall_106 : decode cX0_recall 106 = .ok (.iinc 2 1, 3) := by decide +kernel
theorem dX0_recall_109 : decode cX0_recall 109 = .ok (.goto (-26), 3) := by decide +kernel
theorem dX0_recall_112 : decode cX0_recall 112 = .ok (.return_, 1) := by decide +kernel
abbrev cX0_goOn : ByteArray := prog_1_method_14_code
def yX0_goOn : MethodName := ⟨RX0, "goOn", "(I)I"⟩
theorem dX0_goOn_0 : decode cX0_goOn 0 = .ok (.aload_n 0, 1) := by decide +kernel
theorem dX0_goOn_1 : decode cX0_goOn 1 = .ok (.iload_n 1, 1) := by decide +kernel
theorem dX0_goOn_2 : decode cX0_goOn 2 = .ok (.invokevirtual 71, 3) := by decide +kernel
theorem dX0_goOn_5 : decode cX0_goOn 5 = .ok (.ifCond .eq 13, 3) := by decide +kernel
theorem dX0_goOn_8 : decode cX0_goOn 8 = .ok (.aload_n 0, 1) := by decide +kernel
theorem dX0_goOn_9 : decode cX0_goOn 9 = .ok (.getfield 26, 3) := by decide +kernel
theorem dX0_goOn_12 : decode cX0_goOn 12 = .ok (.iload_n 1, 1) := by decide +kernel
theorem dX0_goOn_13 : decode cX0_goOn 13 = .ok (.baload, 1) := by decide +kernel
theorem dX0_goOn_14 : decode cX0_goOn 14 = .ok (.iconst 3, 1) := by decide +kernel
theorem dX0_goOn_15 : decode cX0_goOn 15 = .ok (.if_icmp .eq 5, 3) := by decide +kernel
theorem dX0_goOn_18 : decode cX0_goOn 18 = .ok (.iconst (-1), 1) := by decide +kernel
theorem dX0_goOn_19 : decode cX0_goOn 19 = .ok (.ireturn, 1) := by decide +kernel
theorem dX0_goOn_20 : decode cX0_goOn 20 = .ok (.aload_n 0, 1) := by decide +kernel
theorem dX0_goOn_21 : decode cX0_goOn 21 = .ok (.invokevirtual 80, 3) := by decide +kernel
theorem dX0_goOn_24 : decode cX0_goOn 24 = .ok (.istore_n 2, 1) := by decide +kernel
theorem dX0_goOn_25 : decode cX0_goOn 25 = .ok (.iload_n 2, 1) := by decide +kernel
theorem dX0_goOn_26 : decode cX0_goOn 26 = .ok (.ifCond .ge 6, 3) := by decide +kernel
theorem dX0_goOn_29 : decode cX0_goOn 29 = .ok (.bipush (-2), 2) := by decide +kernel
theorem dX0_goOn_31 : decode cX0_goOn 31 = .ok (.ireturn, 1) := by decide +kernel
theorem dX0_goOn_32 : decode cX0_goOn 32 = .ok (.aload_n 0, 1) := by decide +kernel
theorem dX0_goOn_33 : decode cX0_goOn 33 = .ok (.iload_n 1, 1) := by decide +kernel
theorem dX0_goOn_34 : decode cX0_goOn 34 = .ok (.invokevirtual 90, 3) := by decide +kernel
theorem dX0_goOn_37 : decode cX0_goOn 37 = .ok (.aload_n 0, 1) := by decide +kernel
theorem dX0_goOn_38 : decode cX0_goOn 38 = .ok (.invokevirtual 83, 3) := by decide +kernel
theorem dX0_goOn_41 : decode cX0_goOn 41 = .ok (.istore_n 3, 1) := by decide +kernel
theorem dX0_goOn_42 : decode cX0_goOn 42 = .ok (.aload_n 0, 1) := by decide +kernel
theorem dX0_goOn_43 : decode cX0_goOn 43 = .ok (.iload_n 2, 1) := by decide +kernel
theorem dX0_goOn_44 : decode cX0_goOn 44 = .ok (.iload_n 3, 1) := by decide +kernel
theorem dX0_goOn_45 : decode cX0_goOn 45 = .ok (.invokevirtual 86, 3) := by decide +kernel
theorem dX0_goOn_48 : decode cX0_goOn 48 = .ok (.iload_n 2, 1) := by decide +kernel
theorem dX0_goOn_49 : decode cX0_goOn 49 = .ok (.ireturn, 1) := by decide +kernel
abbrev cX0_moments : ByteArray := prog_1_method_20_code
def yX0_moments : MethodName := ⟨RX0, "moments", "()I"⟩
theorem dX0_moments_0 : decode cX0_moments 0 = .ok (.aload_n 0, 1) := by decide +kernel
theorem dX0_moments_1 : decode cX0_moments 1 = .ok (.getfield 57, 3) := by decide +kernel
theorem dX0_moments_4 : decode cX0_moments 4 = .ok (.ireturn, 1) := by decide +kernel
abbrev cX0_kind : ByteArray := prog_1_method_21_code
def yX0_kind : MethodName := ⟨RX0, "kind", "(I)I"⟩
theorem dX0_kind_0 : decode cX0_kind 0 = .ok (.aload_n 0, 1) := by decide +kernel
theorem dX0_kind_1 : decode cX0_kind 1 = .ok (.iload_n 1, 1) := by decide +kernel
theorem dX0_kind_2 : decode cX0_kind 2 = .ok (.invokevirtual 71, 3) := by decide +kernel
theorem dX0_kind_5 : decode cX0_kind 5 = .ok (.ifCond .eq 12, 3) := by decide +kernel
theorem dX0_kind_8 : decode cX0_kind 8 = .ok (.aload_n 0, 1) := by decide +kernel
theorem dX0_kind_9 : decode cX0_kind 9 = .ok (.getfield 26, 3) := by decide +kernel
theorem dX0_kind_12 : decode cX0_kind 12 = .ok (.iload_n 1, 1) := by decide +kernel
theorem dX0_kind_13 : decode cX0_kind 13 = .ok (.baload, 1) := by decide +kernel
theorem dX0_kind_14 : decode cX0_kind 14 = .ok (.goto 4, 3) := by decide +kernel
theorem dX0_kind_17 : decode cX0_kind 17 = .ok (.iconst (-1), 1) := by decide +kernel
theorem dX0_kind_18 : decode cX0_kind 18 = .ok (.ireturn, 1) := by decide +kernel
abbrev cX0_position : ByteArray := prog_1_method_22_code
def yX0_position : MethodName := ⟨RX0, "position", "(I)I"⟩
theorem dX0_position_0 : decode cX0_position 0 = .ok (.aload_n 0, 1) := by decide +kernel
theorem dX0_position_1 : decode cX0_position 1 = .ok (.iload_n 1, 1) := by decide +kernel
theorem dX0_position_2 : decode cX0_position 2 = .ok (.invokevirtual 71, 3) := by decide +kernel
theorem dX0_position_5 : decode cX0_position 5 = .ok (.ifCond .eq 12, 3) := by decide +kernel
theorem dX0_position_8 : decode cX0_position 8 = .ok (.aload_n 0, 1) := by decide +kernel
theorem dX0_position_9 : decode cX0_position 9 = .ok (.getfield 29, 3) := by decide +kernel
theorem dX0_position_12 : decode cX0_position 12 = .ok (.iload_n 1, 1) := by decide +kernel
theorem dX0_position_13 : decode cX0_position 13 = .ok (.iaload, 1) := by decide +kernel
theorem dX0_position_14 : decode cX0_position 14 = .ok (.goto 4, 3) := by decide +kernel
theorem dX0_position_17 : decode cX0_position 17 = .ok (.iconst 0, 1) := by decide +kernel
theorem dX0_position_18 : decode cX0_position 18 = .ok (.ireturn, 1) := by decide +kernel
abbrev cX0_peek : ByteArray := prog_1_method_23_code
def yX0_peek : MethodName := ⟨RX0, "peek", "(II)I"⟩
theorem dX0_peek_0 : decode cX0_peek 0 = .ok (.aload_n 0, 1) := by decide +kernel
theorem dX0_peek_1 : decode cX0_peek 1 = .ok (.iload_n 1, 1) := by decide +kernel
theorem dX0_peek_2 : decode cX0_peek 2 = .ok (.invokevirtual 71, 3) := by decide +kernel
theorem dX0_peek_5 : decode cX0_peek 5 = .ok (.ifCond .ne 5, 3) := by decide +kernel
theorem dX0_peek_8 : decode cX0_peek 8 = .ok (.iconst 0, 1) := by decide +kernel
theorem dX0_peek_9 : decode cX0_peek 9 = .ok (.ireturn, 1) := by decide +kernel
theorem dX0_peek_10 : decode cX0_peek 10 = .ok (.iload_n 2, 1) := by decide +kernel
theorem dX0_peek_11 : decode cX0_peek 11 = .ok (.ifCond .lt 19, 3) := by decide +kernel
theorem dX0_peek_14 : decode cX0_peek 14 = .ok (.iload_n 2, 1) := by decide +kernel
theorem dX0_peek_15 : decode cX0_peek 15 = .ok (.iconst 4, 1) := by decide +kernel
theorem dX0_peek_16 : decode cX0_peek 16 = .ok (.if_icmp .ge 14, 3) := by decide +kernel
theorem dX0_peek_19 : decode cX0_peek 19 = .ok (.aload_n 0, 1) := by decide +kernel
theorem dX0_peek_20 : decode cX0_peek 20 = .ok (.getfield 32, 3) := by decide +kernel
theorem dX0_peek_23 : decode cX0_peek 23 = .ok (.iload_n 1, 1) := by decide +kernel
theorem dX0_peek_24 : decode cX0_peek 24 = .ok (.iconst 4, 1) := by decide +kernel
theorem dX0_peek_25 : decode cX0_peek 25 = .ok (.imul, 1) := by decide +kernel
theorem dX0_peek_26 : decode cX0_peek 26 = .ok (.iload_n 2, 1) := by decide +kernel
theorem dX0_peek_27 : decode cX0_peek 27 = .ok (.iadd, 1) := by decide +kernel
theorem dX0_peek_28 : decode cX0_peek 28 = .ok (.iaload, 1) := by decide +kernel
theorem dX0_peek_29 : decode cX0_peek 29 = .ok (.ireturn, 1) := by decide +kernel
theorem dX0_peek_30 : decode cX0_peek 30 = .ok (.iload_n 2, 1) := by decide +kernel
theorem dX0_peek_31 : decode cX0_peek 31 = .ok (.bipush 16, 2) := by decide +kernel
theorem dX0_peek_33 : decode cX0_peek 33 = .ok (.if_icmp .lt 38, 3) := by decide +kernel
theorem dX0_peek_36 : decode cX0_peek 36 = .ok (.iload_n 2, 1) := by decide +kernel
theorem dX0_peek_37 : decode cX0_peek 37 = .ok (.bipush 32, 2) := by decide +kernel
theorem dX0_peek_39 : decode cX0_peek 39 = .ok (.if_icmp .ge 32, 3) := by decide +kernel
theorem dX0_peek_42 : decode cX0_peek 42 = .ok (.iload_n 2, 1) := by decide +kernel
theorem dX0_peek_43 : decode cX0_peek 43 = .ok (.bipush 16, 2) := by decide +kernel
theorem dX0_peek_45 : decode cX0_peek 45 = .ok (.isub, 1) := by decide +kernel
theorem dX0_peek_46 : decode cX0_peek 46 = .ok (.istore_n 3, 1) := by decide +kernel
theorem dX0_peek_47 : decode cX0_peek 47 = .ok (.aload_n 0, 1) := by decide +kernel
theorem dX0_peek_48 : decode cX0_peek 48 = .ok (.getfield 20, 3) := by decide +kernel
theorem dX0_peek_51 : decode cX0_peek 51 = .ok (.aload_n 0, 1) := by decide +kernel
theorem dX0_peek_52 : decode cX0_peek 52 = .ok (.getfield 35, 3) := by decide +kernel
theorem dX0_peek_55 : decode cX0_peek 55 = .ok (.iload_n 1, 1) := by decide +kernel
theorem dX0_peek_56 : decode cX0_peek 56 = .ok (.iconst 4, 1) := by decide +kernel
theorem dX0_peek_57 : decode cX0_peek 57 = .ok (.imul, 1) := by decide +kernel
theorem dX0_peek_58 : decode cX0_peek 58 = .ok (.iload_n 3, 1) := by decide +kernel
theorem dX0_peek_59 : decode cX0_peek 59 = .ok (.iconst 2, 1) := by decide +kernel
theorem dX0_peek_60 : decode cX0_peek 60 = .ok (.ishr, 1) := by decide +kernel
theorem dX0_peek_61 : decode cX0_peek 61 = .ok (.iadd, 1) := by decide +kernel
theorem dX0_peek_62 : decode cX0_peek 62 = .ok (.baload, 1) := by decide +kernel
theorem dX0_peek_63 : decode cX0_peek 63 = .ok (.iconst 4, 1) := by decide +kernel
theorem dX0_peek_64 : decode cX0_peek 64 = .ok (.imul, 1) := by decide +kernel
theorem dX0_peek_65 : decode cX0_peek 65 = .ok (.iload_n 3, 1) := by decide +kernel
theorem dX0_peek_66 : decode cX0_peek 66 = .ok (.iconst 3, 1) := by decide +kernel
theorem dX0_peek_67 : decode cX0_peek 67 = .ok (.iand, 1) := by decide +kernel
theorem dX0_peek_68 : decode cX0_peek 68 = .ok (.iadd, 1) := by decide +kernel
theorem dX0_peek_69 : decode cX0_peek 69 = .ok (.iaload, 1) := by decide +kernel
theorem dX0_peek_70 : decode cX0_peek 70 = .ok (.ireturn, 1) := by decide +kernel
theorem dX0_peek_71 : decode cX0_peek 71 = .ok (.iconst 0, 1) := by decide +kernel
theorem dX0_peek_72 : decode cX0_peek 72 = .ok (.ireturn, 1) := by decide +kernel
abbrev cX0_said : ByteArray := prog_1_method_24_code
def yX0_said : MethodName := ⟨RX0, "said", "(I)I"⟩
theorem dX0_said_0 : decode cX0_said 0 = .ok (.aload_n 0, 1) := by decide +kernel
theorem dX0_said_1 : decode cX0_said 1 = .ok (.iload_n 1, 1) := by decide +kernel
theorem dX0_said_2 : decode cX0_said 2 = .ok (.invokevirtual 71, 3) := by decide +kernel
theorem dX0_said_5 : decode cX0_said 5 = .ok (.ifCond .eq 12, 3) := by decide +kernel
theorem dX0_said_8 : decode cX0_said 8 = .ok (.aload_n 0, 1) := by decide +kernel
theorem dX0_said_9 : decode cX0_said 9 = .ok (.getfield 38, 3) := by decide +kernel
theorem dX0_said_12 : decode cX0_said 12 = .ok (.iload_n 1, 1) := by decide +kernel
theorem dX0_said_13 : decode cX0_said 13 = .ok (.iaload, 1) := by decide +kernel
theorem dX0_said_14 : decode cX0_said 14 = .ok (.goto 4, 3) := by decide +kernel
theorem dX0_said_17 : decode cX0_said 17 = .ok (.iconst 0, 1) := by decide +kernel
theorem dX0_said_18 : decode cX0_said 18 = .ok (.ireturn, 1) := by decide +kernel
abbrev cX0_lastSaid : ByteArray := prog_1_method_25_code
def yX0_lastSaid : MethodName := ⟨RX0, "lastSaid", "(II)I"⟩
theorem dX0_lastSaid_0 : decode cX0_lastSaid 0 = .ok (.aload_n 0, 1) := by decide +kernel
theorem dX0_lastSaid_1 : decode cX0_lastSaid 1 = .ok (.iload_n 1, 1) := by decide +kernel
theorem dX0_lastSaid_2 : decode cX0_lastSaid 2 = .ok (.invokevirtual 71, 3) := by decide +kernel
theorem dX0_lastSaid_5 : decode cX0_lastSaid 5 = .ok (.ifCond .eq 23, 3) := by decide +kernel
theorem dX0_lastSaid_8 : decode cX0_lastSaid 8 = .ok (.iload_n 2, 1) := by decide +kernel
theorem dX0_lastSaid_9 : decode cX0_lastSaid 9 = .ok (.ifCond .lt 19, 3) := by decide +kernel
theorem dX0_lastSaid_12 : decode cX0_lastSaid 12 = .ok (.iload_n 2, 1) := by decide +kernel
theorem dX0_lastSaid_13 : decode cX0_lastSaid 13 = .ok (.bipush 7, 2) := by decide +kernel
theorem dX0_lastSaid_15 : decode cX0_lastSaid 15 = .ok (.if_icmp .gt 13, 3) := by decide +kernel
theorem dX0_lastSaid_18 : decode cX0_lastSaid 18 = .ok (.iload_n 2, 1) := by decide +kernel
theorem dX0_lastSaid_19 : decode cX0_lastSaid 19 = .ok (.aload_n 0, 1) := by decide +kernel
theorem dX0_lastSaid_20 : decode cX0_lastSaid 20 = .ok (.getfield 38, 3) := by decide +kernel
theorem dX0_lastSaid_23 : decode cX0_lastSaid 23 = .ok (.iload_n 1, 1) := by decide +kernel
theorem dX0_lastSaid_24 : decode cX0_lastSaid 24 = .ok (.iaload, 1) := by decide +kernel
theorem dX0_lastSaid_25 : decode cX0_lastSaid 25 = .ok (.if_icmp .lt 5, 3) := by decide +kernel
theorem dX0_lastSaid_28 : decode cX0_lastSaid 28 = .ok (.iconst 0, 1) := by decide +kernel
theorem dX0_lastSaid_29 : decode cX0_lastSaid 29 = .ok (.ireturn, 1) := by decide +kernel
theorem dX0_lastSaid_30 : decode cX0_lastSaid 30 = .ok (.aload_n 0, 1) := by decide +kernel
theorem dX0_lastSaid_31 : decode cX0_lastSaid 31 = .ok (.getfield 41, 3) := by decide +kernel
theorem dX0_lastSaid_34 : decode cX0_lastSaid 34 = .ok (.iload_n 1, 1) := by decide +kernel
theorem dX0_lastSaid_35 : decode cX0_lastSaid 35 = .ok (.bipush 8, 2) := by decide +kernel
theorem dX0_lastSaid_37 : decode cX0_lastSaid 37 = .ok (.imul, 1) := by decide +kernel
theorem dX0_lastSaid_38 : decode cX0_lastSaid 38 = .ok (.iload_n 2, 1) := by decide +kernel
theorem dX0_lastSaid_39 : decode cX0_lastSaid 39 = .ok (.iadd, 1) := by decide +kernel
theorem dX0_lastSaid_40 : decode cX0_lastSaid 40 = .ok (.iaload, 1) := by decide +kernel
theorem dX0_lastSaid_41 : decode cX0_lastSaid 41 = .ok (.ireturn, 1) := by decide +kernel
abbrev cX0_difference : ByteArray := prog_1_method_26_code
def yX0_difference : MethodName := ⟨RX0, "difference", "(II)I"⟩
theorem dX0_difference_0 : decode cX0_difference 0 = .ok (.aload_n 0, 1) := by decide +kernel
theorem dX0_difference_1 : decode cX0_difference 1 = .ok (.iload_n 1, 1) := by decide +kernel
theorem dX0_difference_2 : decode cX0_difference 2 = .ok (.invokevirtual 71, 3) := by decide +kernel
theorem dX0_difference_5 : decode cX0_difference 5 = .ok (.ifCond .eq 11, 3) := by decide +kernel
theorem dX0_difference_8 : decode cX0_difference 8 = .ok (.aload_n 0, 1) := by decide +kernel
theorem dX0_difference_9 : decode cX0_difference 9 = .ok (.iload_n 2, 1) := by decide +kernel
theorem dX0_difference_10 : decode cX0_difference 10 = .ok (.invokevirtual 71, 3) := by decide +kernel
theorem dX0_difference_13 : decode cX0_difference 13 = .ok (.ifCond .ne 5, 3) := by decide +kernel
theorem dX0_difference_16 : decode cX0_difference 16 = .ok (.iconst 0, 1) := by decide +kernel
theorem dX0_difference_17 : decode cX0_difference 17 = .ok (.ireturn, 1) := by decide +kernel
theorem dX0_difference_18 : decode cX0_difference 18 = .ok (.iconst 0, 1) := by decide +kernel
theorem dX0_difference_19 : decode cX0_difference 19 = .ok (.istore_n 3, 1) := by decide +kernel
theorem dX0_difference_20 : decode cX0_difference 20 = .ok (.iconst 0, 1) := by decide +kernel
theorem dX0_difference_21 : decode cX0_difference 21 = .ok (.istore 4, 2) := by decide +kernel
theorem dX0_difference_23 : decode cX0_difference 23 = .ok (.iload 4, 2) := by decide +kernel
theorem dX0_difference_25 : decode cX0_difference 25 = .ok (.iconst 4, 1) := by decide +kernel
theorem dX0_difference_26 : decode cX0_difference 26 = .ok (.if_icmp .ge 93, 3) := by decide +kernel
theorem dX0_difference_29 : decode cX0_difference 29 = .ok (.aload_n 0, 1) := by decide +kernel
theorem dX0_difference_30 : decode cX0_difference 30 = .ok (.getfield 32, 3) := by decide +kernel
theorem dX0_difference_33 : decode cX0_difference 33 = .ok (.iload_n 1, 1) := by decide +kernel
theorem dX0_difference_34 : decode cX0_difference 34 = .ok (.iconst 4, 1) := by decide +kernel
theorem dX0_difference_35 : decode cX0_difference 35 = .ok (.imul, 1) := by decide +kernel
theorem dX0_difference_36 : decode cX0_difference 36 = .ok (.iload 4, 2) := by decide +kernel
theorem dX0_difference_38 : decode cX0_difference 38 = .ok (.iadd, 1) := by decide +kernel
theorem dX0_difference_39 : decode cX0_difference 39 = .ok (.iaload, 1) := by decide +kernel
theorem dX0_difference_40 : decode cX0_difference 40 = .ok (.aload_n 0, 1) := by decide +kernel
theorem dX0_difference_41 : decode cX0_difference 41 = .ok (.getfield 32, 3) := by decide +kernel
theorem dX0_difference_44 : decode cX0_difference 44 = .ok (.iload_n 2, 1) := by decide +kernel
theorem dX0_difference_45 : decode cX0_difference 45 = .ok (.iconst 4, 1) := by decide +kernel
theorem dX0_difference_46 : decode cX0_difference 46 = .ok (.imul, 1) := by decide +kernel
theorem dX0_difference_47 : decode cX0_difference 47 = .ok (.iload 4, 2) := by decide +kernel
theorem dX0_difference_49 : decode cX0_difference 49 = .ok (.iadd, 1) := by decide +kernel
theorem dX0_difference_50 : decode cX0_difference 50 = .ok (.iaload, 1) := by decide +kernel
theorem dX0_difference_51 : decode cX0_difference 51 = .ok (.if_icmp .eq 10, 3) := by decide +kernel
theorem dX0_difference_54 : decode cX0_difference 54 = .ok (.iload_n 3, 1) := by decide +kernel
theorem dX0_difference_55 : decode cX0_difference 55 = .ok (.iconst 1, 1) := by decide +kernel
theorem dX0_difference_56 : decode cX0_difference 56 = .ok (.iload 4, 2) := by decide +kernel
theorem dX0_difference_58 : decode cX0_difference 58 = .ok (.ishl, 1) := by decide +kernel
theorem dX0_difference_59 : decode cX0_difference 59 = .ok (.ior, 1) := by decide +kernel
theorem dX0_difference_60 : decode cX0_difference 60 = .ok (.istore_n 3, 1) := by decide +kernel
theorem dX0_difference_61 : decode cX0_difference 61 = .ok (.aload_n 0, 1) := by decide +kernel
theorem dX0_difference_62 : decode cX0_difference 62 = .ok (.getfield 35, 3) := by decide +kernel
theorem dX0_difference_65 : decode cX0_difference 65 = .ok (.iload_n 1, 1) := by decide +kernel
theorem dX0_difference_66 : decode cX0_difference 66 = .ok (.iconst 4, 1) := by decide +kernel
theorem dX0_difference_67 : decode cX0_difference 67 = .ok (.imul, 1) := by decide +kernel
theorem dX0_difference_68 : decode cX0_difference 68 = .ok (.iload 4, 2) := by decide +kernel
theorem dX0_difference_70 : decode cX0_difference 70 = .ok (.iadd, 1) := by decide +kernel
theorem dX0_difference_71 : decode cX0_difference 71 = .ok (.baload, 1) := by decide +kernel
theorem dX0_difference_72 : decode cX0_difference 72 = .ok (.istore 5, 2) := by decide +kernel
theorem dX0_difference_74 : decode cX0_difference 74 = .ok (.aload_n 0, 1) := by decide +kernel
theorem dX0_difference_75 : decode cX0_difference 75 = .ok (.getfield 35, 3) := by decide +kernel
theorem dX0_difference_78 : decode cX0_difference 78 = .ok (.iload_n 2, 1) := by decide +kernel
theorem dX0_difference_79 : decode cX0_difference 79 = .ok (.iconst 4, 1) := by decide +kernel
theorem dX0_difference_80 : decode cX0_difference 80 = .ok (.imul, 1) := by decide +kernel
theorem dX0_difference_81 : decode cX0_difference 81 = .ok (.iload 4, 2) := by decide +kernel
theorem dX0_difference_83 : decode cX0_difference 83 = .ok (.iadd, 1) := by decide +kernel
theorem dX0_difference_84 : decode cX0_difference 84 = .ok (.baload, 1) := by decide +kernel
theorem dX0_difference_85 : decode cX0_difference 85 = .ok (.istore 6, 2) := by decide +kernel
theorem dX0_difference_87 : decode cX0_difference 87 = .ok (.iload 5, 2) := by decide +kernel
theorem dX0_difference_89 : decode cX0_difference 89 = .ok (.iload 6, 2) := by decide +kernel
theorem dX0_difference_91 : decode cX0_difference 91 = .ok (.if_icmp .eq 22, 3) := by decide +kernel
theorem dX0_difference_94 : decode cX0_difference 94 = .ok (.iload_n 3, 1) := by decide +kernel
theorem dX0_difference_95 : decode cX0_difference 95 = .ok (.aload_n 0, 1) := by decide +kernel
theorem dX0_difference_96 : decode cX0_difference 96 = .ok (.iload 5, 2) := by decide +kernel
theorem dX0_difference_98 : decode cX0_difference 98 = .ok (.iload 6, 2) := by decide +kernel
theorem dX0_difference_100 : decode cX0_difference 100 = .ok (.invokevirtual 111, 3) := by decide +kernel
theorem dX0_difference_103 : decode cX0_difference 103 = .ok (.bipush 16, 2) := by decide +kernel
theorem dX0_difference_105 : decode cX0_difference 105 = .ok (.iconst 4, 1) := by decide +kernel
theorem dX0_difference_106 : decode cX0_difference 106 = .ok (.iload 4, 2) := by decide +kernel
theorem dX0_difference_108 : decode cX0_difference 108 = .ok (.imul, 1) := by decide +kernel
theorem dX0_difference_109 : decode cX0_difference 109 = .ok (.iadd, 1) := by decide +kernel
theorem dX0_difference_110 : decode cX0_difference 110 = .ok (.ishl, 1) := by decide +kernel
theorem dX0_difference_111 : decode cX0_difference 111 = .ok (.ior, 1) := by decide +kernel
theorem dX0_difference_112 : decode cX0_difference 112 = .ok (.istore_n 3, 1) := by decide +kernel
theorem dX0_difference_113 : decode cX0_difference 113 = .ok (.iinc 4 1, 3) := by decide +kernel
theorem dX0_difference_116 : decode cX0_difference 116 = .ok (.goto (-93), 3) := by decide +kernel
theorem dX0_difference_119 : decode cX0_difference 119 = .ok (.iload_n 3, 1) := by decide +kernel
theorem dX0_difference_120 : decode cX0_difference 120 = .ok (.ireturn, 1) := by decide +kernel
abbrev cX0_differing : ByteArray := prog_1_method_27_code
def yX0_differing : MethodName := ⟨RX0, "differing", "(II)I"⟩
theorem dX0_differing_0 : decode cX0_differing 0 = .ok (.iconst 0, 1) := by decide +kernel
theorem dX0_differing_1 : decode cX0_differing 1 = .ok (.istore_n 3, 1) := by decide +kernel
theorem dX0_differing_2 : decode cX0_differing 2 = .ok (.iconst 0, 1) := by decide +kernel
theorem dX0_differing_3 : decode cX0_differing 3 = .ok (.istore 4, 2) := by decide +kernel
theorem dX0_differing_5 : decode cX0_differing 5 = .ok (.iload 4, 2) := by decide +kernel
theorem dX0_differing_7 : decode cX0_differing 7 = .ok (.iconst 4, 1) := by decide +kernel
theorem dX0_differing_8 : decode cX0_differing 8 = .ok (.if_icmp .ge 41, 3) := by decide +kernel
theorem dX0_differing_11 : decode cX0_differing 11 = .ok (.aload_n 0, 1) := by decide +kernel
theorem dX0_differing_12 : decode cX0_differing 12 = .ok (.getfield 20, 3) := by decide +kernel
theorem dX0_differing_15 : decode cX0_differing 15 = .ok (.iload_n 1, 1) := by decide +kernel
theorem dX0_differing_16 : decode cX0_differing 16 = .ok (.iconst 4, 1) := by decide +kernel
theorem dX0_differing_17 : decode cX0_differing 17 = .ok (.imul, 1) := by decide +kernel
theorem dX0_differing_18 : decode cX0_differing 18 = .ok (.iload 4, 2) := by decide +kernel
theorem dX0_differing_20 : decode cX0_differing 20 = .ok (.iadd, 1) := by decide +kernel
theorem dX0_differing_21 : decode cX0_differing 21 = .ok (.iaload, 1) := by decide +kernel
theorem dX0_differing_22 : decode cX0_differing 22 = .ok (.aload_n 0, 1) := by decide +kernel
theorem dX0_differing_23 : decode cX0_differing 23 = .ok (.getfield 20, 3) := by decide +kernel
theorem dX0_differing_26 : decode cX0_differing 26 = .ok (.iload_n 2, 1) := by decide +kernel
theorem dX0_differing_27 : decode cX0_differing 27 = .ok (.iconst 4, 1) := by decide +kernel
theorem dX0_differing_28 : decode cX0_differing 28 = .ok (.imul, 1) := by decide +kernel
theorem dX0_differing_29 : decode cX0_differing 29 = .ok (.iload 4, 2) := by decide +kernel
theorem dX0_differing_31 : decode cX0_differing 31 = .ok (.iadd, 1) := by decide +kernel
theorem dX0_differing_32 : decode cX0_differing 32 = .ok (.iaload, 1) := by decide +kernel
theorem dX0_differing_33 : decode cX0_differing 33 = .ok (.if_icmp .eq 10, 3) := by decide +kernel
theorem dX0_differing_36 : decode cX0_differing 36 = .ok (.iload_n 3, 1) := by decide +kernel
theorem dX0_differing_37 : decode cX0_differing 37 = .ok (.iconst 1, 1) := by decide +kernel
theorem dX0_differing_38 : decode cX0_differing 38 = .ok (.iload 4, 2) := by decide +kernel
theorem dX0_differing_40 : decode cX0_differing 40 = .ok (.ishl, 1) := by decide +kernel
theorem dX0_differing_41 : decode cX0_differing 41 = .ok (.ior, 1) := by decide +kernel
theorem dX0_differing_42 : decode cX0_differing 42 = .ok (.istore_n 3, 1) := by decide +kernel
theorem dX0_differing_43 : decode cX0_differing 43 = .ok (.iinc 4 1, 3) := by decide +kernel
theorem dX0_differing_46 : decode cX0_differing 46 = .ok (.goto (-41), 3) := by decide +kernel
theorem dX0_differing_49 : decode cX0_differing 49 = .ok (.iload_n 3, 1) := by decide +kernel
theorem dX0_differing_50 : decode cX0_differing 50 = .ok (.ireturn, 1) := by decide +kernel
theorem q19 : (Jvm.Cond.initialized "ReplayDesk") ∈ lw_all := lw_g (lw_at lw_m1 1 rfl) rfl
theorem q22 : (Jvm.Cond.instantiable "ReplayDesk" (18 : Nat)) ∈ lw_all := lw_g (lw_at lw_m1 4 rfl) rfl
theorem q24 : (Jvm.Cond.instanceMethod ({ cls := "ReplayDesk", name := "<init>", desc := "()V" } : Jvm.MethodName)) ∈ lw_all := lw_g (lw_at lw_m1 6 rfl) rfl
theorem q25 : (Jvm.Cond.code ({ cls := "ReplayDesk", name := "<init>", desc := "()V" } : Jvm.MethodName) prog_1_method_1_code (1 : Nat) (Option.none : Option Jvm.ClassFile.FieldType)) ∈ lw_all := lw_g (lw_at lw_m1 7 rfl) rfl
theorem q26 : (Jvm.Cond.methodLink "ReplayDesk" (1 : Nat) ({ cls := "java/lang/Object", name := "<init>", desc := "()V" } : Jvm.MethodName)) ∈ lw_all := lw_g (lw_at lw_m1 8 rfl) rfl
theorem q29 : (Jvm.Cond.fieldLink "ReplayDesk" (7 : Nat) "ReplayDesk" "ops" "[B") ∈ lw_all := lw_g (lw_at lw_m1 11 rfl) rfl
theorem q30 : (Jvm.Cond.fieldLink "ReplayDesk" (13 : Nat) "ReplayDesk" "as" "[B") ∈ lw_all := lw_g (lw_at lw_m1 12 rfl) rfl
theorem q31 : (Jvm.Cond.fieldLink "ReplayDesk" (16 : Nat) "ReplayDesk" "bs" "[I") ∈ lw_all := lw_g (lw_at lw_m1 13 rfl) rfl
theorem q32 : (Jvm.Cond.fieldLink "ReplayDesk" (53 : Nat) "ReplayDesk" "size" "I") ∈ lw_all := lw_g (lw_at lw_m1 14 rfl) rfl
theorem q33 : (Jvm.Cond.fieldLink "ReplayDesk" (20 : Nat) "ReplayDesk" "pageCells" "[I") ∈ lw_all := lw_g (lw_at lw_m1 15 rfl) rfl
theorem q34 : (Jvm.Cond.fieldLink "ReplayDesk" (23 : Nat) "ReplayDesk" "owners" "[B") ∈ lw_all := lw_g (lw_at lw_m1 16 rfl) rfl
theorem q35 : (Jvm.Cond.fieldLink "ReplayDesk" (57 : Nat) "ReplayDesk" "kept" "I") ∈ lw_all := lw_g (lw_at lw_m1 17 rfl) rfl
theorem q36 : (Jvm.Cond.fieldLink "ReplayDesk" (26 : Nat) "ReplayDesk" "kinds" "[B") ∈ lw_all := lw_g (lw_at lw_m1 18 rfl) rfl
theorem q37 : (Jvm.Cond.fieldLink "ReplayDesk" (29 : Nat) "ReplayDesk" "places" "[I") ∈ lw_all := lw_g (lw_at lw_m1 19 rfl) rfl
theorem q38 : (Jvm.Cond.fieldLink "ReplayDesk" (32 : Nat) "ReplayDesk" "keptRegisters" "[I") ∈ lw_all := lw_g (lw_at lw_m1 20 rfl) rfl
theorem q39 : (Jvm.Cond.fieldLink "ReplayDesk" (35 : Nat) "ReplayDesk" "keptPages" "[B") ∈ lw_all := lw_g (lw_at lw_m1 21 rfl) rfl
theorem q40 : (Jvm.Cond.fieldLink "ReplayDesk" (38 : Nat) "ReplayDesk" "saidCounts" "[I") ∈ lw_all := lw_g (lw_at lw_m1 22 rfl) rfl
theorem q41 : (Jvm.Cond.fieldLink "ReplayDesk" (41 : Nat) "ReplayDesk" "keptSaid" "[I") ∈ lw_all := lw_g (lw_at lw_m1 23 rfl) rfl
theorem q42 : (Jvm.Cond.fieldLink "ReplayDesk" (74 : Nat) "ReplayDesk" "at" "I") ∈ lw_all := lw_g (lw_at lw_m1 24 rfl) rfl
theorem q43 : (Jvm.Cond.fieldLink "ReplayDesk" (44 : Nat) "ReplayDesk" "registers" "[I") ∈ lw_all := lw_g (lw_at lw_m1 25 rfl) rfl
theorem q44 : (Jvm.Cond.fieldLink "ReplayDesk" (47 : Nat) "ReplayDesk" "pages" "[B") ∈ lw_all := lw_g (lw_at lw_m1 26 rfl) rfl
theorem q45 : (Jvm.Cond.fieldLink "ReplayDesk" (77 : Nat) "ReplayDesk" "saidCount" "I") ∈ lw_all := lw_g (lw_at lw_m1 27 rfl) rfl
theorem q46 : (Jvm.Cond.fieldLink "ReplayDesk" (50 : Nat) "ReplayDesk" "lately" "[I") ∈ lw_all := lw_g (lw_at lw_m1 28 rfl) rfl
theorem q47 : (Jvm.Cond.laysFinal "ReplayDesk" "ReplayDesk" "ops" "[B") ∈ lw_all := lw_g (lw_at lw_m1 29 rfl) rfl
theorem q48 : (Jvm.Cond.soleField "ReplayDesk" "ops") ∈ lw_all := lw_g (lw_at lw_m1 30 rfl) rfl
theorem q49 : (Jvm.Cond.laysFinal "ReplayDesk" "ReplayDesk" "as" "[B") ∈ lw_all := lw_g (lw_at lw_m1 31 rfl) rfl
theorem q50 : (Jvm.Cond.soleField "ReplayDesk" "as") ∈ lw_all := lw_g (lw_at lw_m1 32 rfl) rfl
theorem q51 : (Jvm.Cond.laysFinal "ReplayDesk" "ReplayDesk" "bs" "[I") ∈ lw_all := lw_g (lw_at lw_m1 33 rfl) rfl
theorem q52 : (Jvm.Cond.soleField "ReplayDesk" "bs") ∈ lw_all := lw_g (lw_at lw_m1 34 rfl) rfl
theorem q53 : (Jvm.Cond.lays "ReplayDesk" "ReplayDesk" "size" "I") ∈ lw_all := lw_g (lw_at lw_m1 35 rfl) rfl
theorem q54 : (Jvm.Cond.soleField "ReplayDesk" "size") ∈ lw_all := lw_g (lw_at lw_m1 36 rfl) rfl
theorem q55 : (Jvm.Cond.laysFinal "ReplayDesk" "ReplayDesk" "pageCells" "[I") ∈ lw_all := lw_g (lw_at lw_m1 37 rfl) rfl
theorem q56 : (Jvm.Cond.soleField "ReplayDesk" "pageCells") ∈ lw_all := lw_g (lw_at lw_m1 38 rfl) rfl
theorem q57 : (Jvm.Cond.laysFinal "ReplayDesk" "ReplayDesk" "owners" "[B") ∈ lw_all := lw_g (lw_at lw_m1 39 rfl) rfl
theorem q58 : (Jvm.Cond.soleField "ReplayDesk" "owners") ∈ lw_all := lw_g (lw_at lw_m1 40 rfl) rfl
theorem q59 : (Jvm.Cond.lays "ReplayDesk" "ReplayDesk" "kept" "I") ∈ lw_all := lw_g (lw_at lw_m1 41 rfl) rfl
theorem q60 : (Jvm.Cond.soleField "ReplayDesk" "kept") ∈ lw_all := lw_g (lw_at lw_m1 42 rfl) rfl
theorem q61 : (Jvm.Cond.laysFinal "ReplayDesk" "ReplayDesk" "kinds" "[B") ∈ lw_all := lw_g (lw_at lw_m1 43 rfl) rfl
theorem q62 : (Jvm.Cond.soleField "ReplayDesk" "kinds") ∈ lw_all := lw_g (lw_at lw_m1 44 rfl) rfl
theorem q63 : (Jvm.Cond.laysFinal "ReplayDesk" "ReplayDesk" "places" "[I") ∈ lw_all := lw_g (lw_at lw_m1 45 rfl) rfl
theorem q64 : (Jvm.Cond.soleField "ReplayDesk" "places") ∈ lw_all := lw_g (lw_at lw_m1 46 rfl) rfl
theorem q65 : (Jvm.Cond.laysFinal "ReplayDesk" "ReplayDesk" "keptRegisters" "[I") ∈ lw_all := lw_g (lw_at lw_m1 47 rfl) rfl
theorem q66 : (Jvm.Cond.soleField "ReplayDesk" "keptRegisters") ∈ lw_all := lw_g (lw_at lw_m1 48 rfl) rfl
theorem q67 : (Jvm.Cond.laysFinal "ReplayDesk" "ReplayDesk" "keptPages" "[B") ∈ lw_all := lw_g (lw_at lw_m1 49 rfl) rfl
theorem q68 : (Jvm.Cond.soleField "ReplayDesk" "keptPages") ∈ lw_all := lw_g (lw_at lw_m1 50 rfl) rfl
theorem q69 : (Jvm.Cond.laysFinal "ReplayDesk" "ReplayDesk" "saidCounts" "[I") ∈ lw_all := lw_g (lw_at lw_m1 51 rfl) rfl
theorem q70 : (Jvm.Cond.soleField "ReplayDesk" "saidCounts") ∈ lw_all := lw_g (lw_at lw_m1 52 rfl) rfl
theorem q71 : (Jvm.Cond.laysFinal "ReplayDesk" "ReplayDesk" "keptSaid" "[I") ∈ lw_all := lw_g (lw_at lw_m1 53 rfl) rfl
theorem q72 : (Jvm.Cond.soleField "ReplayDesk" "keptSaid") ∈ lw_all := lw_g (lw_at lw_m1 54 rfl) rfl
theorem q73 : (Jvm.Cond.lays "ReplayDesk" "ReplayDesk" "at" "I") ∈ lw_all := lw_g (lw_at lw_m1 55 rfl) rfl
theorem q74 : (Jvm.Cond.soleField "ReplayDesk" "at") ∈ lw_all := lw_g (lw_at lw_m1 56 rfl) rfl
theorem q75 : (Jvm.Cond.laysFinal "ReplayDesk" "ReplayDesk" "registers" "[I") ∈ lw_all := lw_g (lw_at lw_m1 57 rfl) rfl
theorem q76 : (Jvm.Cond.soleField "ReplayDesk" "registers") ∈ lw_all := lw_g (lw_at lw_m1 58 rfl) rfl
theorem q77 : (Jvm.Cond.laysFinal "ReplayDesk" "ReplayDesk" "pages" "[B") ∈ lw_all := lw_g (lw_at lw_m1 59 rfl) rfl
theorem q78 : (Jvm.Cond.soleField "ReplayDesk" "pages") ∈ lw_all := lw_g (lw_at lw_m1 60 rfl) rfl
theorem q79 : (Jvm.Cond.lays "ReplayDesk" "ReplayDesk" "saidCount" "I") ∈ lw_all := lw_g (lw_at lw_m1 61 rfl) rfl
theorem q80 : (Jvm.Cond.soleField "ReplayDesk" "saidCount") ∈ lw_all := lw_g (lw_at lw_m1 62 rfl) rfl
theorem q81 : (Jvm.Cond.laysFinal "ReplayDesk" "ReplayDesk" "lately" "[I") ∈ lw_all := lw_g (lw_at lw_m1 63 rfl) rfl
theorem q82 : (Jvm.Cond.soleField "ReplayDesk" "lately") ∈ lw_all := lw_g (lw_at lw_m1 64 rfl) rfl
theorem q83 : (Jvm.Cond.superclass "ReplayDesk" "java/lang/Object") ∈ lw_all := lw_g (lw_at lw_m1 65 rfl) rfl
theorem q87 : (Jvm.Cond.instanceMethod ({ cls := "ReplayDesk", name := "emit", desc := "(III)I" } : Jvm.MethodName)) ∈ lw_all := lw_g (lw_at lw_m1 69 rfl) rfl
theorem q88 : (Jvm.Cond.selects "ReplayDesk" ({ cls := "ReplayDesk", name := "emit", desc := "(III)I" } : Jvm.MethodName) ({ cls := "ReplayDesk", name := "emit", desc := "(III)I" } : Jvm.MethodName)) ∈ lw_all := lw_g (lw_at lw_m1 70 rfl) rfl
theorem q89 : (Jvm.Cond.code ({ cls := "ReplayDesk", name := "emit", desc := "(III)I" } : Jvm.MethodName) prog_1_method_2_code (5 : Nat) (Option.some Jvm.ClassFile.FieldType.int)) ∈ lw_all := lw_g (lw_at lw_m1 71 rfl) rfl
theorem q91 : (Jvm.Cond.instanceMethod ({ cls := "ReplayDesk", name := "forgetAll", desc := "()V" } : Jvm.MethodName)) ∈ lw_all := lw_g (lw_at lw_m1 73 rfl) rfl
theorem q92 : (Jvm.Cond.selects "ReplayDesk" ({ cls := "ReplayDesk", name := "forgetAll", desc := "()V" } : Jvm.MethodName) ({ cls := "ReplayDesk", name := "forgetAll", desc := "()V" } : Jvm.MethodName)) ∈ lw_all := lw_g (lw_at lw_m1 74 rfl) rfl
theorem q93 : (Jvm.Cond.code ({ cls := "ReplayDesk", name := "forgetAll", desc := "()V" } : Jvm.MethodName) prog_1_method_3_code (2 : Nat) (Option.none : Option Jvm.ClassFile.FieldType)) ∈ lw_all := lw_g (lw_at lw_m1 75 rfl) rfl
theorem q94 : (Jvm.Cond.methodLink "ReplayDesk" (60 : Nat) ({ cls := "ReplayDesk", name := "forget", desc := "(I)Z" } : Jvm.MethodName)) ∈ lw_all := lw_g (lw_at lw_m1 76 rfl) rfl
theorem q95 : (Jvm.Cond.instanceMethod ({ cls := "ReplayDesk", name := "forget", desc := "(I)Z" } : Jvm.MethodName)) ∈ lw_all := lw_g (lw_at lw_m1 77 rfl) rfl
theorem q96 : (Jvm.Cond.selects "ReplayDesk" ({ cls := "ReplayDesk", name := "forget", desc := "(I)Z" } : Jvm.MethodName) ({ cls := "ReplayDesk", name := "forget", desc := "(I)Z" } : Jvm.MethodName)) ∈ lw_all := lw_g (lw_at lw_m1 78 rfl) rfl
theorem q97 : (Jvm.Cond.code ({ cls := "ReplayDesk", name := "forget", desc := "(I)Z" } : Jvm.MethodName) prog_1_method_15_code (3 : Nat) (Option.some Jvm.ClassFile.FieldType.boolean)) ∈ lw_all := lw_g (lw_at lw_m1 79 rfl) rfl
theorem q98 : (Jvm.Cond.methodLink "ReplayDesk" (71 : Nat) ({ cls := "ReplayDesk", name := "has", desc := "(I)Z" } : Jvm.MethodName)) ∈ lw_all := lw_g (lw_at lw_m1 80 rfl) rfl
theorem q99 : (Jvm.Cond.privateMethod ({ cls := "ReplayDesk", name := "has", desc := "(I)Z" } : Jvm.MethodName)) ∈ lw_tbl := lw_at lw_m1 81 rfl
theorem q100 : (Jvm.Cond.instanceMethod ({ cls := "ReplayDesk", name := "has", desc := "(I)Z" } : Jvm.MethodName)) ∈ lw_all := lw_g (lw_at lw_m1 82 rfl) rfl
theorem q101 : (Jvm.Cond.code ({ cls := "ReplayDesk", name := "has", desc := "(I)Z" } : Jvm.MethodName) prog_1_method_8_code (2 : Nat) (Option.some Jvm.ClassFile.FieldType.boolean)) ∈ lw_all := lw_g (lw_at lw_m1 83 rfl) rfl
theorem q103 : (Jvm.Cond.instanceMethod ({ cls := "ReplayDesk", name := "clear", desc := "()V" } : Jvm.MethodName)) ∈ lw_all := lw_g (lw_at lw_m1 85 rfl) rfl
theorem q104 : (Jvm.Cond.selects "ReplayDesk" ({ cls := "ReplayDesk", name := "clear", desc := "()V" } : Jvm.MethodName) ({ cls := "ReplayDesk", name := "clear", desc := "()V" } : Jvm.MethodName)) ∈ lw_all := lw_g (lw_at lw_m1 86 rfl) rfl
theorem q105 : (Jvm.Cond.code ({ cls := "ReplayDesk", name := "clear", desc := "()V" } : Jvm.MethodName) prog_1_method_4_code (1 : Nat) (Option.none : Option Jvm.ClassFile.FieldType)) ∈ lw_all := lw_g (lw_at lw_m1 87 rfl) rfl
theorem q106 : (Jvm.Cond.methodLink "ReplayDesk" (64 : Nat) ({ cls := "ReplayDesk", name := "forgetAll", desc := "()V" } : Jvm.MethodName)) ∈ lw_all := lw_g (lw_at lw_m1 88 rfl) rfl
theorem q108 : (Jvm.Cond.instanceMethod ({ cls := "ReplayDesk", name := "start", desc := "()I" } : Jvm.MethodName)) ∈ lw_all := lw_g (lw_at lw_m1 90 rfl) rfl
theorem q109 : (Jvm.Cond.selects "ReplayDesk" ({ cls := "ReplayDesk", name := "start", desc := "()I" } : Jvm.MethodName) ({ cls := "ReplayDesk", name := "start", desc := "()I" } : Jvm.MethodName)) ∈ lw_all := lw_g (lw_at lw_m1 91 rfl) rfl
theorem q110 : (Jvm.Cond.code ({ cls := "ReplayDesk", name := "start", desc := "()I" } : Jvm.MethodName) prog_1_method_12_code (3 : Nat) (Option.some Jvm.ClassFile.FieldType.int)) ∈ lw_all := lw_g (lw_at lw_m1 92 rfl) rfl
theorem q111 : (Jvm.Cond.methodLink "ReplayDesk" (80 : Nat) ({ cls := "ReplayDesk", name := "freeMoment", desc := "()I" } : Jvm.MethodName)) ∈ lw_all := lw_g (lw_at lw_m1 93 rfl) rfl
theorem q112 : (Jvm.Cond.privateMethod ({ cls := "ReplayDesk", name := "freeMoment", desc := "()I" } : Jvm.MethodName)) ∈ lw_tbl := lw_at lw_m1 94 rfl
theorem q113 : (Jvm.Cond.instanceMethod ({ cls := "ReplayDesk", name := "freeMoment", desc := "()I" } : Jvm.MethodName)) ∈ lw_all := lw_g (lw_at lw_m1 95 rfl) rfl
theorem q114 : (Jvm.Cond.code ({ cls := "ReplayDesk", name := "freeMoment", desc := "()I" } : Jvm.MethodName) prog_1_method_9_code (2 : Nat) (Option.some Jvm.ClassFile.FieldType.int)) ∈ lw_all := lw_g (lw_at lw_m1 96 rfl) rfl
theorem q115 : (Jvm.Cond.methodLink "ReplayDesk" (67 : Nat) ({ cls := "ReplayDesk", name := "freshPage", desc := "()I" } : Jvm.MethodName)) ∈ lw_all := lw_g (lw_at lw_m1 97 rfl) rfl
theorem q116 : (Jvm.Cond.privateMethod ({ cls := "ReplayDesk", name := "freshPage", desc := "()I" } : Jvm.MethodName)) ∈ lw_tbl := lw_at lw_m1 98 rfl
theorem q117 : (Jvm.Cond.instanceMethod ({ cls := "ReplayDesk", name := "freshPage", desc := "()I" } : Jvm.MethodName)) ∈ lw_all := lw_g (lw_at lw_m1 99 rfl) rfl
theorem q118 : (Jvm.Cond.code ({ cls := "ReplayDesk", name := "freshPage", desc := "()I" } : Jvm.MethodName) prog_1_method_5_code (3 : Nat) (Option.some Jvm.ClassFile.FieldType.int)) ∈ lw_all := lw_g (lw_at lw_m1 100 rfl) rfl
theorem q119 : (Jvm.Cond.methodLink "ReplayDesk" (83 : Nat) ({ cls := "ReplayDesk", name := "stretch", desc := "()I" } : Jvm.MethodName)) ∈ lw_all := lw_g (lw_at lw_m1 101 rfl) rfl
theorem q120 : (Jvm.Cond.privateMethod ({ cls := "ReplayDesk", name := "stretch", desc := "()I" } : Jvm.MethodName)) ∈ lw_tbl := lw_at lw_m1 102 rfl
theorem q121 : (Jvm.Cond.instanceMethod ({ cls := "ReplayDesk", name := "stretch", desc := "()I" } : Jvm.MethodName)) ∈ lw_all := lw_g (lw_at lw_m1 103 rfl) rfl
theorem q122 : (Jvm.Cond.code ({ cls := "ReplayDesk", name := "stretch", desc := "()I" } : Jvm.MethodName) prog_1_method_16_code (4 : Nat) (Option.some Jvm.ClassFile.FieldType.int)) ∈ lw_all := lw_g (lw_at lw_m1 104 rfl) rfl
theorem q123 : (Jvm.Cond.methodLink "ReplayDesk" (94 : Nat) ({ cls := "ReplayDesk", name := "carry", desc := "(III)V" } : Jvm.MethodName)) ∈ lw_all := lw_g (lw_at lw_m1 105 rfl) rfl
theorem q124 : (Jvm.Cond.privateMethod ({ cls := "ReplayDesk", name := "carry", desc := "(III)V" } : Jvm.MethodName)) ∈ lw_tbl := lw_at lw_m1 106 rfl
theorem q125 : (Jvm.Cond.instanceMethod ({ cls := "ReplayDesk", name := "carry", desc := "(III)V" } : Jvm.MethodName)) ∈ lw_all := lw_g (lw_at lw_m1 107 rfl) rfl
theorem q126 : (Jvm.Cond.code ({ cls := "ReplayDesk", name := "carry", desc := "(III)V" } : Jvm.MethodName) prog_1_method_17_code (4 : Nat) (Option.none : Option Jvm.ClassFile.FieldType)) ∈ lw_all := lw_g (lw_at lw_m1 108 rfl) rfl
theorem q127 : (Jvm.Cond.methodLink "ReplayDesk" (98 : Nat) ({ cls := "ReplayDesk", name := "say", desc := "(I)V" } : Jvm.MethodName)) ∈ lw_all := lw_g (lw_at lw_m1 109 rfl) rfl
theorem q128 : (Jvm.Cond.privateMethod ({ cls := "ReplayDesk", name := "say", desc := "(I)V" } : Jvm.MethodName)) ∈ lw_tbl := lw_at lw_m1 110 rfl
theorem q129 : (Jvm.Cond.instanceMethod ({ cls := "ReplayDesk", name := "say", desc := "(I)V" } : Jvm.MethodName)) ∈ lw_all := lw_g (lw_at lw_m1 111 rfl) rfl
theorem q130 : (Jvm.Cond.code ({ cls := "ReplayDesk", name := "say", desc := "(I)V" } : Jvm.MethodName) prog_1_method_19_code (3 : Nat) (Option.none : Option Jvm.ClassFile.FieldType)) ∈ lw_all := lw_g (lw_at lw_m1 112 rfl) rfl
theorem q131 : (Jvm.Cond.methodLink "ReplayDesk" (101 : Nat) ({ cls := "ReplayDesk", name := "work", desc := "(III)V" } : Jvm.MethodName)) ∈ lw_all := lw_g (lw_at lw_m1 113 rfl) rfl
theorem q132 : (Jvm.Cond.privateMethod ({ cls := "ReplayDesk", name := "work", desc := "(III)V" } : Jvm.MethodName)) ∈ lw_tbl := lw_at lw_m1 114 rfl
theorem q133 : (Jvm.Cond.instanceMethod ({ cls := "ReplayDesk", name := "work", desc := "(III)V" } : Jvm.MethodName)) ∈ lw_all := lw_g (lw_at lw_m1 115 rfl) rfl
theorem q134 : (Jvm.Cond.code ({ cls := "ReplayDesk", name := "work", desc := "(III)V" } : Jvm.MethodName) prog_1_method_18_code (4 : Nat) (Option.none : Option Jvm.ClassFile.FieldType)) ∈ lw_all := lw_g (lw_at lw_m1 116 rfl) rfl
theorem q135 : (Jvm.Cond.methodLink "ReplayDesk" (104 : Nat) ({ cls := "ReplayDesk", name := "loadCell", desc := "(I)I" } : Jvm.MethodName)) ∈ lw_all := lw_g (lw_at lw_m1 117 rfl) rfl
theorem q136 : (Jvm.Cond.privateMethod ({ cls := "ReplayDesk", name := "loadCell", desc := "(I)I" } : Jvm.MethodName)) ∈ lw_tbl := lw_at lw_m1 118 rfl
theorem q137 : (Jvm.Cond.instanceMethod ({ cls := "ReplayDesk", name := "loadCell", desc := "(I)I" } : Jvm.MethodName)) ∈ lw_all := lw_g (lw_at lw_m1 119 rfl) rfl
theorem q138 : (Jvm.Cond.code ({ cls := "ReplayDesk", name := "loadCell", desc := "(I)I" } : Jvm.MethodName) prog_1_method_6_code (2 : Nat) (Option.some Jvm.ClassFile.FieldType.int)) ∈ lw_all := lw_g (lw_at lw_m1 120 rfl) rfl
theorem q139 : (Jvm.Cond.methodLink "ReplayDesk" (108 : Nat) ({ cls := "ReplayDesk", name := "storeCell", desc := "(II)V" } : Jvm.MethodName)) ∈ lw_all := lw_g (lw_at lw_m1 121 rfl) rfl
theorem q140 : (Jvm.Cond.privateMethod ({ cls := "ReplayDesk", name := "storeCell", desc := "(II)V" } : Jvm.MethodName)) ∈ lw_tbl := lw_at lw_m1 122 rfl
theorem q141 : (Jvm.Cond.instanceMethod ({ cls := "ReplayDesk", name := "storeCell", desc := "(II)V" } : Jvm.MethodName)) ∈ lw_all := lw_g (lw_at lw_m1 123 rfl) rfl
theorem q142 : (Jvm.Cond.code ({ cls := "ReplayDesk", name := "storeCell", desc := "(II)V" } : Jvm.MethodName) prog_1_method_7_code (6 : Nat) (Option.none : Option Jvm.ClassFile.FieldType)) ∈ lw_all := lw_g (lw_at lw_m1 124 rfl) rfl
theorem q143 : (Jvm.Cond.methodLink "ReplayDesk" (86 : Nat) ({ cls := "ReplayDesk", name := "keep", desc := "(II)V" } : Jvm.MethodName)) ∈ lw_all := lw_g (lw_at lw_m1 125 rfl) rfl
theorem q144 : (Jvm.Cond.privateMethod ({ cls := "ReplayDesk", name := "keep", desc := "(II)V" } : Jvm.MethodName)) ∈ lw_tbl := lw_at lw_m1 126 rfl
theorem q145 : (Jvm.Cond.instanceMethod ({ cls := "ReplayDesk", name := "keep", desc := "(II)V" } : Jvm.MethodName)) ∈ lw_all := lw_g (lw_at lw_m1 127 rfl) rfl
theorem q146 : (Jvm.Cond.code ({ cls := "ReplayDesk", name := "keep", desc := "(II)V" } : Jvm.MethodName) prog_1_method_11_code (4 : Nat) (Option.none : Option Jvm.ClassFile.FieldType)) ∈ lw_all := lw_g (lw_at lw_m1 128 rfl) rfl
theorem q148 : (Jvm.Cond.instanceMethod ({ cls := "ReplayDesk", name := "answer", desc := "(II)I" } : Jvm.MethodName)) ∈ lw_all := lw_g (lw_at lw_m1 130 rfl) rfl
theorem q149 : (Jvm.Cond.selects "ReplayDesk" ({ cls := "ReplayDesk", name := "answer", desc := "(II)I" } : Jvm.MethodName) ({ cls := "ReplayDesk", name := "answer", desc := "(II)I" } : Jvm.MethodName)) ∈ lw_all := lw_g (lw_at lw_m1 131 rfl) rfl
theorem q150 : (Jvm.Cond.code ({ cls := "ReplayDesk", name := "answer", desc := "(II)I" } : Jvm.MethodName) prog_1_method_13_code (5 : Nat) (Option.some Jvm.ClassFile.FieldType.int)) ∈ lw_all := lw_g (lw_at lw_m1 132 rfl) rfl
theorem q151 : (Jvm.Cond.methodLink "ReplayDesk" (90 : Nat) ({ cls := "ReplayDesk", name := "recall", desc := "(I)V" } : Jvm.MethodName)) ∈ lw_all := lw_g (lw_at lw_m1 133 rfl) rfl
theorem q152 : (Jvm.Cond.privateMethod ({ cls := "ReplayDesk", name := "recall", desc := "(I)V" } : Jvm.MethodName)) ∈ lw_tbl := lw_at lw_m1 134 rfl
theorem q153 : (Jvm.Cond.instanceMethod ({ cls := "ReplayDesk", name := "recall", desc := "(I)V" } : Jvm.MethodName)) ∈ lw_all := lw_g (lw_at lw_m1 135 rfl) rfl
theorem q154 : (Jvm.Cond.code ({ cls := "ReplayDesk", name := "recall", desc := "(I)V" } : Jvm.MethodName) prog_1_method_10_code (3 : Nat) (Option.none : Option Jvm.ClassFile.FieldType)) ∈ lw_all := lw_g (lw_at lw_m1 136 rfl) rfl
theorem q156 : (Jvm.Cond.instanceMethod ({ cls := "ReplayDesk", name := "goOn", desc := "(I)I" } : Jvm.MethodName)) ∈ lw_all := lw_g (lw_at lw_m1 138 rfl) rfl
theorem q157 : (Jvm.Cond.selects "ReplayDesk" ({ cls := "ReplayDesk", name := "goOn", desc := "(I)I" } : Jvm.MethodName) ({ cls := "ReplayDesk", name := "goOn", desc := "(I)I" } : Jvm.MethodName)) ∈ lw_all := lw_g (lw_at lw_m1 139 rfl) rfl
theorem q158 : (Jvm.Cond.code ({ cls := "ReplayDesk", name := "goOn", desc := "(I)I" } : Jvm.MethodName) prog_1_method_14_code (4 : Nat) (Option.some Jvm.ClassFile.FieldType.int)) ∈ lw_all := lw_g (lw_at lw_m1 140 rfl) rfl
theorem q161 : (Jvm.Cond.instanceMethod ({ cls := "ReplayDesk", name := "moments", desc := "()I" } : Jvm.MethodName)) ∈ lw_all := lw_g (lw_at lw_m1 143 rfl) rfl
theorem q162 : (Jvm.Cond.selects "ReplayDesk" ({ cls := "ReplayDesk", name := "moments", desc := "()I" } : Jvm.MethodName) ({ cls := "ReplayDesk", name := "moments", desc := "()I" } : Jvm.MethodName)) ∈ lw_all := lw_g (lw_at lw_m1 144 rfl) rfl
theorem q163 : (Jvm.Cond.code ({ cls := "ReplayDesk", name := "moments", desc := "()I" } : Jvm.MethodName) prog_1_method_20_code (1 : Nat) (Option.some Jvm.ClassFile.FieldType.int)) ∈ lw_all := lw_g (lw_at lw_m1 145 rfl) rfl
theorem q165 : (Jvm.Cond.instanceMethod ({ cls := "ReplayDesk", name := "kind", desc := "(I)I" } : Jvm.MethodName)) ∈ lw_all := lw_g (lw_at lw_m1 147 rfl) rfl
theorem q166 : (Jvm.Cond.selects "ReplayDesk" ({ cls := "ReplayDesk", name := "kind", desc := "(I)I" } : Jvm.MethodName) ({ cls := "ReplayDesk", name := "kind", desc := "(I)I" } : Jvm.MethodName)) ∈ lw_all := lw_g (lw_at lw_m1 148 rfl) rfl
theorem q167 : (Jvm.Cond.code ({ cls := "ReplayDesk", name := "kind", desc := "(I)I" } : Jvm.MethodName) prog_1_method_21_code (2 : Nat) (Option.some Jvm.ClassFile.FieldType.int)) ∈ lw_all := lw_g (lw_at lw_m1 149 rfl) rfl
theorem q169 : (Jvm.Cond.instanceMethod ({ cls := "ReplayDesk", name := "position", desc := "(I)I" } : Jvm.MethodName)) ∈ lw_all := lw_g (lw_at lw_m1 151 rfl) rfl
theorem q170 : (Jvm.Cond.selects "ReplayDesk" ({ cls := "ReplayDesk", name := "position", desc := "(I)I" } : Jvm.MethodName) ({ cls := "ReplayDesk", name := "position", desc := "(I)I" } : Jvm.MethodName)) ∈ lw_all := lw_g (lw_at lw_m1 152 rfl) rfl
theorem q171 : (Jvm.Cond.code ({ cls := "ReplayDesk", name := "position", desc := "(I)I" } : Jvm.MethodName) prog_1_method_22_code (2 : Nat) (Option.some Jvm.ClassFile.FieldType.int)) ∈ lw_all := lw_g (lw_at lw_m1 153 rfl) rfl
theorem q173 : (Jvm.Cond.instanceMethod ({ cls := "ReplayDesk", name := "peek", desc := "(II)I" } : Jvm.MethodName)) ∈ lw_all := lw_g (lw_at lw_m1 155 rfl) rfl
theorem q174 : (Jvm.Cond.selects "ReplayDesk" ({ cls := "ReplayDesk", name := "peek", desc := "(II)I" } : Jvm.MethodName) ({ cls := "ReplayDesk", name := "peek", desc := "(II)I" } : Jvm.MethodName)) ∈ lw_all := lw_g (lw_at lw_m1 156 rfl) rfl
theorem q175 : (Jvm.Cond.code ({ cls := "ReplayDesk", name := "peek", desc := "(II)I" } : Jvm.MethodName) prog_1_method_23_code (4 : Nat) (Option.some Jvm.ClassFile.FieldType.int)) ∈ lw_all := lw_g (lw_at lw_m1 157 rfl) rfl
theorem q177 : (Jvm.Cond.instanceMethod ({ cls := "ReplayDesk", name := "said", desc := "(I)I" } : Jvm.MethodName)) ∈ lw_all := lw_g (lw_at lw_m1 159 rfl) rfl
theorem q178 : (Jvm.Cond.selects "ReplayDesk" ({ cls := "ReplayDesk", name := "said", desc := "(I)I" } : Jvm.MethodName) ({ cls := "ReplayDesk", name := "said", desc := "(I)I" } : Jvm.MethodName)) ∈ lw_all := lw_g (lw_at lw_m1 160 rfl) rfl
theorem q179 : (Jvm.Cond.code ({ cls := "ReplayDesk", name := "said", desc := "(I)I" } : Jvm.MethodName) prog_1_method_24_code (2 : Nat) (Option.some Jvm.ClassFile.FieldType.int)) ∈ lw_all := lw_g (lw_at lw_m1 161 rfl) rfl
theorem q181 : (Jvm.Cond.instanceMethod ({ cls := "ReplayDesk", name := "lastSaid", desc := "(II)I" } : Jvm.MethodName)) ∈ lw_all := lw_g (lw_at lw_m1 163 rfl) rfl
theorem q182 : (Jvm.Cond.selects "ReplayDesk" ({ cls := "ReplayDesk", name := "lastSaid", desc := "(II)I" } : Jvm.MethodName) ({ cls := "ReplayDesk", name := "lastSaid", desc := "(II)I" } : Jvm.MethodName)) ∈ lw_all := lw_g (lw_at lw_m1 164 rfl) rfl
theorem q183 : (Jvm.Cond.code ({ cls := "ReplayDesk", name := "lastSaid", desc := "(II)I" } : Jvm.MethodName) prog_1_method_25_code (3 : Nat) (Option.some Jvm.ClassFile.FieldType.int)) ∈ lw_all := lw_g (lw_at lw_m1 165 rfl) rfl
theorem q185 : (Jvm.Cond.instanceMethod ({ cls := "ReplayDesk", name := "difference", desc := "(II)I" } : Jvm.MethodName)) ∈ lw_all := lw_g (lw_at lw_m1 167 rfl) rfl
theorem q186 : (Jvm.Cond.selects "ReplayDesk" ({ cls := "ReplayDesk", name := "difference", desc := "(II)I" } : Jvm.MethodName) ({ cls := "ReplayDesk", name := "difference", desc := "(II)I" } : Jvm.MethodName)) ∈ lw_all := lw_g (lw_at lw_m1 168 rfl) rfl
theorem q187 : (Jvm.Cond.code ({ cls := "ReplayDesk", name := "difference", desc := "(II)I" } : Jvm.MethodName) prog_1_method_26_code (7 : Nat) (Option.some Jvm.ClassFile.FieldType.int)) ∈ lw_all := lw_g (lw_at lw_m1 169 rfl) rfl
theorem q188 : (Jvm.Cond.methodLink "ReplayDesk" (111 : Nat) ({ cls := "ReplayDesk", name := "differing", desc := "(II)I" } : Jvm.MethodName)) ∈ lw_all := lw_g (lw_at lw_m1 170 rfl) rfl
theorem q189 : (Jvm.Cond.privateMethod ({ cls := "ReplayDesk", name := "differing", desc := "(II)I" } : Jvm.MethodName)) ∈ lw_tbl := lw_at lw_m1 171 rfl
theorem q190 : (Jvm.Cond.instanceMethod ({ cls := "ReplayDesk", name := "differing", desc := "(II)I" } : Jvm.MethodName)) ∈ lw_all := lw_g (lw_at lw_m1 172 rfl) rfl
theorem q191 : (Jvm.Cond.code ({ cls := "ReplayDesk", name := "differing", desc := "(II)I" } : Jvm.MethodName) prog_1_method_27_code (5 : Nat) (Option.some Jvm.ClassFile.FieldType.int)) ∈ lw_all := lw_g (lw_at lw_m1 173 rfl) rfl
theorem in_X0 : ∀ w ∈ wsX00, w ∈ lw_all := lw_in wsX00 [47, 49, 51, 53, 55, 57, 59, 61, 63, 65, 67, 69, 71, 73, 75, 77, 79, 81] (by decide +kernel) (by decide +kernel)
def RJ0 : String := "java/lang/Object"
abbrev cJ0_init : ByteArray := object_method_1_code
def yJ0_init : MethodName := ⟨RJ0, "<init>", "()V"⟩
theorem dJ0_init_0 : decode cJ0_init 0 = .ok (.return_, 1) := by decide +kernel
theorem q27 : (Jvm.Cond.instanceMethod ({ cls := "java/lang/Object", name := "<init>", desc := "()V" } : Jvm.MethodName)) ∈ lw_all := lw_g (lw_at lw_m1 9 rfl) rfl
theorem q28 : (Jvm.Cond.code ({ cls := "java/lang/Object", name := "<init>", desc := "()V" } : Jvm.MethodName) object_method_1_code (1 : Nat) (Option.none : Option Jvm.ClassFile.FieldType)) ∈ lw_all := lw_g (lw_at lw_m1 10 rfl) rfl
theorem q84 : (Jvm.Cond.arrayClass Jvm.ClassFile.FieldType.byte) ∈ lw_all := lw_g (lw_at lw_m1 66 rfl) rfl
theorem q85 : (Jvm.Cond.arrayClass Jvm.ClassFile.FieldType.int) ∈ lw_all := lw_g (lw_at lw_m1 67 rfl) rfl
theorem q241 : (Jvm.Cond.arrayClass Jvm.ClassFile.FieldType.boolean) ∈ lw_all := lw_g (lw_at lw_m1 223 rfl) rfl
end
section
/-! ReplayDeskModel -/
set_option maxRecDepth 100000
def RX1 : String := "ReplayDeskModel"
def TX1 : u_T := fun k => match k with
  | 0 => ("ReplayDeskModel", "size", "I", false)
  | 1 => ("ReplayDeskModel", "ops", "[I", false)
  | 2 => ("ReplayDeskModel", "as", "[I", false)
  | 3 => ("ReplayDeskModel", "bs", "[I", false)
  | 4 => ("ReplayDeskModel", "there", "[Z", false)
  | 5 => ("ReplayDeskModel", "kinds", "[I", false)
  | 6 => ("ReplayDeskModel", "places", "[I", false)
  | 7 => ("ReplayDeskModel", "counts", "[I", false)
  | 8 => ("ReplayDeskModel", "cells", "[I", false)
  | 9 => ("ReplayDeskModel", "saids", "[I", false)
  | 10 => ("ReplayDeskModel", "pos", "I", false)
  | 11 => ("ReplayDeskModel", "count", "I", false)
  | 12 => ("ReplayDeskModel", "row", "[I", false)
  | _ => ("ReplayDeskModel", "tail", "[I", false)
def tyX1 : Nat → FieldType := fun k => match k with
  | 0 => .int
  | 1 => .array .int
  | 2 => .array .int
  | 3 => .array .int
  | 4 => .array .boolean
  | 5 => .array .int
  | 6 => .array .int
  | 7 => .array .int
  | 8 => .array .int
  | 9 => .array .int
  | 10 => .int
  | 11 => .int
  | 12 => .array .int
  | _ => .array .int
abbrev wsX10 : List Cond := u_ws RX1 TX1 14
set_option maxRecDepth 100000 in
theorem nmX1 : ∀ a, a < 14 → ∀ b, b < 14 → a ≠ b → (TX1 a).2.1 ≠ (TX1 b).2.1 := by decide +kernel
set_option maxRecDepth 100000 in
theorem tyX1_ok : ∀ k, k < 14 → parseFieldDescriptor (TX1 k).2.2.1 = some (tyX1 k) := by decide +kernel
abbrev cX1_init : ByteArray := prog_3_method_1_code
def yX1_init : MethodName := ⟨RX1, "<init>", "()V"⟩
theorem dX1_init_0 : decode cX1_init 0 = .ok (.aload_n 0, 1) := by decide +kernel
theorem dX1_init_1 : decode cX1_init 1 = .ok (.invokespecial 1, 3) := by decide +kernel
theorem dX1_init_4 : decode cX1_init 4 = .ok (.aload_n 0, 1) := by decide +kernel
theorem dX1_init_5 : decode cX1_init 5 = .ok (.bipush 16, 2) := by decide +kernel
theorem dX1_init_7 : decode cX1_init 7 = .ok (.newarray .int, 2) := by decide +kernel
theorem dX1_init_9 : decode cX1_init 9 = .ok (.putfield 7, 3) := by decide +kernel
theorem dX1_init_12 : decode cX1_init 12 = .ok (.aload_n 0, 1) := by decide +kernel
theorem dX1_init_13 : decode cX1_init 13 = .ok (.bipush 16, 2) := by decide +kernel
theorem dX1_init_15 : decode cX1_init 15 = .ok (.newarray .int, 2) := by decide +kernel
theorem dX1_init_17 : decode cX1_init 17 = .ok (.putfield 13, 3) := by decide +kernel
theorem dX1_init_20 : decode cX1_init 20 = .ok (.aload_n 0, 1) := by decide +kernel
theorem dX1_init_21 : decode cX1_init 21 = .ok (.bipush 16, 2) := by decide +kernel
theorem dX1_init_23 : decode cX1_init 23 = .ok (.newarray .int, 2) := by decide +kernel
theorem dX1_init_25 : decode cX1_init 25 = .ok (.putfield 16, 3) := by decide +kernel
theorem dX1_init_28 : decode cX1_init 28 = .ok (.aload_n 0, 1) := by decide +kernel
theorem dX1_init_29 : decode cX1_init 29 = .ok (.bipush 12, 2) := by decide +kernel
theorem dX1_init_31 : decode cX1_init 31 = .ok (.newarray .boolean, 2) := by decide +kernel
theorem dX1_init_33 : decode cX1_init 33 = .ok (.putfield 19, 3) := by decide +kernel
theorem dX1_init_36 : decode cX1_init 36 = .ok (.aload_n 0, 1) := by decide +kernel
theorem dX1_init_37 : decode cX1_init 37 = .ok (.bipush 12, 2) := by decide +kernel
theorem dX1_init_39 : decode cX1_init 39 = .ok (.newarray .int, 2) := by decide +kernel
theorem dX1_init_41 : decode cX1_init 41 = .ok (.putfield 23, 3) := by decide +kernel
theorem dX1_init_44 : decode cX1_init 44 = .ok (.aload_n 0, 1) := by decide +kernel
theorem dX1_init_45 : decode cX1_init 45 = .ok (.bipush 12, 2) := by decide +kernel
theorem dX1_init_47 : decode cX1_init 47 = .ok (.newarray .int, 2) := by decide +kernel
theorem dX1_init_49 : decode cX1_init 49 = .ok (.putfield 26, 3) := by decide +kernel
theorem dX1_init_52 : decode cX1_init 52 = .ok (.aload_n 0, 1) := by decide +kernel
theorem dX1_init_53 : decode cX1_init 53 = .ok (.bipush 12, 2) := by decide +kernel
theorem dX1_init_55 : decode cX1_init 55 = .ok (.newarray .int, 2) := by decide +kernel
theorem dX1_init_57 : decode cX1_init 57 = .ok (.putfield 29, 3) := by decide +kernel
theorem dX1_init_60 : decode cX1_init 60 = .ok (.aload_n 0, 1) := by decide +kernel
theorem dX1_init_61 : decode cX1_init 61 = .ok (.sipush 240, 3) := by decide +kernel
theorem dX1_init_64 : decode cX1_init 64 = .ok (.newarray .int, 2) := by decide +kernel
theorem dX1_init_66 : decode cX1_init 66 = .ok (.putfield 32, 3) := by decide +kernel
theorem dX1_init_69 : decode cX1_init 69 = .ok (.aload_n 0, 1) := by decide +kernel
theorem dX1_init_70 : decode cX1_init 70 = .ok (.bipush 96, 2) := by decide +kernel
theorem dX1_init_72 : decode cX1_init 72 = .ok (.newarray .int, 2) := by decide +kernel
theorem dX1_init_74 : decode cX1_init 74 = .ok (.putfield 35, 3) := by decide +kernel
theorem dX1_init_77 : decode cX1_init 77 = .ok (.aload_n 0, 1) := by decide +kernel
theorem dX1_init_78 : decode cX1_init 78 = .ok (.bipush 20, 2) := by decide +kernel
theorem dX1_init_80 : decode cX1_init 80 = .ok (.newarray .int, 2) := by decide +kernel
theorem dX1_init_82 : decode cX1_init 82 = .ok (.putfield 38, 3) := by decide +kernel
theorem dX1_init_85 : decode cX1_init 85 = .ok (.aload_n 0, 1) := by decide +kernel
theorem dX1_init_86 : decode cX1_init 86 = .ok (.bipush 8, 2) := by decide +kernel
theorem dX1_init_88 : decode cX1_init 88 = .ok (.newarray .int, 2) := by decide +kernel
theorem dX1_init_90 : decode cX1_init 90 = .ok (.putfield 41, 3) := by decide +kernel
theorem dX1_init_93 : decode cX1_init 93 = .ok (.return_, 1) := by decide +kernel
abbrev cX1_emit : ByteArray := prog_3_method_2_code
def yX1_emit : MethodName := ⟨RX1, "emit", "(III)I"⟩
theorem dX1_emit_0 : decode cX1_emit 0 = .ok (.iload_n 1, 1) := by decide +kernel
theorem dX1_emit_1 : decode cX1_emit 1 = .ok (.ifCond .lt 37, 3) := by decide +kernel
theorem dX1_emit_4 : decode cX1_emit 4 = .ok (.iload_n 1, 1) := by decide +kernel
theorem dX1_emit_5 : decode cX1_emit 5 = .ok (.bipush 9, 2) := by decide +kernel
theorem dX1_emit_7 : decode cX1_emit 7 = .ok (.if_icmp .gt 31, 3) := by decide +kernel
theorem dX1_emit_10 : decode cX1_emit 10 = .ok (.iload_n 2, 1) := by decide +kernel
theorem dX1_emit_11 : decode cX1_emit 11 = .ok (.ifCond .lt 27, 3) := by decide +kernel
theorem dX1_emit_14 : decode cX1_emit 14 = .ok (.iload_n 2, 1) := by decide +kernel
theorem dX1_emit_15 : decode cX1_emit 15 = .ok (.iconst 3, 1) := by decide +kernel
theorem dX1_emit_16 : decode cX1_emit 16 = .ok (.if_icmp .gt 22, 3) := by decide +kernel
theorem dX1_emit_19 : decode cX1_emit 19 = .ok (.iload_n 1, 1) := by decide +kernel
theorem dX1_emit_20 : decode cX1_emit 20 = .ok (.iconst 1, 1) := by decide +kernel
theorem dX1_emit_21 : decode cX1_emit 21 = .ok (.if_icmp .lt 19, 3) := by decide +kernel
theorem dX1_emit_24 : decode cX1_emit 24 = .ok (.iload_n 1, 1) := by decide +kernel
theorem dX1_emit_25 : decode cX1_emit 25 = .ok (.iconst 4, 1) := by decide +kernel
theorem dX1_emit_26 : decode cX1_emit 26 = .ok (.if_icmp .gt 14, 3) := by decide +kernel
theorem dX1_emit_29 : decode cX1_emit 29 = .ok (.iload_n 3, 1) := by decide +kernel
theorem dX1_emit_30 : decode cX1_emit 30 = .ok (.ifCond .lt 8, 3) := by decide +kernel
theorem dX1_emit_33 : decode cX1_emit 33 = .ok (.iload_n 3, 1) := by decide +kernel
theorem dX1_emit_34 : decode cX1_emit 34 = .ok (.iconst 3, 1) := by decide +kernel
theorem dX1_emit_35 : decode cX1_emit 35 = .ok (.if_icmp .le 5, 3) := by decide +kernel
theorem dX1_emit_38 : decode cX1_emit 38 = .ok (.iconst (-1), 1) := by decide +kernel
theorem dX1_emit_39 : decode cX1_emit 39 = .ok (.ireturn, 1) := by decide +kernel
theorem dX1_emit_40 : decode cX1_emit 40 = .ok (.aload_n 0, 1) := by decide +kernel
theorem dX1_emit_41 : decode cX1_emit 41 = .ok (.getfield 44, 3) := by decide +kernel
theorem dX1_emit_44 : decode cX1_emit 44 = .ok (.bipush 16, 2) := by decide +kernel
theorem dX1_emit_46 : decode cX1_emit 46 = .ok (.if_icmp .lt 6, 3) := by decide +kernel
theorem dX1_emit_49 : decode cX1_emit 49 = .ok (.bipush (-2), 2) := by decide +kernel
theorem dX1_emit_51 : decode cX1_emit 51 = .ok (.ireturn, 1) := by decide +kernel
theorem dX1_emit_52 : decode cX1_emit 52 = .ok (.aload_n 0, 1) := by decide +kernel
theorem dX1_emit_53 : decode cX1_emit 53 = .ok (.invokevirtual 48, 3) := by decide +kernel
theorem dX1_emit_56 : decode cX1_emit 56 = .ok (.ifCond .eq 5, 3) := by decide +kernel
theorem dX1_emit_59 : decode cX1_emit 59 = .ok (.iconst (-1), 1) := by decide +kernel
theorem dX1_emit_60 : decode cX1_emit 60 = .ok (.ireturn, 1) := by decide +kernel
theorem dX1_emit_61 : decode cX1_emit 61 = .ok (.aload_n 0, 1) := by decide +kernel
theorem dX1_emit_62 : decode cX1_emit 62 = .ok (.getfield 7, 3) := by decide +kernel
theorem dX1_emit_65 : decode cX1_emit 65 = .ok (.aload_n 0, 1) := by decide +kernel
theorem dX1_emit_66 : decode cX1_emit 66 = .ok (.getfield 44, 3) := by decide +kernel
theorem dX1_emit_69 : decode cX1_emit 69 = .ok (.iload_n 1, 1) := by decide +kernel
theorem dX1_emit_70 : decode cX1_emit 70 = .ok (.iastore, 1) := by decide +kernel
theorem dX1_emit_71 : decode cX1_emit 71 = .ok (.aload_n 0, 1) := by decide +kernel
theorem dX1_emit_72 : decode cX1_emit 72 = .ok (.getfield 13, 3) := by decide +kernel
theorem dX1_emit_75 : decode cX1_emit 75 = .ok (.aload_n 0, 1) := by decide +kernel
theorem dX1_emit_76 : decode cX1_emit 76 = .ok (.getfield 44, 3) := by decide +kernel
theorem dX1_emit_79 : decode cX1_emit 79 = .ok (.iload_n 2, 1) := by decide +kernel
theorem dX1_emit_80 : decode cX1_emit 80 = .ok (.iastore, 1) := by decide +kernel
theorem dX1_emit_81 : decode cX1_emit 81 = .ok (.aload_n 0, 1) := by decide +kernel
theorem dX1_emit_82 : decode cX1_emit 82 = .ok (.getfield 16, 3) := by decide +kernel
theorem dX1_emit_85 : decode cX1_emit 85 = .ok (.aload_n 0, 1) := by decide +kernel
theorem dX1_emit_86 : decode cX1_emit 86 = .ok (.getfield 44, 3) := by decide +kernel
theorem dX1_emit_89 : decode cX1_emit 89 = .ok (.iload_n 3, 1) := by decide +kernel
theorem dX1_emit_90 : decode cX1_emit 90 = .ok (.iastore, 1) := by decide +kernel
theorem dX1_emit_91 : decode cX1_emit 91 = .ok (.aload_n 0, 1) := by decide +kernel
theorem dX1_emit_92 : decode cX1_emit 92 = .ok (.dup, 1) := by decide +kernel
theorem dX1_emit_93 : decode cX1_emit 93 = .ok (.getfield 44, 3) := by decide +kernel
theorem dX1_emit_96 : decode cX1_emit 96 = .ok (.iconst 1, 1) := by decide +kernel
theorem dX1_emit_97 : decode cX1_emit 97 = .ok (.iadd, 1) := by decide +kernel
theorem dX1_emit_98 : decode cX1_emit 98 = .ok (.putfield 44, 3) := by decide +kernel
theorem dX1_emit_101 : decode cX1_emit 101 = .ok (.aload_n 0, 1) := by decide +kernel
theorem dX1_emit_102 : decode cX1_emit 102 = .ok (.getfield 44, 3) := by decide +kernel
theorem dX1_emit_105 : decode cX1_emit 105 = .ok (.iconst 1, 1) := by decide +kernel
theorem dX1_emit_106 : decode cX1_emit 106 = .ok (.isub, 1) := by decide +kernel
theorem dX1_emit_107 : decode cX1_emit 107 = .ok (.ireturn, 1) := by decide +kernel
abbrev cX1_moments : ByteArray := prog_3_method_14_code
def yX1_moments : MethodName := ⟨RX1, "moments", "()I"⟩
theorem dX1_moments_0 : decode cX1_moments 0 = .ok (.iconst 0, 1) := by decide +kernel
theorem dX1_moments_1 : decode cX1_moments 1 = .ok (.istore_n 1, 1) := by decide +kernel
theorem dX1_moments_2 : decode cX1_moments 2 = .ok (.iconst 0, 1) := by decide +kernel
theorem dX1_moments_3 : decode cX1_moments 3 = .ok (.istore_n 2, 1) := by decide +kernel
theorem dX1_moments_4 : decode cX1_moments 4 = .ok (.iload_n 2, 1) := by decide +kernel
theorem dX1_moments_5 : decode cX1_moments 5 = .ok (.bipush 12, 2) := by decide +kernel
theorem dX1_moments_7 : decode cX1_moments 7 = .ok (.if_icmp .ge 28, 3) := by decide +kernel
theorem dX1_moments_10 : decode cX1_moments 10 = .ok (.iload_n 1, 1) := by decide +kernel
theorem dX1_moments_11 : decode cX1_moments 11 = .ok (.aload_n 0, 1) := by decide +kernel
theorem dX1_moments_12 : decode cX1_moments 12 = .ok (.getfield 19, 3) := by decide +kernel
theorem dX1_moments_15 : decode cX1_moments 15 = .ok (.iload_n 2, 1) := by decide +kernel
theorem dX1_moments_16 : decode cX1_moments 16 = .ok (.baload, 1) := by decide +kernel
theorem dX1_moments_17 : decode cX1_moments 17 = .ok (.ifCond .eq 9, 3) := by decide +kernel
theorem dX1_moments_20 : decode cX1_moments 20 = .ok (.iconst 1, 1) := by decide +kernel
theorem dX1_moments_21 : decode cX1_moments 21 = .ok (.iload_n 2, 1) := by decide +kernel
theorem dX1_moments_22 : decode cX1_moments 22 = .ok (.ishl, 1) := by decide +kernel
theorem dX1_moments_23 : decode cX1_moments 23 = .ok (.goto 4, 3) := by decide +kernel
theorem dX1_moments_26 : decode cX1_moments 26 = .ok (.iconst 0, 1) := by decide +kernel
theorem dX1_moments_27 : decode cX1_moments 27 = .ok (.ior, 1) := by decide +kernel
theorem dX1_moments_28 : decode cX1_moments 28 = .ok (.istore_n 1, 1) := by decide +kernel
theorem dX1_moments_29 : decode cX1_moments 29 = .ok (.iinc 2 1, 3) := by decide +kernel
theorem dX1_moments_32 : decode cX1_moments 32 = .ok (.goto (-28), 3) := by decide +kernel
theorem dX1_moments_35 : decode cX1_moments 35 = .ok (.iload_n 1, 1) := by decide +kernel
theorem dX1_moments_36 : decode cX1_moments 36 = .ok (.ireturn, 1) := by decide +kernel
abbrev cX1_forgetAll : ByteArray := prog_3_method_3_code
def yX1_forgetAll : MethodName := ⟨RX1, "forgetAll", "()V"⟩
theorem dX1_forgetAll_0 : decode cX1_forgetAll 0 = .ok (.iconst 0, 1) := by decide +kernel
theorem dX1_forgetAll_1 : decode cX1_forgetAll 1 = .ok (.istore_n 1, 1) := by decide +kernel
theorem dX1_forgetAll_2 : decode cX1_forgetAll 2 = .ok (.iload_n 1, 1) := by decide +kernel
theorem dX1_forgetAll_3 : decode cX1_forgetAll 3 = .ok (.bipush 12, 2) := by decide +kernel
theorem dX1_forgetAll_5 : decode cX1_forgetAll 5 = .ok (.if_icmp .ge 16, 3) := by decide +kernel
theorem dX1_forgetAll_8 : decode cX1_forgetAll 8 = .ok (.aload_n 0, 1) := by decide +kernel
theorem dX1_forgetAll_9 : decode cX1_forgetAll 9 = .ok (.getfield 19, 3) := by decide +kernel
theorem dX1_forgetAll_12 : decode cX1_forgetAll 12 = .ok (.iload_n 1, 1) := by decide +kernel
theorem dX1_forgetAll_13 : decode cX1_forgetAll 13 = .ok (.iconst 0, 1) := by decide +kernel
theorem dX1_forgetAll_14 : decode cX1_forgetAll 14 = .ok (.bastore, 1) := by decide +kernel
theorem dX1_forgetAll_15 : decode cX1_forgetAll 15 = .ok (.iinc 1 1, 3) := by decide +kernel
theorem dX1_forgetAll_18 : decode cX1_forgetAll 18 = .ok (.goto (-16), 3) := by decide +kernel
theorem dX1_forgetAll_21 : decode cX1_forgetAll 21 = .ok (.return_, 1) := by decide +kernel
abbrev cX1_clear : ByteArray := prog_3_method_4_code
def yX1_clear : MethodName := ⟨RX1, "clear", "()V"⟩
theorem dX1_clear_0 : decode cX1_clear 0 = .ok (.aload_n 0, 1) := by decide +kernel
theorem dX1_clear_1 : decode cX1_clear 1 = .ok (.invokevirtual 52, 3) := by decide +kernel
theorem dX1_clear_4 : decode cX1_clear 4 = .ok (.aload_n 0, 1) := by decide +kernel
theorem dX1_clear_5 : decode cX1_clear 5 = .ok (.iconst 0, 1) := by decide +kernel
theorem dX1_clear_6 : decode cX1_clear 6 = .ok (.putfield 44, 3) := by decide +kernel
theorem dX1_clear_9 : decode cX1_clear 9 = .ok (.return_, 1) := by decide +kernel
abbrev cX1_start : ByteArray := prog_3_method_6_code
def yX1_start : MethodName := ⟨RX1, "start", "()I"⟩
theorem dX1_start_0 : decode cX1_start 0 = .ok (.aload_n 0, 1) := by decide +kernel
theorem dX1_start_1 : decode cX1_start 1 = .ok (.invokevirtual 55, 3) := by decide +kernel
theorem dX1_start_4 : decode cX1_start 4 = .ok (.istore_n 1, 1) := by decide +kernel
theorem dX1_start_5 : decode cX1_start 5 = .ok (.iload_n 1, 1) := by decide +kernel
theorem dX1_start_6 : decode cX1_start 6 = .ok (.ifCond .ge 6, 3) := by decide +kernel
theorem dX1_start_9 : decode cX1_start 9 = .ok (.bipush (-2), 2) := by decide +kernel
theorem dX1_start_11 : decode cX1_start 11 = .ok (.ireturn, 1) := by decide +kernel
theorem dX1_start_12 : decode cX1_start 12 = .ok (.aload_n 0, 1) := by decide +kernel
theorem dX1_start_13 : decode cX1_start 13 = .ok (.iconst 0, 1) := by decide +kernel
theorem dX1_start_14 : decode cX1_start 14 = .ok (.putfield 58, 3) := by decide +kernel
theorem dX1_start_17 : decode cX1_start 17 = .ok (.aload_n 0, 1) := by decide +kernel
theorem dX1_start_18 : decode cX1_start 18 = .ok (.iconst 0, 1) := by decide +kernel
theorem dX1_start_19 : decode cX1_start 19 = .ok (.putfield 61, 3) := by decide +kernel
theorem dX1_start_22 : decode cX1_start 22 = .ok (.iconst 0, 1) := by decide +kernel
theorem dX1_start_23 : decode cX1_start 23 = .ok (.istore_n 2, 1) := by decide +kernel
theorem dX1_start_24 : decode cX1_start 24 = .ok (.iload_n 2, 1) := by decide +kernel
theorem dX1_start_25 : decode cX1_start 25 = .ok (.bipush 20, 2) := by decide +kernel
theorem dX1_start_27 : decode cX1_start 27 = .ok (.if_icmp .ge 26, 3) := by decide +kernel
theorem dX1_start_30 : decode cX1_start 30 = .ok (.aload_n 0, 1) := by decide +kernel
theorem dX1_start_31 : decode cX1_start 31 = .ok (.getfield 38, 3) := by decide +kernel
theorem dX1_start_34 : decode cX1_start 34 = .ok (.iload_n 2, 1) := by decide +kernel
theorem dX1_start_35 : decode cX1_start 35 = .ok (.iconst 0, 1) := by decide +kernel
theorem dX1_start_36 : decode cX1_start 36 = .ok (.iastore, 1) := by decide +kernel
theorem dX1_start_37 : decode cX1_start 37 = .ok (.aload_n 0, 1) := by decide +kernel
theorem dX1_start_38 : decode cX1_start 38 = .ok (.getfield 41, 3) := by decide +kernel
theorem dX1_start_41 : decode cX1_start 41 = .ok (.iload_n 2, 1) := by decide +kernel
theorem dX1_start_42 : decode cX1_start 42 = .ok (.bipush 7, 2) := by decide +kernel
theorem dX1_start_44 : decode cX1_start 44 = .ok (.iand, 1) := by decide +kernel
theorem dX1_start_45 : decode cX1_start 45 = .ok (.iconst 0, 1) := by decide +kernel
theorem dX1_start_46 : decode cX1_start 46 = .ok (.iastore, 1) := by decide +kernel
theorem dX1_start_47 : decode cX1_start 47 = .ok (.iinc 2 1, 3) := by decide +kernel
theorem dX1_start_50 : decode cX1_start 50 = .ok (.goto (-26), 3) := by decide +kernel
theorem dX1_start_53 : decode cX1_start 53 = .ok (.aload_n 0, 1) := by decide +kernel
theorem dX1_start_54 : decode cX1_start 54 = .ok (.iload_n 1, 1) := by decide +kernel
theorem dX1_start_55 : decode cX1_start 55 = .ok (.invokevirtual 64, 3) := by decide +kernel
theorem dX1_start_58 : decode cX1_start 58 = .ok (.iload_n 1, 1) := by decide +kernel
theorem dX1_start_59 : decode cX1_start 59 = .ok (.ireturn, 1) := by decide +kernel
abbrev cX1_room : ByteArray := prog_3_method_5_code
def yX1_room : MethodName := ⟨RX1, "room", "()I"⟩
theorem dX1_room_0 : decode cX1_room 0 = .ok (.iconst 0, 1) := by decide +kernel
theorem dX1_room_1 : decode cX1_room 1 = .ok (.istore_n 1, 1) := by decide +kernel
theorem dX1_room_2 : decode cX1_room 2 = .ok (.iload_n 1, 1) := by decide +kernel
theorem dX1_room_3 : decode cX1_room 3 = .ok (.bipush 12, 2) := by decide +kernel
theorem dX1_room_5 : decode cX1_room 5 = .ok (.if_icmp .ge 20, 3) := by decide +kernel
theorem dX1_room_8 : decode cX1_room 8 = .ok (.aload_n 0, 1) := by decide +kernel
theorem dX1_room_9 : decode cX1_room 9 = .ok (.getfield 19, 3) := by decide +kernel
theorem dX1_room_12 : decode cX1_room 12 = .ok (.iload_n 1, 1) := by decide +kernel
theorem dX1_room_13 : decode cX1_room 13 = .ok (.baload, 1) := by decide +kernel
theorem dX1_room_14 : decode cX1_room 14 = .ok (.ifCond .ne 5, 3) := by decide +kernel
theorem dX1_room_17 : decode cX1_room 17 = .ok (.iload_n 1, 1) := by decide +kernel
theorem dX1_room_18 : decode cX1_room 18 = .ok (.ireturn, 1) := by decide +kernel
theorem dX1_room_19 : decode cX1_room 19 = .ok (.iinc 1 1, 3) := by decide +kernel
theorem dX1_room_22 : decode cX1_room 22 = .ok (.goto (-20), 3) := by decide +kernel
theorem dX1_room_25 : decode cX1_room 25 = .ok (.bipush (-2), 2) := by decide +kernel
theorem dX1_room_27 : decode cX1_room 27 = .ok (.ireturn, 1) := by decide +kernel
abbrev cX1_stretch : ByteArray := prog_3_method_11_code
def yX1_stretch : MethodName := ⟨RX1, "stretch", "(I)V"⟩
theorem dX1_stretch_0 : decode cX1_stretch 0 = .ok (.iconst 3, 1) := by decide +kernel
theorem dX1_stretch_1 : decode cX1_stretch 1 = .ok (.istore_n 2, 1) := by decide +kernel
theorem dX1_stretch_2 : decode cX1_stretch 2 = .ok (.iconst 1, 1) := by decide +kernel
theorem dX1_stretch_3 : decode cX1_stretch 3 = .ok (.istore_n 3, 1) := by decide +kernel
theorem dX1_stretch_4 : decode cX1_stretch 4 = .ok (.iconst 0, 1) := by decide +kernel
theorem dX1_stretch_5 : decode cX1_stretch 5 = .ok (.istore 4, 2) := by decide +kernel
theorem dX1_stretch_7 : decode cX1_stretch 7 = .ok (.iload 4, 2) := by decide +kernel
theorem dX1_stretch_9 : decode cX1_stretch 9 = .ok (.bipush 60, 2) := by decide +kernel
theorem dX1_stretch_11 : decode cX1_stretch 11 = .ok (.if_icmp .gt 131, 3) := by decide +kernel
theorem dX1_stretch_14 : decode cX1_stretch 14 = .ok (.iload_n 3, 1) := by decide +kernel
theorem dX1_stretch_15 : decode cX1_stretch 15 = .ok (.ifCond .eq 127, 3) := by decide +kernel
theorem dX1_stretch_18 : decode cX1_stretch 18 = .ok (.aload_n 0, 1) := by decide +kernel
theorem dX1_stretch_19 : decode cX1_stretch 19 = .ok (.getfield 58, 3) := by decide +kernel
theorem dX1_stretch_22 : decode cX1_stretch 22 = .ok (.ifCond .lt 14, 3) := by decide +kernel
theorem dX1_stretch_25 : decode cX1_stretch 25 = .ok (.aload_n 0, 1) := by decide +kernel
theorem dX1_stretch_26 : decode cX1_stretch 26 = .ok (.getfield 58, 3) := by decide +kernel
theorem dX1_stretch_29 : decode cX1_stretch 29 = .ok (.aload_n 0, 1) := by decide +kernel
theorem dX1_stretch_30 : decode cX1_stretch 30 = .ok (.getfield 44, 3) := by decide +kernel
theorem dX1_stretch_33 : decode cX1_stretch 33 = .ok (.if_icmp .lt 10, 3) := by decide +kernel
theorem dX1_stretch_36 : decode cX1_stretch 36 = .ok (.iconst 0, 1) := by decide +kernel
theorem dX1_stretch_37 : decode cX1_stretch 37 = .ok (.istore_n 2, 1) := by decide +kernel
theorem dX1_stretch_38 : decode cX1_stretch 38 = .ok (.iconst 0, 1) := by decide +kernel
theorem dX1_stretch_39 : decode cX1_stretch 39 = .ok (.istore_n 3, 1) := by decide +kernel
theorem dX1_stretch_40 : decode cX1_stretch 40 = .ok (.goto 96, 3) := by decide +kernel
theorem dX1_stretch_43 : decode cX1_stretch 43 = .ok (.aload_n 0, 1) := by decide +kernel
theorem dX1_stretch_44 : decode cX1_stretch 44 = .ok (.getfield 7, 3) := by decide +kernel
theorem dX1_stretch_47 : decode cX1_stretch 47 = .ok (.aload_n 0, 1) := by decide +kernel
theorem dX1_stretch_48 : decode cX1_stretch 48 = .ok (.getfield 58, 3) := by decide +kernel
theorem dX1_stretch_51 : decode cX1_stretch 51 = .ok (.iaload, 1) := by decide +kernel
theorem dX1_stretch_52 : decode cX1_stretch 52 = .ok (.bipush 9, 2) := by decide +kernel
theorem dX1_stretch_54 : decode cX1_stretch 54 = .ok (.if_icmp .eq 17, 3) := by decide +kernel
theorem dX1_stretch_57 : decode cX1_stretch 57 = .ok (.aload_n 0, 1) := by decide +kernel
theorem dX1_stretch_58 : decode cX1_stretch 58 = .ok (.getfield 7, 3) := by decide +kernel
theorem dX1_stretch_61 : decode cX1_stretch 61 = .ok (.aload_n 0, 1) := by decide +kernel
theorem dX1_stretch_62 : decode cX1_stretch 62 = .ok (.getfield 58, 3) := by decide +kernel
theorem dX1_stretch_65 : decode cX1_stretch 65 = .ok (.iaload, 1) := by decide +kernel
theorem dX1_stretch_66 : decode cX1_stretch 66 = .ok (.bipush 8, 2) := by decide +kernel
theorem dX1_stretch_68 : decode cX1_stretch 68 = .ok (.if_icmp .ne 28, 3) := by decide +kernel
theorem dX1_stretch_71 : decode cX1_stretch 71 = .ok (.aload_n 0, 1) := by decide +kernel
theorem dX1_stretch_72 : decode cX1_stretch 72 = .ok (.getfield 7, 3) := by decide +kernel
theorem dX1_stretch_75 : decode cX1_stretch 75 = .ok (.aload_n 0, 1) := by decide +kernel
theorem dX1_stretch_76 : decode cX1_stretch 76 = .ok (.getfield 58, 3) := by decide +kernel
theorem dX1_stretch_79 : decode cX1_stretch 79 = .ok (.iaload, 1) := by decide +kernel
theorem dX1_stretch_80 : decode cX1_stretch 80 = .ok (.bipush 9, 2) := by decide +kernel
theorem dX1_stretch_82 : decode cX1_stretch 82 = .ok (.if_icmp .ne 7, 3) := by decide +kernel
theorem dX1_stretch_85 : decode cX1_stretch 85 = .ok (.iconst 1, 1) := by decide +kernel
theorem dX1_stretch_86 : decode cX1_stretch 86 = .ok (.goto 4, 3) := by decide +kernel
theorem dX1_stretch_89 : decode cX1_stretch 89 = .ok (.iconst 2, 1) := by decide +kernel
theorem dX1_stretch_90 : decode cX1_stretch 90 = .ok (.istore_n 2, 1) := by decide +kernel
theorem dX1_stretch_91 : decode cX1_stretch 91 = .ok (.iconst 0, 1) := by decide +kernel
theorem dX1_stretch_92 : decode cX1_stretch 92 = .ok (.istore_n 3, 1) := by decide +kernel
theorem dX1_stretch_93 : decode cX1_stretch 93 = .ok (.goto 43, 3) := by decide +kernel
theorem dX1_stretch_96 : decode cX1_stretch 96 = .ok (.iload 4, 2) := by decide +kernel
theorem dX1_stretch_98 : decode cX1_stretch 98 = .ok (.bipush 60, 2) := by decide +kernel
theorem dX1_stretch_100 : decode cX1_stretch 100 = .ok (.if_icmp .ge 36, 3) := by decide +kernel
theorem dX1_stretch_103 : decode cX1_stretch 103 = .ok (.aload_n 0, 1) := by decide +kernel
theorem dX1_stretch_104 : decode cX1_stretch 104 = .ok (.aload_n 0, 1) := by decide +kernel
theorem dX1_stretch_105 : decode cX1_stretch 105 = .ok (.getfield 7, 3) := by decide +kernel
theorem dX1_stretch_108 : decode cX1_stretch 108 = .ok (.aload_n 0, 1) := by decide +kernel
theorem dX1_stretch_109 : decode cX1_stretch 109 = .ok (.getfield 58, 3) := by decide +kernel
theorem dX1_stretch_112 : decode cX1_stretch 112 = .ok (.iaload, 1) := by decide +kernel
theorem dX1_stretch_113 : decode cX1_stretch 113 = .ok (.aload_n 0, 1) := by decide +kernel
theorem dX1_stretch_114 : decode cX1_stretch 114 = .ok (.getfield 13, 3) := by decide +kernel
theorem dX1_stretch_117 : decode cX1_stretch 117 = .ok (.aload_n 0, 1) := by decide +kernel
theorem dX1_stretch_118 : decode cX1_stretch 118 = .ok (.getfield 58, 3) := by decide +kernel
theorem dX1_stretch_121 : decode cX1_stretch 121 = .ok (.iaload, 1) := by decide +kernel
theorem dX1_stretch_122 : decode cX1_stretch 122 = .ok (.iconst 3, 1) := by decide +kernel
theorem dX1_stretch_123 : decode cX1_stretch 123 = .ok (.iand, 1) := by decide +kernel
theorem dX1_stretch_124 : decode cX1_stretch 124 = .ok (.aload_n 0, 1) := by decide +kernel
theorem dX1_stretch_125 : decode cX1_stretch 125 = .ok (.getfield 16, 3) := by decide +kernel
theorem dX1_stretch_128 : decode cX1_stretch 128 = .ok (.aload_n 0, 1) := by decide +kernel
theorem dX1_stretch_129 : decode cX1_stretch 129 = .ok (.getfield 58, 3) := by decide +kernel
theorem dX1_stretch_132 : decode cX1_stretch 132 = .ok (.iaload, 1) := by decide +kernel
theorem dX1_stretch_133 : decode cX1_stretch 133 = .ok (.invokevirtual 75, 3) := by decide +kernel
theorem dX1_stretch_136 : decode cX1_stretch 136 = .ok (.iinc 4 1, 3) := by decide +kernel
theorem dX1_stretch_139 : decode cX1_stretch 139 = .ok (.goto (-132), 3) := by decide +kernel
theorem dX1_stretch_142 : decode cX1_stretch 142 = .ok (.aload_n 0, 1) := by decide +kernel
theorem dX1_stretch_143 : decode cX1_stretch 143 = .ok (.getfield 19, 3) := by decide +kernel
theorem dX1_stretch_146 : decode cX1_stretch 146 = .ok (.iload_n 1, 1) := by decide +kernel
theorem dX1_stretch_147 : decode cX1_stretch 147 = .ok (.iconst 1, 1) := by decide +kernel
theorem dX1_stretch_148 : decode cX1_stretch 148 = .ok (.bastore, 1) := by decide +kernel
theorem dX1_stretch_149 : decode cX1_stretch 149 = .ok (.aload_n 0, 1) := by decide +kernel
theorem dX1_stretch_150 : decode cX1_stretch 150 = .ok (.getfield 23, 3) := by decide +kernel
theorem dX1_stretch_153 : decode cX1_stretch 153 = .ok (.iload_n 1, 1) := by decide +kernel
theorem dX1_stretch_154 : decode cX1_stretch 154 = .ok (.iload_n 2, 1) := by decide +kernel
theorem dX1_stretch_155 : decode cX1_stretch 155 = .ok (.iastore, 1) := by decide +kernel
theorem dX1_stretch_156 : decode cX1_stretch 156 = .ok (.aload_n 0, 1) := by decide +kernel
theorem dX1_stretch_157 : decode cX1_stretch 157 = .ok (.getfield 26, 3) := by decide +kernel
theorem dX1_stretch_160 : decode cX1_stretch 160 = .ok (.iload_n 1, 1) := by decide +kernel
theorem dX1_stretch_161 : decode cX1_stretch 161 = .ok (.aload_n 0, 1) := by decide +kernel
theorem dX1_stretch_162 : decode cX1_stretch 162 = .ok (.getfield 58, 3) := by decide +kernel
theorem dX1_stretch_165 : decode cX1_stretch 165 = .ok (.iastore, 1) := by decide +kernel
theorem dX1_stretch_166 : decode cX1_stretch 166 = .ok (.aload_n 0, 1) := by decide +kernel
theorem dX1_stretch_167 : decode cX1_stretch 167 = .ok (.getfield 29, 3) := by decide +kernel
theorem dX1_stretch_170 : decode cX1_stretch 170 = .ok (.iload_n 1, 1) := by decide +kernel
theorem dX1_stretch_171 : decode cX1_stretch 171 = .ok (.aload_n 0, 1) := by decide +kernel
theorem dX1_stretch_172 : decode cX1_stretch 172 = .ok (.getfield 61, 3) := by decide +kernel
theorem dX1_stretch_175 : decode cX1_stretch 175 = .ok (.iastore, 1) := by decide +kernel
theorem dX1_stretch_176 : decode cX1_stretch 176 = .ok (.iconst 0, 1) := by decide +kernel
theorem dX1_stretch_177 : decode cX1_stretch 177 = .ok (.istore 4, 2) := by decide +kernel
theorem dX1_stretch_179 : decode cX1_stretch 179 = .ok (.iload 4, 2) := by decide +kernel
theorem dX1_stretch_181 : decode cX1_stretch 181 = .ok (.bipush 20, 2) := by decide +kernel
theorem dX1_stretch_183 : decode cX1_stretch 183 = .ok (.if_icmp .ge 28, 3) := by decide +kernel
theorem dX1_stretch_186 : decode cX1_stretch 186 = .ok (.aload_n 0, 1) := by decide +kernel
theorem dX1_stretch_187 : decode cX1_stretch 187 = .ok (.getfield 32, 3) := by decide +kernel
theorem dX1_stretch_190 : decode cX1_stretch 190 = .ok (.bipush 20, 2) := by decide +kernel
theorem dX1_stretch_192 : decode cX1_stretch 192 = .ok (.iload_n 1, 1) := by decide +kernel
theorem dX1_stretch_193 : decode cX1_stretch 193 = .ok (.imul, 1) := by decide +kernel
theorem dX1_stretch_194 : decode cX1_stretch 194 = .ok (.iload 4, 2) := by decide +kernel
theorem dX1_stretch_196 : decode cX1_stretch 196 = .ok (.iadd, 1) := by decide +kernel
theorem dX1_stretch_197 : decode cX1_stretch 197 = .ok (.aload_n 0, 1) := by decide +kernel
theorem dX1_stretch_198 : decode cX1_stretch 198 = .ok (.getfield 38, 3) := by decide +kernel
theorem dX1_stretch_201 : decode cX1_stretch 201 = .ok (.iload 4, 2) := by decide +kernel
theorem dX1_stretch_203 : decode cX1_stretch 203 = .ok (.iaload, 1) := by decide +kernel
theorem dX1_stretch_204 : decode cX1_stretch 204 = .ok (.iastore, 1) := by decide +kernel
theorem dX1_stretch_205 : decode cX1_stretch 205 = .ok (.iinc 4 1, 3) := by decide +kernel
theorem dX1_stretch_208 : decode cX1_stretch 208 = .ok (.goto (-29), 3) := by decide +kernel
theorem dX1_stretch_211 : decode cX1_stretch 211 = .ok (.iconst 0, 1) := by decide +kernel
theorem dX1_stretch_212 : decode cX1_stretch 212 = .ok (.istore 4, 2) := by decide +kernel
theorem dX1_stretch_214 : decode cX1_stretch 214 = .ok (.iload 4, 2) := by decide +kernel
theorem dX1_stretch_216 : decode cX1_stretch 216 = .ok (.bipush 8, 2) := by decide +kernel
theorem dX1_stretch_218 : decode cX1_stretch 218 = .ok (.if_icmp .ge 28, 3) := by decide +kernel
theorem dX1_stretch_221 : decode cX1_stretch 221 = .ok (.aload_n 0, 1) := by decide +kernel
theorem dX1_stretch_222 : decode cX1_stretch 222 = .ok (.getfield 35, 3) := by decide +kernel
theorem dX1_stretch_225 : decode cX1_stretch 225 = .ok (.bipush 8, 2) := by decide +kernel
theorem dX1_stretch_227 : decode cX1_stretch 227 = .ok (.iload_n 1, 1) := by decide +kernel
theorem dX1_stretch_228 : decode cX1_stretch 228 = .ok (.imul, 1) := by decide +kernel
theorem dX1_stretch_229 : decode cX1_stretch 229 = .ok (.iload 4, 2) := by decide +kernel
theorem dX1_stretch_231 : decode cX1_stretch 231 = .ok (.iadd, 1) := by decide +kernel
theorem dX1_stretch_232 : decode cX1_stretch 232 = .ok (.aload_n 0, 1) := by decide +kernel
theorem dX1_stretch_233 : decode cX1_stretch 233 = .ok (.getfield 41, 3) := by decide +kernel
theorem dX1_stretch_236 : decode cX1_stretch 236 = .ok (.iload 4, 2) := by decide +kernel
theorem dX1_stretch_238 : decode cX1_stretch 238 = .ok (.iaload, 1) := by decide +kernel
theorem dX1_stretch_239 : decode cX1_stretch 239 = .ok (.iastore, 1) := by decide +kernel
theorem dX1_stretch_240 : decode cX1_stretch 240 = .ok (.iinc 4 1, 3) := by decide +kernel
theorem dX1_stretch_243 : decode cX1_stretch 243 = .ok (.goto (-29), 3) := by decide +kernel
theorem dX1_stretch_246 : decode cX1_stretch 246 = .ok (.return_, 1) := by decide +kernel
abbrev cX1_carryOut : ByteArray := prog_3_method_12_code
def yX1_carryOut : MethodName := ⟨RX1, "carryOut", "(III)V"⟩
theorem dX1_carryOut_0 : decode cX1_carryOut 0 = .ok (.aload_n 0, 1) := by decide +kernel
theorem dX1_carryOut_1 : decode cX1_carryOut 1 = .ok (.getfield 58, 3) := by decide +kernel
theorem dX1_carryOut_4 : decode cX1_carryOut 4 = .ok (.iconst 1, 1) := by decide +kernel
theorem dX1_carryOut_5 : decode cX1_carryOut 5 = .ok (.iadd, 1) := by decide +kernel
theorem dX1_carryOut_6 : decode cX1_carryOut 6 = .ok (.istore 4, 2) := by decide +kernel
theorem dX1_carryOut_8 : decode cX1_carryOut 8 = .ok (.iload_n 1, 1) := by decide +kernel
theorem dX1_carryOut_9 : decode cX1_carryOut 9 = .ok (.ifCond .ne 13, 3) := by decide +kernel
theorem dX1_carryOut_12 : decode cX1_carryOut 12 = .ok (.aload_n 0, 1) := by decide +kernel
theorem dX1_carryOut_13 : decode cX1_carryOut 13 = .ok (.getfield 38, 3) := by decide +kernel
theorem dX1_carryOut_16 : decode cX1_carryOut 16 = .ok (.iload_n 2, 1) := by decide +kernel
theorem dX1_carryOut_17 : decode cX1_carryOut 17 = .ok (.iload_n 3, 1) := by decide +kernel
theorem dX1_carryOut_18 : decode cX1_carryOut 18 = .ok (.iastore, 1) := by decide +kernel
theorem dX1_carryOut_19 : decode cX1_carryOut 19 = .ok (.goto 221, 3) := by decide +kernel
theorem dX1_carryOut_22 : decode cX1_carryOut 22 = .ok (.iload_n 1, 1) := by decide +kernel
theorem dX1_carryOut_23 : decode cX1_carryOut 23 = .ok (.iconst 1, 1) := by decide +kernel
theorem dX1_carryOut_24 : decode cX1_carryOut 24 = .ok (.if_icmp .ne 27, 3) := by decide +kernel
theorem dX1_carryOut_27 : decode cX1_carryOut 27 = .ok (.aload_n 0, 1) := by decide +kernel
theorem dX1_carryOut_28 : decode cX1_carryOut 28 = .ok (.getfield 38, 3) := by decide +kernel
theorem dX1_carryOut_31 : decode cX1_carryOut 31 = .ok (.iload_n 2, 1) := by decide +kernel
theorem dX1_carryOut_32 : decode cX1_carryOut 32 = .ok (.aload_n 0, 1) := by decide +kernel
theorem dX1_carryOut_33 : decode cX1_carryOut 33 = .ok (.getfield 38, 3) := by decide +kernel
theorem dX1_carryOut_36 : decode cX1_carryOut 36 = .ok (.iload_n 2, 1) := by decide +kernel
theorem dX1_carryOut_37 : decode cX1_carryOut 37 = .ok (.iaload, 1) := by decide +kernel
theorem dX1_carryOut_38 : decode cX1_carryOut 38 = .ok (.aload_n 0, 1) := by decide +kernel
theorem dX1_carryOut_39 : decode cX1_carryOut 39 = .ok (.getfield 38, 3) := by decide +kernel
theorem dX1_carryOut_42 : decode cX1_carryOut 42 = .ok (.iload_n 3, 1) := by decide +kernel
theorem dX1_carryOut_43 : decode cX1_carryOut 43 = .ok (.iconst 3, 1) := by decide +kernel
theorem dX1_carryOut_44 : decode cX1_carryOut 44 = .ok (.iand, 1) := by decide +kernel
theorem dX1_carryOut_45 : decode cX1_carryOut 45 = .ok (.iaload, 1) := by decide +kernel
theorem dX1_carryOut_46 : decode cX1_carryOut 46 = .ok (.iadd, 1) := by decide +kernel
theorem dX1_carryOut_47 : decode cX1_carryOut 47 = .ok (.iastore, 1) := by decide +kernel
theorem dX1_carryOut_48 : decode cX1_carryOut 48 = .ok (.goto 192, 3) := by decide +kernel
theorem dX1_carryOut_51 : decode cX1_carryOut 51 = .ok (.iload_n 1, 1) := by decide +kernel
theorem dX1_carryOut_52 : decode cX1_carryOut 52 = .ok (.iconst 2, 1) := by decide +kernel
theorem dX1_carryOut_53 : decode cX1_carryOut 53 = .ok (.if_icmp .ne 27, 3) := by decide +kernel
theorem dX1_carryOut_56 : decode cX1_carryOut 56 = .ok (.aload_n 0, 1) := by decide +kernel
theorem dX1_carryOut_57 : decode cX1_carryOut 57 = .ok (.getfield 38, 3) := by decide +kernel
theorem dX1_carryOut_60 : decode cX1_carryOut 60 = .ok (.iload_n 2, 1) := by decide +kernel
theorem dX1_carryOut_61 : decode cX1_carryOut 61 = .ok (.aload_n 0, 1) := by decide +kernel
theorem dX1_carryOut_62 : decode cX1_carryOut 62 = .ok (.getfield 38, 3) := by decide +kernel
theorem dX1_carryOut_65 : decode cX1_carryOut 65 = .ok (.iload_n 2, 1) := by decide +kernel
theorem dX1_carryOut_66 : decode cX1_carryOut 66 = .ok (.iaload, 1) := by decide +kernel
theorem dX1_carryOut_67 : decode cX1_carryOut 67 = .ok (.aload_n 0, 1) := by decide +kernel
theorem dX1_carryOut_68 : decode cX1_carryOut 68 = .ok (.getfield 38, 3) := by decide +kernel
theorem dX1_carryOut_71 : decode cX1_carryOut 71 = .ok (.iload_n 3, 1) := by decide +kernel
theorem dX1_carryOut_72 : decode cX1_carryOut 72 = .ok (.iconst 3, 1) := by decide +kernel
theorem dX1_carryOut_73 : decode cX1_carryOut 73 = .ok (.iand, 1) := by decide +kernel
theorem dX1_carryOut_74 : decode cX1_carryOut 74 = .ok (.iaload, 1) := by decide +kernel
theorem dX1_carryOut_75 : decode cX1_carryOut 75 = .ok (.isub, 1) := by decide +kernel
theorem dX1_carryOut_76 : decode cX1_carryOut 76 = .ok (.iastore, 1) := by decide +kernel
theorem dX1_carryOut_77 : decode cX1_carryOut 77 = .ok (.goto 163, 3) := by decide +kernel
theorem dX1_carryOut_80 : decode cX1_carryOut 80 = .ok (.iload_n 1, 1) := by decide +kernel
theorem dX1_carryOut_81 : decode cX1_carryOut 81 = .ok (.iconst 3, 1) := by decide +kernel
theorem dX1_carryOut_82 : decode cX1_carryOut 82 = .ok (.if_icmp .ne 30, 3) := by decide +kernel
theorem dX1_carryOut_85 : decode cX1_carryOut 85 = .ok (.aload_n 0, 1) := by decide +kernel
theorem dX1_carryOut_86 : decode cX1_carryOut 86 = .ok (.getfield 38, 3) := by decide +kernel
theorem dX1_carryOut_89 : decode cX1_carryOut 89 = .ok (.iload_n 2, 1) := by decide +kernel
theorem dX1_carryOut_90 : decode cX1_carryOut 90 = .ok (.aload_n 0, 1) := by decide +kernel
theorem dX1_carryOut_91 : decode cX1_carryOut 91 = .ok (.getfield 38, 3) := by decide +kernel
theorem dX1_carryOut_94 : decode cX1_carryOut 94 = .ok (.iconst 4, 1) := by decide +kernel
theorem dX1_carryOut_95 : decode cX1_carryOut 95 = .ok (.aload_n 0, 1) := by decide +kernel
theorem dX1_carryOut_96 : decode cX1_carryOut 96 = .ok (.getfield 38, 3) := by decide +kernel
theorem dX1_carryOut_99 : decode cX1_carryOut 99 = .ok (.iload_n 3, 1) := by decide +kernel
theorem dX1_carryOut_100 : decode cX1_carryOut 100 = .ok (.iconst 3, 1) := by decide +kernel
theorem dX1_carryOut_101 : decode cX1_carryOut 101 = .ok (.iand, 1) := by decide +kernel
theorem dX1_carryOut_102 : decode cX1_carryOut 102 = .ok (.iaload, 1) := by decide +kernel
theorem dX1_carryOut_103 : decode cX1_carryOut 103 = .ok (.bipush 15, 2) := by decide +kernel
theorem dX1_carryOut_105 : decode cX1_carryOut 105 = .ok (.iand, 1) := by decide +kernel
theorem dX1_carryOut_106 : decode cX1_carryOut 106 = .ok (.iadd, 1) := by decide +kernel
theorem dX1_carryOut_107 : decode cX1_carryOut 107 = .ok (.iaload, 1) := by decide +kernel
theorem dX1_carryOut_108 : decode cX1_carryOut 108 = .ok (.iastore, 1) := by decide +kernel
theorem dX1_carryOut_109 : decode cX1_carryOut 109 = .ok (.goto 131, 3) := by decide +kernel
theorem dX1_carryOut_112 : decode cX1_carryOut 112 = .ok (.iload_n 1, 1) := by decide +kernel
theorem dX1_carryOut_113 : decode cX1_carryOut 113 = .ok (.iconst 4, 1) := by decide +kernel
theorem dX1_carryOut_114 : decode cX1_carryOut 114 = .ok (.if_icmp .ne 30, 3) := by decide +kernel
theorem dX1_carryOut_117 : decode cX1_carryOut 117 = .ok (.aload_n 0, 1) := by decide +kernel
theorem dX1_carryOut_118 : decode cX1_carryOut 118 = .ok (.getfield 38, 3) := by decide +kernel
theorem dX1_carryOut_121 : decode cX1_carryOut 121 = .ok (.iconst 4, 1) := by decide +kernel
theorem dX1_carryOut_122 : decode cX1_carryOut 122 = .ok (.aload_n 0, 1) := by decide +kernel
theorem dX1_carryOut_123 : decode cX1_carryOut 123 = .ok (.getfield 38, 3) := by decide +kernel
theorem dX1_carryOut_126 : decode cX1_carryOut 126 = .ok (.iload_n 3, 1) := by decide +kernel
theorem dX1_carryOut_127 : decode cX1_carryOut 127 = .ok (.iconst 3, 1) := by decide +kernel
theorem dX1_carryOut_128 : decode cX1_carryOut 128 = .ok (.iand, 1) := by decide +kernel
theorem dX1_carryOut_129 : decode cX1_carryOut 129 = .ok (.iaload, 1) := by decide +kernel
theorem dX1_carryOut_130 : decode cX1_carryOut 130 = .ok (.bipush 15, 2) := by decide +kernel
theorem dX1_carryOut_132 : decode cX1_carryOut 132 = .ok (.iand, 1) := by decide +kernel
theorem dX1_carryOut_133 : decode cX1_carryOut 133 = .ok (.iadd, 1) := by decide +kernel
theorem dX1_carryOut_134 : decode cX1_carryOut 134 = .ok (.aload_n 0, 1) := by decide +kernel
theorem dX1_carryOut_135 : decode cX1_carryOut 135 = .ok (.getfield 38, 3) := by decide +kernel
theorem dX1_carryOut_138 : decode cX1_carryOut 138 = .ok (.iload_n 2, 1) := by decide +kernel
theorem dX1_carryOut_139 : decode cX1_carryOut 139 = .ok (.iaload, 1) := by decide +kernel
theorem dX1_carryOut_140 : decode cX1_carryOut 140 = .ok (.iastore, 1) := by decide +kernel
theorem dX1_carryOut_141 : decode cX1_carryOut 141 = .ok (.goto 99, 3) := by decide +kernel
theorem dX1_carryOut_144 : decode cX1_carryOut 144 = .ok (.iload_n 1, 1) := by decide +kernel
theorem dX1_carryOut_145 : decode cX1_carryOut 145 = .ok (.iconst 5, 1) := by decide +kernel
theorem dX1_carryOut_146 : decode cX1_carryOut 146 = .ok (.if_icmp .ne 23, 3) := by decide +kernel
theorem dX1_carryOut_149 : decode cX1_carryOut 149 = .ok (.aload_n 0, 1) := by decide +kernel
theorem dX1_carryOut_150 : decode cX1_carryOut 150 = .ok (.getfield 38, 3) := by decide +kernel
theorem dX1_carryOut_153 : decode cX1_carryOut 153 = .ok (.iload_n 2, 1) := by decide +kernel
theorem dX1_carryOut_154 : decode cX1_carryOut 154 = .ok (.iaload, 1) := by decide +kernel
theorem dX1_carryOut_155 : decode cX1_carryOut 155 = .ok (.ifCond .ne 7, 3) := by decide +kernel
theorem dX1_carryOut_158 : decode cX1_carryOut 158 = .ok (.iload_n 3, 1) := by decide +kernel
theorem dX1_carryOut_159 : decode cX1_carryOut 159 = .ok (.goto 5, 3) := by decide +kernel
theorem dX1_carryOut_162 : decode cX1_carryOut 162 = .ok (.iload 4, 2) := by decide +kernel
theorem dX1_carryOut_164 : decode cX1_carryOut 164 = .ok (.istore 4, 2) := by decide +kernel
theorem dX1_carryOut_166 : decode cX1_carryOut 166 = .ok (.goto 74, 3) := by decide +kernel
theorem dX1_carryOut_169 : decode cX1_carryOut 169 = .ok (.iload_n 1, 1) := by decide +kernel
theorem dX1_carryOut_170 : decode cX1_carryOut 170 = .ok (.bipush 6, 2) := by decide +kernel
theorem dX1_carryOut_172 : decode cX1_carryOut 172 = .ok (.if_icmp .ne 9, 3) := by decide +kernel
theorem dX1_carryOut_175 : decode cX1_carryOut 175 = .ok (.iload_n 3, 1) := by decide +kernel
theorem dX1_carryOut_176 : decode cX1_carryOut 176 = .ok (.istore 4, 2) := by decide +kernel
theorem dX1_carryOut_178 : decode cX1_carryOut 178 = .ok (.goto 62, 3) := by decide +kernel
theorem dX1_carryOut_181 : decode cX1_carryOut 181 = .ok (.iload_n 1, 1) := by decide +kernel
theorem dX1_carryOut_182 : decode cX1_carryOut 182 = .ok (.bipush 7, 2) := by decide +kernel
theorem dX1_carryOut_184 : decode cX1_carryOut 184 = .ok (.if_icmp .ne 56, 3) := by decide +kernel
theorem dX1_carryOut_187 : decode cX1_carryOut 187 = .ok (.bipush 7, 2) := by decide +kernel
theorem dX1_carryOut_189 : decode cX1_carryOut 189 = .ok (.istore 5, 2) := by decide +kernel
theorem dX1_carryOut_191 : decode cX1_carryOut 191 = .ok (.iload 5, 2) := by decide +kernel
theorem dX1_carryOut_193 : decode cX1_carryOut 193 = .ok (.ifCond .le 25, 3) := by decide +kernel
theorem dX1_carryOut_196 : decode cX1_carryOut 196 = .ok (.aload_n 0, 1) := by decide +kernel
theorem dX1_carryOut_197 : decode cX1_carryOut 197 = .ok (.getfield 41, 3) := by decide +kernel
theorem dX1_carryOut_200 : decode cX1_carryOut 200 = .ok (.iload 5, 2) := by decide +kernel
theorem dX1_carryOut_202 : decode cX1_carryOut 202 = .ok (.aload_n 0, 1) := by decide +kernel
theorem dX1_carryOut_203 : decode cX1_carryOut 203 = .ok (.getfield 41, 3) := by decide +kernel
theorem dX1_carryOut_206 : decode cX1_carryOut 206 = .ok (.iload 5, 2) := by decide +kernel
theorem dX1_carryOut_208 : decode cX1_carryOut 208 = .ok (.iconst 1, 1) := by decide +kernel
theorem dX1_carryOut_209 : decode cX1_carryOut 209 = .ok (.isub, 1) := by decide +kernel
theorem dX1_carryOut_210 : decode cX1_carryOut 210 = .ok (.iaload, 1) := by decide +kernel
theorem dX1_carryOut_211 : decode cX1_carryOut 211 = .ok (.iastore, 1) := by decide +kernel
theorem dX1_carryOut_212 : decode cX1_carryOut 212 = .ok (.iinc 5 (-1), 3) := by decide +kernel
theorem dX1_carryOut_215 : decode cX1_carryOut 215 = .ok (.goto (-24), 3) := by decide +kernel
theorem dX1_carryOut_218 : decode cX1_carryOut 218 = .ok (.aload_n 0, 1) := by decide +kernel
theorem dX1_carryOut_219 : decode cX1_carryOut 219 = .ok (.getfield 41, 3) := by decide +kernel
theorem dX1_carryOut_222 : decode cX1_carryOut 222 = .ok (.iconst 0, 1) := by decide +kernel
theorem dX1_carryOut_223 : decode cX1_carryOut 223 = .ok (.aload_n 0, 1) := by decide +kernel
theorem dX1_carryOut_224 : decode cX1_carryOut 224 = .ok (.getfield 38, 3) := by decide +kernel
theorem dX1_carryOut_227 : decode cX1_carryOut 227 = .ok (.iload_n 2, 1) := by decide +kernel
theorem dX1_carryOut_228 : decode cX1_carryOut 228 = .ok (.iaload, 1) := by decide +kernel
theorem dX1_carryOut_229 : decode cX1_carryOut 229 = .ok (.iastore, 1) := by decide +kernel
theorem dX1_carryOut_230 : decode cX1_carryOut 230 = .ok (.aload_n 0, 1) := by decide +kernel
theorem dX1_carryOut_231 : decode cX1_carryOut 231 = .ok (.dup, 1) := by decide +kernel
theorem dX1_carryOut_232 : decode cX1_carryOut 232 = .ok (.getfield 61, 3) := by decide +kernel
theorem dX1_carryOut_235 : decode cX1_carryOut 235 = .ok (.iconst 1, 1) := by decide +kernel
theorem dX1_carryOut_236 : decode cX1_carryOut 236 = .ok (.iadd, 1) := by decide +kernel
theorem dX1_carryOut_237 : decode cX1_carryOut 237 = .ok (.putfield 61, 3) := by decide +kernel
theorem dX1_carryOut_240 : decode cX1_carryOut 240 = .ok (.aload_n 0, 1) := by decide +kernel
theorem dX1_carryOut_241 : decode cX1_carryOut 241 = .ok (.iload 4, 2) := by decide +kernel
theorem dX1_carryOut_243 : decode cX1_carryOut 243 = .ok (.putfield 58, 3) := by decide +kernel
theorem dX1_carryOut_246 : decode cX1_carryOut 246 = .ok (.return_, 1) := by decide +kernel
end
section
set_option maxRecDepth 100000
abbrev cX1_answer : ByteArray := prog_3_method_9_code
def yX1_answer : MethodName := ⟨RX1, "answer", "(II)I"⟩
theorem dX1_answer_0 : decode cX1_answer 0 = .ok (.aload_n 0, 1) := by decide +kernel
theorem dX1_answer_1 : decode cX1_answer 1 = .ok (.iload_n 1, 1) := by decide +kernel
theorem dX1_answer_2 : decode cX1_answer 2 = .ok (.iconst 2, 1) := by decide +kernel
theorem dX1_answer_3 : decode cX1_answer 3 = .ok (.invokevirtual 68, 3) := by decide +kernel
theorem dX1_answer_6 : decode cX1_answer 6 = .ok (.ifCond .ne 5, 3) := by decide +kernel
theorem dX1_answer_9 : decode cX1_answer 9 = .ok (.iconst (-1), 1) := by decide +kernel
theorem dX1_answer_10 : decode cX1_answer 10 = .ok (.ireturn, 1) := by decide +kernel
theorem dX1_answer_11 : decode cX1_answer 11 = .ok (.aload_n 0, 1) := by decide +kernel
theorem dX1_answer_12 : decode cX1_answer 12 = .ok (.invokevirtual 55, 3) := by decide +kernel
theorem dX1_answer_15 : decode cX1_answer 15 = .ok (.istore_n 3, 1) := by decide +kernel
theorem dX1_answer_16 : decode cX1_answer 16 = .ok (.iload_n 3, 1) := by decide +kernel
theorem dX1_answer_17 : decode cX1_answer 17 = .ok (.ifCond .ge 6, 3) := by decide +kernel
theorem dX1_answer_20 : decode cX1_answer 20 = .ok (.bipush (-2), 2) := by decide +kernel
theorem dX1_answer_22 : decode cX1_answer 22 = .ok (.ireturn, 1) := by decide +kernel
theorem dX1_answer_23 : decode cX1_answer 23 = .ok (.aload_n 0, 1) := by decide +kernel
theorem dX1_answer_24 : decode cX1_answer 24 = .ok (.iload_n 1, 1) := by decide +kernel
theorem dX1_answer_25 : decode cX1_answer 25 = .ok (.invokevirtual 72, 3) := by decide +kernel
theorem dX1_answer_28 : decode cX1_answer 28 = .ok (.aload_n 0, 1) := by decide +kernel
theorem dX1_answer_29 : decode cX1_answer 29 = .ok (.getfield 38, 3) := by decide +kernel
theorem dX1_answer_32 : decode cX1_answer 32 = .ok (.aload_n 0, 1) := by decide +kernel
theorem dX1_answer_33 : decode cX1_answer 33 = .ok (.getfield 13, 3) := by decide +kernel
theorem dX1_answer_36 : decode cX1_answer 36 = .ok (.aload_n 0, 1) := by decide +kernel
theorem dX1_answer_37 : decode cX1_answer 37 = .ok (.getfield 58, 3) := by decide +kernel
theorem dX1_answer_40 : decode cX1_answer 40 = .ok (.bipush 15, 2) := by decide +kernel
theorem dX1_answer_42 : decode cX1_answer 42 = .ok (.iand, 1) := by decide +kernel
theorem dX1_answer_43 : decode cX1_answer 43 = .ok (.iaload, 1) := by decide +kernel
theorem dX1_answer_44 : decode cX1_answer 44 = .ok (.iconst 3, 1) := by decide +kernel
theorem dX1_answer_45 : decode cX1_answer 45 = .ok (.iand, 1) := by decide +kernel
theorem dX1_answer_46 : decode cX1_answer 46 = .ok (.iload_n 2, 1) := by decide +kernel
theorem dX1_answer_47 : decode cX1_answer 47 = .ok (.iastore, 1) := by decide +kernel
theorem dX1_answer_48 : decode cX1_answer 48 = .ok (.aload_n 0, 1) := by decide +kernel
theorem dX1_answer_49 : decode cX1_answer 49 = .ok (.dup, 1) := by decide +kernel
theorem dX1_answer_50 : decode cX1_answer 50 = .ok (.getfield 58, 3) := by decide +kernel
theorem dX1_answer_53 : decode cX1_answer 53 = .ok (.iconst 1, 1) := by decide +kernel
theorem dX1_answer_54 : decode cX1_answer 54 = .ok (.iadd, 1) := by decide +kernel
theorem dX1_answer_55 : decode cX1_answer 55 = .ok (.putfield 58, 3) := by decide +kernel
theorem dX1_answer_58 : decode cX1_answer 58 = .ok (.aload_n 0, 1) := by decide +kernel
theorem dX1_answer_59 : decode cX1_answer 59 = .ok (.iload_n 3, 1) := by decide +kernel
theorem dX1_answer_60 : decode cX1_answer 60 = .ok (.invokevirtual 64, 3) := by decide +kernel
theorem dX1_answer_63 : decode cX1_answer 63 = .ok (.iload_n 3, 1) := by decide +kernel
theorem dX1_answer_64 : decode cX1_answer 64 = .ok (.ireturn, 1) := by decide +kernel
abbrev cX1_is : ByteArray := prog_3_method_8_code
def yX1_is : MethodName := ⟨RX1, "is", "(II)Z"⟩
theorem dX1_is_0 : decode cX1_is 0 = .ok (.iload_n 1, 1) := by decide +kernel
theorem dX1_is_1 : decode cX1_is 1 = .ok (.ifCond .lt 32, 3) := by decide +kernel
theorem dX1_is_4 : decode cX1_is 4 = .ok (.iload_n 1, 1) := by decide +kernel
theorem dX1_is_5 : decode cX1_is 5 = .ok (.bipush 12, 2) := by decide +kernel
theorem dX1_is_7 : decode cX1_is 7 = .ok (.if_icmp .ge 26, 3) := by decide +kernel
theorem dX1_is_10 : decode cX1_is 10 = .ok (.aload_n 0, 1) := by decide +kernel
theorem dX1_is_11 : decode cX1_is 11 = .ok (.getfield 19, 3) := by decide +kernel
theorem dX1_is_14 : decode cX1_is 14 = .ok (.iload_n 1, 1) := by decide +kernel
theorem dX1_is_15 : decode cX1_is 15 = .ok (.baload, 1) := by decide +kernel
theorem dX1_is_16 : decode cX1_is 16 = .ok (.ifCond .eq 17, 3) := by decide +kernel
theorem dX1_is_19 : decode cX1_is 19 = .ok (.aload_n 0, 1) := by decide +kernel
theorem dX1_is_20 : decode cX1_is 20 = .ok (.getfield 23, 3) := by decide +kernel
theorem dX1_is_23 : decode cX1_is 23 = .ok (.iload_n 1, 1) := by decide +kernel
theorem dX1_is_24 : decode cX1_is 24 = .ok (.iaload, 1) := by decide +kernel
theorem dX1_is_25 : decode cX1_is 25 = .ok (.iload_n 2, 1) := by decide +kernel
theorem dX1_is_26 : decode cX1_is 26 = .ok (.if_icmp .ne 7, 3) := by decide +kernel
theorem dX1_is_29 : decode cX1_is 29 = .ok (.iconst 1, 1) := by decide +kernel
theorem dX1_is_30 : decode cX1_is 30 = .ok (.goto 4, 3) := by decide +kernel
theorem dX1_is_33 : decode cX1_is 33 = .ok (.iconst 0, 1) := by decide +kernel
theorem dX1_is_34 : decode cX1_is 34 = .ok (.ireturn, 1) := by decide +kernel
abbrev cX1_take : ByteArray := prog_3_method_7_code
def yX1_take : MethodName := ⟨RX1, "take", "(I)V"⟩
theorem dX1_take_0 : decode cX1_take 0 = .ok (.aload_n 0, 1) := by decide +kernel
theorem dX1_take_1 : decode cX1_take 1 = .ok (.aload_n 0, 1) := by decide +kernel
theorem dX1_take_2 : decode cX1_take 2 = .ok (.getfield 26, 3) := by decide +kernel
theorem dX1_take_5 : decode cX1_take 5 = .ok (.iload_n 1, 1) := by decide +kernel
theorem dX1_take_6 : decode cX1_take 6 = .ok (.iaload, 1) := by decide +kernel
theorem dX1_take_7 : decode cX1_take 7 = .ok (.putfield 58, 3) := by decide +kernel
theorem dX1_take_10 : decode cX1_take 10 = .ok (.aload_n 0, 1) := by decide +kernel
theorem dX1_take_11 : decode cX1_take 11 = .ok (.aload_n 0, 1) := by decide +kernel
theorem dX1_take_12 : decode cX1_take 12 = .ok (.getfield 29, 3) := by decide +kernel
theorem dX1_take_15 : decode cX1_take 15 = .ok (.iload_n 1, 1) := by decide +kernel
theorem dX1_take_16 : decode cX1_take 16 = .ok (.iaload, 1) := by decide +kernel
theorem dX1_take_17 : decode cX1_take 17 = .ok (.putfield 61, 3) := by decide +kernel
theorem dX1_take_20 : decode cX1_take 20 = .ok (.iconst 0, 1) := by decide +kernel
theorem dX1_take_21 : decode cX1_take 21 = .ok (.istore_n 2, 1) := by decide +kernel
theorem dX1_take_22 : decode cX1_take 22 = .ok (.iload_n 2, 1) := by decide +kernel
theorem dX1_take_23 : decode cX1_take 23 = .ok (.bipush 20, 2) := by decide +kernel
theorem dX1_take_25 : decode cX1_take 25 = .ok (.if_icmp .ge 26, 3) := by decide +kernel
theorem dX1_take_28 : decode cX1_take 28 = .ok (.aload_n 0, 1) := by decide +kernel
theorem dX1_take_29 : decode cX1_take 29 = .ok (.getfield 38, 3) := by decide +kernel
theorem dX1_take_32 : decode cX1_take 32 = .ok (.iload_n 2, 1) := by decide +kernel
theorem dX1_take_33 : decode cX1_take 33 = .ok (.aload_n 0, 1) := by decide +kernel
theorem dX1_take_34 : decode cX1_take 34 = .ok (.getfield 32, 3) := by decide +kernel
theorem dX1_take_37 : decode cX1_take 37 = .ok (.bipush 20, 2) := by decide +kernel
theorem dX1_take_39 : decode cX1_take 39 = .ok (.iload_n 1, 1) := by decide +kernel
theorem dX1_take_40 : decode cX1_take 40 = .ok (.imul, 1) := by decide +kernel
theorem dX1_take_41 : decode cX1_take 41 = .ok (.iload_n 2, 1) := by decide +kernel
theorem dX1_take_42 : decode cX1_take 42 = .ok (.iadd, 1) := by decide +kernel
theorem dX1_take_43 : decode cX1_take 43 = .ok (.iaload, 1) := by decide +kernel
theorem dX1_take_44 : decode cX1_take 44 = .ok (.iastore, 1) := by decide +kernel
theorem dX1_take_45 : decode cX1_take 45 = .ok (.iinc 2 1, 3) := by decide +kernel
theorem dX1_take_48 : decode cX1_take 48 = .ok (.goto (-26), 3) := by decide +kernel
theorem dX1_take_51 : decode cX1_take 51 = .ok (.iconst 0, 1) := by decide +kernel
theorem dX1_take_52 : decode cX1_take 52 = .ok (.istore_n 2, 1) := by decide +kernel
theorem dX1_take_53 : decode cX1_take 53 = .ok (.iload_n 2, 1) := by decide +kernel
theorem dX1_take_54 : decode cX1_take 54 = .ok (.bipush 8, 2) := by decide +kernel
theorem dX1_take_56 : decode cX1_take 56 = .ok (.if_icmp .ge 26, 3) := by decide +kernel
theorem dX1_take_59 : decode cX1_take 59 = .ok (.aload_n 0, 1) := by decide +kernel
theorem dX1_take_60 : decode cX1_take 60 = .ok (.getfield 41, 3) := by decide +kernel
theorem dX1_take_63 : decode cX1_take 63 = .ok (.iload_n 2, 1) := by decide +kernel
theorem dX1_take_64 : decode cX1_take 64 = .ok (.aload_n 0, 1) := by decide +kernel
theorem dX1_take_65 : decode cX1_take 65 = .ok (.getfield 35, 3) := by decide +kernel
theorem dX1_take_68 : decode cX1_take 68 = .ok (.bipush 8, 2) := by decide +kernel
theorem dX1_take_70 : decode cX1_take 70 = .ok (.iload_n 1, 1) := by decide +kernel
theorem dX1_take_71 : decode cX1_take 71 = .ok (.imul, 1) := by decide +kernel
theorem dX1_take_72 : decode cX1_take 72 = .ok (.iload_n 2, 1) := by decide +kernel
theorem dX1_take_73 : decode cX1_take 73 = .ok (.iadd, 1) := by decide +kernel
theorem dX1_take_74 : decode cX1_take 74 = .ok (.iaload, 1) := by decide +kernel
theorem dX1_take_75 : decode cX1_take 75 = .ok (.iastore, 1) := by decide +kernel
theorem dX1_take_76 : decode cX1_take 76 = .ok (.iinc 2 1, 3) := by decide +kernel
theorem dX1_take_79 : decode cX1_take 79 = .ok (.goto (-26), 3) := by decide +kernel
theorem dX1_take_82 : decode cX1_take 82 = .ok (.return_, 1) := by decide +kernel
abbrev cX1_goOn : ByteArray := prog_3_method_10_code
def yX1_goOn : MethodName := ⟨RX1, "goOn", "(I)I"⟩
theorem dX1_goOn_0 : decode cX1_goOn 0 = .ok (.aload_n 0, 1) := by decide +kernel
theorem dX1_goOn_1 : decode cX1_goOn 1 = .ok (.iload_n 1, 1) := by decide +kernel
theorem dX1_goOn_2 : decode cX1_goOn 2 = .ok (.iconst 3, 1) := by decide +kernel
theorem dX1_goOn_3 : decode cX1_goOn 3 = .ok (.invokevirtual 68, 3) := by decide +kernel
theorem dX1_goOn_6 : decode cX1_goOn 6 = .ok (.ifCond .ne 5, 3) := by decide +kernel
theorem dX1_goOn_9 : decode cX1_goOn 9 = .ok (.iconst (-1), 1) := by decide +kernel
theorem dX1_goOn_10 : decode cX1_goOn 10 = .ok (.ireturn, 1) := by decide +kernel
theorem dX1_goOn_11 : decode cX1_goOn 11 = .ok (.aload_n 0, 1) := by decide +kernel
theorem dX1_goOn_12 : decode cX1_goOn 12 = .ok (.invokevirtual 55, 3) := by decide +kernel
theorem dX1_goOn_15 : decode cX1_goOn 15 = .ok (.istore_n 2, 1) := by decide +kernel
theorem dX1_goOn_16 : decode cX1_goOn 16 = .ok (.iload_n 2, 1) := by decide +kernel
theorem dX1_goOn_17 : decode cX1_goOn 17 = .ok (.ifCond .ge 6, 3) := by decide +kernel
theorem dX1_goOn_20 : decode cX1_goOn 20 = .ok (.bipush (-2), 2) := by decide +kernel
theorem dX1_goOn_22 : decode cX1_goOn 22 = .ok (.ireturn, 1) := by decide +kernel
theorem dX1_goOn_23 : decode cX1_goOn 23 = .ok (.aload_n 0, 1) := by decide +kernel
theorem dX1_goOn_24 : decode cX1_goOn 24 = .ok (.iload_n 1, 1) := by decide +kernel
theorem dX1_goOn_25 : decode cX1_goOn 25 = .ok (.invokevirtual 72, 3) := by decide +kernel
theorem dX1_goOn_28 : decode cX1_goOn 28 = .ok (.aload_n 0, 1) := by decide +kernel
theorem dX1_goOn_29 : decode cX1_goOn 29 = .ok (.iload_n 2, 1) := by decide +kernel
theorem dX1_goOn_30 : decode cX1_goOn 30 = .ok (.invokevirtual 64, 3) := by decide +kernel
theorem dX1_goOn_33 : decode cX1_goOn 33 = .ok (.iload_n 2, 1) := by decide +kernel
theorem dX1_goOn_34 : decode cX1_goOn 34 = .ok (.ireturn, 1) := by decide +kernel
abbrev cX1_forget : ByteArray := prog_3_method_13_code
def yX1_forget : MethodName := ⟨RX1, "forget", "(I)Z"⟩
theorem dX1_forget_0 : decode cX1_forget 0 = .ok (.iload_n 1, 1) := by decide +kernel
theorem dX1_forget_1 : decode cX1_forget 1 = .ok (.ifCond .lt 18, 3) := by decide +kernel
theorem dX1_forget_4 : decode cX1_forget 4 = .ok (.iload_n 1, 1) := by decide +kernel
theorem dX1_forget_5 : decode cX1_forget 5 = .ok (.bipush 12, 2) := by decide +kernel
theorem dX1_forget_7 : decode cX1_forget 7 = .ok (.if_icmp .ge 12, 3) := by decide +kernel
theorem dX1_forget_10 : decode cX1_forget 10 = .ok (.aload_n 0, 1) := by decide +kernel
theorem dX1_forget_11 : decode cX1_forget 11 = .ok (.getfield 19, 3) := by decide +kernel
theorem dX1_forget_14 : decode cX1_forget 14 = .ok (.iload_n 1, 1) := by decide +kernel
theorem dX1_forget_15 : decode cX1_forget 15 = .ok (.baload, 1) := by decide +kernel
theorem dX1_forget_16 : decode cX1_forget 16 = .ok (.ifCond .ne 5, 3) := by decide +kernel
theorem dX1_forget_19 : decode cX1_forget 19 = .ok (.iconst 0, 1) := by decide +kernel
theorem dX1_forget_20 : decode cX1_forget 20 = .ok (.ireturn, 1) := by decide +kernel
theorem dX1_forget_21 : decode cX1_forget 21 = .ok (.aload_n 0, 1) := by decide +kernel
theorem dX1_forget_22 : decode cX1_forget 22 = .ok (.getfield 19, 3) := by decide +kernel
theorem dX1_forget_25 : decode cX1_forget 25 = .ok (.iload_n 1, 1) := by decide +kernel
theorem dX1_forget_26 : decode cX1_forget 26 = .ok (.iconst 0, 1) := by decide +kernel
theorem dX1_forget_27 : decode cX1_forget 27 = .ok (.bastore, 1) := by decide +kernel
theorem dX1_forget_28 : decode cX1_forget 28 = .ok (.iconst 1, 1) := by decide +kernel
theorem dX1_forget_29 : decode cX1_forget 29 = .ok (.ireturn, 1) := by decide +kernel
abbrev cX1_kind : ByteArray := prog_3_method_16_code
def yX1_kind : MethodName := ⟨RX1, "kind", "(I)I"⟩
theorem dX1_kind_0 : decode cX1_kind 0 = .ok (.aload_n 0, 1) := by decide +kernel
theorem dX1_kind_1 : decode cX1_kind 1 = .ok (.iload_n 1, 1) := by decide +kernel
theorem dX1_kind_2 : decode cX1_kind 2 = .ok (.invokevirtual 79, 3) := by decide +kernel
theorem dX1_kind_5 : decode cX1_kind 5 = .ok (.ifCond .eq 12, 3) := by decide +kernel
theorem dX1_kind_8 : decode cX1_kind 8 = .ok (.aload_n 0, 1) := by decide +kernel
theorem dX1_kind_9 : decode cX1_kind 9 = .ok (.getfield 23, 3) := by decide +kernel
theorem dX1_kind_12 : decode cX1_kind 12 = .ok (.iload_n 1, 1) := by decide +kernel
theorem dX1_kind_13 : decode cX1_kind 13 = .ok (.iaload, 1) := by decide +kernel
theorem dX1_kind_14 : decode cX1_kind 14 = .ok (.goto 4, 3) := by decide +kernel
theorem dX1_kind_17 : decode cX1_kind 17 = .ok (.iconst (-1), 1) := by decide +kernel
theorem dX1_kind_18 : decode cX1_kind 18 = .ok (.ireturn, 1) := by decide +kernel
abbrev cX1_kept : ByteArray := prog_3_method_15_code
def yX1_kept : MethodName := ⟨RX1, "kept", "(I)Z"⟩
theorem dX1_kept_0 : decode cX1_kept 0 = .ok (.iload_n 1, 1) := by decide +kernel
theorem dX1_kept_1 : decode cX1_kept 1 = .ok (.ifCond .lt 22, 3) := by decide +kernel
theorem dX1_kept_4 : decode cX1_kept 4 = .ok (.iload_n 1, 1) := by decide +kernel
theorem dX1_kept_5 : decode cX1_kept 5 = .ok (.bipush 12, 2) := by decide +kernel
theorem dX1_kept_7 : decode cX1_kept 7 = .ok (.if_icmp .ge 16, 3) := by decide +kernel
theorem dX1_kept_10 : decode cX1_kept 10 = .ok (.aload_n 0, 1) := by decide +kernel
theorem dX1_kept_11 : decode cX1_kept 11 = .ok (.getfield 19, 3) := by decide +kernel
theorem dX1_kept_14 : decode cX1_kept 14 = .ok (.iload_n 1, 1) := by decide +kernel
theorem dX1_kept_15 : decode cX1_kept 15 = .ok (.baload, 1) := by decide +kernel
theorem dX1_kept_16 : decode cX1_kept 16 = .ok (.ifCond .eq 7, 3) := by decide +kernel
theorem dX1_kept_19 : decode cX1_kept 19 = .ok (.iconst 1, 1) := by decide +kernel
theorem dX1_kept_20 : decode cX1_kept 20 = .ok (.goto 4, 3) := by decide +kernel
theorem dX1_kept_23 : decode cX1_kept 23 = .ok (.iconst 0, 1) := by decide +kernel
theorem dX1_kept_24 : decode cX1_kept 24 = .ok (.ireturn, 1) := by decide +kernel
abbrev cX1_position : ByteArray := prog_3_method_17_code
def yX1_position : MethodName := ⟨RX1, "position", "(I)I"⟩
theorem dX1_position_0 : decode cX1_position 0 = .ok (.aload_n 0, 1) := by decide +kernel
theorem dX1_position_1 : decode cX1_position 1 = .ok (.iload_n 1, 1) := by decide +kernel
theorem dX1_position_2 : decode cX1_position 2 = .ok (.invokevirtual 79, 3) := by decide +kernel
theorem dX1_position_5 : decode cX1_position 5 = .ok (.ifCond .eq 12, 3) := by decide +kernel
theorem dX1_position_8 : decode cX1_position 8 = .ok (.aload_n 0, 1) := by decide +kernel
theorem dX1_position_9 : decode cX1_position 9 = .ok (.getfield 26, 3) := by decide +kernel
theorem dX1_position_12 : decode cX1_position 12 = .ok (.iload_n 1, 1) := by decide +kernel
theorem dX1_position_13 : decode cX1_position 13 = .ok (.iaload, 1) := by decide +kernel
theorem dX1_position_14 : decode cX1_position 14 = .ok (.goto 4, 3) := by decide +kernel
theorem dX1_position_17 : decode cX1_position 17 = .ok (.iconst 0, 1) := by decide +kernel
theorem dX1_position_18 : decode cX1_position 18 = .ok (.ireturn, 1) := by decide +kernel
abbrev cX1_peek : ByteArray := prog_3_method_18_code
def yX1_peek : MethodName := ⟨RX1, "peek", "(II)I"⟩
theorem dX1_peek_0 : decode cX1_peek 0 = .ok (.aload_n 0, 1) := by decide +kernel
theorem dX1_peek_1 : decode cX1_peek 1 = .ok (.iload_n 1, 1) := by decide +kernel
theorem dX1_peek_2 : decode cX1_peek 2 = .ok (.invokevirtual 79, 3) := by decide +kernel
theorem dX1_peek_5 : decode cX1_peek 5 = .ok (.ifCond .eq 24, 3) := by decide +kernel
theorem dX1_peek_8 : decode cX1_peek 8 = .ok (.iload_n 2, 1) := by decide +kernel
theorem dX1_peek_9 : decode cX1_peek 9 = .ok (.ifCond .lt 20, 3) := by decide +kernel
theorem dX1_peek_12 : decode cX1_peek 12 = .ok (.iload_n 2, 1) := by decide +kernel
theorem dX1_peek_13 : decode cX1_peek 13 = .ok (.bipush 31, 2) := by decide +kernel
theorem dX1_peek_15 : decode cX1_peek 15 = .ok (.if_icmp .gt 14, 3) := by decide +kernel
theorem dX1_peek_18 : decode cX1_peek 18 = .ok (.iload_n 2, 1) := by decide +kernel
theorem dX1_peek_19 : decode cX1_peek 19 = .ok (.iconst 3, 1) := by decide +kernel
theorem dX1_peek_20 : decode cX1_peek 20 = .ok (.if_icmp .le 11, 3) := by decide +kernel
theorem dX1_peek_23 : decode cX1_peek 23 = .ok (.iload_n 2, 1) := by decide +kernel
theorem dX1_peek_24 : decode cX1_peek 24 = .ok (.bipush 16, 2) := by decide +kernel
theorem dX1_peek_26 : decode cX1_peek 26 = .ok (.if_icmp .ge 5, 3) := by decide +kernel
theorem dX1_peek_29 : decode cX1_peek 29 = .ok (.iconst 0, 1) := by decide +kernel
theorem dX1_peek_30 : decode cX1_peek 30 = .ok (.ireturn, 1) := by decide +kernel
theorem dX1_peek_31 : decode cX1_peek 31 = .ok (.aload_n 0, 1) := by decide +kernel
theorem dX1_peek_32 : decode cX1_peek 32 = .ok (.getfield 32, 3) := by decide +kernel
theorem dX1_peek_35 : decode cX1_peek 35 = .ok (.bipush 20, 2) := by decide +kernel
theorem dX1_peek_37 : decode cX1_peek 37 = .ok (.iload_n 1, 1) := by decide +kernel
theorem dX1_peek_38 : decode cX1_peek 38 = .ok (.imul, 1) := by decide +kernel
theorem dX1_peek_39 : decode cX1_peek 39 = .ok (.iload_n 2, 1) := by decide +kernel
theorem dX1_peek_40 : decode cX1_peek 40 = .ok (.iconst 4, 1) := by decide +kernel
theorem dX1_peek_41 : decode cX1_peek 41 = .ok (.if_icmp .ge 7, 3) := by decide +kernel
theorem dX1_peek_44 : decode cX1_peek 44 = .ok (.iload_n 2, 1) := by decide +kernel
theorem dX1_peek_45 : decode cX1_peek 45 = .ok (.goto 7, 3) := by decide +kernel
theorem dX1_peek_48 : decode cX1_peek 48 = .ok (.iload_n 2, 1) := by decide +kernel
theorem dX1_peek_49 : decode cX1_peek 49 = .ok (.bipush 12, 2) := by decide +kernel
theorem dX1_peek_51 : decode cX1_peek 51 = .ok (.isub, 1) := by decide +kernel
theorem dX1_peek_52 : decode cX1_peek 52 = .ok (.iadd, 1) := by decide +kernel
theorem dX1_peek_53 : decode cX1_peek 53 = .ok (.iaload, 1) := by decide +kernel
theorem dX1_peek_54 : decode cX1_peek 54 = .ok (.ireturn, 1) := by decide +kernel
abbrev cX1_said : ByteArray := prog_3_method_19_code
def yX1_said : MethodName := ⟨RX1, "said", "(I)I"⟩
theorem dX1_said_0 : decode cX1_said 0 = .ok (.aload_n 0, 1) := by decide +kernel
theorem dX1_said_1 : decode cX1_said 1 = .ok (.iload_n 1, 1) := by decide +kernel
theorem dX1_said_2 : decode cX1_said 2 = .ok (.invokevirtual 79, 3) := by decide +kernel
theorem dX1_said_5 : decode cX1_said 5 = .ok (.ifCond .eq 12, 3) := by decide +kernel
theorem dX1_said_8 : decode cX1_said 8 = .ok (.aload_n 0, 1) := by decide +kernel
theorem dX1_said_9 : decode cX1_said 9 = .ok (.getfield 29, 3) := by decide +kernel
theorem dX1_said_12 : decode cX1_said 12 = .ok (.iload_n 1, 1) := by decide +kernel
theorem dX1_said_13 : decode cX1_said 13 = .ok (.iaload, 1) := by decide +kernel
theorem dX1_said_14 : decode cX1_said 14 = .ok (.goto 4, 3) := by decide +kernel
theorem dX1_said_17 : decode cX1_said 17 = .ok (.iconst 0, 1) := by decide +kernel
theorem dX1_said_18 : decode cX1_said 18 = .ok (.ireturn, 1) := by decide +kernel
abbrev cX1_lastSaid : ByteArray := prog_3_method_20_code
def yX1_lastSaid : MethodName := ⟨RX1, "lastSaid", "(II)I"⟩
theorem dX1_lastSaid_0 : decode cX1_lastSaid 0 = .ok (.aload_n 0, 1) := by decide +kernel
theorem dX1_lastSaid_1 : decode cX1_lastSaid 1 = .ok (.iload_n 1, 1) := by decide +kernel
theorem dX1_lastSaid_2 : decode cX1_lastSaid 2 = .ok (.invokevirtual 79, 3) := by decide +kernel
theorem dX1_lastSaid_5 : decode cX1_lastSaid 5 = .ok (.ifCond .eq 37, 3) := by decide +kernel
theorem dX1_lastSaid_8 : decode cX1_lastSaid 8 = .ok (.iload_n 2, 1) := by decide +kernel
theorem dX1_lastSaid_9 : decode cX1_lastSaid 9 = .ok (.ifCond .lt 33, 3) := by decide +kernel
theorem dX1_lastSaid_12 : decode cX1_lastSaid 12 = .ok (.iload_n 2, 1) := by decide +kernel
theorem dX1_lastSaid_13 : decode cX1_lastSaid 13 = .ok (.bipush 8, 2) := by decide +kernel
theorem dX1_lastSaid_15 : decode cX1_lastSaid 15 = .ok (.if_icmp .ge 27, 3) := by decide +kernel
theorem dX1_lastSaid_18 : decode cX1_lastSaid 18 = .ok (.iload_n 2, 1) := by decide +kernel
theorem dX1_lastSaid_19 : decode cX1_lastSaid 19 = .ok (.aload_n 0, 1) := by decide +kernel
theorem dX1_lastSaid_20 : decode cX1_lastSaid 20 = .ok (.getfield 29, 3) := by decide +kernel
theorem dX1_lastSaid_23 : decode cX1_lastSaid 23 = .ok (.iload_n 1, 1) := by decide +kernel
theorem dX1_lastSaid_24 : decode cX1_lastSaid 24 = .ok (.iaload, 1) := by decide +kernel
theorem dX1_lastSaid_25 : decode cX1_lastSaid 25 = .ok (.if_icmp .ge 17, 3) := by decide +kernel
theorem dX1_lastSaid_28 : decode cX1_lastSaid 28 = .ok (.aload_n 0, 1) := by decide +kernel
theorem dX1_lastSaid_29 : decode cX1_lastSaid 29 = .ok (.getfield 35, 3) := by decide +kernel
theorem dX1_lastSaid_32 : decode cX1_lastSaid 32 = .ok (.bipush 8, 2) := by decide +kernel
theorem dX1_lastSaid_34 : decode cX1_lastSaid 34 = .ok (.iload_n 1, 1) := by decide +kernel
theorem dX1_lastSaid_35 : decode cX1_lastSaid 35 = .ok (.imul, 1) := by decide +kernel
theorem dX1_lastSaid_36 : decode cX1_lastSaid 36 = .ok (.iload_n 2, 1) := by decide +kernel
theorem dX1_lastSaid_37 : decode cX1_lastSaid 37 = .ok (.iadd, 1) := by decide +kernel
theorem dX1_lastSaid_38 : decode cX1_lastSaid 38 = .ok (.iaload, 1) := by decide +kernel
theorem dX1_lastSaid_39 : decode cX1_lastSaid 39 = .ok (.goto 4, 3) := by decide +kernel
theorem dX1_lastSaid_42 : decode cX1_lastSaid 42 = .ok (.iconst 0, 1) := by decide +kernel
theorem dX1_lastSaid_43 : decode cX1_lastSaid 43 = .ok (.ireturn, 1) := by decide +kernel
abbrev cX1_difference : ByteArray := prog_3_method_21_code
def yX1_difference : MethodName := ⟨RX1, "difference", "(II)I"⟩
theorem dX1_difference_0 : decode cX1_difference 0 = .ok (.iconst 0, 1) := by decide +kernel
theorem dX1_difference_1 : decode cX1_difference 1 = .ok (.istore_n 3, 1) := by decide +kernel
theorem dX1_difference_2 : decode cX1_difference 2 = .ok (.iconst 0, 1) := by decide +kernel
theorem dX1_difference_3 : decode cX1_difference 3 = .ok (.istore 4, 2) := by decide +kernel
theorem dX1_difference_5 : decode cX1_difference 5 = .ok (.iload 4, 2) := by decide +kernel
theorem dX1_difference_7 : decode cX1_difference 7 = .ok (.bipush 20, 2) := by decide +kernel
theorem dX1_difference_9 : decode cX1_difference 9 = .ok (.if_icmp .ge 81, 3) := by decide +kernel
theorem dX1_difference_12 : decode cX1_difference 12 = .ok (.aload_n 0, 1) := by decide +kernel
theorem dX1_difference_13 : decode cX1_difference 13 = .ok (.iload_n 1, 1) := by decide +kernel
theorem dX1_difference_14 : decode cX1_difference 14 = .ok (.invokevirtual 79, 3) := by decide +kernel
theorem dX1_difference_17 : decode cX1_difference 17 = .ok (.ifCond .eq 73, 3) := by decide +kernel
theorem dX1_difference_20 : decode cX1_difference 20 = .ok (.aload_n 0, 1) := by decide +kernel
theorem dX1_difference_21 : decode cX1_difference 21 = .ok (.iload_n 2, 1) := by decide +kernel
theorem dX1_difference_22 : decode cX1_difference 22 = .ok (.invokevirtual 79, 3) := by decide +kernel
theorem dX1_difference_25 : decode cX1_difference 25 = .ok (.ifCond .eq 65, 3) := by decide +kernel
theorem dX1_difference_28 : decode cX1_difference 28 = .ok (.iload 4, 2) := by decide +kernel
theorem dX1_difference_30 : decode cX1_difference 30 = .ok (.iconst 4, 1) := by decide +kernel
theorem dX1_difference_31 : decode cX1_difference 31 = .ok (.if_icmp .ge 8, 3) := by decide +kernel
theorem dX1_difference_34 : decode cX1_difference 34 = .ok (.iload 4, 2) := by decide +kernel
theorem dX1_difference_36 : decode cX1_difference 36 = .ok (.goto 8, 3) := by decide +kernel
theorem dX1_difference_39 : decode cX1_difference 39 = .ok (.iload 4, 2) := by decide +kernel
theorem dX1_difference_41 : decode cX1_difference 41 = .ok (.bipush 12, 2) := by decide +kernel
theorem dX1_difference_43 : decode cX1_difference 43 = .ok (.iadd, 1) := by decide +kernel
theorem dX1_difference_44 : decode cX1_difference 44 = .ok (.istore 5, 2) := by decide +kernel
theorem dX1_difference_46 : decode cX1_difference 46 = .ok (.iload_n 3, 1) := by decide +kernel
theorem dX1_difference_47 : decode cX1_difference 47 = .ok (.aload_n 0, 1) := by decide +kernel
theorem dX1_difference_48 : decode cX1_difference 48 = .ok (.getfield 32, 3) := by decide +kernel
theorem dX1_difference_51 : decode cX1_difference 51 = .ok (.bipush 20, 2) := by decide +kernel
theorem dX1_difference_53 : decode cX1_difference 53 = .ok (.iload_n 1, 1) := by decide +kernel
theorem dX1_difference_54 : decode cX1_difference 54 = .ok (.imul, 1) := by decide +kernel
theorem dX1_difference_55 : decode cX1_difference 55 = .ok (.iload 4, 2) := by decide +kernel
theorem dX1_difference_57 : decode cX1_difference 57 = .ok (.iadd, 1) := by decide +kernel
theorem dX1_difference_58 : decode cX1_difference 58 = .ok (.iaload, 1) := by decide +kernel
theorem dX1_difference_59 : decode cX1_difference 59 = .ok (.aload_n 0, 1) := by decide +kernel
theorem dX1_difference_60 : decode cX1_difference 60 = .ok (.getfield 32, 3) := by decide +kernel
theorem dX1_difference_63 : decode cX1_difference 63 = .ok (.bipush 20, 2) := by decide +kernel
theorem dX1_difference_65 : decode cX1_difference 65 = .ok (.iload_n 2, 1) := by decide +kernel
theorem dX1_difference_66 : decode cX1_difference 66 = .ok (.imul, 1) := by decide +kernel
theorem dX1_difference_67 : decode cX1_difference 67 = .ok (.iload 4, 2) := by decide +kernel
theorem dX1_difference_69 : decode cX1_difference 69 = .ok (.iadd, 1) := by decide +kernel
theorem dX1_difference_70 : decode cX1_difference 70 = .ok (.iaload, 1) := by decide +kernel
theorem dX1_difference_71 : decode cX1_difference 71 = .ok (.if_icmp .eq 10, 3) := by decide +kernel
theorem dX1_difference_74 : decode cX1_difference 74 = .ok (.iconst 1, 1) := by decide +kernel
theorem dX1_difference_75 : decode cX1_difference 75 = .ok (.iload 5, 2) := by decide +kernel
theorem dX1_difference_77 : decode cX1_difference 77 = .ok (.ishl, 1) := by decide +kernel
theorem dX1_difference_78 : decode cX1_difference 78 = .ok (.goto 4, 3) := by decide +kernel
theorem dX1_difference_81 : decode cX1_difference 81 = .ok (.iconst 0, 1) := by decide +kernel
theorem dX1_difference_82 : decode cX1_difference 82 = .ok (.ior, 1) := by decide +kernel
theorem dX1_difference_83 : decode cX1_difference 83 = .ok (.istore_n 3, 1) := by decide +kernel
theorem dX1_difference_84 : decode cX1_difference 84 = .ok (.iinc 4 1, 3) := by decide +kernel
theorem dX1_difference_87 : decode cX1_difference 87 = .ok (.goto (-82), 3) := by decide +kernel
theorem dX1_difference_90 : decode cX1_difference 90 = .ok (.iload_n 3, 1) := by decide +kernel
theorem dX1_difference_91 : decode cX1_difference 91 = .ok (.ireturn, 1) := by decide +kernel
theorem q20 : (Jvm.Cond.initialized "ReplayDeskModel") ∈ lw_all := lw_g (lw_at lw_m1 2 rfl) rfl
theorem q193 : (Jvm.Cond.instantiable "ReplayDeskModel" (14 : Nat)) ∈ lw_all := lw_g (lw_at lw_m1 175 rfl) rfl
theorem q195 : (Jvm.Cond.instanceMethod ({ cls := "ReplayDeskModel", name := "<init>", desc := "()V" } : Jvm.MethodName)) ∈ lw_all := lw_g (lw_at lw_m1 177 rfl) rfl
theorem q196 : (Jvm.Cond.code ({ cls := "ReplayDeskModel", name := "<init>", desc := "()V" } : Jvm.MethodName) prog_3_method_1_code (1 : Nat) (Option.none : Option Jvm.ClassFile.FieldType)) ∈ lw_all := lw_g (lw_at lw_m1 178 rfl) rfl
theorem q197 : (Jvm.Cond.methodLink "ReplayDeskModel" (1 : Nat) ({ cls := "java/lang/Object", name := "<init>", desc := "()V" } : Jvm.MethodName)) ∈ lw_all := lw_g (lw_at lw_m1 179 rfl) rfl
theorem q198 : (Jvm.Cond.fieldLink "ReplayDeskModel" (44 : Nat) "ReplayDeskModel" "size" "I") ∈ lw_all := lw_g (lw_at lw_m1 180 rfl) rfl
theorem q199 : (Jvm.Cond.fieldLink "ReplayDeskModel" (7 : Nat) "ReplayDeskModel" "ops" "[I") ∈ lw_all := lw_g (lw_at lw_m1 181 rfl) rfl
theorem q200 : (Jvm.Cond.fieldLink "ReplayDeskModel" (13 : Nat) "ReplayDeskModel" "as" "[I") ∈ lw_all := lw_g (lw_at lw_m1 182 rfl) rfl
theorem q201 : (Jvm.Cond.fieldLink "ReplayDeskModel" (16 : Nat) "ReplayDeskModel" "bs" "[I") ∈ lw_all := lw_g (lw_at lw_m1 183 rfl) rfl
theorem q202 : (Jvm.Cond.fieldLink "ReplayDeskModel" (19 : Nat) "ReplayDeskModel" "there" "[Z") ∈ lw_all := lw_g (lw_at lw_m1 184 rfl) rfl
theorem q203 : (Jvm.Cond.fieldLink "ReplayDeskModel" (23 : Nat) "ReplayDeskModel" "kinds" "[I") ∈ lw_all := lw_g (lw_at lw_m1 185 rfl) rfl
theorem q204 : (Jvm.Cond.fieldLink "ReplayDeskModel" (26 : Nat) "ReplayDeskModel" "places" "[I") ∈ lw_all := lw_g (lw_at lw_m1 186 rfl) rfl
theorem q205 : (Jvm.Cond.fieldLink "ReplayDeskModel" (29 : Nat) "ReplayDeskModel" "counts" "[I") ∈ lw_all := lw_g (lw_at lw_m1 187 rfl) rfl
theorem q206 : (Jvm.Cond.fieldLink "ReplayDeskModel" (32 : Nat) "ReplayDeskModel" "cells" "[I") ∈ lw_all := lw_g (lw_at lw_m1 188 rfl) rfl
theorem q207 : (Jvm.Cond.fieldLink "ReplayDeskModel" (35 : Nat) "ReplayDeskModel" "saids" "[I") ∈ lw_all := lw_g (lw_at lw_m1 189 rfl) rfl
theorem q208 : (Jvm.Cond.fieldLink "ReplayDeskModel" (58 : Nat) "ReplayDeskModel" "pos" "I") ∈ lw_all := lw_g (lw_at lw_m1 190 rfl) rfl
theorem q209 : (Jvm.Cond.fieldLink "ReplayDeskModel" (61 : Nat) "ReplayDeskModel" "count" "I") ∈ lw_all := lw_g (lw_at lw_m1 191 rfl) rfl
theorem q210 : (Jvm.Cond.fieldLink "ReplayDeskModel" (38 : Nat) "ReplayDeskModel" "row" "[I") ∈ lw_all := lw_g (lw_at lw_m1 192 rfl) rfl
theorem q211 : (Jvm.Cond.fieldLink "ReplayDeskModel" (41 : Nat) "ReplayDeskModel" "tail" "[I") ∈ lw_all := lw_g (lw_at lw_m1 193 rfl) rfl
theorem q212 : (Jvm.Cond.lays "ReplayDeskModel" "ReplayDeskModel" "size" "I") ∈ lw_all := lw_g (lw_at lw_m1 194 rfl) rfl
theorem q213 : (Jvm.Cond.soleField "ReplayDeskModel" "size") ∈ lw_all := lw_g (lw_at lw_m1 195 rfl) rfl
theorem q214 : (Jvm.Cond.lays "ReplayDeskModel" "ReplayDeskModel" "ops" "[I") ∈ lw_all := lw_g (lw_at lw_m1 196 rfl) rfl
theorem q215 : (Jvm.Cond.soleField "ReplayDeskModel" "ops") ∈ lw_all := lw_g (lw_at lw_m1 197 rfl) rfl
theorem q216 : (Jvm.Cond.lays "ReplayDeskModel" "ReplayDeskModel" "as" "[I") ∈ lw_all := lw_g (lw_at lw_m1 198 rfl) rfl
theorem q217 : (Jvm.Cond.soleField "ReplayDeskModel" "as") ∈ lw_all := lw_g (lw_at lw_m1 199 rfl) rfl
theorem q218 : (Jvm.Cond.lays "ReplayDeskModel" "ReplayDeskModel" "bs" "[I") ∈ lw_all := lw_g (lw_at lw_m1 200 rfl) rfl
theorem q219 : (Jvm.Cond.soleField "ReplayDeskModel" "bs") ∈ lw_all := lw_g (lw_at lw_m1 201 rfl) rfl
theorem q220 : (Jvm.Cond.lays "ReplayDeskModel" "ReplayDeskModel" "there" "[Z") ∈ lw_all := lw_g (lw_at lw_m1 202 rfl) rfl
theorem q221 : (Jvm.Cond.soleField "ReplayDeskModel" "there") ∈ lw_all := lw_g (lw_at lw_m1 203 rfl) rfl
theorem q222 : (Jvm.Cond.lays "ReplayDeskModel" "ReplayDeskModel" "kinds" "[I") ∈ lw_all := lw_g (lw_at lw_m1 204 rfl) rfl
theorem q223 : (Jvm.Cond.soleField "ReplayDeskModel" "kinds") ∈ lw_all := lw_g (lw_at lw_m1 205 rfl) rfl
theorem q224 : (Jvm.Cond.lays "ReplayDeskModel" "ReplayDeskModel" "places" "[I") ∈ lw_all := lw_g (lw_at lw_m1 206 rfl) rfl
theorem q225 : (Jvm.Cond.soleField "ReplayDeskModel" "places") ∈ lw_all := lw_g (lw_at lw_m1 207 rfl) rfl
theorem q226 : (Jvm.Cond.lays "ReplayDeskModel" "ReplayDeskModel" "counts" "[I") ∈ lw_all := lw_g (lw_at lw_m1 208 rfl) rfl
theorem q227 : (Jvm.Cond.soleField "ReplayDeskModel" "counts") ∈ lw_all := lw_g (lw_at lw_m1 209 rfl) rfl
theorem q228 : (Jvm.Cond.lays "ReplayDeskModel" "ReplayDeskModel" "cells" "[I") ∈ lw_all := lw_g (lw_at lw_m1 210 rfl) rfl
theorem q229 : (Jvm.Cond.soleField "ReplayDeskModel" "cells") ∈ lw_all := lw_g (lw_at lw_m1 211 rfl) rfl
theorem q230 : (Jvm.Cond.lays "ReplayDeskModel" "ReplayDeskModel" "saids" "[I") ∈ lw_all := lw_g (lw_at lw_m1 212 rfl) rfl
theorem q231 : (Jvm.Cond.soleField "ReplayDeskModel" "saids") ∈ lw_all := lw_g (lw_at lw_m1 213 rfl) rfl
theorem q232 : (Jvm.Cond.lays "ReplayDeskModel" "ReplayDeskModel" "pos" "I") ∈ lw_all := lw_g (lw_at lw_m1 214 rfl) rfl
theorem q233 : (Jvm.Cond.soleField "ReplayDeskModel" "pos") ∈ lw_all := lw_g (lw_at lw_m1 215 rfl) rfl
theorem q234 : (Jvm.Cond.lays "ReplayDeskModel" "ReplayDeskModel" "count" "I") ∈ lw_all := lw_g (lw_at lw_m1 216 rfl) rfl
theorem q235 : (Jvm.Cond.soleField "ReplayDeskModel" "count") ∈ lw_all := lw_g (lw_at lw_m1 217 rfl) rfl
theorem q236 : (Jvm.Cond.lays "ReplayDeskModel" "ReplayDeskModel" "row" "[I") ∈ lw_all := lw_g (lw_at lw_m1 218 rfl) rfl
theorem q237 : (Jvm.Cond.soleField "ReplayDeskModel" "row") ∈ lw_all := lw_g (lw_at lw_m1 219 rfl) rfl
theorem q238 : (Jvm.Cond.lays "ReplayDeskModel" "ReplayDeskModel" "tail" "[I") ∈ lw_all := lw_g (lw_at lw_m1 220 rfl) rfl
theorem q239 : (Jvm.Cond.soleField "ReplayDeskModel" "tail") ∈ lw_all := lw_g (lw_at lw_m1 221 rfl) rfl
theorem q240 : (Jvm.Cond.superclass "ReplayDeskModel" "java/lang/Object") ∈ lw_all := lw_g (lw_at lw_m1 222 rfl) rfl
theorem q243 : (Jvm.Cond.instanceMethod ({ cls := "ReplayDeskModel", name := "emit", desc := "(III)I" } : Jvm.MethodName)) ∈ lw_all := lw_g (lw_at lw_m1 225 rfl) rfl
theorem q244 : (Jvm.Cond.selects "ReplayDeskModel" ({ cls := "ReplayDeskModel", name := "emit", desc := "(III)I" } : Jvm.MethodName) ({ cls := "ReplayDeskModel", name := "emit", desc := "(III)I" } : Jvm.MethodName)) ∈ lw_all := lw_g (lw_at lw_m1 226 rfl) rfl
theorem q245 : (Jvm.Cond.code ({ cls := "ReplayDeskModel", name := "emit", desc := "(III)I" } : Jvm.MethodName) prog_3_method_2_code (4 : Nat) (Option.some Jvm.ClassFile.FieldType.int)) ∈ lw_all := lw_g (lw_at lw_m1 227 rfl) rfl
theorem q246 : (Jvm.Cond.methodLink "ReplayDeskModel" (48 : Nat) ({ cls := "ReplayDeskModel", name := "moments", desc := "()I" } : Jvm.MethodName)) ∈ lw_all := lw_g (lw_at lw_m1 228 rfl) rfl
theorem q247 : (Jvm.Cond.instanceMethod ({ cls := "ReplayDeskModel", name := "moments", desc := "()I" } : Jvm.MethodName)) ∈ lw_all := lw_g (lw_at lw_m1 229 rfl) rfl
theorem q248 : (Jvm.Cond.selects "ReplayDeskModel" ({ cls := "ReplayDeskModel", name := "moments", desc := "()I" } : Jvm.MethodName) ({ cls := "ReplayDeskModel", name := "moments", desc := "()I" } : Jvm.MethodName)) ∈ lw_all := lw_g (lw_at lw_m1 230 rfl) rfl
theorem q249 : (Jvm.Cond.code ({ cls := "ReplayDeskModel", name := "moments", desc := "()I" } : Jvm.MethodName) prog_3_method_14_code (3 : Nat) (Option.some Jvm.ClassFile.FieldType.int)) ∈ lw_all := lw_g (lw_at lw_m1 231 rfl) rfl
theorem q251 : (Jvm.Cond.instanceMethod ({ cls := "ReplayDeskModel", name := "forgetAll", desc := "()V" } : Jvm.MethodName)) ∈ lw_all := lw_g (lw_at lw_m1 233 rfl) rfl
theorem q252 : (Jvm.Cond.selects "ReplayDeskModel" ({ cls := "ReplayDeskModel", name := "forgetAll", desc := "()V" } : Jvm.MethodName) ({ cls := "ReplayDeskModel", name := "forgetAll", desc := "()V" } : Jvm.MethodName)) ∈ lw_all := lw_g (lw_at lw_m1 234 rfl) rfl
theorem q253 : (Jvm.Cond.code ({ cls := "ReplayDeskModel", name := "forgetAll", desc := "()V" } : Jvm.MethodName) prog_3_method_3_code (2 : Nat) (Option.none : Option Jvm.ClassFile.FieldType)) ∈ lw_all := lw_g (lw_at lw_m1 235 rfl) rfl
theorem q255 : (Jvm.Cond.instanceMethod ({ cls := "ReplayDeskModel", name := "clear", desc := "()V" } : Jvm.MethodName)) ∈ lw_all := lw_g (lw_at lw_m1 237 rfl) rfl
theorem q256 : (Jvm.Cond.selects "ReplayDeskModel" ({ cls := "ReplayDeskModel", name := "clear", desc := "()V" } : Jvm.MethodName) ({ cls := "ReplayDeskModel", name := "clear", desc := "()V" } : Jvm.MethodName)) ∈ lw_all := lw_g (lw_at lw_m1 238 rfl) rfl
theorem q257 : (Jvm.Cond.code ({ cls := "ReplayDeskModel", name := "clear", desc := "()V" } : Jvm.MethodName) prog_3_method_4_code (1 : Nat) (Option.none : Option Jvm.ClassFile.FieldType)) ∈ lw_all := lw_g (lw_at lw_m1 239 rfl) rfl
theorem q258 : (Jvm.Cond.methodLink "ReplayDeskModel" (52 : Nat) ({ cls := "ReplayDeskModel", name := "forgetAll", desc := "()V" } : Jvm.MethodName)) ∈ lw_all := lw_g (lw_at lw_m2 0 rfl) rfl
theorem q260 : (Jvm.Cond.instanceMethod ({ cls := "ReplayDeskModel", name := "start", desc := "()I" } : Jvm.MethodName)) ∈ lw_all := lw_g (lw_at lw_m2 2 rfl) rfl
theorem q261 : (Jvm.Cond.selects "ReplayDeskModel" ({ cls := "ReplayDeskModel", name := "start", desc := "()I" } : Jvm.MethodName) ({ cls := "ReplayDeskModel", name := "start", desc := "()I" } : Jvm.MethodName)) ∈ lw_all := lw_g (lw_at lw_m2 3 rfl) rfl
theorem q262 : (Jvm.Cond.code ({ cls := "ReplayDeskModel", name := "start", desc := "()I" } : Jvm.MethodName) prog_3_method_6_code (3 : Nat) (Option.some Jvm.ClassFile.FieldType.int)) ∈ lw_all := lw_g (lw_at lw_m2 4 rfl) rfl
theorem q263 : (Jvm.Cond.methodLink "ReplayDeskModel" (55 : Nat) ({ cls := "ReplayDeskModel", name := "room", desc := "()I" } : Jvm.MethodName)) ∈ lw_all := lw_g (lw_at lw_m2 5 rfl) rfl
theorem q264 : (Jvm.Cond.privateMethod ({ cls := "ReplayDeskModel", name := "room", desc := "()I" } : Jvm.MethodName)) ∈ lw_tbl := lw_at lw_m2 6 rfl
theorem q265 : (Jvm.Cond.instanceMethod ({ cls := "ReplayDeskModel", name := "room", desc := "()I" } : Jvm.MethodName)) ∈ lw_all := lw_g (lw_at lw_m2 7 rfl) rfl
theorem q266 : (Jvm.Cond.code ({ cls := "ReplayDeskModel", name := "room", desc := "()I" } : Jvm.MethodName) prog_3_method_5_code (2 : Nat) (Option.some Jvm.ClassFile.FieldType.int)) ∈ lw_all := lw_g (lw_at lw_m2 8 rfl) rfl
theorem q267 : (Jvm.Cond.methodLink "ReplayDeskModel" (64 : Nat) ({ cls := "ReplayDeskModel", name := "stretch", desc := "(I)V" } : Jvm.MethodName)) ∈ lw_all := lw_g (lw_at lw_m2 9 rfl) rfl
theorem q268 : (Jvm.Cond.privateMethod ({ cls := "ReplayDeskModel", name := "stretch", desc := "(I)V" } : Jvm.MethodName)) ∈ lw_tbl := lw_at lw_m2 10 rfl
theorem q269 : (Jvm.Cond.instanceMethod ({ cls := "ReplayDeskModel", name := "stretch", desc := "(I)V" } : Jvm.MethodName)) ∈ lw_all := lw_g (lw_at lw_m2 11 rfl) rfl
theorem q270 : (Jvm.Cond.code ({ cls := "ReplayDeskModel", name := "stretch", desc := "(I)V" } : Jvm.MethodName) prog_3_method_11_code (5 : Nat) (Option.none : Option Jvm.ClassFile.FieldType)) ∈ lw_all := lw_g (lw_at lw_m2 12 rfl) rfl
theorem q271 : (Jvm.Cond.methodLink "ReplayDeskModel" (75 : Nat) ({ cls := "ReplayDeskModel", name := "carryOut", desc := "(III)V" } : Jvm.MethodName)) ∈ lw_all := lw_g (lw_at lw_m2 13 rfl) rfl
theorem q272 : (Jvm.Cond.privateMethod ({ cls := "ReplayDeskModel", name := "carryOut", desc := "(III)V" } : Jvm.MethodName)) ∈ lw_tbl := lw_at lw_m2 14 rfl
theorem q273 : (Jvm.Cond.instanceMethod ({ cls := "ReplayDeskModel", name := "carryOut", desc := "(III)V" } : Jvm.MethodName)) ∈ lw_all := lw_g (lw_at lw_m2 15 rfl) rfl
theorem q274 : (Jvm.Cond.code ({ cls := "ReplayDeskModel", name := "carryOut", desc := "(III)V" } : Jvm.MethodName) prog_3_method_12_code (6 : Nat) (Option.none : Option Jvm.ClassFile.FieldType)) ∈ lw_all := lw_g (lw_at lw_m2 16 rfl) rfl
theorem q276 : (Jvm.Cond.instanceMethod ({ cls := "ReplayDeskModel", name := "answer", desc := "(II)I" } : Jvm.MethodName)) ∈ lw_all := lw_g (lw_at lw_m2 18 rfl) rfl
theorem q277 : (Jvm.Cond.selects "ReplayDeskModel" ({ cls := "ReplayDeskModel", name := "answer", desc := "(II)I" } : Jvm.MethodName) ({ cls := "ReplayDeskModel", name := "answer", desc := "(II)I" } : Jvm.MethodName)) ∈ lw_all := lw_g (lw_at lw_m2 19 rfl) rfl
theorem q278 : (Jvm.Cond.code ({ cls := "ReplayDeskModel", name := "answer", desc := "(II)I" } : Jvm.MethodName) prog_3_method_9_code (4 : Nat) (Option.some Jvm.ClassFile.FieldType.int)) ∈ lw_all := lw_g (lw_at lw_m2 20 rfl) rfl
theorem q279 : (Jvm.Cond.methodLink "ReplayDeskModel" (68 : Nat) ({ cls := "ReplayDeskModel", name := "is", desc := "(II)Z" } : Jvm.MethodName)) ∈ lw_all := lw_g (lw_at lw_m2 21 rfl) rfl
theorem q280 : (Jvm.Cond.privateMethod ({ cls := "ReplayDeskModel", name := "is", desc := "(II)Z" } : Jvm.MethodName)) ∈ lw_tbl := lw_at lw_m2 22 rfl
theorem q281 : (Jvm.Cond.instanceMethod ({ cls := "ReplayDeskModel", name := "is", desc := "(II)Z" } : Jvm.MethodName)) ∈ lw_all := lw_g (lw_at lw_m2 23 rfl) rfl
theorem q282 : (Jvm.Cond.code ({ cls := "ReplayDeskModel", name := "is", desc := "(II)Z" } : Jvm.MethodName) prog_3_method_8_code (3 : Nat) (Option.some Jvm.ClassFile.FieldType.boolean)) ∈ lw_all := lw_g (lw_at lw_m2 24 rfl) rfl
theorem q283 : (Jvm.Cond.methodLink "ReplayDeskModel" (72 : Nat) ({ cls := "ReplayDeskModel", name := "take", desc := "(I)V" } : Jvm.MethodName)) ∈ lw_all := lw_g (lw_at lw_m2 25 rfl) rfl
theorem q284 : (Jvm.Cond.privateMethod ({ cls := "ReplayDeskModel", name := "take", desc := "(I)V" } : Jvm.MethodName)) ∈ lw_tbl := lw_at lw_m2 26 rfl
theorem q285 : (Jvm.Cond.instanceMethod ({ cls := "ReplayDeskModel", name := "take", desc := "(I)V" } : Jvm.MethodName)) ∈ lw_all := lw_g (lw_at lw_m2 27 rfl) rfl
theorem q286 : (Jvm.Cond.code ({ cls := "ReplayDeskModel", name := "take", desc := "(I)V" } : Jvm.MethodName) prog_3_method_7_code (3 : Nat) (Option.none : Option Jvm.ClassFile.FieldType)) ∈ lw_all := lw_g (lw_at lw_m2 28 rfl) rfl
theorem q288 : (Jvm.Cond.instanceMethod ({ cls := "ReplayDeskModel", name := "goOn", desc := "(I)I" } : Jvm.MethodName)) ∈ lw_all := lw_g (lw_at lw_m2 30 rfl) rfl
theorem q289 : (Jvm.Cond.selects "ReplayDeskModel" ({ cls := "ReplayDeskModel", name := "goOn", desc := "(I)I" } : Jvm.MethodName) ({ cls := "ReplayDeskModel", name := "goOn", desc := "(I)I" } : Jvm.MethodName)) ∈ lw_all := lw_g (lw_at lw_m2 31 rfl) rfl
theorem q290 : (Jvm.Cond.code ({ cls := "ReplayDeskModel", name := "goOn", desc := "(I)I" } : Jvm.MethodName) prog_3_method_10_code (3 : Nat) (Option.some Jvm.ClassFile.FieldType.int)) ∈ lw_all := lw_g (lw_at lw_m2 32 rfl) rfl
theorem q292 : (Jvm.Cond.instanceMethod ({ cls := "ReplayDeskModel", name := "forget", desc := "(I)Z" } : Jvm.MethodName)) ∈ lw_all := lw_g (lw_at lw_m2 34 rfl) rfl
theorem q293 : (Jvm.Cond.selects "ReplayDeskModel" ({ cls := "ReplayDeskModel", name := "forget", desc := "(I)Z" } : Jvm.MethodName) ({ cls := "ReplayDeskModel", name := "forget", desc := "(I)Z" } : Jvm.MethodName)) ∈ lw_all := lw_g (lw_at lw_m2 35 rfl) rfl
theorem q294 : (Jvm.Cond.code ({ cls := "ReplayDeskModel", name := "forget", desc := "(I)Z" } : Jvm.MethodName) prog_3_method_13_code (2 : Nat) (Option.some Jvm.ClassFile.FieldType.boolean)) ∈ lw_all := lw_g (lw_at lw_m2 36 rfl) rfl
theorem q297 : (Jvm.Cond.instanceMethod ({ cls := "ReplayDeskModel", name := "kind", desc := "(I)I" } : Jvm.MethodName)) ∈ lw_all := lw_g (lw_at lw_m2 39 rfl) rfl
theorem q298 : (Jvm.Cond.selects "ReplayDeskModel" ({ cls := "ReplayDeskModel", name := "kind", desc := "(I)I" } : Jvm.MethodName) ({ cls := "ReplayDeskModel", name := "kind", desc := "(I)I" } : Jvm.MethodName)) ∈ lw_all := lw_g (lw_at lw_m2 40 rfl) rfl
theorem q299 : (Jvm.Cond.code ({ cls := "ReplayDeskModel", name := "kind", desc := "(I)I" } : Jvm.MethodName) prog_3_method_16_code (2 : Nat) (Option.some Jvm.ClassFile.FieldType.int)) ∈ lw_all := lw_g (lw_at lw_m2 41 rfl) rfl
theorem q300 : (Jvm.Cond.methodLink "ReplayDeskModel" (79 : Nat) ({ cls := "ReplayDeskModel", name := "kept", desc := "(I)Z" } : Jvm.MethodName)) ∈ lw_all := lw_g (lw_at lw_m2 42 rfl) rfl
theorem q301 : (Jvm.Cond.privateMethod ({ cls := "ReplayDeskModel", name := "kept", desc := "(I)Z" } : Jvm.MethodName)) ∈ lw_tbl := lw_at lw_m2 43 rfl
theorem q302 : (Jvm.Cond.instanceMethod ({ cls := "ReplayDeskModel", name := "kept", desc := "(I)Z" } : Jvm.MethodName)) ∈ lw_all := lw_g (lw_at lw_m2 44 rfl) rfl
theorem q303 : (Jvm.Cond.code ({ cls := "ReplayDeskModel", name := "kept", desc := "(I)Z" } : Jvm.MethodName) prog_3_method_15_code (2 : Nat) (Option.some Jvm.ClassFile.FieldType.boolean)) ∈ lw_all := lw_g (lw_at lw_m2 45 rfl) rfl
theorem q305 : (Jvm.Cond.instanceMethod ({ cls := "ReplayDeskModel", name := "position", desc := "(I)I" } : Jvm.MethodName)) ∈ lw_all := lw_g (lw_at lw_m2 47 rfl) rfl
theorem q306 : (Jvm.Cond.selects "ReplayDeskModel" ({ cls := "ReplayDeskModel", name := "position", desc := "(I)I" } : Jvm.MethodName) ({ cls := "ReplayDeskModel", name := "position", desc := "(I)I" } : Jvm.MethodName)) ∈ lw_all := lw_g (lw_at lw_m2 48 rfl) rfl
theorem q307 : (Jvm.Cond.code ({ cls := "ReplayDeskModel", name := "position", desc := "(I)I" } : Jvm.MethodName) prog_3_method_17_code (2 : Nat) (Option.some Jvm.ClassFile.FieldType.int)) ∈ lw_all := lw_g (lw_at lw_m2 49 rfl) rfl
theorem q309 : (Jvm.Cond.instanceMethod ({ cls := "ReplayDeskModel", name := "peek", desc := "(II)I" } : Jvm.MethodName)) ∈ lw_all := lw_g (lw_at lw_m2 51 rfl) rfl
theorem q310 : (Jvm.Cond.selects "ReplayDeskModel" ({ cls := "ReplayDeskModel", name := "peek", desc := "(II)I" } : Jvm.MethodName) ({ cls := "ReplayDeskModel", name := "peek", desc := "(II)I" } : Jvm.MethodName)) ∈ lw_all := lw_g (lw_at lw_m2 52 rfl) rfl
theorem q311 : (Jvm.Cond.code ({ cls := "ReplayDeskModel", name := "peek", desc := "(II)I" } : Jvm.MethodName) prog_3_method_18_code (3 : Nat) (Option.some Jvm.ClassFile.FieldType.int)) ∈ lw_all := lw_g (lw_at lw_m2 53 rfl) rfl
theorem q313 : (Jvm.Cond.instanceMethod ({ cls := "ReplayDeskModel", name := "said", desc := "(I)I" } : Jvm.MethodName)) ∈ lw_all := lw_g (lw_at lw_m2 55 rfl) rfl
theorem q314 : (Jvm.Cond.selects "ReplayDeskModel" ({ cls := "ReplayDeskModel", name := "said", desc := "(I)I" } : Jvm.MethodName) ({ cls := "ReplayDeskModel", name := "said", desc := "(I)I" } : Jvm.MethodName)) ∈ lw_all := lw_g (lw_at lw_m2 56 rfl) rfl
theorem q315 : (Jvm.Cond.code ({ cls := "ReplayDeskModel", name := "said", desc := "(I)I" } : Jvm.MethodName) prog_3_method_19_code (2 : Nat) (Option.some Jvm.ClassFile.FieldType.int)) ∈ lw_all := lw_g (lw_at lw_m2 57 rfl) rfl
theorem q317 : (Jvm.Cond.instanceMethod ({ cls := "ReplayDeskModel", name := "lastSaid", desc := "(II)I" } : Jvm.MethodName)) ∈ lw_all := lw_g (lw_at lw_m2 59 rfl) rfl
theorem q318 : (Jvm.Cond.selects "ReplayDeskModel" ({ cls := "ReplayDeskModel", name := "lastSaid", desc := "(II)I" } : Jvm.MethodName) ({ cls := "ReplayDeskModel", name := "lastSaid", desc := "(II)I" } : Jvm.MethodName)) ∈ lw_all := lw_g (lw_at lw_m2 60 rfl) rfl
theorem q319 : (Jvm.Cond.code ({ cls := "ReplayDeskModel", name := "lastSaid", desc := "(II)I" } : Jvm.MethodName) prog_3_method_20_code (3 : Nat) (Option.some Jvm.ClassFile.FieldType.int)) ∈ lw_all := lw_g (lw_at lw_m2 61 rfl) rfl
theorem q321 : (Jvm.Cond.instanceMethod ({ cls := "ReplayDeskModel", name := "difference", desc := "(II)I" } : Jvm.MethodName)) ∈ lw_all := lw_g (lw_at lw_m2 63 rfl) rfl
theorem q322 : (Jvm.Cond.selects "ReplayDeskModel" ({ cls := "ReplayDeskModel", name := "difference", desc := "(II)I" } : Jvm.MethodName) ({ cls := "ReplayDeskModel", name := "difference", desc := "(II)I" } : Jvm.MethodName)) ∈ lw_all := lw_g (lw_at lw_m2 64 rfl) rfl
theorem q323 : (Jvm.Cond.code ({ cls := "ReplayDeskModel", name := "difference", desc := "(II)I" } : Jvm.MethodName) prog_3_method_21_code (6 : Nat) (Option.some Jvm.ClassFile.FieldType.int)) ∈ lw_all := lw_g (lw_at lw_m2 65 rfl) rfl
theorem in_X1 : ∀ w ∈ wsX10, w ∈ lw_all := lw_in wsX10 [212, 214, 216, 218, 220, 222, 224, 226, 228, 230, 232, 234, 236, 238] (by decide +kernel) (by decide +kernel)
end
section
/-! the law's own entry -/
set_option maxRecDepth 100000
abbrev cL_law : ByteArray := code
theorem dL_law_0 : decode cL_law 0 = .ok (.new 7, 3) := by decide +kernel
theorem dL_law_3 : decode cL_law 3 = .ok (.dup, 1) := by decide +kernel
theorem dL_law_4 : decode cL_law 4 = .ok (.invokespecial 9, 3) := by decide +kernel
theorem dL_law_7 : decode cL_law 7 = .ok (.astore_n 1, 1) := by decide +kernel
theorem dL_law_8 : decode cL_law 8 = .ok (.new 10, 3) := by decide +kernel
theorem dL_law_11 : decode cL_law 11 = .ok (.dup, 1) := by decide +kernel
theorem dL_law_12 : decode cL_law 12 = .ok (.invokespecial 12, 3) := by decide +kernel
theorem dL_law_15 : decode cL_law 15 = .ok (.astore_n 2, 1) := by decide +kernel
theorem dL_law_16 : decode cL_law 16 = .ok (.iconst 0, 1) := by decide +kernel
theorem dL_law_17 : decode cL_law 17 = .ok (.istore_n 3, 1) := by decide +kernel
theorem dL_law_18 : decode cL_law 18 = .ok (.iload_n 3, 1) := by decide +kernel
theorem dL_law_19 : decode cL_law 19 = .ok (.aload_n 0, 1) := by decide +kernel
theorem dL_law_20 : decode cL_law 20 = .ok (.arraylength, 1) := by decide +kernel
theorem dL_law_21 : decode cL_law 21 = .ok (.iconst 4, 1) := by decide +kernel
theorem dL_law_22 : decode cL_law 22 = .ok (.isub, 1) := by decide +kernel
theorem dL_law_23 : decode cL_law 23 = .ok (.if_icmp .gt 425, 3) := by decide +kernel
theorem dL_law_26 : decode cL_law 26 = .ok (.aload_n 0, 1) := by decide +kernel
theorem dL_law_27 : decode cL_law 27 = .ok (.iload_n 3, 1) := by decide +kernel
theorem dL_law_28 : decode cL_law 28 = .ok (.iaload, 1) := by decide +kernel
theorem dL_law_29 : decode cL_law 29 = .ok (.bipush 15, 2) := by decide +kernel
theorem dL_law_31 : decode cL_law 31 = .ok (.iand, 1) := by decide +kernel
theorem dL_law_32 : decode cL_law 32 = .ok (.tableswitch 410 0 13 #[72, 115, 126, 137, 150, 183, 206, 229, 242, 265, 288, 321, 344, 377], 72) := by decide +kernel
theorem dL_law_104 : decode cL_law 104 = .ok (.aload_n 1, 1) := by decide +kernel
theorem dL_law_105 : decode cL_law 105 = .ok (.aload_n 0, 1) := by decide +kernel
theorem dL_law_106 : decode cL_law 106 = .ok (.iload_n 3, 1) := by decide +kernel
theorem dL_law_107 : decode cL_law 107 = .ok (.iconst 1, 1) := by decide +kernel
theorem dL_law_108 : decode cL_law 108 = .ok (.iadd, 1) := by decide +kernel
theorem dL_law_109 : decode cL_law 109 = .ok (.iaload, 1) := by decide +kernel
theorem dL_law_110 : decode cL_law 110 = .ok (.aload_n 0, 1) := by decide +kernel
theorem dL_law_111 : decode cL_law 111 = .ok (.iload_n 3, 1) := by decide +kernel
theorem dL_law_112 : decode cL_law 112 = .ok (.iconst 2, 1) := by decide +kernel
theorem dL_law_113 : decode cL_law 113 = .ok (.iadd, 1) := by decide +kernel
theorem dL_law_114 : decode cL_law 114 = .ok (.iaload, 1) := by decide +kernel
theorem dL_law_115 : decode cL_law 115 = .ok (.aload_n 0, 1) := by decide +kernel
theorem dL_law_116 : decode cL_law 116 = .ok (.iload_n 3, 1) := by decide +kernel
theorem dL_law_117 : decode cL_law 117 = .ok (.iconst 3, 1) := by decide +kernel
theorem dL_law_118 : decode cL_law 118 = .ok (.iadd, 1) := by decide +kernel
theorem dL_law_119 : decode cL_law 119 = .ok (.iaload, 1) := by decide +kernel
theorem dL_law_120 : decode cL_law 120 = .ok (.invokevirtual 13, 3) := by decide +kernel
theorem dL_law_123 : decode cL_law 123 = .ok (.aload_n 2, 1) := by decide +kernel
theorem dL_law_124 : decode cL_law 124 = .ok (.aload_n 0, 1) := by decide +kernel
theorem dL_law_125 : decode cL_law 125 = .ok (.iload_n 3, 1) := by decide +kernel
theorem dL_law_126 : decode cL_law 126 = .ok (.iconst 1, 1) := by decide +kernel
theorem dL_law_127 : decode cL_law 127 = .ok (.iadd, 1) := by decide +kernel
theorem dL_law_128 : decode cL_law 128 = .ok (.iaload, 1) := by decide +kernel
theorem dL_law_129 : decode cL_law 129 = .ok (.aload_n 0, 1) := by decide +kernel
theorem dL_law_130 : decode cL_law 130 = .ok (.iload_n 3, 1) := by decide +kernel
theorem dL_law_131 : decode cL_law 131 = .ok (.iconst 2, 1) := by decide +kernel
theorem dL_law_132 : decode cL_law 132 = .ok (.iadd, 1) := by decide +kernel
theorem dL_law_133 : decode cL_law 133 = .ok (.iaload, 1) := by decide +kernel
theorem dL_law_134 : decode cL_law 134 = .ok (.aload_n 0, 1) := by decide +kernel
theorem dL_law_135 : decode cL_law 135 = .ok (.iload_n 3, 1) := by decide +kernel
theorem dL_law_136 : decode cL_law 136 = .ok (.iconst 3, 1) := by decide +kernel
theorem dL_law_137 : decode cL_law 137 = .ok (.iadd, 1) := by decide +kernel
theorem dL_law_138 : decode cL_law 138 = .ok (.iaload, 1) := by decide +kernel
theorem dL_law_139 : decode cL_law 139 = .ok (.invokevirtual 17, 3) := by decide +kernel
theorem dL_law_142 : decode cL_law 142 = .ok (.if_icmp .eq 300, 3) := by decide +kernel
theorem dL_law_145 : decode cL_law 145 = .ok (.iconst 0, 1) := by decide +kernel
theorem dL_law_146 : decode cL_law 146 = .ok (.ireturn, 1) := by decide +kernel
theorem dL_law_147 : decode cL_law 147 = .ok (.aload_n 1, 1) := by decide +kernel
theorem dL_law_148 : decode cL_law 148 = .ok (.invokevirtual 18, 3) := by decide +kernel
theorem dL_law_151 : decode cL_law 151 = .ok (.aload_n 2, 1) := by decide +kernel
theorem dL_law_152 : decode cL_law 152 = .ok (.invokevirtual 21, 3) := by decide +kernel
theorem dL_law_155 : decode cL_law 155 = .ok (.goto 287, 3) := by decide +kernel
theorem dL_law_158 : decode cL_law 158 = .ok (.aload_n 1, 1) := by decide +kernel
theorem dL_law_159 : decode cL_law 159 = .ok (.invokevirtual 22, 3) := by decide +kernel
theorem dL_law_162 : decode cL_law 162 = .ok (.aload_n 2, 1) := by decide +kernel
theorem dL_law_163 : decode cL_law 163 = .ok (.invokevirtual 25, 3) := by decide +kernel
theorem dL_law_166 : decode cL_law 166 = .ok (.goto 276, 3) := by decide +kernel
theorem dL_law_169 : decode cL_law 169 = .ok (.aload_n 1, 1) := by decide +kernel
theorem dL_law_170 : decode cL_law 170 = .ok (.invokevirtual 26, 3) := by decide +kernel
theorem dL_law_173 : decode cL_law 173 = .ok (.aload_n 2, 1) := by decide +kernel
theorem dL_law_174 : decode cL_law 174 = .ok (.invokevirtual 30, 3) := by decide +kernel
theorem dL_law_177 : decode cL_law 177 = .ok (.if_icmp .eq 265, 3) := by decide +kernel
theorem dL_law_180 : decode cL_law 180 = .ok (.iconst 0, 1) := by decide +kernel
theorem dL_law_181 : decode cL_law 181 = .ok (.ireturn, 1) := by decide +kernel
theorem dL_law_182 : decode cL_law 182 = .ok (.aload_n 1, 1) := by decide +kernel
theorem dL_law_183 : decode cL_law 183 = .ok (.aload_n 0, 1) := by decide +kernel
theorem dL_law_184 : decode cL_law 184 = .ok (.iload_n 3, 1) := by decide +kernel
theorem dL_law_185 : decode cL_law 185 = .ok (.iconst 1, 1) := by decide +kernel
theorem dL_law_186 : decode cL_law 186 = .ok (.iadd, 1) := by decide +kernel
theorem dL_law_187 : decode cL_law 187 = .ok (.iaload, 1) := by decide +kernel
theorem dL_law_188 : decode cL_law 188 = .ok (.aload_n 0, 1) := by decide +kernel
theorem dL_law_189 : decode cL_law 189 = .ok (.iload_n 3, 1) := by decide +kernel
theorem dL_law_190 : decode cL_law 190 = .ok (.iconst 2, 1) := by decide +kernel
theorem dL_law_191 : decode cL_law 191 = .ok (.iadd, 1) := by decide +kernel
theorem dL_law_192 : decode cL_law 192 = .ok (.iaload, 1) := by decide +kernel
theorem dL_law_193 : decode cL_law 193 = .ok (.invokevirtual 31, 3) := by decide +kernel
theorem dL_law_196 : decode cL_law 196 = .ok (.aload_n 2, 1) := by decide +kernel
theorem dL_law_197 : decode cL_law 197 = .ok (.aload_n 0, 1) := by decide +kernel
theorem dL_law_198 : decode cL_law 198 = .ok (.iload_n 3, 1) := by decide +kernel
theorem dL_law_199 : decode cL_law 199 = .ok (.iconst 1, 1) := by decide +kernel
theorem dL_law_200 : decode cL_law 200 = .ok (.iadd, 1) := by decide +kernel
theorem dL_law_201 : decode cL_law 201 = .ok (.iaload, 1) := by decide +kernel
theorem dL_law_202 : decode cL_law 202 = .ok (.aload_n 0, 1) := by decide +kernel
theorem dL_law_203 : decode cL_law 203 = .ok (.iload_n 3, 1) := by decide +kernel
theorem dL_law_204 : decode cL_law 204 = .ok (.iconst 2, 1) := by decide +kernel
theorem dL_law_205 : decode cL_law 205 = .ok (.iadd, 1) := by decide +kernel
theorem dL_law_206 : decode cL_law 206 = .ok (.iaload, 1) := by decide +kernel
theorem dL_law_207 : decode cL_law 207 = .ok (.invokevirtual 35, 3) := by decide +kernel
theorem dL_law_210 : decode cL_law 210 = .ok (.if_icmp .eq 232, 3) := by decide +kernel
theorem dL_law_213 : decode cL_law 213 = .ok (.iconst 0, 1) := by decide +kernel
theorem dL_law_214 : decode cL_law 214 = .ok (.ireturn, 1) := by decide +kernel
theorem dL_law_215 : decode cL_law 215 = .ok (.aload_n 1, 1) := by decide +kernel
theorem dL_law_216 : decode cL_law 216 = .ok (.aload_n 0, 1) := by decide +kernel
theorem dL_law_217 : decode cL_law 217 = .ok (.iload_n 3, 1) := by decide +kernel
theorem dL_law_218 : decode cL_law 218 = .ok (.iconst 1, 1) := by decide +kernel
theorem dL_law_219 : decode cL_law 219 = .ok (.iadd, 1) := by decide +kernel
theorem dL_law_220 : decode cL_law 220 = .ok (.iaload, 1) := by decide +kernel
theorem dL_law_221 : decode cL_law 221 = .ok (.invokevirtual 36, 3) := by decide +kernel
theorem dL_law_224 : decode cL_law 224 = .ok (.aload_n 2, 1) := by decide +kernel
theorem dL_law_225 : decode cL_law 225 = .ok (.aload_n 0, 1) := by decide +kernel
theorem dL_law_226 : decode cL_law 226 = .ok (.iload_n 3, 1) := by decide +kernel
theorem dL_law_227 : decode cL_law 227 = .ok (.iconst 1, 1) := by decide +kernel
theorem dL_law_228 : decode cL_law 228 = .ok (.iadd, 1) := by decide +kernel
theorem dL_law_229 : decode cL_law 229 = .ok (.iaload, 1) := by decide +kernel
theorem dL_law_230 : decode cL_law 230 = .ok (.invokevirtual 40, 3) := by decide +kernel
theorem dL_law_233 : decode cL_law 233 = .ok (.if_icmp .eq 209, 3) := by decide +kernel
theorem dL_law_236 : decode cL_law 236 = .ok (.iconst 0, 1) := by decide +kernel
theorem dL_law_237 : decode cL_law 237 = .ok (.ireturn, 1) := by decide +kernel
theorem dL_law_238 : decode cL_law 238 = .ok (.aload_n 1, 1) := by decide +kernel
theorem dL_law_239 : decode cL_law 239 = .ok (.aload_n 0, 1) := by decide +kernel
theorem dL_law_240 : decode cL_law 240 = .ok (.iload_n 3, 1) := by decide +kernel
theorem dL_law_241 : decode cL_law 241 = .ok (.iconst 1, 1) := by decide +kernel
theorem dL_law_242 : decode cL_law 242 = .ok (.iadd, 1) := by decide +kernel
theorem dL_law_243 : decode cL_law 243 = .ok (.iaload, 1) := by decide +kernel
theorem dL_law_244 : decode cL_law 244 = .ok (.invokevirtual 41, 3) := by decide +kernel
theorem dL_law_247 : decode cL_law 247 = .ok (.aload_n 2, 1) := by decide +kernel
theorem dL_law_248 : decode cL_law 248 = .ok (.aload_n 0, 1) := by decide +kernel
theorem dL_law_249 : decode cL_law 249 = .ok (.iload_n 3, 1) := by decide +kernel
theorem dL_law_250 : decode cL_law 250 = .ok (.iconst 1, 1) := by decide +kernel
theorem dL_law_251 : decode cL_law 251 = .ok (.iadd, 1) := by decide +kernel
theorem dL_law_252 : decode cL_law 252 = .ok (.iaload, 1) := by decide +kernel
theorem dL_law_253 : decode cL_law 253 = .ok (.invokevirtual 45, 3) := by decide +kernel
theorem dL_law_256 : decode cL_law 256 = .ok (.if_icmp .eq 186, 3) := by decide +kernel
theorem dL_law_259 : decode cL_law 259 = .ok (.iconst 0, 1) := by decide +kernel
theorem dL_law_260 : decode cL_law 260 = .ok (.ireturn, 1) := by decide +kernel
theorem dL_law_261 : decode cL_law 261 = .ok (.aload_n 1, 1) := by decide +kernel
theorem dL_law_262 : decode cL_law 262 = .ok (.invokevirtual 46, 3) := by decide +kernel
theorem dL_law_265 : decode cL_law 265 = .ok (.aload_n 2, 1) := by decide +kernel
theorem dL_law_266 : decode cL_law 266 = .ok (.invokevirtual 49, 3) := by decide +kernel
theorem dL_law_269 : decode cL_law 269 = .ok (.if_icmp .eq 173, 3) := by decide +kernel
theorem dL_law_272 : decode cL_law 272 = .ok (.iconst 0, 1) := by decide +kernel
theorem dL_law_273 : decode cL_law 273 = .ok (.ireturn, 1) := by decide +kernel
theorem dL_law_274 : decode cL_law 274 = .ok (.aload_n 1, 1) := by decide +kernel
theorem dL_law_275 : decode cL_law 275 = .ok (.aload_n 0, 1) := by decide +kernel
theorem dL_law_276 : decode cL_law 276 = .ok (.iload_n 3, 1) := by decide +kernel
theorem dL_law_277 : decode cL_law 277 = .ok (.iconst 1, 1) := by decide +kernel
theorem dL_law_278 : decode cL_law 278 = .ok (.iadd, 1) := by decide +kernel
theorem dL_law_279 : decode cL_law 279 = .ok (.iaload, 1) := by decide +kernel
theorem dL_law_280 : decode cL_law 280 = .ok (.invokevirtual 50, 3) := by decide +kernel
theorem dL_law_283 : decode cL_law 283 = .ok (.aload_n 2, 1) := by decide +kernel
theorem dL_law_284 : decode cL_law 284 = .ok (.aload_n 0, 1) := by decide +kernel
theorem dL_law_285 : decode cL_law 285 = .ok (.iload_n 3, 1) := by decide +kernel
theorem dL_law_286 : decode cL_law 286 = .ok (.iconst 1, 1) := by decide +kernel
theorem dL_law_287 : decode cL_law 287 = .ok (.iadd, 1) := by decide +kernel
theorem dL_law_288 : decode cL_law 288 = .ok (.iaload, 1) := by decide +kernel
theorem dL_law_289 : decode cL_law 289 = .ok (.invokevirtual 53, 3) := by decide +kernel
theorem dL_law_292 : decode cL_law 292 = .ok (.if_icmp .eq 150, 3) := by decide +kernel
theorem dL_law_295 : decode cL_law 295 = .ok (.iconst 0, 1) := by decide +kernel
theorem dL_law_296 : decode cL_law 296 = .ok (.ireturn, 1) := by decide +kernel
theorem dL_law_297 : decode cL_law 297 = .ok (.aload_n 1, 1) := by decide +kernel
theorem dL_law_298 : decode cL_law 298 = .ok (.aload_n 0, 1) := by decide +kernel
theorem dL_law_299 : decode cL_law 299 = .ok (.iload_n 3, 1) := by decide +kernel
theorem dL_law_300 : decode cL_law 300 = .ok (.iconst 1, 1) := by decide +kernel
theorem dL_law_301 : decode cL_law 301 = .ok (.iadd, 1) := by decide +kernel
theorem dL_law_302 : decode cL_law 302 = .ok (.iaload, 1) := by decide +kernel
theorem dL_law_303 : decode cL_law 303 = .ok (.invokevirtual 54, 3) := by decide +kernel
theorem dL_law_306 : decode cL_law 306 = .ok (.aload_n 2, 1) := by decide +kernel
theorem dL_law_307 : decode cL_law 307 = .ok (.aload_n 0, 1) := by decide +kernel
theorem dL_law_308 : decode cL_law 308 = .ok (.iload_n 3, 1) := by decide +kernel
theorem dL_law_309 : decode cL_law 309 = .ok (.iconst 1, 1) := by decide +kernel
theorem dL_law_310 : decode cL_law 310 = .ok (.iadd, 1) := by decide +kernel
theorem dL_law_311 : decode cL_law 311 = .ok (.iaload, 1) := by decide +kernel
theorem dL_law_312 : decode cL_law 312 = .ok (.invokevirtual 57, 3) := by decide +kernel
theorem dL_law_315 : decode cL_law 315 = .ok (.if_icmp .eq 127, 3) := by decide +kernel
theorem dL_law_318 : decode cL_law 318 = .ok (.iconst 0, 1) := by decide +kernel
theorem dL_law_319 : decode cL_law 319 = .ok (.ireturn, 1) := by decide +kernel
theorem dL_law_320 : decode cL_law 320 = .ok (.aload_n 1, 1) := by decide +kernel
theorem dL_law_321 : decode cL_law 321 = .ok (.aload_n 0, 1) := by decide +kernel
theorem dL_law_322 : decode cL_law 322 = .ok (.iload_n 3, 1) := by decide +kernel
theorem dL_law_323 : decode cL_law 323 = .ok (.iconst 1, 1) := by decide +kernel
theorem dL_law_324 : decode cL_law 324 = .ok (.iadd, 1) := by decide +kernel
theorem dL_law_325 : decode cL_law 325 = .ok (.iaload, 1) := by decide +kernel
theorem dL_law_326 : decode cL_law 326 = .ok (.aload_n 0, 1) := by decide +kernel
theorem dL_law_327 : decode cL_law 327 = .ok (.iload_n 3, 1) := by decide +kernel
theorem dL_law_328 : decode cL_law 328 = .ok (.iconst 2, 1) := by decide +kernel
theorem dL_law_329 : decode cL_law 329 = .ok (.iadd, 1) := by decide +kernel
theorem dL_law_330 : decode cL_law 330 = .ok (.iaload, 1) := by decide +kernel
theorem dL_law_331 : decode cL_law 331 = .ok (.invokevirtual 58, 3) := by decide +kernel
theorem dL_law_334 : decode cL_law 334 = .ok (.aload_n 2, 1) := by decide +kernel
theorem dL_law_335 : decode cL_law 335 = .ok (.aload_n 0, 1) := by decide +kernel
theorem dL_law_336 : decode cL_law 336 = .ok (.iload_n 3, 1) := by decide +kernel
theorem dL_law_337 : decode cL_law 337 = .ok (.iconst 1, 1) := by decide +kernel
theorem dL_law_338 : decode cL_law 338 = .ok (.iadd, 1) := by decide +kernel
theorem dL_law_339 : decode cL_law 339 = .ok (.iaload, 1) := by decide +kernel
theorem dL_law_340 : decode cL_law 340 = .ok (.aload_n 0, 1) := by decide +kernel
theorem dL_law_341 : decode cL_law 341 = .ok (.iload_n 3, 1) := by decide +kernel
theorem dL_law_342 : decode cL_law 342 = .ok (.iconst 2, 1) := by decide +kernel
theorem dL_law_343 : decode cL_law 343 = .ok (.iadd, 1) := by decide +kernel
theorem dL_law_344 : decode cL_law 344 = .ok (.iaload, 1) := by decide +kernel
theorem dL_law_345 : decode cL_law 345 = .ok (.invokevirtual 61, 3) := by decide +kernel
theorem dL_law_348 : decode cL_law 348 = .ok (.if_icmp .eq 94, 3) := by decide +kernel
theorem dL_law_351 : decode cL_law 351 = .ok (.iconst 0, 1) := by decide +kernel
theorem dL_law_352 : decode cL_law 352 = .ok (.ireturn, 1) := by decide +kernel
theorem dL_law_353 : decode cL_law 353 = .ok (.aload_n 1, 1) := by decide +kernel
theorem dL_law_354 : decode cL_law 354 = .ok (.aload_n 0, 1) := by decide +kernel
theorem dL_law_355 : decode cL_law 355 = .ok (.iload_n 3, 1) := by decide +kernel
theorem dL_law_356 : decode cL_law 356 = .ok (.iconst 1, 1) := by decide +kernel
theorem dL_law_357 : decode cL_law 357 = .ok (.iadd, 1) := by decide +kernel
theorem dL_law_358 : decode cL_law 358 = .ok (.iaload, 1) := by decide +kernel
theorem dL_law_359 : decode cL_law 359 = .ok (.invokevirtual 62, 3) := by decide +kernel
theorem dL_law_362 : decode cL_law 362 = .ok (.aload_n 2, 1) := by decide +kernel
theorem dL_law_363 : decode cL_law 363 = .ok (.aload_n 0, 1) := by decide +kernel
theorem dL_law_364 : decode cL_law 364 = .ok (.iload_n 3, 1) := by decide +kernel
theorem dL_law_365 : decode cL_law 365 = .ok (.iconst 1, 1) := by decide +kernel
theorem dL_law_366 : decode cL_law 366 = .ok (.iadd, 1) := by decide +kernel
theorem dL_law_367 : decode cL_law 367 = .ok (.iaload, 1) := by decide +kernel
theorem dL_law_368 : decode cL_law 368 = .ok (.invokevirtual 65, 3) := by decide +kernel
theorem dL_law_371 : decode cL_law 371 = .ok (.if_icmp .eq 71, 3) := by decide +kernel
theorem dL_law_374 : decode cL_law 374 = .ok (.iconst 0, 1) := by decide +kernel
theorem dL_law_375 : decode cL_law 375 = .ok (.ireturn, 1) := by decide +kernel
theorem dL_law_376 : decode cL_law 376 = .ok (.aload_n 1, 1) := by decide +kernel
theorem dL_law_377 : decode cL_law 377 = .ok (.aload_n 0, 1) := by decide +kernel
theorem dL_law_378 : decode cL_law 378 = .ok (.iload_n 3, 1) := by decide +kernel
theorem dL_law_379 : decode cL_law 379 = .ok (.iconst 1, 1) := by decide +kernel
theorem dL_law_380 : decode cL_law 380 = .ok (.iadd, 1) := by decide +kernel
theorem dL_law_381 : decode cL_law 381 = .ok (.iaload, 1) := by decide +kernel
theorem dL_law_382 : decode cL_law 382 = .ok (.aload_n 0, 1) := by decide +kernel
theorem dL_law_383 : decode cL_law 383 = .ok (.iload_n 3, 1) := by decide +kernel
theorem dL_law_384 : decode cL_law 384 = .ok (.iconst 2, 1) := by decide +kernel
theorem dL_law_385 : decode cL_law 385 = .ok (.iadd, 1) := by decide +kernel
theorem dL_law_386 : decode cL_law 386 = .ok (.iaload, 1) := by decide +kernel
theorem dL_law_387 : decode cL_law 387 = .ok (.invokevirtual 66, 3) := by decide +kernel
theorem dL_law_390 : decode cL_law 390 = .ok (.aload_n 2, 1) := by decide +kernel
theorem dL_law_391 : decode cL_law 391 = .ok (.aload_n 0, 1) := by decide +kernel
theorem dL_law_392 : decode cL_law 392 = .ok (.iload_n 3, 1) := by decide +kernel
theorem dL_law_393 : decode cL_law 393 = .ok (.iconst 1, 1) := by decide +kernel
theorem dL_law_394 : decode cL_law 394 = .ok (.iadd, 1) := by decide +kernel
theorem dL_law_395 : decode cL_law 395 = .ok (.iaload, 1) := by decide +kernel
theorem dL_law_396 : decode cL_law 396 = .ok (.aload_n 0, 1) := by decide +kernel
theorem dL_law_397 : decode cL_law 397 = .ok (.iload_n 3, 1) := by decide +kernel
theorem dL_law_398 : decode cL_law 398 = .ok (.iconst 2, 1) := by decide +kernel
theorem dL_law_399 : decode cL_law 399 = .ok (.iadd, 1) := by decide +kernel
theorem dL_law_400 : decode cL_law 400 = .ok (.iaload, 1) := by decide +kernel
theorem dL_law_401 : decode cL_law 401 = .ok (.invokevirtual 69, 3) := by decide +kernel
theorem dL_law_404 : decode cL_law 404 = .ok (.if_icmp .eq 38, 3) := by decide +kernel
theorem dL_law_407 : decode cL_law 407 = .ok (.iconst 0, 1) := by decide +kernel
theorem dL_law_408 : decode cL_law 408 = .ok (.ireturn, 1) := by decide +kernel
theorem dL_law_409 : decode cL_law 409 = .ok (.aload_n 1, 1) := by decide +kernel
theorem dL_law_410 : decode cL_law 410 = .ok (.aload_n 0, 1) := by decide +kernel
theorem dL_law_411 : decode cL_law 411 = .ok (.iload_n 3, 1) := by decide +kernel
theorem dL_law_412 : decode cL_law 412 = .ok (.iconst 1, 1) := by decide +kernel
theorem dL_law_413 : decode cL_law 413 = .ok (.iadd, 1) := by decide +kernel
theorem dL_law_414 : decode cL_law 414 = .ok (.iaload, 1) := by decide +kernel
theorem dL_law_415 : decode cL_law 415 = .ok (.aload_n 0, 1) := by decide +kernel
theorem dL_law_416 : decode cL_law 416 = .ok (.iload_n 3, 1) := by decide +kernel
theorem dL_law_417 : decode cL_law 417 = .ok (.iconst 2, 1) := by decide +kernel
theorem dL_law_418 : decode cL_law 418 = .ok (.iadd, 1) := by decide +kernel
theorem dL_law_419 : decode cL_law 419 = .ok (.iaload, 1) := by decide +kernel
theorem dL_law_420 : decode cL_law 420 = .ok (.invokevirtual 70, 3) := by decide +kernel
theorem dL_law_423 : decode cL_law 423 = .ok (.aload_n 2, 1) := by decide +kernel
theorem dL_law_424 : decode cL_law 424 = .ok (.aload_n 0, 1) := by decide +kernel
theorem dL_law_425 : decode cL_law 425 = .ok (.iload_n 3, 1) := by decide +kernel
theorem dL_law_426 : decode cL_law 426 = .ok (.iconst 1, 1) := by decide +kernel
theorem dL_law_427 : decode cL_law 427 = .ok (.iadd, 1) := by decide +kernel
theorem dL_law_428 : decode cL_law 428 = .ok (.iaload, 1) := by decide +kernel
theorem dL_law_429 : decode cL_law 429 = .ok (.aload_n 0, 1) := by decide +kernel
theorem dL_law_430 : decode cL_law 430 = .ok (.iload_n 3, 1) := by decide +kernel
theorem dL_law_431 : decode cL_law 431 = .ok (.iconst 2, 1) := by decide +kernel
theorem dL_law_432 : decode cL_law 432 = .ok (.iadd, 1) := by decide +kernel
theorem dL_law_433 : decode cL_law 433 = .ok (.iaload, 1) := by decide +kernel
theorem dL_law_434 : decode cL_law 434 = .ok (.invokevirtual 73, 3) := by decide +kernel
theorem dL_law_437 : decode cL_law 437 = .ok (.if_icmp .eq 5, 3) := by decide +kernel
theorem dL_law_440 : decode cL_law 440 = .ok (.iconst 0, 1) := by decide +kernel
theorem dL_law_441 : decode cL_law 441 = .ok (.ireturn, 1) := by decide +kernel
theorem dL_law_442 : decode cL_law 442 = .ok (.iinc 3 4, 3) := by decide +kernel
theorem dL_law_445 : decode cL_law 445 = .ok (.goto (-427), 3) := by decide +kernel
theorem dL_law_448 : decode cL_law 448 = .ok (.iconst 1, 1) := by decide +kernel
theorem dL_law_449 : decode cL_law 449 = .ok (.ireturn, 1) := by decide +kernel
theorem q18 : (Jvm.Cond.initialized "ReplayDeskLaw") ∈ lw_all := lw_g (lw_at lw_m1 0 rfl) rfl
theorem q21 : (Jvm.Cond.classLink "ReplayDeskLaw" (7 : Nat) "ReplayDesk") ∈ lw_all := lw_g (lw_at lw_m1 3 rfl) rfl
theorem q23 : (Jvm.Cond.methodLink "ReplayDeskLaw" (9 : Nat) ({ cls := "ReplayDesk", name := "<init>", desc := "()V" } : Jvm.MethodName)) ∈ lw_all := lw_g (lw_at lw_m1 5 rfl) rfl
theorem q86 : (Jvm.Cond.methodLink "ReplayDeskLaw" (13 : Nat) ({ cls := "ReplayDesk", name := "emit", desc := "(III)I" } : Jvm.MethodName)) ∈ lw_all := lw_g (lw_at lw_m1 68 rfl) rfl
theorem q90 : (Jvm.Cond.methodLink "ReplayDeskLaw" (18 : Nat) ({ cls := "ReplayDesk", name := "forgetAll", desc := "()V" } : Jvm.MethodName)) ∈ lw_all := lw_g (lw_at lw_m1 72 rfl) rfl
theorem q102 : (Jvm.Cond.methodLink "ReplayDeskLaw" (22 : Nat) ({ cls := "ReplayDesk", name := "clear", desc := "()V" } : Jvm.MethodName)) ∈ lw_all := lw_g (lw_at lw_m1 84 rfl) rfl
theorem q107 : (Jvm.Cond.methodLink "ReplayDeskLaw" (26 : Nat) ({ cls := "ReplayDesk", name := "start", desc := "()I" } : Jvm.MethodName)) ∈ lw_all := lw_g (lw_at lw_m1 89 rfl) rfl
theorem q147 : (Jvm.Cond.methodLink "ReplayDeskLaw" (31 : Nat) ({ cls := "ReplayDesk", name := "answer", desc := "(II)I" } : Jvm.MethodName)) ∈ lw_all := lw_g (lw_at lw_m1 129 rfl) rfl
theorem q155 : (Jvm.Cond.methodLink "ReplayDeskLaw" (36 : Nat) ({ cls := "ReplayDesk", name := "goOn", desc := "(I)I" } : Jvm.MethodName)) ∈ lw_all := lw_g (lw_at lw_m1 137 rfl) rfl
theorem q159 : (Jvm.Cond.methodLink "ReplayDeskLaw" (41 : Nat) ({ cls := "ReplayDesk", name := "forget", desc := "(I)Z" } : Jvm.MethodName)) ∈ lw_all := lw_g (lw_at lw_m1 141 rfl) rfl
theorem q160 : (Jvm.Cond.methodLink "ReplayDeskLaw" (46 : Nat) ({ cls := "ReplayDesk", name := "moments", desc := "()I" } : Jvm.MethodName)) ∈ lw_all := lw_g (lw_at lw_m1 142 rfl) rfl
theorem q164 : (Jvm.Cond.methodLink "ReplayDeskLaw" (50 : Nat) ({ cls := "ReplayDesk", name := "kind", desc := "(I)I" } : Jvm.MethodName)) ∈ lw_all := lw_g (lw_at lw_m1 146 rfl) rfl
theorem q168 : (Jvm.Cond.methodLink "ReplayDeskLaw" (54 : Nat) ({ cls := "ReplayDesk", name := "position", desc := "(I)I" } : Jvm.MethodName)) ∈ lw_all := lw_g (lw_at lw_m1 150 rfl) rfl
theorem q172 : (Jvm.Cond.methodLink "ReplayDeskLaw" (58 : Nat) ({ cls := "ReplayDesk", name := "peek", desc := "(II)I" } : Jvm.MethodName)) ∈ lw_all := lw_g (lw_at lw_m1 154 rfl) rfl
theorem q176 : (Jvm.Cond.methodLink "ReplayDeskLaw" (62 : Nat) ({ cls := "ReplayDesk", name := "said", desc := "(I)I" } : Jvm.MethodName)) ∈ lw_all := lw_g (lw_at lw_m1 158 rfl) rfl
theorem q180 : (Jvm.Cond.methodLink "ReplayDeskLaw" (66 : Nat) ({ cls := "ReplayDesk", name := "lastSaid", desc := "(II)I" } : Jvm.MethodName)) ∈ lw_all := lw_g (lw_at lw_m1 162 rfl) rfl
theorem q184 : (Jvm.Cond.methodLink "ReplayDeskLaw" (70 : Nat) ({ cls := "ReplayDesk", name := "difference", desc := "(II)I" } : Jvm.MethodName)) ∈ lw_all := lw_g (lw_at lw_m1 166 rfl) rfl
theorem q192 : (Jvm.Cond.classLink "ReplayDeskLaw" (10 : Nat) "ReplayDeskModel") ∈ lw_all := lw_g (lw_at lw_m1 174 rfl) rfl
theorem q194 : (Jvm.Cond.methodLink "ReplayDeskLaw" (12 : Nat) ({ cls := "ReplayDeskModel", name := "<init>", desc := "()V" } : Jvm.MethodName)) ∈ lw_all := lw_g (lw_at lw_m1 176 rfl) rfl
theorem q242 : (Jvm.Cond.methodLink "ReplayDeskLaw" (17 : Nat) ({ cls := "ReplayDeskModel", name := "emit", desc := "(III)I" } : Jvm.MethodName)) ∈ lw_all := lw_g (lw_at lw_m1 224 rfl) rfl
theorem q250 : (Jvm.Cond.methodLink "ReplayDeskLaw" (21 : Nat) ({ cls := "ReplayDeskModel", name := "forgetAll", desc := "()V" } : Jvm.MethodName)) ∈ lw_all := lw_g (lw_at lw_m1 232 rfl) rfl
theorem q254 : (Jvm.Cond.methodLink "ReplayDeskLaw" (25 : Nat) ({ cls := "ReplayDeskModel", name := "clear", desc := "()V" } : Jvm.MethodName)) ∈ lw_all := lw_g (lw_at lw_m1 236 rfl) rfl
theorem q259 : (Jvm.Cond.methodLink "ReplayDeskLaw" (30 : Nat) ({ cls := "ReplayDeskModel", name := "start", desc := "()I" } : Jvm.MethodName)) ∈ lw_all := lw_g (lw_at lw_m2 1 rfl) rfl
theorem q275 : (Jvm.Cond.methodLink "ReplayDeskLaw" (35 : Nat) ({ cls := "ReplayDeskModel", name := "answer", desc := "(II)I" } : Jvm.MethodName)) ∈ lw_all := lw_g (lw_at lw_m2 17 rfl) rfl
theorem q287 : (Jvm.Cond.methodLink "ReplayDeskLaw" (40 : Nat) ({ cls := "ReplayDeskModel", name := "goOn", desc := "(I)I" } : Jvm.MethodName)) ∈ lw_all := lw_g (lw_at lw_m2 29 rfl) rfl
theorem q291 : (Jvm.Cond.methodLink "ReplayDeskLaw" (45 : Nat) ({ cls := "ReplayDeskModel", name := "forget", desc := "(I)Z" } : Jvm.MethodName)) ∈ lw_all := lw_g (lw_at lw_m2 33 rfl) rfl
theorem q295 : (Jvm.Cond.methodLink "ReplayDeskLaw" (49 : Nat) ({ cls := "ReplayDeskModel", name := "moments", desc := "()I" } : Jvm.MethodName)) ∈ lw_all := lw_g (lw_at lw_m2 37 rfl) rfl
theorem q296 : (Jvm.Cond.methodLink "ReplayDeskLaw" (53 : Nat) ({ cls := "ReplayDeskModel", name := "kind", desc := "(I)I" } : Jvm.MethodName)) ∈ lw_all := lw_g (lw_at lw_m2 38 rfl) rfl
theorem q304 : (Jvm.Cond.methodLink "ReplayDeskLaw" (57 : Nat) ({ cls := "ReplayDeskModel", name := "position", desc := "(I)I" } : Jvm.MethodName)) ∈ lw_all := lw_g (lw_at lw_m2 46 rfl) rfl
theorem q308 : (Jvm.Cond.methodLink "ReplayDeskLaw" (61 : Nat) ({ cls := "ReplayDeskModel", name := "peek", desc := "(II)I" } : Jvm.MethodName)) ∈ lw_all := lw_g (lw_at lw_m2 50 rfl) rfl
theorem q312 : (Jvm.Cond.methodLink "ReplayDeskLaw" (65 : Nat) ({ cls := "ReplayDeskModel", name := "said", desc := "(I)I" } : Jvm.MethodName)) ∈ lw_all := lw_g (lw_at lw_m2 54 rfl) rfl
theorem q316 : (Jvm.Cond.methodLink "ReplayDeskLaw" (69 : Nat) ({ cls := "ReplayDeskModel", name := "lastSaid", desc := "(II)I" } : Jvm.MethodName)) ∈ lw_all := lw_g (lw_at lw_m2 58 rfl) rfl
theorem q320 : (Jvm.Cond.methodLink "ReplayDeskLaw" (73 : Nat) ({ cls := "ReplayDeskModel", name := "difference", desc := "(II)I" } : Jvm.MethodName)) ∈ lw_all := lw_g (lw_at lw_m2 62 rfl) rfl
end
section
/-! number rows: an int that is nI n stays nI n -/
def rmk (k : Nat) : Room := { frames := k, cells := 0, slots := 0, locals := 30 * k }
def lo16 (x : Int32) : Nat := x.toBitVec.toNat % 16
def lo4 (x : Int32) : Nat := x.toBitVec.toNat % 4
theorem lo16_lt (x : Int32) : lo16 x < 16 := Nat.mod_lt _ (by decide)
theorem lo4_lt (x : Int32) : lo4 x < 4 := Nat.mod_lt _ (by decide)
theorem lo4_nI {n : Nat} (h : n < 4) : lo4 (nI n) = n := by unfold lo4; rw [pk_tn (by omega)]; omega
theorem lo16_nI {n : Nat} (h : n < 16) : lo16 (nI n) = n := by unfold lo16; rw [pk_tn (by omega)]; omega
theorem and15 (x : Int32) : x &&& nI 15 = nI (lo16 x) := pk_and x 4 (by decide)
theorem and3 (x : Int32) : x &&& nI 3 = nI (lo4 x) := pk_and x 2 (by decide)
theorem b8 {n : Nat} (h : n < 128) : (nI n).toInt8.toInt32 = nI n := (by decide +kernel : ∀ n, n < 128 → (nI n).toInt8.toInt32 = nI n) n h
theorem nb8 {n : Nat} (h : n < 128) : vp_nar .byte (nI n) = nI n := b8 h
theorem sm_ : ∀ n, n < 32 → ((nI n &&& 31).toBitVec.smod 32).toNat = n := by decide +kernel
theorem sm2 : ((nI 2 &&& 31).toBitVec.smod 32).toNat = 2 := by decide +kernel
section NV
variable {p : Program} {l : Launch} {e : Env} {R : Room} {s : State} {m : MethodId} {args : Array Value} {below : List Frame} {meth : Method} {c : Code} {H : Heap} {locs : List Loc} {cells slots : Nat} {Q : State → Prop}
variable {cc : ByteArray} {pc nL : Nat} {ls : Array Slot} {rest : List Value}

theorem tp {x y : Int32} (h : x = y) (k : W p l e R s m args below meth c H locs cells slots Q (F0 m pc ls (.int y :: rest))) : W p l e R s m args below meth c H locs cells slots Q (F0 m pc ls (.int x :: rest)) := h ▸ k
theorem nv_iadd (hx : p.tables.exec = Jvm.exec) (hb : c.code = cc) {a b : Nat} (hdg : decode cc pc = .ok (.iadd, 1)) (k : W p l e R s m args below meth c H locs cells slots Q (F0 m (pc + 1) ls (.int (nI (a + b)) :: rest))) : W p l e R s m args below meth c H locs cells slots Q (F0 m pc ls (.int (nI b) :: .int (nI a) :: rest)) := lv_iadd hx hb hdg (by rw [nI_add]; exact k)
theorem nv_isub (hx : p.tables.exec = Jvm.exec) (hb : c.code = cc) {a b : Nat} (hab : b ≤ a) (hdg : decode cc pc = .ok (.isub, 1)) (k : W p l e R s m args below meth c H locs cells slots Q (F0 m (pc + 1) ls (.int (nI (a - b)) :: rest))) : W p l e R s m args below meth c H locs cells slots Q (F0 m pc ls (.int (nI b) :: .int (nI a) :: rest)) := lv_isub hx hb hdg (by rw [pk_sub hab]; exact k)
theorem nv_imul (hx : p.tables.exec = Jvm.exec) (hb : c.code = cc) {a b : Nat} (hdg : decode cc pc = .ok (.imul, 1)) (k : W p l e R s m args below meth c H locs cells slots Q (F0 m (pc + 1) ls (.int (nI (a * b)) :: rest))) : W p l e R s m args below meth c H locs cells slots Q (F0 m pc ls (.int (nI b) :: .int (nI a) :: rest)) := lv_imul hx hb hdg (by rw [pk_mul]; exact k)
theorem nv_ishr2 (hx : p.tables.exec = Jvm.exec) (hb : c.code = cc) {a : Nat} (ha : a < 2 ^ 31) (hdg : decode cc pc = .ok (.ishr, 1)) (k : W p l e R s m args below meth c H locs cells slots Q (F0 m (pc + 1) ls (.int (nI (a / 4)) :: rest))) : W p l e R s m args below meth c H locs cells slots Q (F0 m pc ls (.int (nI 2) :: .int (nI a) :: rest)) := lv_ishr hx hb hdg (by rw [pk_shrN ha _ 2 sm2]; exact k)
theorem nv_iand3 (hx : p.tables.exec = Jvm.exec) (hb : c.code = cc) {a : Nat} (ha : a < 2 ^ 32) (hdg : decode cc pc = .ok (.iand, 1)) (k : W p l e R s m args below meth c H locs cells slots Q (F0 m (pc + 1) ls (.int (nI (a % 4)) :: rest))) : W p l e R s m args below meth c H locs cells slots Q (F0 m pc ls (.int (nI 3) :: .int (nI a) :: rest)) := lv_iand hx hb hdg (by rw [pk_andN ha 2 (by decide)]; exact k)
theorem nv_iand7 (hx : p.tables.exec = Jvm.exec) (hb : c.code = cc) {a : Nat} (ha : a < 2 ^ 32) (hdg : decode cc pc = .ok (.iand, 1)) (k : W p l e R s m args below meth c H locs cells slots Q (F0 m (pc + 1) ls (.int (nI (a % 8)) :: rest))) : W p l e R s m args below meth c H locs cells slots Q (F0 m pc ls (.int (nI 7) :: .int (nI a) :: rest)) := lv_iand hx hb hdg (by rw [pk_andN ha 3 (by decide)]; exact k)
theorem rv_iand3 (hx : p.tables.exec = Jvm.exec) (hb : c.code = cc) {x : Int32} (hdg : decode cc pc = .ok (.iand, 1)) (k : W p l e R s m args below meth c H locs cells slots Q (F0 m (pc + 1) ls (.int (nI (lo4 x)) :: rest))) : W p l e R s m args below meth c H locs cells slots Q (F0 m pc ls (.int (nI 3) :: .int x :: rest)) := lv_iand hx hb hdg (by rw [and3]; exact k)
theorem rv_iand15 (hx : p.tables.exec = Jvm.exec) (hb : c.code = cc) {x : Int32} (hdg : decode cc pc = .ok (.iand, 1)) (k : W p l e R s m args below meth c H locs cells slots Q (F0 m (pc + 1) ls (.int (nI (lo16 x)) :: rest))) : W p l e R s m args below meth c H locs cells slots Q (F0 m pc ls (.int (nI 15) :: .int x :: rest)) := lv_iand hx hb hdg (by rw [and15]; exact k)
theorem nv_icmp_ge (hx : p.tables.exec = Jvm.exec) (hb : c.code = cc) {a b : Nat} (ha2 : a < 2 ^ 31) (hb2 : b < 2 ^ 31) {off : Int} {tgt : Nat} (hdg : decode cc pc = .ok (.if_icmp .ge off, 3)) (ht : (pc : Int) + off = (tgt : Int)) (kt : b ≤ a → W p l e R s m args below meth c H locs cells slots Q (F0 m tgt ls rest)) (kf : a < b → W p l e R s m args below meth c H locs cells slots Q (F0 m (pc + 3) ls rest)) : W p l e R s m args below meth c H locs cells slots Q (F0 m pc ls (.int (nI b) :: .int (nI a) :: rest)) := lv_icmp_ge hx hb hdg ht (fun q => kt ((nI_leI hb2 ha2).mp q)) (fun q => kf (Nat.not_le.mp (fun z => q ((nI_leI hb2 ha2).mpr z))))
theorem nv_icmp_gt (hx : p.tables.exec = Jvm.exec) (hb : c.code = cc) {a b : Nat} (ha2 : a < 2 ^ 31) (hb2 : b < 2 ^ 31) {off : Int} {tgt : Nat} (hdg : decode cc pc = .ok (.if_icmp .gt off, 3)) (ht : (pc : Int) + off = (tgt : Int)) (kt : b < a → W p l e R s m args below meth c H locs cells slots Q (F0 m tgt ls rest)) (kf : a ≤ b → W p l e R s m args below meth c H locs cells slots Q (F0 m (pc + 3) ls rest)) : W p l e R s m args below meth c H locs cells slots Q (F0 m pc ls (.int (nI b) :: .int (nI a) :: rest)) := lv_icmp_gt hx hb hdg ht (fun q => kt ((nI_ltI hb2 ha2).mp q)) (fun q => kf (Nat.not_lt.mp (fun z => q ((nI_ltI hb2 ha2).mpr z))))
theorem nv_icmp_lt (hx : p.tables.exec = Jvm.exec) (hb : c.code = cc) {a b : Nat} (ha2 : a < 2 ^ 31) (hb2 : b < 2 ^ 31) {off : Int} {tgt : Nat} (hdg : decode cc pc = .ok (.if_icmp .lt off, 3)) (ht : (pc : Int) + off = (tgt : Int)) (kt : a < b → W p l e R s m args below meth c H locs cells slots Q (F0 m tgt ls rest)) (kf : b ≤ a → W p l e R s m args below meth c H locs cells slots Q (F0 m (pc + 3) ls rest)) : W p l e R s m args below meth c H locs cells slots Q (F0 m pc ls (.int (nI b) :: .int (nI a) :: rest)) := lv_icmp_lt hx hb hdg ht (fun q => kt ((nI_ltI ha2 hb2).mp q)) (fun q => kf (Nat.not_lt.mp (fun z => q ((nI_ltI ha2 hb2).mpr z))))
theorem nv_icmp_le (hx : p.tables.exec = Jvm.exec) (hb : c.code = cc) {a b : Nat} (ha2 : a < 2 ^ 31) (hb2 : b < 2 ^ 31) {off : Int} {tgt : Nat} (hdg : decode cc pc = .ok (.if_icmp .le off, 3)) (ht : (pc : Int) + off = (tgt : Int)) (kt : a ≤ b → W p l e R s m args below meth c H locs cells slots Q (F0 m tgt ls rest)) (kf : b < a → W p l e R s m args below meth c H locs cells slots Q (F0 m (pc + 3) ls rest)) : W p l e R s m args below meth c H locs cells slots Q (F0 m pc ls (.int (nI b) :: .int (nI a) :: rest)) := lv_icmp_le hx hb hdg ht (fun q => kt ((nI_leI ha2 hb2).mp q)) (fun q => kf (Nat.not_le.mp (fun z => q ((nI_leI ha2 hb2).mpr z))))
theorem nv_icmp_eq (hx : p.tables.exec = Jvm.exec) (hb : c.code = cc) {a b : Nat} (ha2 : a < 2 ^ 31) (hb2 : b < 2 ^ 31) {off : Int} {tgt : Nat} (hdg : decode cc pc = .ok (.if_icmp .eq off, 3)) (ht : (pc : Int) + off = (tgt : Int)) (kt : a = b → W p l e R s m args below meth c H locs cells slots Q (F0 m tgt ls rest)) (kf : ¬ a = b → W p l e R s m args below meth c H locs cells slots Q (F0 m (pc + 3) ls rest)) : W p l e R s m args below meth c H locs cells slots Q (F0 m pc ls (.int (nI b) :: .int (nI a) :: rest)) := lv_icmp_eq hx hb hdg ht (fun q => kt ((nI_eq ha2 hb2).mp q)) (fun q => kf (fun z => q ((nI_eq ha2 hb2).mpr z)))
theorem nv_icmp_ne (hx : p.tables.exec = Jvm.exec) (hb : c.code = cc) {a b : Nat} (ha2 : a < 2 ^ 31) (hb2 : b < 2 ^ 31) {off : Int} {tgt : Nat} (hdg : decode cc pc = .ok (.if_icmp .ne off, 3)) (ht : (pc : Int) + off = (tgt : Int)) (kt : ¬ a = b → W p l e R s m args below meth c H locs cells slots Q (F0 m tgt ls rest)) (kf : a = b → W p l e R s m args below meth c H locs cells slots Q (F0 m (pc + 3) ls rest)) : W p l e R s m args below meth c H locs cells slots Q (F0 m pc ls (.int (nI b) :: .int (nI a) :: rest)) := lv_icmp_ne hx hb hdg ht (fun q => kt (fun z => q ((nI_eq ha2 hb2).mpr z))) (fun q => kf ((nI_eq ha2 hb2).mp q))
theorem nv_iinc (hx : p.tables.exec = Jvm.exec) (hb : c.code = cc) {i a : Nat} {lv lv' : List (Nat × Value)} (k : Nat) (hdg : decode cc pc = .ok (.iinc i 1, 3)) (hl : lv_has ls nL lv) (hk : lv[k]? = some (i, .int (nI a))) (hn : i < nL) (hlv : (i, Value.int (nI (a + 1))) :: lv.filter (fun q => !(q.1 == i) && !(q.1 + 1 == i && q.2.category == 2)) = lv') (kk : ∀ ls' : Array Slot, lv_has ls' nL lv' → W p l e R s m args below meth c H locs cells slots Q (F0 m (pc + 3) ls' rest)) : W p l e R s m args below meth c H locs cells slots Q (F0 m pc ls rest) := lv_iinc (v := nI (a + 1)) hx hb hdg hl hk (nI_1 a) hn hlv kk
theorem nv_idec (hx : p.tables.exec = Jvm.exec) (hb : c.code = cc) {i a : Nat} {lv lv' : List (Nat × Value)} (k : Nat) (hdg : decode cc pc = .ok (.iinc i (-1), 3)) (hl : lv_has ls nL lv) (hk : lv[k]? = some (i, .int (nI (a + 1)))) (hn : i < nL) (hlv : (i, Value.int (nI a)) :: lv.filter (fun q => !(q.1 == i) && !(q.1 + 1 == i && q.2.category == 2)) = lv') (kk : ∀ ls' : Array Slot, lv_has ls' nL lv' → W p l e R s m args below meth c H locs cells slots Q (F0 m (pc + 3) ls' rest)) : W p l e R s m args below meth c H locs cells slots Q (F0 m pc ls rest) := lv_iinc (v := nI a) hx hb hdg hl hk (pk_m1 a) hn hlv kk
end NV
theorem vD_map {A : Nat → Prop} {ws ws' : va_W} (h : ws.map (·.1) = ws'.map (·.1)) (hD : va_D A ws) : va_D A ws' := by
  have key : ∀ (k : Nat) (q : Nat × va_E), ws'[k]? = some q → ∃ q0, ws[k]? = some q0 ∧ q0.1 = q.1 := by
    intro k q hk
    have h1 : (ws.map (·.1))[k]? = some q.1 := by rw [h, List.getElem?_map, hk]; rfl
    rw [List.getElem?_map] at h1
    cases hi : ws[k]? with
    | none => rw [hi] at h1; cases h1
    | some q0 => rw [hi] at h1; exact ⟨q0, rfl, Option.some.inj h1⟩
  refine ⟨fun i j x y hi hj hxy => ?_, fun k q hk => ?_⟩
  · obtain ⟨x0, h1, h2⟩ := key i x hi
    obtain ⟨y0, h3, h4⟩ := key j y hj
    exact hD.1 i j x0 y0 h1 h3 (h2.trans (hxy.trans h4.symm))
  · obtain ⟨q0, h1, h2⟩ := key k q hk
    rw [← h2]
    exact hD.2 k q0 h1
theorem vD_in {A : Nat → Prop} {ws : va_W} (hD : va_D A ws) : va_D (fun q => q ∈ ws.map (·.1)) ws := ⟨hD.1, fun k q hk => List.mem_map.mpr ⟨q, List.mem_of_getElem? hk, rfl⟩⟩
theorem vA_congr (cA : ClassId) (n : Nat) {f g : Nat → Int32} (h : ∀ j, j < n → f j = g j) : vp_cell cA (n, .inl f) = vp_cell cA (n, .inl g) := by
  rw [vp_cell_i, vp_cell_i]
  unfold arrV
  congr 2
  funext j
  exact congrArg Value.int (h j.val j.isLt)
abbrev MS : Type := Nat → Nat → Int32
abbrev vwCl : List vw_C := [(RX0, TX0, 18), (RX1, TX1, 14)]
/-- the world of dk -/
def dk_w (o : Nat) (ad : Nat → Nat) (cB cI : ClassId) (d : MS) : va_W := [(o, .inr (0, [.ref (ad 0), .ref (ad 1), .ref (ad 2), .int (d 3 0), .ref (ad 4), .ref (ad 5), .int (d 6 0), .ref (ad 7), .ref (ad 8), .ref (ad 9), .ref (ad 10), .ref (ad 11), .ref (ad 12), .int (d 13 0), .ref (ad 14), .ref (ad 15), .int (d 16 0), .ref (ad 17)])), (ad 0, .inl (cB, 16, .inl (d 0))), (ad 1, .inl (cB, 16, .inl (d 1))), (ad 2, .inl (cI, 16, .inl (d 2))), (ad 4, .inl (cI, 224, .inl (d 4))), (ad 5, .inl (cB, 56, .inl (d 5))), (ad 7, .inl (cB, 12, .inl (d 7))), (ad 8, .inl (cI, 12, .inl (d 8))), (ad 9, .inl (cI, 48, .inl (d 9))), (ad 10, .inl (cB, 48, .inl (d 10))), (ad 11, .inl (cI, 12, .inl (d 11))), (ad 12, .inl (cI, 96, .inl (d 12))), (ad 14, .inl (cI, 4, .inl (d 14))), (ad 15, .inl (cB, 4, .inl (d 15))), (ad 17, .inl (cI, 8, .inl (d 17)))]
def dk_L (o : Nat) (ad : Nat → Nat) : List Nat := [o, ad 0, ad 1, ad 2, ad 4, ad 5, ad 7, ad 8, ad 9, ad 10, ad 11, ad 12, ad 14, ad 15, ad 17]
def dk_A (o : Nat) (ad : Nat → Nat) : Nat → Prop := fun q => q ∈ dk_L o ad
abbrev dk_ty (cB cI : ClassId) : List (ClassId × FieldType) := [(cB, .byte), (cI, .int)]
theorem dk_D (o : Nat) (ad : Nat → Nat) (cB cI : ClassId) {d : MS} {A : Nat → Prop} (h : va_D A (dk_w o ad cB cI d)) : ∀ d', va_D (dk_A o ad) (dk_w o ad cB cI d') := fun d' => vD_in (vD_map (ws := dk_w o ad cB cI d) (ws' := dk_w o ad cB cI d') rfl h)
def dk_len (k : Nat) : Nat := match k with
  | 0 => 16
  | 1 => 16
  | 2 => 16
  | 3 => 1
  | 4 => 224
  | 5 => 56
  | 6 => 1
  | 7 => 12
  | 8 => 12
  | 9 => 48
  | 10 => 48
  | 11 => 12
  | 12 => 96
  | 13 => 1
  | 14 => 4
  | 15 => 4
  | 16 => 1
  | 17 => 8
  | _ => 0
theorem dk_conv {D : va_G} {o : Nat} {ad : Nat → Nat} {cB cI : ClassId} {d d' : MS} {H : Heap} (hP : va_P D vwCl (dk_w o ad cB cI d) H) (h : ∀ k j, j < dk_len k → d k j = d' k j) : va_P D vwCl (dk_w o ad cB cI d') H := by
  intro k q hk
  match k, hk with
  | 0, hk =>
    have h0 := hP 0 _ rfl
    rw [h 3 0 (by decide), h 6 0 (by decide), h 13 0 (by decide), h 16 0 (by decide)] at h0
    cases hk
    exact h0
  | 1, hk =>
    have h0 : H[ad 0]? = some (vp_cell cB (16, .inl (d 0))) := hP 1 _ rfl
    cases hk
    exact h0.trans (congrArg some (vA_congr cB 16 (fun j hj => h 0 j hj)))
  | 2, hk =>
    have h0 : H[ad 1]? = some (vp_cell cB (16, .inl (d 1))) := hP 2 _ rfl
    cases hk
    exact h0.trans (congrArg some (vA_congr cB 16 (fun j hj => h 1 j hj)))
  | 3, hk =>
    have h0 : H[ad 2]? = some (vp_cell cI (16, .inl (d 2))) := hP 3 _ rfl
    cases hk
    exact h0.trans (congrArg some (vA_congr cI 16 (fun j hj => h 2 j hj)))
  | 4, hk =>
    have h0 : H[ad 4]? = some (vp_cell cI (224, .inl (d 4))) := hP 4 _ rfl
    cases hk
    exact h0.trans (congrArg some (vA_congr cI 224 (fun j hj => h 4 j hj)))
  | 5, hk =>
    have h0 : H[ad 5]? = some (vp_cell cB (56, .inl (d 5))) := hP 5 _ rfl
    cases hk
    exact h0.trans (congrArg some (vA_congr cB 56 (fun j hj => h 5 j hj)))
  | 6, hk =>
    have h0 : H[ad 7]? = some (vp_cell cB (12, .inl (d 7))) := hP 6 _ rfl
    cases hk
    exact h0.trans (congrArg some (vA_congr cB 12 (fun j hj => h 7 j hj)))
  | 7, hk =>
    have h0 : H[ad 8]? = some (vp_cell cI (12, .inl (d 8))) := hP 7 _ rfl
    cases hk
    exact h0.trans (congrArg some (vA_congr cI 12 (fun j hj => h 8 j hj)))
  | 8, hk =>
    have h0 : H[ad 9]? = some (vp_cell cI (48, .inl (d 9))) := hP 8 _ rfl
    cases hk
    exact h0.trans (congrArg some (vA_congr cI 48 (fun j hj => h 9 j hj)))
  | 9, hk =>
    have h0 : H[ad 10]? = some (vp_cell cB (48, .inl (d 10))) := hP 9 _ rfl
    cases hk
    exact h0.trans (congrArg some (vA_congr cB 48 (fun j hj => h 10 j hj)))
  | 10, hk =>
    have h0 : H[ad 11]? = some (vp_cell cI (12, .inl (d 11))) := hP 10 _ rfl
    cases hk
    exact h0.trans (congrArg some (vA_congr cI 12 (fun j hj => h 11 j hj)))
  | 11, hk =>
    have h0 : H[ad 12]? = some (vp_cell cI (96, .inl (d 12))) := hP 11 _ rfl
    cases hk
    exact h0.trans (congrArg some (vA_congr cI 96 (fun j hj => h 12 j hj)))
  | 12, hk =>
    have h0 : H[ad 14]? = some (vp_cell cI (4, .inl (d 14))) := hP 12 _ rfl
    cases hk
    exact h0.trans (congrArg some (vA_congr cI 4 (fun j hj => h 14 j hj)))
  | 13, hk =>
    have h0 : H[ad 15]? = some (vp_cell cB (4, .inl (d 15))) := hP 13 _ rfl
    cases hk
    exact h0.trans (congrArg some (vA_congr cB 4 (fun j hj => h 15 j hj)))
  | 14, hk =>
    have h0 : H[ad 17]? = some (vp_cell cI (8, .inl (d 17))) := hP 14 _ rfl
    cases hk
    exact h0.trans (congrArg some (vA_congr cI 8 (fun j hj => h 17 j hj)))
  | k + 15, hk => cases hk
def dkE (D : va_G) (o : Nat) (ad : Nat → Nat) (cB cI : ClassId) (p : Program) (s : State) (m : MethodId) (args : Array Value) (c : Code) (cc : ByteArray) (nL : Nat) : Prop := p.tables.exec = Jvm.exec ∧ c.code = cc ∧ (∀ w ∈ lw_all, w.before args s = true) ∧ s.vm.findClass RX0 = some m.cls ∧ c.maxLocals = nL ∧ va_K D vwCl (dk_ty cB cI) s ∧ (∀ d, va_D (dk_A o ad) (dk_w o ad cB cI d))
section dk
variable {p : Program} {l : Launch} {e : Env} {R : Room} {s : State} {m : MethodId} {args : Array Value} {below : List Frame} {meth : Method} {c : Code} {H : Heap} {locs : List Loc} {cells slots : Nat} {Q : State → Prop}
variable {cc : ByteArray} {pc nL : Nat} {ls : Array Slot} {rest : List Value}

variable {D : va_G} {o : Nat} {ad : Nat → Nat} {cB cI : ClassId} {d : MS} {H0 : Heap}
theorem dk_g0 (E : dkE D o ad cB cI p s m args c cc nL) (hP : va_P D vwCl (dk_w o ad cB cI d) H) (hdg : decode cc pc = .ok (.getfield 7, 3)) (k : W p l e R s m args below meth c H locs cells slots Q (F0 m (pc + 3) ls (.ref (ad 0) :: rest))) : W p l e R s m args below meth c H locs cells slots Q (F0 m pc ls (.ref o :: rest)) := va_get (D := D) (ci := 0) (v := .ref (ad 0)) (C := RX0) (T := TX0) (N := 18) E.1 E.2.1 E.2.2.1 in_X0 E.2.2.2.1 E.2.2.2.2.2.1 hP 0 rfl rfl 0 (by decide) (E.2.2.1 _ q29) (fun _ h9 => h9) rfl hdg k
theorem dk_l0 (E : dkE D o ad cB cI p s m args c cc nL) (hP : va_P D vwCl (dk_w o ad cB cI d) H) {j : Nat} {x : Int32} (hv : d 0 j = x) (hj : j < 16) (hdg : decode cc pc = .ok (.baload, 1)) (k : W p l e R s m args below meth c H locs cells slots Q (F0 m (pc + 1) ls (.int x :: rest))) : W p l e R s m args below meth c H locs cells slots Q (F0 m pc ls (.int (nI j) :: .ref (ad 0) :: rest)) := va_bald E.1 E.2.1 E.2.2.2.2.2.1 hP 1 0 rfl rfl (vp_in_nI hj (by decide)) hdg (by rw [nI_clamp (by omega), hv]; exact k)
theorem dk_s0 (E : dkE D o ad cB cI p s m args c cc nL) (hP : va_P D vwCl (dk_w o ad cB cI d) H) (hS : va_S (dk_A o ad) H0 H locs) {j : Nat} {x : Int32} {y : Int32} (hy : vp_nar .byte x = y) (hj : j < 16) (hdg : decode cc pc = .ok (.bastore, 1)) (k : ∀ (d1 : MS) (H1 : Heap) (locs1 : List Loc), d1 = va_up d 0 (upd (d 0) j y) → va_P D vwCl (dk_w o ad cB cI d1) H1 → va_S (dk_A o ad) H0 H1 locs1 → W p l e R s m args below meth c H1 locs1 cells slots Q (F0 m (pc + 1) ls rest)) : W p l e R s m args below meth c H locs cells slots Q (F0 m pc ls (.int x :: .int (nI j) :: .ref (ad 0) :: rest)) := va_bast E.1 E.2.1 E.2.2.2.2.2.1 hP (E.2.2.2.2.2.2 d) hS 1 0 rfl rfl (vp_in_nI hj (by decide)) hdg (fun H1 locs1 hP1 hD1 hS1 => k _ H1 locs1 rfl (by rw [nI_clamp (by omega), hy] at hP1; exact hP1) hS1)
theorem dk_g1 (E : dkE D o ad cB cI p s m args c cc nL) (hP : va_P D vwCl (dk_w o ad cB cI d) H) (hdg : decode cc pc = .ok (.getfield 13, 3)) (k : W p l e R s m args below meth c H locs cells slots Q (F0 m (pc + 3) ls (.ref (ad 1) :: rest))) : W p l e R s m args below meth c H locs cells slots Q (F0 m pc ls (.ref o :: rest)) := va_get (D := D) (ci := 0) (v := .ref (ad 1)) (C := RX0) (T := TX0) (N := 18) E.1 E.2.1 E.2.2.1 in_X0 E.2.2.2.1 E.2.2.2.2.2.1 hP 0 rfl rfl 1 (by decide) (E.2.2.1 _ q30) (fun _ h9 => h9) rfl hdg k
theorem dk_l1 (E : dkE D o ad cB cI p s m args c cc nL) (hP : va_P D vwCl (dk_w o ad cB cI d) H) {j : Nat} {x : Int32} (hv : d 1 j = x) (hj : j < 16) (hdg : decode cc pc = .ok (.baload, 1)) (k : W p l e R s m args below meth c H locs cells slots Q (F0 m (pc + 1) ls (.int x :: rest))) : W p l e R s m args below meth c H locs cells slots Q (F0 m pc ls (.int (nI j) :: .ref (ad 1) :: rest)) := va_bald E.1 E.2.1 E.2.2.2.2.2.1 hP 2 0 rfl rfl (vp_in_nI hj (by decide)) hdg (by rw [nI_clamp (by omega), hv]; exact k)
theorem dk_s1 (E : dkE D o ad cB cI p s m args c cc nL) (hP : va_P D vwCl (dk_w o ad cB cI d) H) (hS : va_S (dk_A o ad) H0 H locs) {j : Nat} {x : Int32} {y : Int32} (hy : vp_nar .byte x = y) (hj : j < 16) (hdg : decode cc pc = .ok (.bastore, 1)) (k : ∀ (d1 : MS) (H1 : Heap) (locs1 : List Loc), d1 = va_up d 1 (upd (d 1) j y) → va_P D vwCl (dk_w o ad cB cI d1) H1 → va_S (dk_A o ad) H0 H1 locs1 → W p l e R s m args below meth c H1 locs1 cells slots Q (F0 m (pc + 1) ls rest)) : W p l e R s m args below meth c H locs cells slots Q (F0 m pc ls (.int x :: .int (nI j) :: .ref (ad 1) :: rest)) := va_bast E.1 E.2.1 E.2.2.2.2.2.1 hP (E.2.2.2.2.2.2 d) hS 2 0 rfl rfl (vp_in_nI hj (by decide)) hdg (fun H1 locs1 hP1 hD1 hS1 => k _ H1 locs1 rfl (by rw [nI_clamp (by omega), hy] at hP1; exact hP1) hS1)
theorem dk_g2 (E : dkE D o ad cB cI p s m args c cc nL) (hP : va_P D vwCl (dk_w o ad cB cI d) H) (hdg : decode cc pc = .ok (.getfield 16, 3)) (k : W p l e R s m args below meth c H locs cells slots Q (F0 m (pc + 3) ls (.ref (ad 2) :: rest))) : W p l e R s m args below meth c H locs cells slots Q (F0 m pc ls (.ref o :: rest)) := va_get (D := D) (ci := 0) (v := .ref (ad 2)) (C := RX0) (T := TX0) (N := 18) E.1 E.2.1 E.2.2.1 in_X0 E.2.2.2.1 E.2.2.2.2.2.1 hP 0 rfl rfl 2 (by decide) (E.2.2.1 _ q31) (fun _ h9 => h9) rfl hdg k
theorem dk_l2 (E : dkE D o ad cB cI p s m args c cc nL) (hP : va_P D vwCl (dk_w o ad cB cI d) H) {j : Nat} {x : Int32} (hv : d 2 j = x) (hj : j < 16) (hdg : decode cc pc = .ok (.iaload, 1)) (k : W p l e R s m args below meth c H locs cells slots Q (F0 m (pc + 1) ls (.int x :: rest))) : W p l e R s m args below meth c H locs cells slots Q (F0 m pc ls (.int (nI j) :: .ref (ad 2) :: rest)) := va_iald E.1 E.2.1 E.2.2.2.2.2.1 hP 3 1 rfl rfl (vp_in_nI hj (by decide)) hdg (by rw [nI_clamp (by omega), hv]; exact k)
theorem dk_s2 (E : dkE D o ad cB cI p s m args c cc nL) (hP : va_P D vwCl (dk_w o ad cB cI d) H) (hS : va_S (dk_A o ad) H0 H locs) {j : Nat} {x : Int32} (hj : j < 16) (hdg : decode cc pc = .ok (.iastore, 1)) (k : ∀ (d1 : MS) (H1 : Heap) (locs1 : List Loc), d1 = va_up d 2 (upd (d 2) j x) → va_P D vwCl (dk_w o ad cB cI d1) H1 → va_S (dk_A o ad) H0 H1 locs1 → W p l e R s m args below meth c H1 locs1 cells slots Q (F0 m (pc + 1) ls rest)) : W p l e R s m args below meth c H locs cells slots Q (F0 m pc ls (.int x :: .int (nI j) :: .ref (ad 2) :: rest)) := va_iast E.1 E.2.1 E.2.2.2.2.2.1 hP (E.2.2.2.2.2.2 d) hS 3 1 rfl rfl (vp_in_nI hj (by decide)) hdg (fun H1 locs1 hP1 hD1 hS1 => k _ H1 locs1 rfl (by rw [nI_clamp (by omega)] at hP1; exact hP1) hS1)
theorem dk_g3 (E : dkE D o ad cB cI p s m args c cc nL) (hP : va_P D vwCl (dk_w o ad cB cI d) H) (hdg : decode cc pc = .ok (.getfield 53, 3)) (k : W p l e R s m args below meth c H locs cells slots Q (F0 m (pc + 3) ls (.int (d 3 0) :: rest))) : W p l e R s m args below meth c H locs cells slots Q (F0 m pc ls (.ref o :: rest)) := va_get (D := D) (ci := 0) (v := .int (d 3 0)) (C := RX0) (T := TX0) (N := 18) E.1 E.2.1 E.2.2.1 in_X0 E.2.2.2.1 E.2.2.2.2.2.1 hP 0 rfl rfl 3 (by decide) (E.2.2.1 _ q32) (fun _ h9 => h9) rfl hdg k
theorem dk_p3 (E : dkE D o ad cB cI p s m args c cc nL) (hP : va_P D vwCl (dk_w o ad cB cI d) H) (hS : va_S (dk_A o ad) H0 H locs) {v : Int32} (hdg : decode cc pc = .ok (.putfield 53, 3)) (k : ∀ (d1 : MS) (H1 : Heap) (locs1 : List Loc), d1 = va_up d 3 (fun _ => v) → va_P D vwCl (dk_w o ad cB cI d1) H1 → va_S (dk_A o ad) H0 H1 locs1 → W p l e R s m args below meth c H1 locs1 cells slots Q (F0 m (pc + 3) ls rest)) : W p l e R s m args below meth c H locs cells slots Q (F0 m pc ls (.int v :: .ref o :: rest)) := va_put (D := D) (ci := 0) (v := .int v) (ty := .int) (C := RX0) (T := TX0) (N := 18) E.1 E.2.1 E.2.2.1 in_X0 tyX0 tyX0_ok nmX0 E.2.2.2.1 E.2.2.2.2.2.1 hP (E.2.2.2.2.2.2 d) hS 0 rfl rfl 3 (by decide) (E.2.2.1 _ q32) (fun _ h9 => h9) rfl (by decide +kernel) rfl rfl (Nat.le_of_ble_eq_true rfl) hdg (fun H1 locs1 hP1 hD1 hS1 => k _ H1 locs1 rfl hP1 hS1)
theorem dk_g4 (E : dkE D o ad cB cI p s m args c cc nL) (hP : va_P D vwCl (dk_w o ad cB cI d) H) (hdg : decode cc pc = .ok (.getfield 20, 3)) (k : W p l e R s m args below meth c H locs cells slots Q (F0 m (pc + 3) ls (.ref (ad 4) :: rest))) : W p l e R s m args below meth c H locs cells slots Q (F0 m pc ls (.ref o :: rest)) := va_get (D := D) (ci := 0) (v := .ref (ad 4)) (C := RX0) (T := TX0) (N := 18) E.1 E.2.1 E.2.2.1 in_X0 E.2.2.2.1 E.2.2.2.2.2.1 hP 0 rfl rfl 4 (by decide) (E.2.2.1 _ q33) (fun _ h9 => h9) rfl hdg k
theorem dk_l4 (E : dkE D o ad cB cI p s m args c cc nL) (hP : va_P D vwCl (dk_w o ad cB cI d) H) {j : Nat} {x : Int32} (hv : d 4 j = x) (hj : j < 224) (hdg : decode cc pc = .ok (.iaload, 1)) (k : W p l e R s m args below meth c H locs cells slots Q (F0 m (pc + 1) ls (.int x :: rest))) : W p l e R s m args below meth c H locs cells slots Q (F0 m pc ls (.int (nI j) :: .ref (ad 4) :: rest)) := va_iald E.1 E.2.1 E.2.2.2.2.2.1 hP 4 1 rfl rfl (vp_in_nI hj (by decide)) hdg (by rw [nI_clamp (by omega), hv]; exact k)
theorem dk_s4 (E : dkE D o ad cB cI p s m args c cc nL) (hP : va_P D vwCl (dk_w o ad cB cI d) H) (hS : va_S (dk_A o ad) H0 H locs) {j : Nat} {x : Int32} (hj : j < 224) (hdg : decode cc pc = .ok (.iastore, 1)) (k : ∀ (d1 : MS) (H1 : Heap) (locs1 : List Loc), d1 = va_up d 4 (upd (d 4) j x) → va_P D vwCl (dk_w o ad cB cI d1) H1 → va_S (dk_A o ad) H0 H1 locs1 → W p l e R s m args below meth c H1 locs1 cells slots Q (F0 m (pc + 1) ls rest)) : W p l e R s m args below meth c H locs cells slots Q (F0 m pc ls (.int x :: .int (nI j) :: .ref (ad 4) :: rest)) := va_iast E.1 E.2.1 E.2.2.2.2.2.1 hP (E.2.2.2.2.2.2 d) hS 4 1 rfl rfl (vp_in_nI hj (by decide)) hdg (fun H1 locs1 hP1 hD1 hS1 => k _ H1 locs1 rfl (by rw [nI_clamp (by omega)] at hP1; exact hP1) hS1)
theorem dk_g5 (E : dkE D o ad cB cI p s m args c cc nL) (hP : va_P D vwCl (dk_w o ad cB cI d) H) (hdg : decode cc pc = .ok (.getfield 23, 3)) (k : W p l e R s m args below meth c H locs cells slots Q (F0 m (pc + 3) ls (.ref (ad 5) :: rest))) : W p l e R s m args below meth c H locs cells slots Q (F0 m pc ls (.ref o :: rest)) := va_get (D := D) (ci := 0) (v := .ref (ad 5)) (C := RX0) (T := TX0) (N := 18) E.1 E.2.1 E.2.2.1 in_X0 E.2.2.2.1 E.2.2.2.2.2.1 hP 0 rfl rfl 5 (by decide) (E.2.2.1 _ q34) (fun _ h9 => h9) rfl hdg k
theorem dk_l5 (E : dkE D o ad cB cI p s m args c cc nL) (hP : va_P D vwCl (dk_w o ad cB cI d) H) {j : Nat} {x : Int32} (hv : d 5 j = x) (hj : j < 56) (hdg : decode cc pc = .ok (.baload, 1)) (k : W p l e R s m args below meth c H locs cells slots Q (F0 m (pc + 1) ls (.int x :: rest))) : W p l e R s m args below meth c H locs cells slots Q (F0 m pc ls (.int (nI j) :: .ref (ad 5) :: rest)) := va_bald E.1 E.2.1 E.2.2.2.2.2.1 hP 5 0 rfl rfl (vp_in_nI hj (by decide)) hdg (by rw [nI_clamp (by omega), hv]; exact k)
theorem dk_s5 (E : dkE D o ad cB cI p s m args c cc nL) (hP : va_P D vwCl (dk_w o ad cB cI d) H) (hS : va_S (dk_A o ad) H0 H locs) {j : Nat} {x : Int32} {y : Int32} (hy : vp_nar .byte x = y) (hj : j < 56) (hdg : decode cc pc = .ok (.bastore, 1)) (k : ∀ (d1 : MS) (H1 : Heap) (locs1 : List Loc), d1 = va_up d 5 (upd (d 5) j y) → va_P D vwCl (dk_w o ad cB cI d1) H1 → va_S (dk_A o ad) H0 H1 locs1 → W p l e R s m args below meth c H1 locs1 cells slots Q (F0 m (pc + 1) ls rest)) : W p l e R s m args below meth c H locs cells slots Q (F0 m pc ls (.int x :: .int (nI j) :: .ref (ad 5) :: rest)) := va_bast E.1 E.2.1 E.2.2.2.2.2.1 hP (E.2.2.2.2.2.2 d) hS 5 0 rfl rfl (vp_in_nI hj (by decide)) hdg (fun H1 locs1 hP1 hD1 hS1 => k _ H1 locs1 rfl (by rw [nI_clamp (by omega), hy] at hP1; exact hP1) hS1)
theorem dk_g6 (E : dkE D o ad cB cI p s m args c cc nL) (hP : va_P D vwCl (dk_w o ad cB cI d) H) (hdg : decode cc pc = .ok (.getfield 57, 3)) (k : W p l e R s m args below meth c H locs cells slots Q (F0 m (pc + 3) ls (.int (d 6 0) :: rest))) : W p l e R s m args below meth c H locs cells slots Q (F0 m pc ls (.ref o :: rest)) := va_get (D := D) (ci := 0) (v := .int (d 6 0)) (C := RX0) (T := TX0) (N := 18) E.1 E.2.1 E.2.2.1 in_X0 E.2.2.2.1 E.2.2.2.2.2.1 hP 0 rfl rfl 6 (by decide) (E.2.2.1 _ q35) (fun _ h9 => h9) rfl hdg k
theorem dk_p6 (E : dkE D o ad cB cI p s m args c cc nL) (hP : va_P D vwCl (dk_w o ad cB cI d) H) (hS : va_S (dk_A o ad) H0 H locs) {v : Int32} (hdg : decode cc pc = .ok (.putfield 57, 3)) (k : ∀ (d1 : MS) (H1 : Heap) (locs1 : List Loc), d1 = va_up d 6 (fun _ => v) → va_P D vwCl (dk_w o ad cB cI d1) H1 → va_S (dk_A o ad) H0 H1 locs1 → W p l e R s m args below meth c H1 locs1 cells slots Q (F0 m (pc + 3) ls rest)) : W p l e R s m args below meth c H locs cells slots Q (F0 m pc ls (.int v :: .ref o :: rest)) := va_put (D := D) (ci := 0) (v := .int v) (ty := .int) (C := RX0) (T := TX0) (N := 18) E.1 E.2.1 E.2.2.1 in_X0 tyX0 tyX0_ok nmX0 E.2.2.2.1 E.2.2.2.2.2.1 hP (E.2.2.2.2.2.2 d) hS 0 rfl rfl 6 (by decide) (E.2.2.1 _ q35) (fun _ h9 => h9) rfl (by decide +kernel) rfl rfl (Nat.le_of_ble_eq_true rfl) hdg (fun H1 locs1 hP1 hD1 hS1 => k _ H1 locs1 rfl hP1 hS1)
theorem dk_g7 (E : dkE D o ad cB cI p s m args c cc nL) (hP : va_P D vwCl (dk_w o ad cB cI d) H) (hdg : decode cc pc = .ok (.getfield 26, 3)) (k : W p l e R s m args below meth c H locs cells slots Q (F0 m (pc + 3) ls (.ref (ad 7) :: rest))) : W p l e R s m args below meth c H locs cells slots Q (F0 m pc ls (.ref o :: rest)) := va_get (D := D) (ci := 0) (v := .ref (ad 7)) (C := RX0) (T := TX0) (N := 18) E.1 E.2.1 E.2.2.1 in_X0 E.2.2.2.1 E.2.2.2.2.2.1 hP 0 rfl rfl 7 (by decide) (E.2.2.1 _ q36) (fun _ h9 => h9) rfl hdg k
theorem dk_l7 (E : dkE D o ad cB cI p s m args c cc nL) (hP : va_P D vwCl (dk_w o ad cB cI d) H) {j : Nat} {x : Int32} (hv : d 7 j = x) (hj : j < 12) (hdg : decode cc pc = .ok (.baload, 1)) (k : W p l e R s m args below meth c H locs cells slots Q (F0 m (pc + 1) ls (.int x :: rest))) : W p l e R s m args below meth c H locs cells slots Q (F0 m pc ls (.int (nI j) :: .ref (ad 7) :: rest)) := va_bald E.1 E.2.1 E.2.2.2.2.2.1 hP 6 0 rfl rfl (vp_in_nI hj (by decide)) hdg (by rw [nI_clamp (by omega), hv]; exact k)
theorem dk_s7 (E : dkE D o ad cB cI p s m args c cc nL) (hP : va_P D vwCl (dk_w o ad cB cI d) H) (hS : va_S (dk_A o ad) H0 H locs) {j : Nat} {x : Int32} {y : Int32} (hy : vp_nar .byte x = y) (hj : j < 12) (hdg : decode cc pc = .ok (.bastore, 1)) (k : ∀ (d1 : MS) (H1 : Heap) (locs1 : List Loc), d1 = va_up d 7 (upd (d 7) j y) → va_P D vwCl (dk_w o ad cB cI d1) H1 → va_S (dk_A o ad) H0 H1 locs1 → W p l e R s m args below meth c H1 locs1 cells slots Q (F0 m (pc + 1) ls rest)) : W p l e R s m args below meth c H locs cells slots Q (F0 m pc ls (.int x :: .int (nI j) :: .ref (ad 7) :: rest)) := va_bast E.1 E.2.1 E.2.2.2.2.2.1 hP (E.2.2.2.2.2.2 d) hS 6 0 rfl rfl (vp_in_nI hj (by decide)) hdg (fun H1 locs1 hP1 hD1 hS1 => k _ H1 locs1 rfl (by rw [nI_clamp (by omega), hy] at hP1; exact hP1) hS1)
theorem dk_g8 (E : dkE D o ad cB cI p s m args c cc nL) (hP : va_P D vwCl (dk_w o ad cB cI d) H) (hdg : decode cc pc = .ok (.getfield 29, 3)) (k : W p l e R s m args below meth c H locs cells slots Q (F0 m (pc + 3) ls (.ref (ad 8) :: rest))) : W p l e R s m args below meth c H locs cells slots Q (F0 m pc ls (.ref o :: rest)) := va_get (D := D) (ci := 0) (v := .ref (ad 8)) (C := RX0) (T := TX0) (N := 18) E.1 E.2.1 E.2.2.1 in_X0 E.2.2.2.1 E.2.2.2.2.2.1 hP 0 rfl rfl 8 (by decide) (E.2.2.1 _ q37) (fun _ h9 => h9) rfl hdg k
theorem dk_l8 (E : dkE D o ad cB cI p s m args c cc nL) (hP : va_P D vwCl (dk_w o ad cB cI d) H) {j : Nat} {x : Int32} (hv : d 8 j = x) (hj : j < 12) (hdg : decode cc pc = .ok (.iaload, 1)) (k : W p l e R s m args below meth c H locs cells slots Q (F0 m (pc + 1) ls (.int x :: rest))) : W p l e R s m args below meth c H locs cells slots Q (F0 m pc ls (.int (nI j) :: .ref (ad 8) :: rest)) := va_iald E.1 E.2.1 E.2.2.2.2.2.1 hP 7 1 rfl rfl (vp_in_nI hj (by decide)) hdg (by rw [nI_clamp (by omega), hv]; exact k)
theorem dk_s8 (E : dkE D o ad cB cI p s m args c cc nL) (hP : va_P D vwCl (dk_w o ad cB cI d) H) (hS : va_S (dk_A o ad) H0 H locs) {j : Nat} {x : Int32} (hj : j < 12) (hdg : decode cc pc = .ok (.iastore, 1)) (k : ∀ (d1 : MS) (H1 : Heap) (locs1 : List Loc), d1 = va_up d 8 (upd (d 8) j x) → va_P D vwCl (dk_w o ad cB cI d1) H1 → va_S (dk_A o ad) H0 H1 locs1 → W p l e R s m args below meth c H1 locs1 cells slots Q (F0 m (pc + 1) ls rest)) : W p l e R s m args below meth c H locs cells slots Q (F0 m pc ls (.int x :: .int (nI j) :: .ref (ad 8) :: rest)) := va_iast E.1 E.2.1 E.2.2.2.2.2.1 hP (E.2.2.2.2.2.2 d) hS 7 1 rfl rfl (vp_in_nI hj (by decide)) hdg (fun H1 locs1 hP1 hD1 hS1 => k _ H1 locs1 rfl (by rw [nI_clamp (by omega)] at hP1; exact hP1) hS1)
theorem dk_g9 (E : dkE D o ad cB cI p s m args c cc nL) (hP : va_P D vwCl (dk_w o ad cB cI d) H) (hdg : decode cc pc = .ok (.getfield 32, 3)) (k : W p l e R s m args below meth c H locs cells slots Q (F0 m (pc + 3) ls (.ref (ad 9) :: rest))) : W p l e R s m args below meth c H locs cells slots Q (F0 m pc ls (.ref o :: rest)) := va_get (D := D) (ci := 0) (v := .ref (ad 9)) (C := RX0) (T := TX0) (N := 18) E.1 E.2.1 E.2.2.1 in_X0 E.2.2.2.1 E.2.2.2.2.2.1 hP 0 rfl rfl 9 (by decide) (E.2.2.1 _ q38) (fun _ h9 => h9) rfl hdg k
theorem dk_l9 (E : dkE D o ad cB cI p s m args c cc nL) (hP : va_P D vwCl (dk_w o ad cB cI d) H) {j : Nat} {x : Int32} (hv : d 9 j = x) (hj : j < 48) (hdg : decode cc pc = .ok (.iaload, 1)) (k : W p l e R s m args below meth c H locs cells slots Q (F0 m (pc + 1) ls (.int x :: rest))) : W p l e R s m args below meth c H locs cells slots Q (F0 m pc ls (.int (nI j) :: .ref (ad 9) :: rest)) := va_iald E.1 E.2.1 E.2.2.2.2.2.1 hP 8 1 rfl rfl (vp_in_nI hj (by decide)) hdg (by rw [nI_clamp (by omega), hv]; exact k)
theorem dk_s9 (E : dkE D o ad cB cI p s m args c cc nL) (hP : va_P D vwCl (dk_w o ad cB cI d) H) (hS : va_S (dk_A o ad) H0 H locs) {j : Nat} {x : Int32} (hj : j < 48) (hdg : decode cc pc = .ok (.iastore, 1)) (k : ∀ (d1 : MS) (H1 : Heap) (locs1 : List Loc), d1 = va_up d 9 (upd (d 9) j x) → va_P D vwCl (dk_w o ad cB cI d1) H1 → va_S (dk_A o ad) H0 H1 locs1 → W p l e R s m args below meth c H1 locs1 cells slots Q (F0 m (pc + 1) ls rest)) : W p l e R s m args below meth c H locs cells slots Q (F0 m pc ls (.int x :: .int (nI j) :: .ref (ad 9) :: rest)) := va_iast E.1 E.2.1 E.2.2.2.2.2.1 hP (E.2.2.2.2.2.2 d) hS 8 1 rfl rfl (vp_in_nI hj (by decide)) hdg (fun H1 locs1 hP1 hD1 hS1 => k _ H1 locs1 rfl (by rw [nI_clamp (by omega)] at hP1; exact hP1) hS1)
theorem dk_g10 (E : dkE D o ad cB cI p s m args c cc nL) (hP : va_P D vwCl (dk_w o ad cB cI d) H) (hdg : decode cc pc = .ok (.getfield 35, 3)) (k : W p l e R s m args below meth c H locs cells slots Q (F0 m (pc + 3) ls (.ref (ad 10) :: rest))) : W p l e R s m args below meth c H locs cells slots Q (F0 m pc ls (.ref o :: rest)) := va_get (D := D) (ci := 0) (v := .ref (ad 10)) (C := RX0) (T := TX0) (N := 18) E.1 E.2.1 E.2.2.1 in_X0 E.2.2.2.1 E.2.2.2.2.2.1 hP 0 rfl rfl 10 (by decide) (E.2.2.1 _ q39) (fun _ h9 => h9) rfl hdg k
theorem dk_l10 (E : dkE D o ad cB cI p s m args c cc nL) (hP : va_P D vwCl (dk_w o ad cB cI d) H) {j : Nat} {x : Int32} (hv : d 10 j = x) (hj : j < 48) (hdg : decode cc pc = .ok (.baload, 1)) (k : W p l e R s m args below meth c H locs cells slots Q (F0 m (pc + 1) ls (.int x :: rest))) : W p l e R s m args below meth c H locs cells slots Q (F0 m pc ls (.int (nI j) :: .ref (ad 10) :: rest)) := va_bald E.1 E.2.1 E.2.2.2.2.2.1 hP 9 0 rfl rfl (vp_in_nI hj (by decide)) hdg (by rw [nI_clamp (by omega), hv]; exact k)
theorem dk_s10 (E : dkE D o ad cB cI p s m args c cc nL) (hP : va_P D vwCl (dk_w o ad cB cI d) H) (hS : va_S (dk_A o ad) H0 H locs) {j : Nat} {x : Int32} {y : Int32} (hy : vp_nar .byte x = y) (hj : j < 48) (hdg : decode cc pc = .ok (.bastore, 1)) (k : ∀ (d1 : MS) (H1 : Heap) (locs1 : List Loc), d1 = va_up d 10 (upd (d 10) j y) → va_P D vwCl (dk_w o ad cB cI d1) H1 → va_S (dk_A o ad) H0 H1 locs1 → W p l e R s m args below meth c H1 locs1 cells slots Q (F0 m (pc + 1) ls rest)) : W p l e R s m args below meth c H locs cells slots Q (F0 m pc ls (.int x :: .int (nI j) :: .ref (ad 10) :: rest)) := va_bast E.1 E.2.1 E.2.2.2.2.2.1 hP (E.2.2.2.2.2.2 d) hS 9 0 rfl rfl (vp_in_nI hj (by decide)) hdg (fun H1 locs1 hP1 hD1 hS1 => k _ H1 locs1 rfl (by rw [nI_clamp (by omega), hy] at hP1; exact hP1) hS1)
theorem dk_g11 (E : dkE D o ad cB cI p s m args c cc nL) (hP : va_P D vwCl (dk_w o ad cB cI d) H) (hdg : decode cc pc = .ok (.getfield 38, 3)) (k : W p l e R s m args below meth c H locs cells slots Q (F0 m (pc + 3) ls (.ref (ad 11) :: rest))) : W p l e R s m args below meth c H locs cells slots Q (F0 m pc ls (.ref o :: rest)) := va_get (D := D) (ci := 0) (v := .ref (ad 11)) (C := RX0) (T := TX0) (N := 18) E.1 E.2.1 E.2.2.1 in_X0 E.2.2.2.1 E.2.2.2.2.2.1 hP 0 rfl rfl 11 (by decide) (E.2.2.1 _ q40) (fun _ h9 => h9) rfl hdg k
theorem dk_l11 (E : dkE D o ad cB cI p s m args c cc nL) (hP : va_P D vwCl (dk_w o ad cB cI d) H) {j : Nat} {x : Int32} (hv : d 11 j = x) (hj : j < 12) (hdg : decode cc pc = .ok (.iaload, 1)) (k : W p l e R s m args below meth c H locs cells slots Q (F0 m (pc + 1) ls (.int x :: rest))) : W p l e R s m args below meth c H locs cells slots Q (F0 m pc ls (.int (nI j) :: .ref (ad 11) :: rest)) := va_iald E.1 E.2.1 E.2.2.2.2.2.1 hP 10 1 rfl rfl (vp_in_nI hj (by decide)) hdg (by rw [nI_clamp (by omega), hv]; exact k)
theorem dk_s11 (E : dkE D o ad cB cI p s m args c cc nL) (hP : va_P D vwCl (dk_w o ad cB cI d) H) (hS : va_S (dk_A o ad) H0 H locs) {j : Nat} {x : Int32} (hj : j < 12) (hdg : decode cc pc = .ok (.iastore, 1)) (k : ∀ (d1 : MS) (H1 : Heap) (locs1 : List Loc), d1 = va_up d 11 (upd (d 11) j x) → va_P D vwCl (dk_w o ad cB cI d1) H1 → va_S (dk_A o ad) H0 H1 locs1 → W p l e R s m args below meth c H1 locs1 cells slots Q (F0 m (pc + 1) ls rest)) : W p l e R s m args below meth c H locs cells slots Q (F0 m pc ls (.int x :: .int (nI j) :: .ref (ad 11) :: rest)) := va_iast E.1 E.2.1 E.2.2.2.2.2.1 hP (E.2.2.2.2.2.2 d) hS 10 1 rfl rfl (vp_in_nI hj (by decide)) hdg (fun H1 locs1 hP1 hD1 hS1 => k _ H1 locs1 rfl (by rw [nI_clamp (by omega)] at hP1; exact hP1) hS1)
theorem dk_g12 (E : dkE D o ad cB cI p s m args c cc nL) (hP : va_P D vwCl (dk_w o ad cB cI d) H) (hdg : decode cc pc = .ok (.getfield 41, 3)) (k : W p l e R s m args below meth c H locs cells slots Q (F0 m (pc + 3) ls (.ref (ad 12) :: rest))) : W p l e R s m args below meth c H locs cells slots Q (F0 m pc ls (.ref o :: rest)) := va_get (D := D) (ci := 0) (v := .ref (ad 12)) (C := RX0) (T := TX0) (N := 18) E.1 E.2.1 E.2.2.1 in_X0 E.2.2.2.1 E.2.2.2.2.2.1 hP 0 rfl rfl 12 (by decide) (E.2.2.1 _ q41) (fun _ h9 => h9) rfl hdg k
theorem dk_l12 (E : dkE D o ad cB cI p s m args c cc nL) (hP : va_P D vwCl (dk_w o ad cB cI d) H) {j : Nat} {x : Int32} (hv : d 12 j = x) (hj : j < 96) (hdg : decode cc pc = .ok (.iaload, 1)) (k : W p l e R s m args below meth c H locs cells slots Q (F0 m (pc + 1) ls (.int x :: rest))) : W p l e R s m args below meth c H locs cells slots Q (F0 m pc ls (.int (nI j) :: .ref (ad 12) :: rest)) := va_iald E.1 E.2.1 E.2.2.2.2.2.1 hP 11 1 rfl rfl (vp_in_nI hj (by decide)) hdg (by rw [nI_clamp (by omega), hv]; exact k)
theorem dk_s12 (E : dkE D o ad cB cI p s m args c cc nL) (hP : va_P D vwCl (dk_w o ad cB cI d) H) (hS : va_S (dk_A o ad) H0 H locs) {j : Nat} {x : Int32} (hj : j < 96) (hdg : decode cc pc = .ok (.iastore, 1)) (k : ∀ (d1 : MS) (H1 : Heap) (locs1 : List Loc), d1 = va_up d 12 (upd (d 12) j x) → va_P D vwCl (dk_w o ad cB cI d1) H1 → va_S (dk_A o ad) H0 H1 locs1 → W p l e R s m args below meth c H1 locs1 cells slots Q (F0 m (pc + 1) ls rest)) : W p l e R s m args below meth c H locs cells slots Q (F0 m pc ls (.int x :: .int (nI j) :: .ref (ad 12) :: rest)) := va_iast E.1 E.2.1 E.2.2.2.2.2.1 hP (E.2.2.2.2.2.2 d) hS 11 1 rfl rfl (vp_in_nI hj (by decide)) hdg (fun H1 locs1 hP1 hD1 hS1 => k _ H1 locs1 rfl (by rw [nI_clamp (by omega)] at hP1; exact hP1) hS1)
theorem dk_g13 (E : dkE D o ad cB cI p s m args c cc nL) (hP : va_P D vwCl (dk_w o ad cB cI d) H) (hdg : decode cc pc = .ok (.getfield 74, 3)) (k : W p l e R s m args below meth c H locs cells slots Q (F0 m (pc + 3) ls (.int (d 13 0) :: rest))) : W p l e R s m args below meth c H locs cells slots Q (F0 m pc ls (.ref o :: rest)) := va_get (D := D) (ci := 0) (v := .int (d 13 0)) (C := RX0) (T := TX0) (N := 18) E.1 E.2.1 E.2.2.1 in_X0 E.2.2.2.1 E.2.2.2.2.2.1 hP 0 rfl rfl 13 (by decide) (E.2.2.1 _ q42) (fun _ h9 => h9) rfl hdg k
theorem dk_p13 (E : dkE D o ad cB cI p s m args c cc nL) (hP : va_P D vwCl (dk_w o ad cB cI d) H) (hS : va_S (dk_A o ad) H0 H locs) {v : Int32} (hdg : decode cc pc = .ok (.putfield 74, 3)) (k : ∀ (d1 : MS) (H1 : Heap) (locs1 : List Loc), d1 = va_up d 13 (fun _ => v) → va_P D vwCl (dk_w o ad cB cI d1) H1 → va_S (dk_A o ad) H0 H1 locs1 → W p l e R s m args below meth c H1 locs1 cells slots Q (F0 m (pc + 3) ls rest)) : W p l e R s m args below meth c H locs cells slots Q (F0 m pc ls (.int v :: .ref o :: rest)) := va_put (D := D) (ci := 0) (v := .int v) (ty := .int) (C := RX0) (T := TX0) (N := 18) E.1 E.2.1 E.2.2.1 in_X0 tyX0 tyX0_ok nmX0 E.2.2.2.1 E.2.2.2.2.2.1 hP (E.2.2.2.2.2.2 d) hS 0 rfl rfl 13 (by decide) (E.2.2.1 _ q42) (fun _ h9 => h9) rfl (by decide +kernel) rfl rfl (Nat.le_of_ble_eq_true rfl) hdg (fun H1 locs1 hP1 hD1 hS1 => k _ H1 locs1 rfl hP1 hS1)
theorem dk_g14 (E : dkE D o ad cB cI p s m args c cc nL) (hP : va_P D vwCl (dk_w o ad cB cI d) H) (hdg : decode cc pc = .ok (.getfield 44, 3)) (k : W p l e R s m args below meth c H locs cells slots Q (F0 m (pc + 3) ls (.ref (ad 14) :: rest))) : W p l e R s m args below meth c H locs cells slots Q (F0 m pc ls (.ref o :: rest)) := va_get (D := D) (ci := 0) (v := .ref (ad 14)) (C := RX0) (T := TX0) (N := 18) E.1 E.2.1 E.2.2.1 in_X0 E.2.2.2.1 E.2.2.2.2.2.1 hP 0 rfl rfl 14 (by decide) (E.2.2.1 _ q43) (fun _ h9 => h9) rfl hdg k
theorem dk_l14 (E : dkE D o ad cB cI p s m args c cc nL) (hP : va_P D vwCl (dk_w o ad cB cI d) H) {j : Nat} {x : Int32} (hv : d 14 j = x) (hj : j < 4) (hdg : decode cc pc = .ok (.iaload, 1)) (k : W p l e R s m args below meth c H locs cells slots Q (F0 m (pc + 1) ls (.int x :: rest))) : W p l e R s m args below meth c H locs cells slots Q (F0 m pc ls (.int (nI j) :: .ref (ad 14) :: rest)) := va_iald E.1 E.2.1 E.2.2.2.2.2.1 hP 12 1 rfl rfl (vp_in_nI hj (by decide)) hdg (by rw [nI_clamp (by omega), hv]; exact k)
theorem dk_s14 (E : dkE D o ad cB cI p s m args c cc nL) (hP : va_P D vwCl (dk_w o ad cB cI d) H) (hS : va_S (dk_A o ad) H0 H locs) {j : Nat} {x : Int32} (hj : j < 4) (hdg : decode cc pc = .ok (.iastore, 1)) (k : ∀ (d1 : MS) (H1 : Heap) (locs1 : List Loc), d1 = va_up d 14 (upd (d 14) j x) → va_P D vwCl (dk_w o ad cB cI d1) H1 → va_S (dk_A o ad) H0 H1 locs1 → W p l e R s m args below meth c H1 locs1 cells slots Q (F0 m (pc + 1) ls rest)) : W p l e R s m args below meth c H locs cells slots Q (F0 m pc ls (.int x :: .int (nI j) :: .ref (ad 14) :: rest)) := va_iast E.1 E.2.1 E.2.2.2.2.2.1 hP (E.2.2.2.2.2.2 d) hS 12 1 rfl rfl (vp_in_nI hj (by decide)) hdg (fun H1 locs1 hP1 hD1 hS1 => k _ H1 locs1 rfl (by rw [nI_clamp (by omega)] at hP1; exact hP1) hS1)
theorem dk_g15 (E : dkE D o ad cB cI p s m args c cc nL) (hP : va_P D vwCl (dk_w o ad cB cI d) H) (hdg : decode cc pc = .ok (.getfield 47, 3)) (k : W p l e R s m args below meth c H locs cells slots Q (F0 m (pc + 3) ls (.ref (ad 15) :: rest))) : W p l e R s m args below meth c H locs cells slots Q (F0 m pc ls (.ref o :: rest)) := va_get (D := D) (ci := 0) (v := .ref (ad 15)) (C := RX0) (T := TX0) (N := 18) E.1 E.2.1 E.2.2.1 in_X0 E.2.2.2.1 E.2.2.2.2.2.1 hP 0 rfl rfl 15 (by decide) (E.2.2.1 _ q44) (fun _ h9 => h9) rfl hdg k
theorem dk_l15 (E : dkE D o ad cB cI p s m args c cc nL) (hP : va_P D vwCl (dk_w o ad cB cI d) H) {j : Nat} {x : Int32} (hv : d 15 j = x) (hj : j < 4) (hdg : decode cc pc = .ok (.baload, 1)) (k : W p l e R s m args below meth c H locs cells slots Q (F0 m (pc + 1) ls (.int x :: rest))) : W p l e R s m args below meth c H locs cells slots Q (F0 m pc ls (.int (nI j) :: .ref (ad 15) :: rest)) := va_bald E.1 E.2.1 E.2.2.2.2.2.1 hP 13 0 rfl rfl (vp_in_nI hj (by decide)) hdg (by rw [nI_clamp (by omega), hv]; exact k)
theorem dk_s15 (E : dkE D o ad cB cI p s m args c cc nL) (hP : va_P D vwCl (dk_w o ad cB cI d) H) (hS : va_S (dk_A o ad) H0 H locs) {j : Nat} {x : Int32} {y : Int32} (hy : vp_nar .byte x = y) (hj : j < 4) (hdg : decode cc pc = .ok (.bastore, 1)) (k : ∀ (d1 : MS) (H1 : Heap) (locs1 : List Loc), d1 = va_up d 15 (upd (d 15) j y) → va_P D vwCl (dk_w o ad cB cI d1) H1 → va_S (dk_A o ad) H0 H1 locs1 → W p l e R s m args below meth c H1 locs1 cells slots Q (F0 m (pc + 1) ls rest)) : W p l e R s m args below meth c H locs cells slots Q (F0 m pc ls (.int x :: .int (nI j) :: .ref (ad 15) :: rest)) := va_bast E.1 E.2.1 E.2.2.2.2.2.1 hP (E.2.2.2.2.2.2 d) hS 13 0 rfl rfl (vp_in_nI hj (by decide)) hdg (fun H1 locs1 hP1 hD1 hS1 => k _ H1 locs1 rfl (by rw [nI_clamp (by omega), hy] at hP1; exact hP1) hS1)
theorem dk_g16 (E : dkE D o ad cB cI p s m args c cc nL) (hP : va_P D vwCl (dk_w o ad cB cI d) H) (hdg : decode cc pc = .ok (.getfield 77, 3)) (k : W p l e R s m args below meth c H locs cells slots Q (F0 m (pc + 3) ls (.int (d 16 0) :: rest))) : W p l e R s m args below meth c H locs cells slots Q (F0 m pc ls (.ref o :: rest)) := va_get (D := D) (ci := 0) (v := .int (d 16 0)) (C := RX0) (T := TX0) (N := 18) E.1 E.2.1 E.2.2.1 in_X0 E.2.2.2.1 E.2.2.2.2.2.1 hP 0 rfl rfl 16 (by decide) (E.2.2.1 _ q45) (fun _ h9 => h9) rfl hdg k
theorem dk_p16 (E : dkE D o ad cB cI p s m args c cc nL) (hP : va_P D vwCl (dk_w o ad cB cI d) H) (hS : va_S (dk_A o ad) H0 H locs) {v : Int32} (hdg : decode cc pc = .ok (.putfield 77, 3)) (k : ∀ (d1 : MS) (H1 : Heap) (locs1 : List Loc), d1 = va_up d 16 (fun _ => v) → va_P D vwCl (dk_w o ad cB cI d1) H1 → va_S (dk_A o ad) H0 H1 locs1 → W p l e R s m args below meth c H1 locs1 cells slots Q (F0 m (pc + 3) ls rest)) : W p l e R s m args below meth c H locs cells slots Q (F0 m pc ls (.int v :: .ref o :: rest)) := va_put (D := D) (ci := 0) (v := .int v) (ty := .int) (C := RX0) (T := TX0) (N := 18) E.1 E.2.1 E.2.2.1 in_X0 tyX0 tyX0_ok nmX0 E.2.2.2.1 E.2.2.2.2.2.1 hP (E.2.2.2.2.2.2 d) hS 0 rfl rfl 16 (by decide) (E.2.2.1 _ q45) (fun _ h9 => h9) rfl (by decide +kernel) rfl rfl (Nat.le_of_ble_eq_true rfl) hdg (fun H1 locs1 hP1 hD1 hS1 => k _ H1 locs1 rfl hP1 hS1)
theorem dk_g17 (E : dkE D o ad cB cI p s m args c cc nL) (hP : va_P D vwCl (dk_w o ad cB cI d) H) (hdg : decode cc pc = .ok (.getfield 50, 3)) (k : W p l e R s m args below meth c H locs cells slots Q (F0 m (pc + 3) ls (.ref (ad 17) :: rest))) : W p l e R s m args below meth c H locs cells slots Q (F0 m pc ls (.ref o :: rest)) := va_get (D := D) (ci := 0) (v := .ref (ad 17)) (C := RX0) (T := TX0) (N := 18) E.1 E.2.1 E.2.2.1 in_X0 E.2.2.2.1 E.2.2.2.2.2.1 hP 0 rfl rfl 17 (by decide) (E.2.2.1 _ q46) (fun _ h9 => h9) rfl hdg k
theorem dk_l17 (E : dkE D o ad cB cI p s m args c cc nL) (hP : va_P D vwCl (dk_w o ad cB cI d) H) {j : Nat} {x : Int32} (hv : d 17 j = x) (hj : j < 8) (hdg : decode cc pc = .ok (.iaload, 1)) (k : W p l e R s m args below meth c H locs cells slots Q (F0 m (pc + 1) ls (.int x :: rest))) : W p l e R s m args below meth c H locs cells slots Q (F0 m pc ls (.int (nI j) :: .ref (ad 17) :: rest)) := va_iald E.1 E.2.1 E.2.2.2.2.2.1 hP 14 1 rfl rfl (vp_in_nI hj (by decide)) hdg (by rw [nI_clamp (by omega), hv]; exact k)
theorem dk_s17 (E : dkE D o ad cB cI p s m args c cc nL) (hP : va_P D vwCl (dk_w o ad cB cI d) H) (hS : va_S (dk_A o ad) H0 H locs) {j : Nat} {x : Int32} (hj : j < 8) (hdg : decode cc pc = .ok (.iastore, 1)) (k : ∀ (d1 : MS) (H1 : Heap) (locs1 : List Loc), d1 = va_up d 17 (upd (d 17) j x) → va_P D vwCl (dk_w o ad cB cI d1) H1 → va_S (dk_A o ad) H0 H1 locs1 → W p l e R s m args below meth c H1 locs1 cells slots Q (F0 m (pc + 1) ls rest)) : W p l e R s m args below meth c H locs cells slots Q (F0 m pc ls (.int x :: .int (nI j) :: .ref (ad 17) :: rest)) := va_iast E.1 E.2.1 E.2.2.2.2.2.1 hP (E.2.2.2.2.2.2 d) hS 14 1 rfl rfl (vp_in_nI hj (by decide)) hdg (fun H1 locs1 hP1 hD1 hS1 => k _ H1 locs1 rfl (by rw [nI_clamp (by omega)] at hP1; exact hP1) hS1)
end dk
/-- the world of md -/
def md_w (o : Nat) (ad : Nat → Nat) (cB cI : ClassId) (d : MS) : va_W := [(o, .inr (1, [.int (d 0 0), .ref (ad 1), .ref (ad 2), .ref (ad 3), .ref (ad 4), .ref (ad 5), .ref (ad 6), .ref (ad 7), .ref (ad 8), .ref (ad 9), .int (d 10 0), .int (d 11 0), .ref (ad 12), .ref (ad 13)])), (ad 1, .inl (cI, 16, .inl (d 1))), (ad 2, .inl (cI, 16, .inl (d 2))), (ad 3, .inl (cI, 16, .inl (d 3))), (ad 4, .inl (cB, 12, .inl (d 4))), (ad 5, .inl (cI, 12, .inl (d 5))), (ad 6, .inl (cI, 12, .inl (d 6))), (ad 7, .inl (cI, 12, .inl (d 7))), (ad 8, .inl (cI, 240, .inl (d 8))), (ad 9, .inl (cI, 96, .inl (d 9))), (ad 12, .inl (cI, 20, .inl (d 12))), (ad 13, .inl (cI, 8, .inl (d 13)))]
def md_L (o : Nat) (ad : Nat → Nat) : List Nat := [o, ad 1, ad 2, ad 3, ad 4, ad 5, ad 6, ad 7, ad 8, ad 9, ad 12, ad 13]
def md_A (o : Nat) (ad : Nat → Nat) : Nat → Prop := fun q => q ∈ md_L o ad
abbrev md_ty (cB cI : ClassId) : List (ClassId × FieldType) := [(cB, .boolean), (cI, .int)]
theorem md_D (o : Nat) (ad : Nat → Nat) (cB cI : ClassId) {d : MS} {A : Nat → Prop} (h : va_D A (md_w o ad cB cI d)) : ∀ d', va_D (md_A o ad) (md_w o ad cB cI d') := fun d' => vD_in (vD_map (ws := md_w o ad cB cI d) (ws' := md_w o ad cB cI d') rfl h)
def md_len (k : Nat) : Nat := match k with
  | 0 => 1
  | 1 => 16
  | 2 => 16
  | 3 => 16
  | 4 => 12
  | 5 => 12
  | 6 => 12
  | 7 => 12
  | 8 => 240
  | 9 => 96
  | 10 => 1
  | 11 => 1
  | 12 => 20
  | 13 => 8
  | _ => 0
theorem md_conv {D : va_G} {o : Nat} {ad : Nat → Nat} {cB cI : ClassId} {d d' : MS} {H : Heap} (hP : va_P D vwCl (md_w o ad cB cI d) H) (h : ∀ k j, j < md_len k → d k j = d' k j) : va_P D vwCl (md_w o ad cB cI d') H := by
  intro k q hk
  match k, hk with
  | 0, hk =>
    have h0 := hP 0 _ rfl
    rw [h 0 0 (by decide), h 10 0 (by decide), h 11 0 (by decide)] at h0
    cases hk
    exact h0
  | 1, hk =>
    have h0 : H[ad 1]? = some (vp_cell cI (16, .inl (d 1))) := hP 1 _ rfl
    cases hk
    exact h0.trans (congrArg some (vA_congr cI 16 (fun j hj => h 1 j hj)))
  | 2, hk =>
    have h0 : H[ad 2]? = some (vp_cell cI (16, .inl (d 2))) := hP 2 _ rfl
    cases hk
    exact h0.trans (congrArg some (vA_congr cI 16 (fun j hj => h 2 j hj)))
  | 3, hk =>
    have h0 : H[ad 3]? = some (vp_cell cI (16, .inl (d 3))) := hP 3 _ rfl
    cases hk
    exact h0.trans (congrArg some (vA_congr cI 16 (fun j hj => h 3 j hj)))
  | 4, hk =>
    have h0 : H[ad 4]? = some (vp_cell cB (12, .inl (d 4))) := hP 4 _ rfl
    cases hk
    exact h0.trans (congrArg some (vA_congr cB 12 (fun j hj => h 4 j hj)))
  | 5, hk =>
    have h0 : H[ad 5]? = some (vp_cell cI (12, .inl (d 5))) := hP 5 _ rfl
    cases hk
    exact h0.trans (congrArg some (vA_congr cI 12 (fun j hj => h 5 j hj)))
  | 6, hk =>
    have h0 : H[ad 6]? = some (vp_cell cI (12, .inl (d 6))) := hP 6 _ rfl
    cases hk
    exact h0.trans (congrArg some (vA_congr cI 12 (fun j hj => h 6 j hj)))
  | 7, hk =>
    have h0 : H[ad 7]? = some (vp_cell cI (12, .inl (d 7))) := hP 7 _ rfl
    cases hk
    exact h0.trans (congrArg some (vA_congr cI 12 (fun j hj => h 7 j hj)))
  | 8, hk =>
    have h0 : H[ad 8]? = some (vp_cell cI (240, .inl (d 8))) := hP 8 _ rfl
    cases hk
    exact h0.trans (congrArg some (vA_congr cI 240 (fun j hj => h 8 j hj)))
  | 9, hk =>
    have h0 : H[ad 9]? = some (vp_cell cI (96, .inl (d 9))) := hP 9 _ rfl
    cases hk
    exact h0.trans (congrArg some (vA_congr cI 96 (fun j hj => h 9 j hj)))
  | 10, hk =>
    have h0 : H[ad 12]? = some (vp_cell cI (20, .inl (d 12))) := hP 10 _ rfl
    cases hk
    exact h0.trans (congrArg some (vA_congr cI 20 (fun j hj => h 12 j hj)))
  | 11, hk =>
    have h0 : H[ad 13]? = some (vp_cell cI (8, .inl (d 13))) := hP 11 _ rfl
    cases hk
    exact h0.trans (congrArg some (vA_congr cI 8 (fun j hj => h 13 j hj)))
  | k + 12, hk => cases hk
def mdE (D : va_G) (o : Nat) (ad : Nat → Nat) (cB cI : ClassId) (p : Program) (s : State) (m : MethodId) (args : Array Value) (c : Code) (cc : ByteArray) (nL : Nat) : Prop := p.tables.exec = Jvm.exec ∧ c.code = cc ∧ (∀ w ∈ lw_all, w.before args s = true) ∧ s.vm.findClass RX1 = some m.cls ∧ c.maxLocals = nL ∧ va_K D vwCl (md_ty cB cI) s ∧ (∀ d, va_D (md_A o ad) (md_w o ad cB cI d))
section md
variable {p : Program} {l : Launch} {e : Env} {R : Room} {s : State} {m : MethodId} {args : Array Value} {below : List Frame} {meth : Method} {c : Code} {H : Heap} {locs : List Loc} {cells slots : Nat} {Q : State → Prop}
variable {cc : ByteArray} {pc nL : Nat} {ls : Array Slot} {rest : List Value}

variable {D : va_G} {o : Nat} {ad : Nat → Nat} {cB cI : ClassId} {d : MS} {H0 : Heap}
theorem md_g0 (E : mdE D o ad cB cI p s m args c cc nL) (hP : va_P D vwCl (md_w o ad cB cI d) H) (hdg : decode cc pc = .ok (.getfield 44, 3)) (k : W p l e R s m args below meth c H locs cells slots Q (F0 m (pc + 3) ls (.int (d 0 0) :: rest))) : W p l e R s m args below meth c H locs cells slots Q (F0 m pc ls (.ref o :: rest)) := va_get (D := D) (ci := 1) (v := .int (d 0 0)) (C := RX1) (T := TX1) (N := 14) E.1 E.2.1 E.2.2.1 in_X1 E.2.2.2.1 E.2.2.2.2.2.1 hP 0 rfl rfl 0 (by decide) (E.2.2.1 _ q198) (fun _ h9 => h9) rfl hdg k
theorem md_p0 (E : mdE D o ad cB cI p s m args c cc nL) (hP : va_P D vwCl (md_w o ad cB cI d) H) (hS : va_S (md_A o ad) H0 H locs) {v : Int32} (hdg : decode cc pc = .ok (.putfield 44, 3)) (k : ∀ (d1 : MS) (H1 : Heap) (locs1 : List Loc), d1 = va_up d 0 (fun _ => v) → va_P D vwCl (md_w o ad cB cI d1) H1 → va_S (md_A o ad) H0 H1 locs1 → W p l e R s m args below meth c H1 locs1 cells slots Q (F0 m (pc + 3) ls rest)) : W p l e R s m args below meth c H locs cells slots Q (F0 m pc ls (.int v :: .ref o :: rest)) := va_put (D := D) (ci := 1) (v := .int v) (ty := .int) (C := RX1) (T := TX1) (N := 14) E.1 E.2.1 E.2.2.1 in_X1 tyX1 tyX1_ok nmX1 E.2.2.2.1 E.2.2.2.2.2.1 hP (E.2.2.2.2.2.2 d) hS 0 rfl rfl 0 (by decide) (E.2.2.1 _ q198) (fun _ h9 => h9) rfl (by decide +kernel) rfl rfl (Nat.le_of_ble_eq_true rfl) hdg (fun H1 locs1 hP1 hD1 hS1 => k _ H1 locs1 rfl hP1 hS1)
theorem md_g1 (E : mdE D o ad cB cI p s m args c cc nL) (hP : va_P D vwCl (md_w o ad cB cI d) H) (hdg : decode cc pc = .ok (.getfield 7, 3)) (k : W p l e R s m args below meth c H locs cells slots Q (F0 m (pc + 3) ls (.ref (ad 1) :: rest))) : W p l e R s m args below meth c H locs cells slots Q (F0 m pc ls (.ref o :: rest)) := va_get (D := D) (ci := 1) (v := .ref (ad 1)) (C := RX1) (T := TX1) (N := 14) E.1 E.2.1 E.2.2.1 in_X1 E.2.2.2.1 E.2.2.2.2.2.1 hP 0 rfl rfl 1 (by decide) (E.2.2.1 _ q199) (fun _ h9 => h9) rfl hdg k
theorem md_l1 (E : mdE D o ad cB cI p s m args c cc nL) (hP : va_P D vwCl (md_w o ad cB cI d) H) {j : Nat} {x : Int32} (hv : d 1 j = x) (hj : j < 16) (hdg : decode cc pc = .ok (.iaload, 1)) (k : W p l e R s m args below meth c H locs cells slots Q (F0 m (pc + 1) ls (.int x :: rest))) : W p l e R s m args below meth c H locs cells slots Q (F0 m pc ls (.int (nI j) :: .ref (ad 1) :: rest)) := va_iald E.1 E.2.1 E.2.2.2.2.2.1 hP 1 1 rfl rfl (vp_in_nI hj (by decide)) hdg (by rw [nI_clamp (by omega), hv]; exact k)
theorem md_s1 (E : mdE D o ad cB cI p s m args c cc nL) (hP : va_P D vwCl (md_w o ad cB cI d) H) (hS : va_S (md_A o ad) H0 H locs) {j : Nat} {x : Int32} (hj : j < 16) (hdg : decode cc pc = .ok (.iastore, 1)) (k : ∀ (d1 : MS) (H1 : Heap) (locs1 : List Loc), d1 = va_up d 1 (upd (d 1) j x) → va_P D vwCl (md_w o ad cB cI d1) H1 → va_S (md_A o ad) H0 H1 locs1 → W p l e R s m args below meth c H1 locs1 cells slots Q (F0 m (pc + 1) ls rest)) : W p l e R s m args below meth c H locs cells slots Q (F0 m pc ls (.int x :: .int (nI j) :: .ref (ad 1) :: rest)) := va_iast E.1 E.2.1 E.2.2.2.2.2.1 hP (E.2.2.2.2.2.2 d) hS 1 1 rfl rfl (vp_in_nI hj (by decide)) hdg (fun H1 locs1 hP1 hD1 hS1 => k _ H1 locs1 rfl (by rw [nI_clamp (by omega)] at hP1; exact hP1) hS1)
theorem md_g2 (E : mdE D o ad cB cI p s m args c cc nL) (hP : va_P D vwCl (md_w o ad cB cI d) H) (hdg : decode cc pc = .ok (.getfield 13, 3)) (k : W p l e R s m args below meth c H locs cells slots Q (F0 m (pc + 3) ls (.ref (ad 2) :: rest))) : W p l e R s m args below meth c H locs cells slots Q (F0 m pc ls (.ref o :: rest)) := va_get (D := D) (ci := 1) (v := .ref (ad 2)) (C := RX1) (T := TX1) (N := 14) E.1 E.2.1 E.2.2.1 in_X1 E.2.2.2.1 E.2.2.2.2.2.1 hP 0 rfl rfl 2 (by decide) (E.2.2.1 _ q200) (fun _ h9 => h9) rfl hdg k
theorem md_l2 (E : mdE D o ad cB cI p s m args c cc nL) (hP : va_P D vwCl (md_w o ad cB cI d) H) {j : Nat} {x : Int32} (hv : d 2 j = x) (hj : j < 16) (hdg : decode cc pc = .ok (.iaload, 1)) (k : W p l e R s m args below meth c H locs cells slots Q (F0 m (pc + 1) ls (.int x :: rest))) : W p l e R s m args below meth c H locs cells slots Q (F0 m pc ls (.int (nI j) :: .ref (ad 2) :: rest)) := va_iald E.1 E.2.1 E.2.2.2.2.2.1 hP 2 1 rfl rfl (vp_in_nI hj (by decide)) hdg (by rw [nI_clamp (by omega), hv]; exact k)
theorem md_s2 (E : mdE D o ad cB cI p s m args c cc nL) (hP : va_P D vwCl (md_w o ad cB cI d) H) (hS : va_S (md_A o ad) H0 H locs) {j : Nat} {x : Int32} (hj : j < 16) (hdg : decode cc pc = .ok (.iastore, 1)) (k : ∀ (d1 : MS) (H1 : Heap) (locs1 : List Loc), d1 = va_up d 2 (upd (d 2) j x) → va_P D vwCl (md_w o ad cB cI d1) H1 → va_S (md_A o ad) H0 H1 locs1 → W p l e R s m args below meth c H1 locs1 cells slots Q (F0 m (pc + 1) ls rest)) : W p l e R s m args below meth c H locs cells slots Q (F0 m pc ls (.int x :: .int (nI j) :: .ref (ad 2) :: rest)) := va_iast E.1 E.2.1 E.2.2.2.2.2.1 hP (E.2.2.2.2.2.2 d) hS 2 1 rfl rfl (vp_in_nI hj (by decide)) hdg (fun H1 locs1 hP1 hD1 hS1 => k _ H1 locs1 rfl (by rw [nI_clamp (by omega)] at hP1; exact hP1) hS1)
theorem md_g3 (E : mdE D o ad cB cI p s m args c cc nL) (hP : va_P D vwCl (md_w o ad cB cI d) H) (hdg : decode cc pc = .ok (.getfield 16, 3)) (k : W p l e R s m args below meth c H locs cells slots Q (F0 m (pc + 3) ls (.ref (ad 3) :: rest))) : W p l e R s m args below meth c H locs cells slots Q (F0 m pc ls (.ref o :: rest)) := va_get (D := D) (ci := 1) (v := .ref (ad 3)) (C := RX1) (T := TX1) (N := 14) E.1 E.2.1 E.2.2.1 in_X1 E.2.2.2.1 E.2.2.2.2.2.1 hP 0 rfl rfl 3 (by decide) (E.2.2.1 _ q201) (fun _ h9 => h9) rfl hdg k
theorem md_l3 (E : mdE D o ad cB cI p s m args c cc nL) (hP : va_P D vwCl (md_w o ad cB cI d) H) {j : Nat} {x : Int32} (hv : d 3 j = x) (hj : j < 16) (hdg : decode cc pc = .ok (.iaload, 1)) (k : W p l e R s m args below meth c H locs cells slots Q (F0 m (pc + 1) ls (.int x :: rest))) : W p l e R s m args below meth c H locs cells slots Q (F0 m pc ls (.int (nI j) :: .ref (ad 3) :: rest)) := va_iald E.1 E.2.1 E.2.2.2.2.2.1 hP 3 1 rfl rfl (vp_in_nI hj (by decide)) hdg (by rw [nI_clamp (by omega), hv]; exact k)
theorem md_s3 (E : mdE D o ad cB cI p s m args c cc nL) (hP : va_P D vwCl (md_w o ad cB cI d) H) (hS : va_S (md_A o ad) H0 H locs) {j : Nat} {x : Int32} (hj : j < 16) (hdg : decode cc pc = .ok (.iastore, 1)) (k : ∀ (d1 : MS) (H1 : Heap) (locs1 : List Loc), d1 = va_up d 3 (upd (d 3) j x) → va_P D vwCl (md_w o ad cB cI d1) H1 → va_S (md_A o ad) H0 H1 locs1 → W p l e R s m args below meth c H1 locs1 cells slots Q (F0 m (pc + 1) ls rest)) : W p l e R s m args below meth c H locs cells slots Q (F0 m pc ls (.int x :: .int (nI j) :: .ref (ad 3) :: rest)) := va_iast E.1 E.2.1 E.2.2.2.2.2.1 hP (E.2.2.2.2.2.2 d) hS 3 1 rfl rfl (vp_in_nI hj (by decide)) hdg (fun H1 locs1 hP1 hD1 hS1 => k _ H1 locs1 rfl (by rw [nI_clamp (by omega)] at hP1; exact hP1) hS1)
theorem md_g4 (E : mdE D o ad cB cI p s m args c cc nL) (hP : va_P D vwCl (md_w o ad cB cI d) H) (hdg : decode cc pc = .ok (.getfield 19, 3)) (k : W p l e R s m args below meth c H locs cells slots Q (F0 m (pc + 3) ls (.ref (ad 4) :: rest))) : W p l e R s m args below meth c H locs cells slots Q (F0 m pc ls (.ref o :: rest)) := va_get (D := D) (ci := 1) (v := .ref (ad 4)) (C := RX1) (T := TX1) (N := 14) E.1 E.2.1 E.2.2.1 in_X1 E.2.2.2.1 E.2.2.2.2.2.1 hP 0 rfl rfl 4 (by decide) (E.2.2.1 _ q202) (fun _ h9 => h9) rfl hdg k
theorem md_l4 (E : mdE D o ad cB cI p s m args c cc nL) (hP : va_P D vwCl (md_w o ad cB cI d) H) {j : Nat} {x : Int32} (hv : d 4 j = x) (hj : j < 12) (hdg : decode cc pc = .ok (.baload, 1)) (k : W p l e R s m args below meth c H locs cells slots Q (F0 m (pc + 1) ls (.int x :: rest))) : W p l e R s m args below meth c H locs cells slots Q (F0 m pc ls (.int (nI j) :: .ref (ad 4) :: rest)) := va_zald E.1 E.2.1 E.2.2.2.2.2.1 hP 4 0 rfl rfl (vp_in_nI hj (by decide)) hdg (by rw [nI_clamp (by omega), hv]; exact k)
theorem md_s4 (E : mdE D o ad cB cI p s m args c cc nL) (hP : va_P D vwCl (md_w o ad cB cI d) H) (hS : va_S (md_A o ad) H0 H locs) {j : Nat} {x : Int32} {y : Int32} (hy : vp_nar .boolean x = y) (hj : j < 12) (hdg : decode cc pc = .ok (.bastore, 1)) (k : ∀ (d1 : MS) (H1 : Heap) (locs1 : List Loc), d1 = va_up d 4 (upd (d 4) j y) → va_P D vwCl (md_w o ad cB cI d1) H1 → va_S (md_A o ad) H0 H1 locs1 → W p l e R s m args below meth c H1 locs1 cells slots Q (F0 m (pc + 1) ls rest)) : W p l e R s m args below meth c H locs cells slots Q (F0 m pc ls (.int x :: .int (nI j) :: .ref (ad 4) :: rest)) := va_zast E.1 E.2.1 E.2.2.2.2.2.1 hP (E.2.2.2.2.2.2 d) hS 4 0 rfl rfl (vp_in_nI hj (by decide)) hdg (fun H1 locs1 hP1 hD1 hS1 => k _ H1 locs1 rfl (by rw [nI_clamp (by omega), hy] at hP1; exact hP1) hS1)
theorem md_g5 (E : mdE D o ad cB cI p s m args c cc nL) (hP : va_P D vwCl (md_w o ad cB cI d) H) (hdg : decode cc pc = .ok (.getfield 23, 3)) (k : W p l e R s m args below meth c H locs cells slots Q (F0 m (pc + 3) ls (.ref (ad 5) :: rest))) : W p l e R s m args below meth c H locs cells slots Q (F0 m pc ls (.ref o :: rest)) := va_get (D := D) (ci := 1) (v := .ref (ad 5)) (C := RX1) (T := TX1) (N := 14) E.1 E.2.1 E.2.2.1 in_X1 E.2.2.2.1 E.2.2.2.2.2.1 hP 0 rfl rfl 5 (by decide) (E.2.2.1 _ q203) (fun _ h9 => h9) rfl hdg k
theorem md_l5 (E : mdE D o ad cB cI p s m args c cc nL) (hP : va_P D vwCl (md_w o ad cB cI d) H) {j : Nat} {x : Int32} (hv : d 5 j = x) (hj : j < 12) (hdg : decode cc pc = .ok (.iaload, 1)) (k : W p l e R s m args below meth c H locs cells slots Q (F0 m (pc + 1) ls (.int x :: rest))) : W p l e R s m args below meth c H locs cells slots Q (F0 m pc ls (.int (nI j) :: .ref (ad 5) :: rest)) := va_iald E.1 E.2.1 E.2.2.2.2.2.1 hP 5 1 rfl rfl (vp_in_nI hj (by decide)) hdg (by rw [nI_clamp (by omega), hv]; exact k)
theorem md_s5 (E : mdE D o ad cB cI p s m args c cc nL) (hP : va_P D vwCl (md_w o ad cB cI d) H) (hS : va_S (md_A o ad) H0 H locs) {j : Nat} {x : Int32} (hj : j < 12) (hdg : decode cc pc = .ok (.iastore, 1)) (k : ∀ (d1 : MS) (H1 : Heap) (locs1 : List Loc), d1 = va_up d 5 (upd (d 5) j x) → va_P D vwCl (md_w o ad cB cI d1) H1 → va_S (md_A o ad) H0 H1 locs1 → W p l e R s m args below meth c H1 locs1 cells slots Q (F0 m (pc + 1) ls rest)) : W p l e R s m args below meth c H locs cells slots Q (F0 m pc ls (.int x :: .int (nI j) :: .ref (ad 5) :: rest)) := va_iast E.1 E.2.1 E.2.2.2.2.2.1 hP (E.2.2.2.2.2.2 d) hS 5 1 rfl rfl (vp_in_nI hj (by decide)) hdg (fun H1 locs1 hP1 hD1 hS1 => k _ H1 locs1 rfl (by rw [nI_clamp (by omega)] at hP1; exact hP1) hS1)
theorem md_g6 (E : mdE D o ad cB cI p s m args c cc nL) (hP : va_P D vwCl (md_w o ad cB cI d) H) (hdg : decode cc pc = .ok (.getfield 26, 3)) (k : W p l e R s m args below meth c H locs cells slots Q (F0 m (pc + 3) ls (.ref (ad 6) :: rest))) : W p l e R s m args below meth c H locs cells slots Q (F0 m pc ls (.ref o :: rest)) := va_get (D := D) (ci := 1) (v := .ref (ad 6)) (C := RX1) (T := TX1) (N := 14) E.1 E.2.1 E.2.2.1 in_X1 E.2.2.2.1 E.2.2.2.2.2.1 hP 0 rfl rfl 6 (by decide) (E.2.2.1 _ q204) (fun _ h9 => h9) rfl hdg k
theorem md_l6 (E : mdE D o ad cB cI p s m args c cc nL) (hP : va_P D vwCl (md_w o ad cB cI d) H) {j : Nat} {x : Int32} (hv : d 6 j = x) (hj : j < 12) (hdg : decode cc pc = .ok (.iaload, 1)) (k : W p l e R s m args below meth c H locs cells slots Q (F0 m (pc + 1) ls (.int x :: rest))) : W p l e R s m args below meth c H locs cells slots Q (F0 m pc ls (.int (nI j) :: .ref (ad 6) :: rest)) := va_iald E.1 E.2.1 E.2.2.2.2.2.1 hP 6 1 rfl rfl (vp_in_nI hj (by decide)) hdg (by rw [nI_clamp (by omega), hv]; exact k)
theorem md_s6 (E : mdE D o ad cB cI p s m args c cc nL) (hP : va_P D vwCl (md_w o ad cB cI d) H) (hS : va_S (md_A o ad) H0 H locs) {j : Nat} {x : Int32} (hj : j < 12) (hdg : decode cc pc = .ok (.iastore, 1)) (k : ∀ (d1 : MS) (H1 : Heap) (locs1 : List Loc), d1 = va_up d 6 (upd (d 6) j x) → va_P D vwCl (md_w o ad cB cI d1) H1 → va_S (md_A o ad) H0 H1 locs1 → W p l e R s m args below meth c H1 locs1 cells slots Q (F0 m (pc + 1) ls rest)) : W p l e R s m args below meth c H locs cells slots Q (F0 m pc ls (.int x :: .int (nI j) :: .ref (ad 6) :: rest)) := va_iast E.1 E.2.1 E.2.2.2.2.2.1 hP (E.2.2.2.2.2.2 d) hS 6 1 rfl rfl (vp_in_nI hj (by decide)) hdg (fun H1 locs1 hP1 hD1 hS1 => k _ H1 locs1 rfl (by rw [nI_clamp (by omega)] at hP1; exact hP1) hS1)
theorem md_g7 (E : mdE D o ad cB cI p s m args c cc nL) (hP : va_P D vwCl (md_w o ad cB cI d) H) (hdg : decode cc pc = .ok (.getfield 29, 3)) (k : W p l e R s m args below meth c H locs cells slots Q (F0 m (pc + 3) ls (.ref (ad 7) :: rest))) : W p l e R s m args below meth c H locs cells slots Q (F0 m pc ls (.ref o :: rest)) := va_get (D := D) (ci := 1) (v := .ref (ad 7)) (C := RX1) (T := TX1) (N := 14) E.1 E.2.1 E.2.2.1 in_X1 E.2.2.2.1 E.2.2.2.2.2.1 hP 0 rfl rfl 7 (by decide) (E.2.2.1 _ q205) (fun _ h9 => h9) rfl hdg k
theorem md_l7 (E : mdE D o ad cB cI p s m args c cc nL) (hP : va_P D vwCl (md_w o ad cB cI d) H) {j : Nat} {x : Int32} (hv : d 7 j = x) (hj : j < 12) (hdg : decode cc pc = .ok (.iaload, 1)) (k : W p l e R s m args below meth c H locs cells slots Q (F0 m (pc + 1) ls (.int x :: rest))) : W p l e R s m args below meth c H locs cells slots Q (F0 m pc ls (.int (nI j) :: .ref (ad 7) :: rest)) := va_iald E.1 E.2.1 E.2.2.2.2.2.1 hP 7 1 rfl rfl (vp_in_nI hj (by decide)) hdg (by rw [nI_clamp (by omega), hv]; exact k)
theorem md_s7 (E : mdE D o ad cB cI p s m args c cc nL) (hP : va_P D vwCl (md_w o ad cB cI d) H) (hS : va_S (md_A o ad) H0 H locs) {j : Nat} {x : Int32} (hj : j < 12) (hdg : decode cc pc = .ok (.iastore, 1)) (k : ∀ (d1 : MS) (H1 : Heap) (locs1 : List Loc), d1 = va_up d 7 (upd (d 7) j x) → va_P D vwCl (md_w o ad cB cI d1) H1 → va_S (md_A o ad) H0 H1 locs1 → W p l e R s m args below meth c H1 locs1 cells slots Q (F0 m (pc + 1) ls rest)) : W p l e R s m args below meth c H locs cells slots Q (F0 m pc ls (.int x :: .int (nI j) :: .ref (ad 7) :: rest)) := va_iast E.1 E.2.1 E.2.2.2.2.2.1 hP (E.2.2.2.2.2.2 d) hS 7 1 rfl rfl (vp_in_nI hj (by decide)) hdg (fun H1 locs1 hP1 hD1 hS1 => k _ H1 locs1 rfl (by rw [nI_clamp (by omega)] at hP1; exact hP1) hS1)
theorem md_g8 (E : mdE D o ad cB cI p s m args c cc nL) (hP : va_P D vwCl (md_w o ad cB cI d) H) (hdg : decode cc pc = .ok (.getfield 32, 3)) (k : W p l e R s m args below meth c H locs cells slots Q (F0 m (pc + 3) ls (.ref (ad 8) :: rest))) : W p l e R s m args below meth c H locs cells slots Q (F0 m pc ls (.ref o :: rest)) := va_get (D := D) (ci := 1) (v := .ref (ad 8)) (C := RX1) (T := TX1) (N := 14) E.1 E.2.1 E.2.2.1 in_X1 E.2.2.2.1 E.2.2.2.2.2.1 hP 0 rfl rfl 8 (by decide) (E.2.2.1 _ q206) (fun _ h9 => h9) rfl hdg k
theorem md_l8 (E : mdE D o ad cB cI p s m args c cc nL) (hP : va_P D vwCl (md_w o ad cB cI d) H) {j : Nat} {x : Int32} (hv : d 8 j = x) (hj : j < 240) (hdg : decode cc pc = .ok (.iaload, 1)) (k : W p l e R s m args below meth c H locs cells slots Q (F0 m (pc + 1) ls (.int x :: rest))) : W p l e R s m args below meth c H locs cells slots Q (F0 m pc ls (.int (nI j) :: .ref (ad 8) :: rest)) := va_iald E.1 E.2.1 E.2.2.2.2.2.1 hP 8 1 rfl rfl (vp_in_nI hj (by decide)) hdg (by rw [nI_clamp (by omega), hv]; exact k)
theorem md_s8 (E : mdE D o ad cB cI p s m args c cc nL) (hP : va_P D vwCl (md_w o ad cB cI d) H) (hS : va_S (md_A o ad) H0 H locs) {j : Nat} {x : Int32} (hj : j < 240) (hdg : decode cc pc = .ok (.iastore, 1)) (k : ∀ (d1 : MS) (H1 : Heap) (locs1 : List Loc), d1 = va_up d 8 (upd (d 8) j x) → va_P D vwCl (md_w o ad cB cI d1) H1 → va_S (md_A o ad) H0 H1 locs1 → W p l e R s m args below meth c H1 locs1 cells slots Q (F0 m (pc + 1) ls rest)) : W p l e R s m args below meth c H locs cells slots Q (F0 m pc ls (.int x :: .int (nI j) :: .ref (ad 8) :: rest)) := va_iast E.1 E.2.1 E.2.2.2.2.2.1 hP (E.2.2.2.2.2.2 d) hS 8 1 rfl rfl (vp_in_nI hj (by decide)) hdg (fun H1 locs1 hP1 hD1 hS1 => k _ H1 locs1 rfl (by rw [nI_clamp (by omega)] at hP1; exact hP1) hS1)
theorem md_g9 (E : mdE D o ad cB cI p s m args c cc nL) (hP : va_P D vwCl (md_w o ad cB cI d) H) (hdg : decode cc pc = .ok (.getfield 35, 3)) (k : W p l e R s m args below meth c H locs cells slots Q (F0 m (pc + 3) ls (.ref (ad 9) :: rest))) : W p l e R s m args below meth c H locs cells slots Q (F0 m pc ls (.ref o :: rest)) := va_get (D := D) (ci := 1) (v := .ref (ad 9)) (C := RX1) (T := TX1) (N := 14) E.1 E.2.1 E.2.2.1 in_X1 E.2.2.2.1 E.2.2.2.2.2.1 hP 0 rfl rfl 9 (by decide) (E.2.2.1 _ q207) (fun _ h9 => h9) rfl hdg k
theorem md_l9 (E : mdE D o ad cB cI p s m args c cc nL) (hP : va_P D vwCl (md_w o ad cB cI d) H) {j : Nat} {x : Int32} (hv : d 9 j = x) (hj : j < 96) (hdg : decode cc pc = .ok (.iaload, 1)) (k : W p l e R s m args below meth c H locs cells slots Q (F0 m (pc + 1) ls (.int x :: rest))) : W p l e R s m args below meth c H locs cells slots Q (F0 m pc ls (.int (nI j) :: .ref (ad 9) :: rest)) := va_iald E.1 E.2.1 E.2.2.2.2.2.1 hP 9 1 rfl rfl (vp_in_nI hj (by decide)) hdg (by rw [nI_clamp (by omega), hv]; exact k)
theorem md_s9 (E : mdE D o ad cB cI p s m args c cc nL) (hP : va_P D vwCl (md_w o ad cB cI d) H) (hS : va_S (md_A o ad) H0 H locs) {j : Nat} {x : Int32} (hj : j < 96) (hdg : decode cc pc = .ok (.iastore, 1)) (k : ∀ (d1 : MS) (H1 : Heap) (locs1 : List Loc), d1 = va_up d 9 (upd (d 9) j x) → va_P D vwCl (md_w o ad cB cI d1) H1 → va_S (md_A o ad) H0 H1 locs1 → W p l e R s m args below meth c H1 locs1 cells slots Q (F0 m (pc + 1) ls rest)) : W p l e R s m args below meth c H locs cells slots Q (F0 m pc ls (.int x :: .int (nI j) :: .ref (ad 9) :: rest)) := va_iast E.1 E.2.1 E.2.2.2.2.2.1 hP (E.2.2.2.2.2.2 d) hS 9 1 rfl rfl (vp_in_nI hj (by decide)) hdg (fun H1 locs1 hP1 hD1 hS1 => k _ H1 locs1 rfl (by rw [nI_clamp (by omega)] at hP1; exact hP1) hS1)
theorem md_g10 (E : mdE D o ad cB cI p s m args c cc nL) (hP : va_P D vwCl (md_w o ad cB cI d) H) (hdg : decode cc pc = .ok (.getfield 58, 3)) (k : W p l e R s m args below meth c H locs cells slots Q (F0 m (pc + 3) ls (.int (d 10 0) :: rest))) : W p l e R s m args below meth c H locs cells slots Q (F0 m pc ls (.ref o :: rest)) := va_get (D := D) (ci := 1) (v := .int (d 10 0)) (C := RX1) (T := TX1) (N := 14) E.1 E.2.1 E.2.2.1 in_X1 E.2.2.2.1 E.2.2.2.2.2.1 hP 0 rfl rfl 10 (by decide) (E.2.2.1 _ q208) (fun _ h9 => h9) rfl hdg k
theorem md_p10 (E : mdE D o ad cB cI p s m args c cc nL) (hP : va_P D vwCl (md_w o ad cB cI d) H) (hS : va_S (md_A o ad) H0 H locs) {v : Int32} (hdg : decode cc pc = .ok (.putfield 58, 3)) (k : ∀ (d1 : MS) (H1 : Heap) (locs1 : List Loc), d1 = va_up d 10 (fun _ => v) → va_P D vwCl (md_w o ad cB cI d1) H1 → va_S (md_A o ad) H0 H1 locs1 → W p l e R s m args below meth c H1 locs1 cells slots Q (F0 m (pc + 3) ls rest)) : W p l e R s m args below meth c H locs cells slots Q (F0 m pc ls (.int v :: .ref o :: rest)) := va_put (D := D) (ci := 1) (v := .int v) (ty := .int) (C := RX1) (T := TX1) (N := 14) E.1 E.2.1 E.2.2.1 in_X1 tyX1 tyX1_ok nmX1 E.2.2.2.1 E.2.2.2.2.2.1 hP (E.2.2.2.2.2.2 d) hS 0 rfl rfl 10 (by decide) (E.2.2.1 _ q208) (fun _ h9 => h9) rfl (by decide +kernel) rfl rfl (Nat.le_of_ble_eq_true rfl) hdg (fun H1 locs1 hP1 hD1 hS1 => k _ H1 locs1 rfl hP1 hS1)
theorem md_g11 (E : mdE D o ad cB cI p s m args c cc nL) (hP : va_P D vwCl (md_w o ad cB cI d) H) (hdg : decode cc pc = .ok (.getfield 61, 3)) (k : W p l e R s m args below meth c H locs cells slots Q (F0 m (pc + 3) ls (.int (d 11 0) :: rest))) : W p l e R s m args below meth c H locs cells slots Q (F0 m pc ls (.ref o :: rest)) := va_get (D := D) (ci := 1) (v := .int (d 11 0)) (C := RX1) (T := TX1) (N := 14) E.1 E.2.1 E.2.2.1 in_X1 E.2.2.2.1 E.2.2.2.2.2.1 hP 0 rfl rfl 11 (by decide) (E.2.2.1 _ q209) (fun _ h9 => h9) rfl hdg k
theorem md_p11 (E : mdE D o ad cB cI p s m args c cc nL) (hP : va_P D vwCl (md_w o ad cB cI d) H) (hS : va_S (md_A o ad) H0 H locs) {v : Int32} (hdg : decode cc pc = .ok (.putfield 61, 3)) (k : ∀ (d1 : MS) (H1 : Heap) (locs1 : List Loc), d1 = va_up d 11 (fun _ => v) → va_P D vwCl (md_w o ad cB cI d1) H1 → va_S (md_A o ad) H0 H1 locs1 → W p l e R s m args below meth c H1 locs1 cells slots Q (F0 m (pc + 3) ls rest)) : W p l e R s m args below meth c H locs cells slots Q (F0 m pc ls (.int v :: .ref o :: rest)) := va_put (D := D) (ci := 1) (v := .int v) (ty := .int) (C := RX1) (T := TX1) (N := 14) E.1 E.2.1 E.2.2.1 in_X1 tyX1 tyX1_ok nmX1 E.2.2.2.1 E.2.2.2.2.2.1 hP (E.2.2.2.2.2.2 d) hS 0 rfl rfl 11 (by decide) (E.2.2.1 _ q209) (fun _ h9 => h9) rfl (by decide +kernel) rfl rfl (Nat.le_of_ble_eq_true rfl) hdg (fun H1 locs1 hP1 hD1 hS1 => k _ H1 locs1 rfl hP1 hS1)
theorem md_g12 (E : mdE D o ad cB cI p s m args c cc nL) (hP : va_P D vwCl (md_w o ad cB cI d) H) (hdg : decode cc pc = .ok (.getfield 38, 3)) (k : W p l e R s m args below meth c H locs cells slots Q (F0 m (pc + 3) ls (.ref (ad 12) :: rest))) : W p l e R s m args below meth c H locs cells slots Q (F0 m pc ls (.ref o :: rest)) := va_get (D := D) (ci := 1) (v := .ref (ad 12)) (C := RX1) (T := TX1) (N := 14) E.1 E.2.1 E.2.2.1 in_X1 E.2.2.2.1 E.2.2.2.2.2.1 hP 0 rfl rfl 12 (by decide) (E.2.2.1 _ q210) (fun _ h9 => h9) rfl hdg k
theorem md_l12 (E : mdE D o ad cB cI p s m args c cc nL) (hP : va_P D vwCl (md_w o ad cB cI d) H) {j : Nat} {x : Int32} (hv : d 12 j = x) (hj : j < 20) (hdg : decode cc pc = .ok (.iaload, 1)) (k : W p l e R s m args below meth c H locs cells slots Q (F0 m (pc + 1) ls (.int x :: rest))) : W p l e R s m args below meth c H locs cells slots Q (F0 m pc ls (.int (nI j) :: .ref (ad 12) :: rest)) := va_iald E.1 E.2.1 E.2.2.2.2.2.1 hP 10 1 rfl rfl (vp_in_nI hj (by decide)) hdg (by rw [nI_clamp (by omega), hv]; exact k)
theorem md_s12 (E : mdE D o ad cB cI p s m args c cc nL) (hP : va_P D vwCl (md_w o ad cB cI d) H) (hS : va_S (md_A o ad) H0 H locs) {j : Nat} {x : Int32} (hj : j < 20) (hdg : decode cc pc = .ok (.iastore, 1)) (k : ∀ (d1 : MS) (H1 : Heap) (locs1 : List Loc), d1 = va_up d 12 (upd (d 12) j x) → va_P D vwCl (md_w o ad cB cI d1) H1 → va_S (md_A o ad) H0 H1 locs1 → W p l e R s m args below meth c H1 locs1 cells slots Q (F0 m (pc + 1) ls rest)) : W p l e R s m args below meth c H locs cells slots Q (F0 m pc ls (.int x :: .int (nI j) :: .ref (ad 12) :: rest)) := va_iast E.1 E.2.1 E.2.2.2.2.2.1 hP (E.2.2.2.2.2.2 d) hS 10 1 rfl rfl (vp_in_nI hj (by decide)) hdg (fun H1 locs1 hP1 hD1 hS1 => k _ H1 locs1 rfl (by rw [nI_clamp (by omega)] at hP1; exact hP1) hS1)
theorem md_g13 (E : mdE D o ad cB cI p s m args c cc nL) (hP : va_P D vwCl (md_w o ad cB cI d) H) (hdg : decode cc pc = .ok (.getfield 41, 3)) (k : W p l e R s m args below meth c H locs cells slots Q (F0 m (pc + 3) ls (.ref (ad 13) :: rest))) : W p l e R s m args below meth c H locs cells slots Q (F0 m pc ls (.ref o :: rest)) := va_get (D := D) (ci := 1) (v := .ref (ad 13)) (C := RX1) (T := TX1) (N := 14) E.1 E.2.1 E.2.2.1 in_X1 E.2.2.2.1 E.2.2.2.2.2.1 hP 0 rfl rfl 13 (by decide) (E.2.2.1 _ q211) (fun _ h9 => h9) rfl hdg k
theorem md_l13 (E : mdE D o ad cB cI p s m args c cc nL) (hP : va_P D vwCl (md_w o ad cB cI d) H) {j : Nat} {x : Int32} (hv : d 13 j = x) (hj : j < 8) (hdg : decode cc pc = .ok (.iaload, 1)) (k : W p l e R s m args below meth c H locs cells slots Q (F0 m (pc + 1) ls (.int x :: rest))) : W p l e R s m args below meth c H locs cells slots Q (F0 m pc ls (.int (nI j) :: .ref (ad 13) :: rest)) := va_iald E.1 E.2.1 E.2.2.2.2.2.1 hP 11 1 rfl rfl (vp_in_nI hj (by decide)) hdg (by rw [nI_clamp (by omega), hv]; exact k)
theorem md_s13 (E : mdE D o ad cB cI p s m args c cc nL) (hP : va_P D vwCl (md_w o ad cB cI d) H) (hS : va_S (md_A o ad) H0 H locs) {j : Nat} {x : Int32} (hj : j < 8) (hdg : decode cc pc = .ok (.iastore, 1)) (k : ∀ (d1 : MS) (H1 : Heap) (locs1 : List Loc), d1 = va_up d 13 (upd (d 13) j x) → va_P D vwCl (md_w o ad cB cI d1) H1 → va_S (md_A o ad) H0 H1 locs1 → W p l e R s m args below meth c H1 locs1 cells slots Q (F0 m (pc + 1) ls rest)) : W p l e R s m args below meth c H locs cells slots Q (F0 m pc ls (.int x :: .int (nI j) :: .ref (ad 13) :: rest)) := va_iast E.1 E.2.1 E.2.2.2.2.2.1 hP (E.2.2.2.2.2.2 d) hS 11 1 rfl rfl (vp_in_nI hj (by decide)) hdg (fun H1 locs1 hP1 hD1 hS1 => k _ H1 locs1 rfl (by rw [nI_clamp (by omega)] at hP1; exact hP1) hS1)
end md
end
section
def dkPc (D : va_G) (o : Nat) (ad : Nat → Nat) (cB cI : ClassId) (As : List Value) (d : MS) : Array Value → State → Prop := va_Pc (.ref o :: As) (fun U => va_P D vwCl (dk_w o ad cB cI d) U.heap ∧ va_K D vwCl (dk_ty cB cI) U ∧ va_D (fun _ => True) (dk_w o ad cB cI d))
def dkB (D : va_G) (o : Nat) (ad : Nat → Nat) (cB cI : ClassId) (d : MS) (t : State) : Prop := va_P D vwCl (dk_w o ad cB cI d) t.heap
/-- a contract with an int (or boolean) answer: from the world d the method answers r and leaves the world d', 'post r d'' -/
def dkMi (l : Launch) (y : MethodName) (bytes : ByteArray) (nL : Nat) (ret : Option FieldType) (rm : Room) (D : va_G) (o : Nat) (ad : Nat → Nat) (cB cI : ClassId) (As : List Value) (d : MS) (post : Int32 → MS → Prop) : Prop := Met l y (ws_ y bytes nL ret) rm (dkPc D o ad cB cI As d) (va_Qi post (dkB D o ad cB cI) (dk_A o ad)) 0 0 (dk_A o ad)
/-- a contract without an answer -/
def dkMv (l : Launch) (y : MethodName) (bytes : ByteArray) (nL : Nat) (ret : Option FieldType) (rm : Room) (D : va_G) (o : Nat) (ad : Nat → Nat) (cB cI : ClassId) (As : List Value) (d : MS) (post : MS → Prop) : Prop := Met l y (ws_ y bytes nL ret) rm (dkPc D o ad cB cI As d) (va_Qv post (dkB D o ad cB cI) (dk_A o ad)) 0 0 (dk_A o ad)
def dkKi (D : va_G) (o : Nat) (ad : Nat → Nat) (cB cI : ClassId) (p : Program) (l : Launch) (e : Env) (R : Room) (s : State) (m : MethodId) (args : Array Value) (below : List Frame) (meth : Method) (c : Code) (cc : ByteArray) (Q : State → Prop) (post : Int32 → MS → Prop) : Prop := ∀ (r : Int32) (d' : MS) (H' : Heap) (locs' : List Loc) (pc : Nat) (ls' : Array Slot), post r d' → va_P D vwCl (dk_w o ad cB cI d') H' → va_S (dk_A o ad) s.heap H' locs' → decode cc pc = .ok (.ireturn, 1) → W p l e R s m args below meth c H' locs' 0 0 Q (F0 m pc ls' [.int r])
def dkKv (D : va_G) (o : Nat) (ad : Nat → Nat) (cB cI : ClassId) (p : Program) (l : Launch) (e : Env) (R : Room) (s : State) (m : MethodId) (args : Array Value) (below : List Frame) (meth : Method) (c : Code) (cc : ByteArray) (Q : State → Prop) (post : MS → Prop) : Prop := ∀ (d' : MS) (H' : Heap) (locs' : List Loc) (pc : Nat) (ls' : Array Slot), post d' → va_P D vwCl (dk_w o ad cB cI d') H' → va_S (dk_A o ad) s.heap H' locs' → decode cc pc = .ok (.return_, 1) → W p l e R s m args below meth c H' locs' 0 0 Q (F0 m pc ls' [])
theorem dk_meti {l : Launch} {y : MethodName} {bytes : ByteArray} {nL : Nat} {ty : FieldType} {rm : Room} {D : va_G} {o : Nat} {ad : Nat → Nat} {cB cI : ClassId} {As : List Value} {d : MS} {post : Int32 → MS → Prop} (hy : plainName y.cls = true) (hcls : y.cls = RX0) (hlen : (lg_sl (.ref o :: As)).length ≤ nL) (hz : ∀ r d', post r d' → narrow ty (.int r) = .int r)
    (body : ∀ p e s m args below meth c ls Q, dkE D o ad cB cI p s m args c bytes nL → va_P D vwCl (dk_w o ad cB cI d) s.heap → lv_has ls nL (lv_args 0 (.ref o :: As)) → dkKi D o ad cB cI p l e rm s m args below meth c bytes Q post → W p l e rm s m args below meth c s.heap [] 0 0 Q (F0 m 0 ls [])) : dkMi l y bytes nL (some ty) rm D o ad cB cI As d post := by
  refine Met.ofW (cc := bytes) (maxL := nL) (ret := some ty) hy rfl ?_
  intro p e s m args below meth c s₁ B hml hv
  obtain ⟨rfl, hP, hK, hD0⟩ := hv
  have hts := atoms_spec (ws := ws_ y bytes nL (some ty)) B.pre
  have hts : ∀ w ∈ lw_all, w.before _ s = true := fun w h => hts w (List.mem_cons_of_mem _ h)
  have hown : s.vm.findClass RX0 = some m.cls := by rw [← hcls]; exact findClass_of_methodNamed B.named
  have hlocks := B.notSynchronized
  have hr := B.returns
  have hl := lv_entry (.ref o :: As) (n := nL) hlen
  rw [lg_entry_eq]
  generalize (lg_sl (.ref o :: As) ++ List.replicate (nL - (lg_sl (.ref o :: As)).length) Slot.unset).toArray = ls at hl ⊢
  exact body p e s m _ below meth c ls _ ⟨B.exec, B.bytes, hts, hown, hml, hK, dk_D o ad cB cI hD0⟩ hP hl (fun r d' H' locs' pc ls' hpost hP' hS' hdg => W.zret B.exec B.bytes hr (hz r d' hpost) (fun t ht hW => ⟨⟨r, d', rfl, hpost, by unfold dkB; rw [ht]; exact hP'⟩, hS'.F ht⟩) hS'.2.2 hdg)
theorem dk_metv {l : Launch} {y : MethodName} {bytes : ByteArray} {nL : Nat} {rm : Room} {D : va_G} {o : Nat} {ad : Nat → Nat} {cB cI : ClassId} {As : List Value} {d : MS} {post : MS → Prop} (hy : plainName y.cls = true) (hcls : y.cls = RX0) (hlen : (lg_sl (.ref o :: As)).length ≤ nL)
    (body : ∀ p e s m args below meth c ls Q, dkE D o ad cB cI p s m args c bytes nL → va_P D vwCl (dk_w o ad cB cI d) s.heap → lv_has ls nL (lv_args 0 (.ref o :: As)) → dkKv D o ad cB cI p l e rm s m args below meth c bytes Q post → W p l e rm s m args below meth c s.heap [] 0 0 Q (F0 m 0 ls [])) : dkMv l y bytes nL none rm D o ad cB cI As d post := by
  refine Met.ofW (cc := bytes) (maxL := nL) (ret := none) hy rfl ?_
  intro p e s m args below meth c s₁ B hml hv
  obtain ⟨rfl, hP, hK, hD0⟩ := hv
  have hts := atoms_spec (ws := ws_ y bytes nL none) B.pre
  have hts : ∀ w ∈ lw_all, w.before _ s = true := fun w h => hts w (List.mem_cons_of_mem _ h)
  have hown : s.vm.findClass RX0 = some m.cls := by rw [← hcls]; exact findClass_of_methodNamed B.named
  have hlocks := B.notSynchronized
  have hr := B.returns
  have hl := lv_entry (.ref o :: As) (n := nL) hlen
  rw [lg_entry_eq]
  generalize (lg_sl (.ref o :: As) ++ List.replicate (nL - (lg_sl (.ref o :: As)).length) Slot.unset).toArray = ls at hl ⊢
  exact body p e s m _ below meth c ls _ ⟨B.exec, B.bytes, hts, hown, hml, hK, dk_D o ad cB cI hD0⟩ hP hl (fun d' H' locs' pc ls' hpost hP' hS' hdg => W.vret B.exec B.bytes hr (fun t ht hW => ⟨⟨d', rfl, hpost, by unfold dkB; rw [ht]; exact hP'⟩, hS'.F ht⟩) hS'.2.2 hdg)
section calldk
variable {p : Program} {l : Launch} {e : Env} {R : Room} {s : State} {m : MethodId} {args : Array Value} {below : List Frame} {meth : Method} {c : Code} {H : Heap} {locs : List Loc} {cells slots : Nat} {Q : State → Prop}
variable {cc : ByteArray} {pc nL : Nat} {ls : Array Slot} {rest : List Value}
variable {D : va_G} {o : Nat} {ad : Nat → Nat} {cB cI : ClassId} {d : MS} {H0 : Heap}
variable {y : MethodName} {bytes : ByteArray} {nLy n index : Nat} {ret : Option FieldType} {rm : Room} {As st0 : List Value}
theorem dk_blind : FrameBlind (dkPc D o ad cB cI As d) := fun a U g mk q => by
  obtain ⟨q0, qP, qK, qD⟩ := q
  exact ⟨q0, qP, va_K.moved (u := U) (U := U.calling g mk a) (Vm.Alike.refl U.vm) qK, qD⟩
theorem dk_calli {post : Int32 → MS → Prop} (E : dkE D o ad cB cI p s m args c cc nL) (hP : va_P D vwCl (dk_w o ad cB cI d) H) (hS : va_S (dk_A o ad) H0 H locs) (hM : dkMi l y bytes nLy ret rm D o ad cB cI As d post) (cw : CallW R s args RX0 RX0 index y bytes nLy ret (ws_ y bytes nLy ret) rm 0 0 n) (hn : As.length = n) (hsz : ls.size = nL) (hst : st0 = As.reverse ++ .ref o :: rest) (hrm : (rest.map fun v => v.category).sum ≤ 8) (hf : cells ≤ R.cells ∧ slots ≤ R.slots) (hdg : decode cc pc = .ok (.invokevirtual index, 3))
    (k : ∀ (r : Int32) (d1 : MS) (H1 : Heap) (locs1 : List Loc), post r d1 → va_P D vwCl (dk_w o ad cB cI d1) H1 → va_S (dk_A o ad) H0 H1 locs1 → W p l e R s m args below meth c H1 locs1 cells slots Q (F0 m (pc + 3) ls (.int r :: rest))) : W p l e R s m args below meth c H locs cells slots Q (F0 m pc ls st0) :=
  va_calli (va_runV (As := As) (rest := rest) ⟨E.1, E.2.1, E.2.2.2.2.1, E.2.2.2.1, E.2.2.1⟩ hM cw ⟨dk_blind, va_recv E.2.2.2.2.2.1 hP (ci := 0) (q0 := 0) rfl rfl, fun U hU hW => ⟨rfl, by rw [hU]; exact hP, va_K.moved hW.alike E.2.2.2.2.2.1, (E.2.2.2.2.2.2 d).weaken (fun _ _ _ _ => trivial)⟩⟩ rfl hn hsz hst (lv_room (m := m) (pc := pc) (ls := ls) (rest := st0) hrm) hdg ⟨hf.1, hf.2⟩) hS (fun q _ h => h) (fun q h => h) (fun r u t H1 locs1 ht hvm hp hB hz1 hk1 hS1 => k r u H1 locs1 hp (by rw [← ht]; exact hB) hS1)
theorem dk_callv {post : MS → Prop} (E : dkE D o ad cB cI p s m args c cc nL) (hP : va_P D vwCl (dk_w o ad cB cI d) H) (hS : va_S (dk_A o ad) H0 H locs) (hM : dkMv l y bytes nLy ret rm D o ad cB cI As d post) (cw : CallW R s args RX0 RX0 index y bytes nLy ret (ws_ y bytes nLy ret) rm 0 0 n) (hn : As.length = n) (hsz : ls.size = nL) (hst : st0 = As.reverse ++ .ref o :: rest) (hrm : (rest.map fun v => v.category).sum ≤ 8) (hf : cells ≤ R.cells ∧ slots ≤ R.slots) (hdg : decode cc pc = .ok (.invokevirtual index, 3))
    (k : ∀ (d1 : MS) (H1 : Heap) (locs1 : List Loc), post d1 → va_P D vwCl (dk_w o ad cB cI d1) H1 → va_S (dk_A o ad) H0 H1 locs1 → W p l e R s m args below meth c H1 locs1 cells slots Q (F0 m (pc + 3) ls rest)) : W p l e R s m args below meth c H locs cells slots Q (F0 m pc ls st0) :=
  va_callv (va_runV (As := As) (rest := rest) ⟨E.1, E.2.1, E.2.2.2.2.1, E.2.2.2.1, E.2.2.1⟩ hM cw ⟨dk_blind, va_recv E.2.2.2.2.2.1 hP (ci := 0) (q0 := 0) rfl rfl, fun U hU hW => ⟨rfl, by rw [hU]; exact hP, va_K.moved hW.alike E.2.2.2.2.2.1, (E.2.2.2.2.2.2 d).weaken (fun _ _ _ _ => trivial)⟩⟩ rfl hn hsz hst (lv_room (m := m) (pc := pc) (ls := ls) (rest := st0) hrm) hdg ⟨hf.1, hf.2⟩) hS (fun q _ h => h) (fun q h => h) (fun u t H1 locs1 ht hvm hp hB hz1 hk1 hS1 => k u H1 locs1 hp (by rw [← ht]; exact hB) hS1)
end calldk
def mdPc (D : va_G) (o : Nat) (ad : Nat → Nat) (cB cI : ClassId) (As : List Value) (d : MS) : Array Value → State → Prop := va_Pc (.ref o :: As) (fun U => va_P D vwCl (md_w o ad cB cI d) U.heap ∧ va_K D vwCl (md_ty cB cI) U ∧ va_D (fun _ => True) (md_w o ad cB cI d))
def mdB (D : va_G) (o : Nat) (ad : Nat → Nat) (cB cI : ClassId) (d : MS) (t : State) : Prop := va_P D vwCl (md_w o ad cB cI d) t.heap
/-- a contract with an int (or boolean) answer: from the world d the method answers r and leaves the world d', 'post r d'' -/
def mdMi (l : Launch) (y : MethodName) (bytes : ByteArray) (nL : Nat) (ret : Option FieldType) (rm : Room) (D : va_G) (o : Nat) (ad : Nat → Nat) (cB cI : ClassId) (As : List Value) (d : MS) (post : Int32 → MS → Prop) : Prop := Met l y (ws_ y bytes nL ret) rm (mdPc D o ad cB cI As d) (va_Qi post (mdB D o ad cB cI) (md_A o ad)) 0 0 (md_A o ad)
/-- a contract without an answer -/
def mdMv (l : Launch) (y : MethodName) (bytes : ByteArray) (nL : Nat) (ret : Option FieldType) (rm : Room) (D : va_G) (o : Nat) (ad : Nat → Nat) (cB cI : ClassId) (As : List Value) (d : MS) (post : MS → Prop) : Prop := Met l y (ws_ y bytes nL ret) rm (mdPc D o ad cB cI As d) (va_Qv post (mdB D o ad cB cI) (md_A o ad)) 0 0 (md_A o ad)
def mdKi (D : va_G) (o : Nat) (ad : Nat → Nat) (cB cI : ClassId) (p : Program) (l : Launch) (e : Env) (R : Room) (s : State) (m : MethodId) (args : Array Value) (below : List Frame) (meth : Method) (c : Code) (cc : ByteArray) (Q : State → Prop) (post : Int32 → MS → Prop) : Prop := ∀ (r : Int32) (d' : MS) (H' : Heap) (locs' : List Loc) (pc : Nat) (ls' : Array Slot), post r d' → va_P D vwCl (md_w o ad cB cI d') H' → va_S (md_A o ad) s.heap H' locs' → decode cc pc = .ok (.ireturn, 1) → W p l e R s m args below meth c H' locs' 0 0 Q (F0 m pc ls' [.int r])
def mdKv (D : va_G) (o : Nat) (ad : Nat → Nat) (cB cI : ClassId) (p : Program) (l : Launch) (e : Env) (R : Room) (s : State) (m : MethodId) (args : Array Value) (below : List Frame) (meth : Method) (c : Code) (cc : ByteArray) (Q : State → Prop) (post : MS → Prop) : Prop := ∀ (d' : MS) (H' : Heap) (locs' : List Loc) (pc : Nat) (ls' : Array Slot), post d' → va_P D vwCl (md_w o ad cB cI d') H' → va_S (md_A o ad) s.heap H' locs' → decode cc pc = .ok (.return_, 1) → W p l e R s m args below meth c H' locs' 0 0 Q (F0 m pc ls' [])
theorem md_meti {l : Launch} {y : MethodName} {bytes : ByteArray} {nL : Nat} {ty : FieldType} {rm : Room} {D : va_G} {o : Nat} {ad : Nat → Nat} {cB cI : ClassId} {As : List Value} {d : MS} {post : Int32 → MS → Prop} (hy : plainName y.cls = true) (hcls : y.cls = RX1) (hlen : (lg_sl (.ref o :: As)).length ≤ nL) (hz : ∀ r d', post r d' → narrow ty (.int r) = .int r)
    (body : ∀ p e s m args below meth c ls Q, mdE D o ad cB cI p s m args c bytes nL → va_P D vwCl (md_w o ad cB cI d) s.heap → lv_has ls nL (lv_args 0 (.ref o :: As)) → mdKi D o ad cB cI p l e rm s m args below meth c bytes Q post → W p l e rm s m args below meth c s.heap [] 0 0 Q (F0 m 0 ls [])) : mdMi l y bytes nL (some ty) rm D o ad cB cI As d post := by
  refine Met.ofW (cc := bytes) (maxL := nL) (ret := some ty) hy rfl ?_
  intro p e s m args below meth c s₁ B hml hv
  obtain ⟨rfl, hP, hK, hD0⟩ := hv
  have hts := atoms_spec (ws := ws_ y bytes nL (some ty)) B.pre
  have hts : ∀ w ∈ lw_all, w.before _ s = true := fun w h => hts w (List.mem_cons_of_mem _ h)
  have hown : s.vm.findClass RX1 = some m.cls := by rw [← hcls]; exact findClass_of_methodNamed B.named
  have hlocks := B.notSynchronized
  have hr := B.returns
  have hl := lv_entry (.ref o :: As) (n := nL) hlen
  rw [lg_entry_eq]
  generalize (lg_sl (.ref o :: As) ++ List.replicate (nL - (lg_sl (.ref o :: As)).length) Slot.unset).toArray = ls at hl ⊢
  exact body p e s m _ below meth c ls _ ⟨B.exec, B.bytes, hts, hown, hml, hK, md_D o ad cB cI hD0⟩ hP hl (fun r d' H' locs' pc ls' hpost hP' hS' hdg => W.zret B.exec B.bytes hr (hz r d' hpost) (fun t ht hW => ⟨⟨r, d', rfl, hpost, by unfold mdB; rw [ht]; exact hP'⟩, hS'.F ht⟩) hS'.2.2 hdg)
theorem md_metv {l : Launch} {y : MethodName} {bytes : ByteArray} {nL : Nat} {rm : Room} {D : va_G} {o : Nat} {ad : Nat → Nat} {cB cI : ClassId} {As : List Value} {d : MS} {post : MS → Prop} (hy : plainName y.cls = true) (hcls : y.cls = RX1) (hlen : (lg_sl (.ref o :: As)).length ≤ nL)
    (body : ∀ p e s m args below meth c ls Q, mdE D o ad cB cI p s m args c bytes nL → va_P D vwCl (md_w o ad cB cI d) s.heap → lv_has ls nL (lv_args 0 (.ref o :: As)) → mdKv D o ad cB cI p l e rm s m args below meth c bytes Q post → W p l e rm s m args below meth c s.heap [] 0 0 Q (F0 m 0 ls [])) : mdMv l y bytes nL none rm D o ad cB cI As d post := by
  refine Met.ofW (cc := bytes) (maxL := nL) (ret := none) hy rfl ?_
  intro p e s m args below meth c s₁ B hml hv
  obtain ⟨rfl, hP, hK, hD0⟩ := hv
  have hts := atoms_spec (ws := ws_ y bytes nL none) B.pre
  have hts : ∀ w ∈ lw_all, w.before _ s = true := fun w h => hts w (List.mem_cons_of_mem _ h)
  have hown : s.vm.findClass RX1 = some m.cls := by rw [← hcls]; exact findClass_of_methodNamed B.named
  have hlocks := B.notSynchronized
  have hr := B.returns
  have hl := lv_entry (.ref o :: As) (n := nL) hlen
  rw [lg_entry_eq]
  generalize (lg_sl (.ref o :: As) ++ List.replicate (nL - (lg_sl (.ref o :: As)).length) Slot.unset).toArray = ls at hl ⊢
  exact body p e s m _ below meth c ls _ ⟨B.exec, B.bytes, hts, hown, hml, hK, md_D o ad cB cI hD0⟩ hP hl (fun d' H' locs' pc ls' hpost hP' hS' hdg => W.vret B.exec B.bytes hr (fun t ht hW => ⟨⟨d', rfl, hpost, by unfold mdB; rw [ht]; exact hP'⟩, hS'.F ht⟩) hS'.2.2 hdg)
section callmd
variable {p : Program} {l : Launch} {e : Env} {R : Room} {s : State} {m : MethodId} {args : Array Value} {below : List Frame} {meth : Method} {c : Code} {H : Heap} {locs : List Loc} {cells slots : Nat} {Q : State → Prop}
variable {cc : ByteArray} {pc nL : Nat} {ls : Array Slot} {rest : List Value}
variable {D : va_G} {o : Nat} {ad : Nat → Nat} {cB cI : ClassId} {d : MS} {H0 : Heap}
variable {y : MethodName} {bytes : ByteArray} {nLy n index : Nat} {ret : Option FieldType} {rm : Room} {As st0 : List Value}
theorem md_blind : FrameBlind (mdPc D o ad cB cI As d) := fun a U g mk q => by
  obtain ⟨q0, qP, qK, qD⟩ := q
  exact ⟨q0, qP, va_K.moved (u := U) (U := U.calling g mk a) (Vm.Alike.refl U.vm) qK, qD⟩
theorem md_calli {post : Int32 → MS → Prop} (E : mdE D o ad cB cI p s m args c cc nL) (hP : va_P D vwCl (md_w o ad cB cI d) H) (hS : va_S (md_A o ad) H0 H locs) (hM : mdMi l y bytes nLy ret rm D o ad cB cI As d post) (cw : CallW R s args RX1 RX1 index y bytes nLy ret (ws_ y bytes nLy ret) rm 0 0 n) (hn : As.length = n) (hsz : ls.size = nL) (hst : st0 = As.reverse ++ .ref o :: rest) (hrm : (rest.map fun v => v.category).sum ≤ 8) (hf : cells ≤ R.cells ∧ slots ≤ R.slots) (hdg : decode cc pc = .ok (.invokevirtual index, 3))
    (k : ∀ (r : Int32) (d1 : MS) (H1 : Heap) (locs1 : List Loc), post r d1 → va_P D vwCl (md_w o ad cB cI d1) H1 → va_S (md_A o ad) H0 H1 locs1 → W p l e R s m args below meth c H1 locs1 cells slots Q (F0 m (pc + 3) ls (.int r :: rest))) : W p l e R s m args below meth c H locs cells slots Q (F0 m pc ls st0) :=
  va_calli (va_runV (As := As) (rest := rest) ⟨E.1, E.2.1, E.2.2.2.2.1, E.2.2.2.1, E.2.2.1⟩ hM cw ⟨md_blind, va_recv E.2.2.2.2.2.1 hP (ci := 1) (q0 := 0) rfl rfl, fun U hU hW => ⟨rfl, by rw [hU]; exact hP, va_K.moved hW.alike E.2.2.2.2.2.1, (E.2.2.2.2.2.2 d).weaken (fun _ _ _ _ => trivial)⟩⟩ rfl hn hsz hst (lv_room (m := m) (pc := pc) (ls := ls) (rest := st0) hrm) hdg ⟨hf.1, hf.2⟩) hS (fun q _ h => h) (fun q h => h) (fun r u t H1 locs1 ht hvm hp hB hz1 hk1 hS1 => k r u H1 locs1 hp (by rw [← ht]; exact hB) hS1)
theorem md_callv {post : MS → Prop} (E : mdE D o ad cB cI p s m args c cc nL) (hP : va_P D vwCl (md_w o ad cB cI d) H) (hS : va_S (md_A o ad) H0 H locs) (hM : mdMv l y bytes nLy ret rm D o ad cB cI As d post) (cw : CallW R s args RX1 RX1 index y bytes nLy ret (ws_ y bytes nLy ret) rm 0 0 n) (hn : As.length = n) (hsz : ls.size = nL) (hst : st0 = As.reverse ++ .ref o :: rest) (hrm : (rest.map fun v => v.category).sum ≤ 8) (hf : cells ≤ R.cells ∧ slots ≤ R.slots) (hdg : decode cc pc = .ok (.invokevirtual index, 3))
    (k : ∀ (d1 : MS) (H1 : Heap) (locs1 : List Loc), post d1 → va_P D vwCl (md_w o ad cB cI d1) H1 → va_S (md_A o ad) H0 H1 locs1 → W p l e R s m args below meth c H1 locs1 cells slots Q (F0 m (pc + 3) ls rest)) : W p l e R s m args below meth c H locs cells slots Q (F0 m pc ls st0) :=
  va_callv (va_runV (As := As) (rest := rest) ⟨E.1, E.2.1, E.2.2.2.2.1, E.2.2.2.1, E.2.2.1⟩ hM cw ⟨md_blind, va_recv E.2.2.2.2.2.1 hP (ci := 1) (q0 := 0) rfl rfl, fun U hU hW => ⟨rfl, by rw [hU]; exact hP, va_K.moved hW.alike E.2.2.2.2.2.1, (E.2.2.2.2.2.2 d).weaken (fun _ _ _ _ => trivial)⟩⟩ rfl hn hsz hst (lv_room (m := m) (pc := pc) (ls := ls) (rest := st0) hrm) hdg ⟨hf.1, hf.2⟩) hS (fun q _ h => h) (fun q h => h) (fun u t H1 locs1 ht hvm hp hB hz1 hk1 hS1 => k u H1 locs1 hp (by rw [← ht]; exact hB) hS1)
end callmd
end
section
/-! bits and small pure words -/
noncomputable def cif {α : Type} (c : Prop) (a b : α) : α := @ite α c (Classical.propDecidable c) a b
theorem cif_pos {α : Type} {c : Prop} {a b : α} (h : c) : cif c a b = a := by unfold cif; rw [if_pos h]
theorem cif_neg {α : Type} {c : Prop} {a b : α} (h : ¬ c) : cif c a b = b := by unfold cif; rw [if_neg h]
def hasK (K : Nat) (x : Int32) : Prop := ∃ k, k < 12 ∧ x = nI k ∧ K.testBit k = true
def HasR (K : Nat) (x r : Int32) : Prop := (r = 1 ∧ hasK K x) ∨ (r = 0 ∧ ¬ hasK K x)
theorem HasR.ne {K : Nat} {x r : Int32} (h : HasR K x r) (hr : ¬ r = 0) : hasK K x := by
  rcases h with h | h
  · exact h.2
  · exact absurd h.1 hr
theorem HasR.eq {K : Nat} {x r : Int32} (h : HasR K x r) (hr : r = 0) : ¬ hasK K x := by
  rcases h with h | h
  · exact absurd (h.1.symm.trans hr) (by decide)
  · exact h.2
theorem HasR.z {K : Nat} {x r : Int32} (h : HasR K x r) : narrow .boolean (.int r) = .int r := by
  rcases h with h | h
  · rw [h.1]; rfl
  · rw [h.1]; rfl
theorem hasK_nI {K k : Nat} (h : k < 12) (h2 : K.testBit k = true) : hasK K (nI k) := ⟨k, h, rfl, h2⟩
theorem hasK_iff {K k : Nat} (h : k < 12) : hasK K (nI k) ↔ K.testBit k = true := by
  refine ⟨fun ⟨j, hj, e, t⟩ => ?_, hasK_nI h⟩
  rw [nI_eq (by omega) (by omega)] at e
  rw [e]; exact t
theorem hasK_lt {K : Nat} {x : Int32} (h : x < 0) : ¬ hasK K x := fun ⟨k, hk, e, _⟩ => by
  subst e
  exact nI_pos (by omega) h
theorem hasK_ge {K : Nat} {x : Int32} (h : nI 12 ≤ x) : ¬ hasK K x := fun ⟨k, hk, e, _⟩ => by
  subst e
  exact nI_ge hk (by omega) h
theorem in12 {x : Int32} (h0 : ¬ x < 0) (h1 : ¬ nI 12 ≤ x) : ∃ k, k < 12 ∧ x = nI k := by
  rcases pk_ix x (n := 12) (by decide) with h | h | h
  · exact absurd h h0
  · exact absurd h h1
  · exact h
theorem bit_shr {K k : Nat} (hK : K < 4096) (hk : k < 12) : (nI K >>> (nI k &&& 31)) &&& nI 1 = if K.testBit k = true then 1 else 0 := by
  have h1 : K / 2 ^ k ≤ K := Nat.div_le_self _ _
  rw [pk_shrN (by omega) _ k (sm_ k (by omega)), pk_andN (by omega) 1 (by decide), Nat.testBit_eq_decide_div_mod_eq]
  have h2 : K / 2 ^ k % 2 ^ 1 = 0 ∨ K / 2 ^ k % 2 ^ 1 = 1 := by omega
  rcases h2 with h2 | h2
  · rw [h2, if_neg (by simp)]; rfl
  · rw [h2, if_pos (by simp)]; rfl
theorem nx_or (a b : Nat) : nI a ||| nI b = nI (a ||| b) := by
  apply Int32.toBitVec_inj.1
  show BitVec.ofNat 32 a ||| BitVec.ofNat 32 b = BitVec.ofNat 32 (a ||| b)
  apply BitVec.eq_of_getLsbD_eq
  intro i hi
  simp [hi]
theorem nx_and (a b : Nat) : nI a &&& nI b = nI (a &&& b) := by
  apply Int32.toBitVec_inj.1
  show BitVec.ofNat 32 a &&& BitVec.ofNat 32 b = BitVec.ofNat 32 (a &&& b)
  apply BitVec.eq_of_getLsbD_eq
  intro i hi
  simp [hi]
theorem nx_xor (a b : Nat) : nI a ^^^ nI b = nI (a ^^^ b) := by
  apply Int32.toBitVec_inj.1
  show BitVec.ofNat 32 a ^^^ BitVec.ofNat 32 b = BitVec.ofNat 32 (a ^^^ b)
  apply BitVec.eq_of_getLsbD_eq
  intro i hi
  simp [hi]
theorem shl1 {k : Nat} (hk : k < 32) : nI 1 <<< (nI k &&& 31) = nI (2 ^ k) := by
  rw [pk_shlN _ k (sm_ k hk) (by rw [Nat.one_mul]; exact Nat.pow_lt_pow_right (by decide) hk), Nat.one_mul]
theorem bit_set {K k : Nat} (hk : k < 12) : nI K ||| (nI 1 <<< (nI k &&& 31)) = nI (K ||| 2 ^ k) := by
  rw [shl1 (by omega), nx_or]
def clr (K k : Nat) : Nat := K &&& (2 ^ k ^^^ 4294967295)
theorem bit_clr {K k : Nat} (hk : k < 12) : nI K &&& ((nI 1 <<< (nI k &&& 31)) ^^^ (-1)) = nI (clr K k) := by
  rw [shl1 (by omega), show (-1 : Int32) = nI 4294967295 from by decide, nx_xor, nx_and]
  rfl
theorem clr_lt {K k : Nat} (hK : K < 4096) : clr K k < 4096 := Nat.lt_of_le_of_lt Nat.and_le_left hK
theorem clr_bit {K k j : Nat} (hj : j < 12) : (clr K k).testBit j = (K.testBit j && !(decide (k = j))) := by
  unfold clr
  rw [Nat.testBit_and, Nat.testBit_xor, Nat.testBit_two_pow, show (4294967295 : Nat) = 2 ^ 32 - 1 from rfl, Nat.testBit_two_pow_sub_one]
  simp [show j < 32 by omega]
theorem set_bit {K k j : Nat} : (K ||| 2 ^ k).testBit j = (K.testBit j || decide (k = j)) := by
  rw [Nat.testBit_or, Nat.testBit_two_pow]
theorem set_lt {K k : Nat} (hK : K < 4096) (hk : k < 12) : K ||| 2 ^ k < 4096 := by
  have h : 2 ^ k < 2 ^ 12 := Nat.pow_lt_pow_right (by decide) hk
  exact Nat.or_lt_two_pow (n := 12) hK h
theorem mod_bit {K i : Nat} : K % 2 ^ (i + 1) = K % 2 ^ i ||| (if K.testBit i = true then 2 ^ i else 0) := by
  apply Nat.eq_of_testBit_eq
  intro j
  rw [Nat.testBit_or, Nat.testBit_mod_two_pow, Nat.testBit_mod_two_pow]
  by_cases h : K.testBit i = true
  · rw [if_pos h, Nat.testBit_two_pow]
    by_cases h2 : i = j
    · subst h2; simp [h]
    · have h3 : (j < i + 1) ↔ (j < i) := by omega
      simp [h2, h3]
  · rw [if_neg h, Nat.zero_testBit]
    by_cases h2 : i = j
    · subst h2; simp [h]
    · have h3 : (j < i + 1) ↔ (j < i) := by omega
      simp [h3]
/-- the first free moment from m on, at most f looks -/
def rm_ (T : Nat → Bool) : Nat → Nat → Option Nat
  | 0, _ => none
  | f + 1, m => if T m = true then rm_ T f (m + 1) else some m
def rmI (r : Option Nat) : Int32 := match r with
  | some m => nI m
  | none => -2
theorem rm_some {T : Nat → Bool} : ∀ (f m k : Nat), rm_ T f m = some k → m ≤ k ∧ k < m + f ∧ T k = false := by
  intro f
  induction f with
  | zero => intro m k h; cases h
  | succ f ih =>
    intro m k h
    unfold rm_ at h
    by_cases ht : T m = true
    · rw [if_pos ht] at h
      obtain ⟨h1, h2, h3⟩ := ih (m + 1) k h
      exact ⟨by omega, by omega, h3⟩
    · rw [if_neg ht] at h
      cases h
      exact ⟨Nat.le_refl _, by omega, by simpa using ht⟩
theorem rm_congr {T T' : Nat → Bool} : ∀ (f m : Nat), (∀ k, m ≤ k → k < m + f → T k = T' k) → rm_ T f m = rm_ T' f m := by
  intro f
  induction f with
  | zero => intro m _; rfl
  | succ f ih =>
    intro m h
    unfold rm_
    rw [h m (Nat.le_refl _) (by omega), ih (m + 1) (fun k h1 h2 => h k (by omega) (by omega))]
end
section
/-! ReplayDesk: has, freeMoment, freshPage, loadCell, storeCell -/
set_option maxHeartbeats 4000000 in
set_option maxRecDepth 100000 in
theorem wk_dk_has {p : Program} {l : Launch} {e : Env} {s : State} {m : MethodId} {args : Array Value} {below : List Frame} {meth : Method} {c : Code} {ls : Array Slot} {Q : State → Prop} {D : va_G} {o : Nat} {ad : Nat → Nat} {cB cI : ClassId} {d : MS} {K : Nat} {x : Int32} (hK : K < 4096) (hk : d 6 0 = nI K) (E : dkE D o ad cB cI p s m args c cX0_has 2) (hP : va_P D vwCl (dk_w o ad cB cI d) s.heap) (hl : lv_has ls 2 [(0, .ref o), (1, .int x)]) (kR : dkKi D o ad cB cI p l e (rmk 0) s m args below meth c cX0_has Q (fun r d' => d' = d ∧ HasR K x r)) : W p l e (rmk 0) s m args below meth c s.heap [] 0 0 Q (F0 m 0 ls []) := by
  obtain ⟨hx, hb, -⟩ := id E
  have hS : va_S (dk_A o ad) s.heap s.heap [] := va_S.rf
  refine lv_iload_n hx hb dX0_has_0 rfl (lv_at hl 1 rfl) ?_
  refine lv_if_lt (tgt := 25) hx hb dX0_has_1 (by decide) (fun c1 => ?_) (fun c1 => ?_)
  · refine lv_iconst (v := (nI 0)) hx hb dX0_has_25 (by decide) ?_
    exact kR _ _ _ _ _ _ (⟨rfl, Or.inr ⟨rfl, hasK_lt c1⟩⟩) hP hS dX0_has_26
  · refine lv_iload_n hx hb dX0_has_4 rfl (lv_at hl 1 rfl) ?_
    refine lv_bipush (v := (nI 12)) hx hb dX0_has_5 (by decide) ?_
    refine lv_icmp_ge (tgt := 25) hx hb dX0_has_7 (by decide) (fun c7 => ?_) (fun c7 => ?_)
    · refine lv_iconst (v := (nI 0)) hx hb dX0_has_25 (by decide) ?_
      exact kR _ _ _ _ _ _ (⟨rfl, Or.inr ⟨rfl, hasK_ge c7⟩⟩) hP hS dX0_has_26
    · obtain ⟨k, hk12, rfl⟩ := in12 c1 c7
      refine lv_aload_n hx hb dX0_has_10 rfl (lv_at hl 0 rfl) ?_
      refine dk_g6 E hP dX0_has_11 ?_
      refine tp (y := (nI K)) (hk) ?_
      refine lv_iload_n hx hb dX0_has_14 rfl (lv_at hl 1 rfl) ?_
      refine lv_ishr hx hb dX0_has_15 ?_
      refine lv_iconst (v := (nI 1)) hx hb dX0_has_16 (by decide) ?_
      refine lv_iand hx hb dX0_has_17 ?_
      refine tp (y := (if K.testBit k = true then (1 : Int32) else 0)) (bit_shr hK hk12) ?_
      refine lv_if_eq (tgt := 25) hx hb dX0_has_18 (by decide) (fun c18 => ?_) (fun c18 => ?_)
      · have c18 : ¬ K.testBit k = true := fun h => by rw [if_pos h] at c18; exact absurd c18 (by decide)
        refine lv_iconst (v := (nI 0)) hx hb dX0_has_25 (by decide) ?_
        exact kR _ _ _ _ _ _ (⟨rfl, Or.inr ⟨rfl, fun h => c18 ((hasK_iff hk12).mp h)⟩⟩) hP hS dX0_has_26
      · have c18 : K.testBit k = true := Classical.byContradiction fun h => c18 (by rw [if_neg h])
        refine lv_iconst (v := (nI 1)) hx hb dX0_has_21 (by decide) ?_
        refine lv_goto (tgt := 26) hx hb dX0_has_22 (by decide) ?_
        exact kR _ _ _ _ _ _ (⟨rfl, Or.inl ⟨rfl, hasK_nI hk12 c18⟩⟩) hP hS dX0_has_26
set_option maxHeartbeats 4000000 in
set_option maxRecDepth 100000 in
theorem met_dk_has (l : Launch) (D : va_G) (o : Nat) (ad : Nat → Nat) (cB cI : ClassId) (d : MS) {K : Nat} {x : Int32} (hK : K < 4096) (hk : d 6 0 = nI K) : dkMi l yX0_has cX0_has 2 (some .boolean) (rmk 0) D o ad cB cI [.int x] d (fun r d' => d' = d ∧ HasR K x r) :=
  dk_meti (by decide) rfl (Nat.le_of_ble_eq_true rfl) (fun _ _ h => h.2.z) (fun p e s m args below meth c ls Q E hP hl kR => wk_dk_has hK hk E hP hl kR)
set_option maxHeartbeats 4000000 in
set_option maxRecDepth 100000 in
theorem wk_dk_freeMoment {p : Program} {l : Launch} {e : Env} {s : State} {m : MethodId} {args : Array Value} {below : List Frame} {meth : Method} {c : Code} {ls : Array Slot} {Q : State → Prop} {D : va_G} {o : Nat} {ad : Nat → Nat} {cB cI : ClassId} {d : MS} {K : Nat} (hK : K < 4096) (hk : d 6 0 = nI K) (E : dkE D o ad cB cI p s m args c cX0_freeMoment 2) (hP : va_P D vwCl (dk_w o ad cB cI d) s.heap) (hl : lv_has ls 2 [(0, .ref o)]) (kR : dkKi D o ad cB cI p l e (rmk 1) s m args below meth c cX0_freeMoment Q (fun r d' => d' = d ∧ r = rmI (rm_ K.testBit 12 0))) : W p l e (rmk 1) s m args below meth c s.heap [] 0 0 Q (F0 m 0 ls []) := by
  obtain ⟨hx, hb, -⟩ := id E
  have hS : va_S (dk_A o ad) s.heap s.heap [] := va_S.rf
  have loop : ∀ (n i : Nat), i + n = 12 → rm_ K.testBit 12 0 = rm_ K.testBit n i → ∀ (H : Heap) (locs : List Loc) (ls : Array Slot), va_P D vwCl (dk_w o ad cB cI d) H → va_S (dk_A o ad) s.heap H locs → lv_has ls 2 [(0, .ref o), (1, .int (nI i))] → W p l e (rmk 1) s m args below meth c H locs 0 0 Q (F0 m 2 ls []) := by
    intro n
    induction n with
    | zero =>
      intro i hi hr H locs ls hP hS hl
      refine lv_iload_n hx hb dX0_freeMoment_2 rfl (lv_at hl 1 rfl) ?_
      refine lv_bipush (v := (nI 12)) hx hb dX0_freeMoment_3 (by decide) ?_
      refine nv_icmp_ge (tgt := 24) hx hb (by omega) (by omega) dX0_freeMoment_5 (by decide) (fun c5 => ?_) (fun c5 => ?_)
      · refine lv_bipush (v := (-2)) hx hb dX0_freeMoment_24 (by decide) ?_
        exact kR _ _ _ _ _ _ (⟨rfl, by rw [hr]; rfl⟩) hP hS dX0_freeMoment_26
      · exact absurd c5 (by omega)
    | succ n ih =>
      intro i hi hr H locs ls hP hS hl
      refine lv_iload_n hx hb dX0_freeMoment_2 rfl (lv_at hl 1 rfl) ?_
      refine lv_bipush (v := (nI 12)) hx hb dX0_freeMoment_3 (by decide) ?_
      refine nv_icmp_ge (tgt := 24) hx hb (by omega) (by omega) dX0_freeMoment_5 (by decide) (fun c5 => ?_) (fun c5 => ?_)
      · exact absurd c5 (by omega)
      · refine lv_aload_n hx hb dX0_freeMoment_8 rfl (lv_at hl 0 rfl) ?_
        refine lv_iload_n hx hb dX0_freeMoment_9 rfl (lv_at hl 1 rfl) ?_
        refine dk_calli (As := [.int (nI i)]) (rest := []) E hP hS (met_dk_has l D o ad cB cI d hK hk) (cwV 1 E.2.2.1 (lw_V q98 q100 qs0 q19 q101) rfl rfl rfl (by decide +kernel) ⟨by decide, by decide⟩) rfl hl.1 rfl (Nat.le_of_ble_eq_true rfl) ⟨Nat.zero_le _, Nat.zero_le _⟩ dX0_freeMoment_10 (fun r102 d101 H locs hpd101 hP hS => ?_)
        obtain ⟨e0, hh⟩ := hpd101
        rw [e0] at hP
        refine lv_if_ne (tgt := 18) hx hb dX0_freeMoment_13 (by decide) (fun c13 => ?_) (fun c13 => ?_)
        · have ht : K.testBit i = true := (hasK_iff (by omega)).mp (hh.ne c13)
          refine nv_iinc (lv' := [(1, .int (nI (i + 1))), (0, .ref o)]) hx hb 1 dX0_freeMoment_18 hl rfl (by decide) rfl (fun ls hl => ?_)
          refine lv_goto (tgt := 2) hx hb dX0_freeMoment_21 (by decide) ?_
          have hl : lv_has ls 2 [(0, .ref o), (1, .int (nI (i + 1)))] := lv_sub hl [1, 0] rfl
          exact ih (i + 1) (by omega) (by rw [hr, rm_, if_pos ht]) H locs ls hP hS hl
        · have ht : ¬ K.testBit i = true := fun h => hh.eq c13 (hasK_nI (by omega) h)
          refine lv_iload_n hx hb dX0_freeMoment_16 rfl (lv_at hl 1 rfl) ?_
          exact kR _ _ _ _ _ _ (⟨rfl, by rw [hr, rm_, if_neg ht]; rfl⟩) hP hS dX0_freeMoment_17
  refine lv_iconst (v := (nI 0)) hx hb dX0_freeMoment_0 (by decide) ?_
  refine lv_istore_n (lv' := [(1, .int (nI 0)), (0, .ref o)]) hx hb dX0_freeMoment_1 rfl hl (by decide) rfl (fun ls hl => ?_)
  have hl : lv_has ls 2 [(0, .ref o), (1, .int (nI 0))] := lv_sub hl [1, 0] rfl
  exact loop 12 0 rfl rfl _ _ ls hP hS hl
set_option maxHeartbeats 4000000 in
set_option maxRecDepth 100000 in
theorem met_dk_freeMoment (l : Launch) (D : va_G) (o : Nat) (ad : Nat → Nat) (cB cI : ClassId) (d : MS) {K : Nat} (hK : K < 4096) (hk : d 6 0 = nI K) : dkMi l yX0_freeMoment cX0_freeMoment 2 (some .int) (rmk 1) D o ad cB cI [] d (fun r d' => d' = d ∧ r = rmI (rm_ K.testBit 12 0)) :=
  dk_meti (by decide) rfl (Nat.le_of_ble_eq_true rfl) (fun _ _ _ => rfl) (fun p e s m args below meth c ls Q E hP hl kR => wk_dk_freeMoment hK hk E hP hl kR)
def FreshR (d : MS) (r : Int32) (d' : MS) : Prop := ∃ p, p < 56 ∧ r = nI p ∧ d 5 p = 0 ∧ (∀ q, d' 5 q = if q = p then 1 else d 5 q) ∧ (∀ q, d' 4 q = if p * 4 ≤ q ∧ q < p * 4 + 4 then 0 else d 4 q) ∧ ∀ k, k ≠ 4 → k ≠ 5 → d' k = d k
set_option maxHeartbeats 4000000 in
set_option maxRecDepth 100000 in
theorem wk_dk_freshPage {p : Program} {l : Launch} {e : Env} {s : State} {m : MethodId} {args : Array Value} {below : List Frame} {meth : Method} {c : Code} {ls : Array Slot} {Q : State → Prop} {D : va_G} {o : Nat} {ad : Nat → Nat} {cB cI : ClassId} {d : MS} (hz : ∃ z, z < 56 ∧ d 5 z = 0) (E : dkE D o ad cB cI p s m args c cX0_freshPage 3) (hP : va_P D vwCl (dk_w o ad cB cI d) s.heap) (hl : lv_has ls 3 [(0, .ref o)]) (kR : dkKi D o ad cB cI p l e (rmk 0) s m args below meth c cX0_freshPage Q (FreshR d)) : W p l e (rmk 0) s m args below meth c s.heap [] 0 0 Q (F0 m 0 ls []) := by
  obtain ⟨hx, hb, -⟩ := id E
  have hS : va_S (dk_A o ad) s.heap s.heap [] := va_S.rf
  obtain ⟨z, hz56, hz0⟩ := hz
  have fill : ∀ (n k a : Nat) (d1 : MS), k + n = 4 → a < 56 → d 5 a = 0 → (∀ q, d1 5 q = if q = a then 1 else d 5 q) → (∀ q, d1 4 q = if a * 4 ≤ q ∧ q < a * 4 + k then 0 else d 4 q) → (∀ j, j ≠ 4 → j ≠ 5 → d1 j = d j) → ∀ (H : Heap) (locs : List Loc) (ls : Array Slot), va_P D vwCl (dk_w o ad cB cI d1) H → va_S (dk_A o ad) s.heap H locs → lv_has ls 3 [(0, .ref o), (1, .int (nI a)), (2, .int (nI k))] → W p l e (rmk 0) s m args below meth c H locs 0 0 Q (F0 m 26 ls []) := by
    intro n
    induction n with
    | zero =>
      intro k a d1 hk ha h0 h5 h4 hf H locs ls hP hS hl
      refine lv_iload_n hx hb dX0_freshPage_26 rfl (lv_at hl 2 rfl) ?_
      refine lv_iconst (v := (nI 4)) hx hb dX0_freshPage_27 (by decide) ?_
      refine nv_icmp_ge (tgt := 48) hx hb (by omega) (by omega) dX0_freshPage_28 (by decide) (fun c28 => ?_) (fun c28 => ?_)
      · have hk4 : k = 4 := by omega
        subst hk4
        refine lv_iload_n hx hb dX0_freshPage_48 rfl (lv_at hl 1 rfl) ?_
        exact kR _ _ _ _ _ _ (⟨a, ha, rfl, h0, h5, h4, hf⟩) hP hS dX0_freshPage_49
      · exact absurd c28 (by omega)
    | succ n ih =>
      intro k a d1 hk ha h0 h5 h4 hf H locs ls hP hS hl
      refine lv_iload_n hx hb dX0_freshPage_26 rfl (lv_at hl 2 rfl) ?_
      refine lv_iconst (v := (nI 4)) hx hb dX0_freshPage_27 (by decide) ?_
      refine nv_icmp_ge (tgt := 48) hx hb (by omega) (by omega) dX0_freshPage_28 (by decide) (fun c28 => ?_) (fun c28 => ?_)
      · exact absurd c28 (by omega)
      · refine lv_aload_n hx hb dX0_freshPage_31 rfl (lv_at hl 0 rfl) ?_
        refine dk_g4 E hP dX0_freshPage_32 ?_
        refine lv_iload_n hx hb dX0_freshPage_35 rfl (lv_at hl 1 rfl) ?_
        refine lv_iconst (v := (nI 4)) hx hb dX0_freshPage_36 (by decide) ?_
        refine nv_imul hx hb dX0_freshPage_37 ?_
        refine lv_iload_n hx hb dX0_freshPage_38 rfl (lv_at hl 2 rfl) ?_
        refine nv_iadd hx hb dX0_freshPage_39 ?_
        refine lv_iconst (v := (nI 0)) hx hb dX0_freshPage_40 (by decide) ?_
        refine dk_s4 E hP hS (by omega) dX0_freshPage_41 (fun d103 H locs ed103 hP hS => ?_)
        refine nv_iinc (lv' := [(2, .int (nI (k + 1))), (0, .ref o), (1, .int (nI a))]) hx hb 2 dX0_freshPage_42 hl rfl (by decide) rfl (fun ls hl => ?_)
        refine lv_goto (tgt := 26) hx hb dX0_freshPage_45 (by decide) ?_
        have hl : lv_has ls 3 [(0, .ref o), (1, .int (nI a)), (2, .int (nI (k + 1)))] := lv_sub hl [1, 2, 0] rfl
        refine ih (k + 1) a d103 (by omega) ha h0 (fun q => by rw [ed103]; exact h5 q) (fun q => ?_) (fun j hj4 hj5 => by rw [ed103, va_up_ne _ _ hj4]; exact hf j hj4 hj5) H locs ls hP hS hl
        rw [ed103, va_up_self]
        unfold upd
        rw [h4 q]
        by_cases h1 : q = a * 4 + k
        · rw [if_pos h1, if_pos ⟨by omega, by omega⟩]; rfl
        · rw [if_neg h1]
          by_cases h2 : a * 4 ≤ q ∧ q < a * 4 + k
          · rw [if_pos h2, if_pos ⟨by omega, by omega⟩]
          · rw [if_neg h2, if_neg (by omega)]
  have loop : ∀ (n i : Nat), i + n = z → ∀ (H : Heap) (locs : List Loc) (ls : Array Slot), va_P D vwCl (dk_w o ad cB cI d) H → va_S (dk_A o ad) s.heap H locs → lv_has ls 3 [(0, .ref o), (1, .int (nI i))] → W p l e (rmk 0) s m args below meth c H locs 0 0 Q (F0 m 2 ls []) := by
    intro n
    induction n with
    | zero =>
      intro i hi H locs ls hP hS hl
      have hi : i = z := by omega
      subst hi
      refine lv_iload_n hx hb dX0_freshPage_2 rfl (lv_at hl 1 rfl) ?_
      refine lv_bipush (v := (nI 56)) hx hb dX0_freshPage_3 (by decide) ?_
      refine nv_icmp_ge (tgt := 56) hx hb (by omega) (by omega) dX0_freshPage_5 (by decide) (fun c5 => ?_) (fun c5 => ?_)
      · exact absurd c5 (by omega)
      · refine lv_aload_n hx hb dX0_freshPage_8 rfl (lv_at hl 0 rfl) ?_
        refine dk_g5 E hP dX0_freshPage_9 ?_
        refine lv_iload_n hx hb dX0_freshPage_12 rfl (lv_at hl 1 rfl) ?_
        refine dk_l5 E hP (x := (d 5 i)) (rfl) (by omega) dX0_freshPage_13 ?_
        refine lv_if_ne (tgt := 50) hx hb dX0_freshPage_14 (by decide) (fun c14 => ?_) (fun c14 => ?_)
        · exact absurd hz0 c14
        · refine lv_aload_n hx hb dX0_freshPage_17 rfl (lv_at hl 0 rfl) ?_
          refine dk_g5 E hP dX0_freshPage_18 ?_
          refine lv_iload_n hx hb dX0_freshPage_21 rfl (lv_at hl 1 rfl) ?_
          refine lv_iconst (v := (nI 1)) hx hb dX0_freshPage_22 (by decide) ?_
          refine dk_s5 E hP hS (y := (nI 1)) (by decide) (by omega) dX0_freshPage_23 (fun d104 H locs ed104 hP hS => ?_)
          refine lv_iconst (v := (nI 0)) hx hb dX0_freshPage_24 (by decide) ?_
          refine lv_istore_n (lv' := [(2, .int (nI 0)), (0, .ref o), (1, .int (nI i))]) hx hb dX0_freshPage_25 rfl hl (by decide) rfl (fun ls hl => ?_)
          have hl : lv_has ls 3 [(0, .ref o), (1, .int (nI i)), (2, .int (nI 0))] := lv_sub hl [1, 2, 0] rfl
          exact fill 4 0 i _ rfl (by omega) c14 (fun q => by rw [ed104, va_up_self]; rfl) (fun q => by rw [ed104, va_up_ne _ _ (by decide), if_neg (by omega)]) (fun j hj4 hj5 => by rw [ed104, va_up_ne _ _ hj5]) H locs ls hP hS hl
    | succ n ih =>
      intro i hi H locs ls hP hS hl
      refine lv_iload_n hx hb dX0_freshPage_2 rfl (lv_at hl 1 rfl) ?_
      refine lv_bipush (v := (nI 56)) hx hb dX0_freshPage_3 (by decide) ?_
      refine nv_icmp_ge (tgt := 56) hx hb (by omega) (by omega) dX0_freshPage_5 (by decide) (fun c5 => ?_) (fun c5 => ?_)
      · exact absurd c5 (by omega)
      · refine lv_aload_n hx hb dX0_freshPage_8 rfl (lv_at hl 0 rfl) ?_
        refine dk_g5 E hP dX0_freshPage_9 ?_
        refine lv_iload_n hx hb dX0_freshPage_12 rfl (lv_at hl 1 rfl) ?_
        refine dk_l5 E hP (x := (d 5 i)) (rfl) (by omega) dX0_freshPage_13 ?_
        refine lv_if_ne (tgt := 50) hx hb dX0_freshPage_14 (by decide) (fun c14 => ?_) (fun c14 => ?_)
        · refine nv_iinc (lv' := [(1, .int (nI (i + 1))), (0, .ref o)]) hx hb 1 dX0_freshPage_50 hl rfl (by decide) rfl (fun ls hl => ?_)
          refine lv_goto (tgt := 2) hx hb dX0_freshPage_53 (by decide) ?_
          have hl : lv_has ls 3 [(0, .ref o), (1, .int (nI (i + 1)))] := lv_sub hl [1, 0] rfl
          exact ih (i + 1) (by omega) H locs ls hP hS hl
        · refine lv_aload_n hx hb dX0_freshPage_17 rfl (lv_at hl 0 rfl) ?_
          refine dk_g5 E hP dX0_freshPage_18 ?_
          refine lv_iload_n hx hb dX0_freshPage_21 rfl (lv_at hl 1 rfl) ?_
          refine lv_iconst (v := (nI 1)) hx hb dX0_freshPage_22 (by decide) ?_
          refine dk_s5 E hP hS (y := (nI 1)) (by decide) (by omega) dX0_freshPage_23 (fun d105 H locs ed105 hP hS => ?_)
          refine lv_iconst (v := (nI 0)) hx hb dX0_freshPage_24 (by decide) ?_
          refine lv_istore_n (lv' := [(2, .int (nI 0)), (0, .ref o), (1, .int (nI i))]) hx hb dX0_freshPage_25 rfl hl (by decide) rfl (fun ls hl => ?_)
          have hl : lv_has ls 3 [(0, .ref o), (1, .int (nI i)), (2, .int (nI 0))] := lv_sub hl [1, 2, 0] rfl
          exact fill 4 0 i _ rfl (by omega) c14 (fun q => by rw [ed105, va_up_self]; rfl) (fun q => by rw [ed105, va_up_ne _ _ (by decide), if_neg (by omega)]) (fun j hj4 hj5 => by rw [ed105, va_up_ne _ _ hj5]) H locs ls hP hS hl
  refine lv_iconst (v := (nI 0)) hx hb dX0_freshPage_0 (by decide) ?_
  refine lv_istore_n (lv' := [(1, .int (nI 0)), (0, .ref o)]) hx hb dX0_freshPage_1 rfl hl (by decide) rfl (fun ls hl => ?_)
  have hl : lv_has ls 3 [(0, .ref o), (1, .int (nI 0))] := lv_sub hl [1, 0] rfl
  exact loop z 0 (by omega) _ _ ls hP hS hl
set_option maxHeartbeats 4000000 in
set_option maxRecDepth 100000 in
theorem met_dk_freshPage (l : Launch) (D : va_G) (o : Nat) (ad : Nat → Nat) (cB cI : ClassId) (d : MS) (hz : ∃ z, z < 56 ∧ d 5 z = 0) : dkMi l yX0_freshPage cX0_freshPage 3 (some .int) (rmk 0) D o ad cB cI [] d (FreshR d) :=
  dk_meti (by decide) rfl (Nat.le_of_ble_eq_true rfl) (fun _ _ _ => rfl) (fun p e s m args below meth c ls Q E hP hl kR => wk_dk_freshPage hz E hP hl kR)
set_option maxHeartbeats 4000000 in
set_option maxRecDepth 100000 in
theorem wk_dk_loadCell {p : Program} {l : Launch} {e : Env} {s : State} {m : MethodId} {args : Array Value} {below : List Frame} {meth : Method} {c : Code} {ls : Array Slot} {Q : State → Prop} {D : va_G} {o : Nat} {ad : Nat → Nat} {cB cI : ClassId} {d : MS} {j a : Nat} (hj : j < 16) (ha : a < 56) (hp : d 15 (j / 4) = nI a) (E : dkE D o ad cB cI p s m args c cX0_loadCell 2) (hP : va_P D vwCl (dk_w o ad cB cI d) s.heap) (hl : lv_has ls 2 [(0, .ref o), (1, .int (nI j))]) (kR : dkKi D o ad cB cI p l e (rmk 0) s m args below meth c cX0_loadCell Q (fun r d' => d' = d ∧ r = d 4 (a * 4 + j % 4))) : W p l e (rmk 0) s m args below meth c s.heap [] 0 0 Q (F0 m 0 ls []) := by
  obtain ⟨hx, hb, -⟩ := id E
  have hS : va_S (dk_A o ad) s.heap s.heap [] := va_S.rf
  refine lv_aload_n hx hb dX0_loadCell_0 rfl (lv_at hl 0 rfl) ?_
  refine dk_g4 E hP dX0_loadCell_1 ?_
  refine lv_aload_n hx hb dX0_loadCell_4 rfl (lv_at hl 0 rfl) ?_
  refine dk_g15 E hP dX0_loadCell_5 ?_
  refine lv_iload_n hx hb dX0_loadCell_8 rfl (lv_at hl 1 rfl) ?_
  refine lv_iconst (v := (nI 2)) hx hb dX0_loadCell_9 (by decide) ?_
  refine nv_ishr2 hx hb (by omega) dX0_loadCell_10 ?_
  refine dk_l15 E hP (x := (nI a)) (hp) (by omega) dX0_loadCell_11 ?_
  refine lv_iconst (v := (nI 4)) hx hb dX0_loadCell_12 (by decide) ?_
  refine nv_imul hx hb dX0_loadCell_13 ?_
  refine lv_iload_n hx hb dX0_loadCell_14 rfl (lv_at hl 1 rfl) ?_
  refine lv_iconst (v := (nI 3)) hx hb dX0_loadCell_15 (by decide) ?_
  refine nv_iand3 hx hb (by omega) dX0_loadCell_16 ?_
  refine nv_iadd hx hb dX0_loadCell_17 ?_
  refine dk_l4 E hP (x := (d 4 ((a * 4) + (j % 4)))) (rfl) (by omega) dX0_loadCell_18 ?_
  exact kR _ _ _ _ _ _ (⟨rfl, rfl⟩) hP hS dX0_loadCell_19
set_option maxHeartbeats 4000000 in
set_option maxRecDepth 100000 in
theorem met_dk_loadCell (l : Launch) (D : va_G) (o : Nat) (ad : Nat → Nat) (cB cI : ClassId) (d : MS) {j a : Nat} (hj : j < 16) (ha : a < 56) (hp : d 15 (j / 4) = nI a) : dkMi l yX0_loadCell cX0_loadCell 2 (some .int) (rmk 0) D o ad cB cI [.int (nI j)] d (fun r d' => d' = d ∧ r = d 4 (a * 4 + j % 4)) :=
  dk_meti (by decide) rfl (Nat.le_of_ble_eq_true rfl) (fun _ _ _ => rfl) (fun p e s m args below meth c ls Q E hP hl kR => wk_dk_loadCell hj ha hp E hP hl kR)
def StoreR (d : MS) (j : Nat) (v : Int32) (a n : Nat) (d' : MS) : Prop := (n ≤ 1 ∧ d' = va_up d 4 (upd (d 4) (a * 4 + j % 4) v)) ∨ (1 < n ∧ ∃ p, p < 56 ∧ d 5 p = 0 ∧ (∀ k, k ≠ 4 → k ≠ 5 → k ≠ 15 → d' k = d k) ∧ (∀ q, d' 4 q = if q = p * 4 + j % 4 then v else if p * 4 ≤ q ∧ q < p * 4 + 4 then d 4 (a * 4 + (q - p * 4)) else d 4 q) ∧ (∀ q, d' 5 q = if q = a then nI (n - 1) else if q = p then 1 else d 5 q) ∧ ∀ q, d' 15 q = if q = j / 4 then nI p else d 15 q)
set_option maxHeartbeats 4000000 in
set_option maxRecDepth 100000 in
theorem wk_dk_storeCell {p : Program} {l : Launch} {e : Env} {s : State} {m : MethodId} {args : Array Value} {below : List Frame} {meth : Method} {c : Code} {ls : Array Slot} {Q : State → Prop} {D : va_G} {o : Nat} {ad : Nat → Nat} {cB cI : ClassId} {d : MS} {j a n : Nat} {v : Int32} (hj : j < 16) (ha : a < 56) (hn : n < 128) (hp : d 15 (j / 4) = nI a) (ho : d 5 a = nI n) (hz : 1 < n → ∃ z, z < 56 ∧ d 5 z = 0) (E : dkE D o ad cB cI p s m args c cX0_storeCell 6) (hP : va_P D vwCl (dk_w o ad cB cI d) s.heap) (hl : lv_has ls 6 [(0, .ref o), (1, .int (nI j)), (2, .int v)]) (kR : dkKv D o ad cB cI p l e (rmk 1) s m args below meth c cX0_storeCell Q (StoreR d j v a n)) : W p l e (rmk 1) s m args below meth c s.heap [] 0 0 Q (F0 m 0 ls []) := by
  obtain ⟨hx, hb, -⟩ := id E
  have hS : va_S (dk_A o ad) s.heap s.heap [] := va_S.rf
  refine lv_aload_n hx hb dX0_storeCell_0 rfl (lv_at hl 0 rfl) ?_
  refine dk_g15 E hP dX0_storeCell_1 ?_
  refine lv_iload_n hx hb dX0_storeCell_4 rfl (lv_at hl 1 rfl) ?_
  refine lv_iconst (v := (nI 2)) hx hb dX0_storeCell_5 (by decide) ?_
  refine nv_ishr2 hx hb (by omega) dX0_storeCell_6 ?_
  refine dk_l15 E hP (x := (nI a)) (hp) (by omega) dX0_storeCell_7 ?_
  refine lv_istore_n (lv' := [(3, .int (nI a)), (0, .ref o), (1, .int (nI j)), (2, .int v)]) hx hb dX0_storeCell_8 rfl hl (by decide) rfl (fun ls hl => ?_)
  refine lv_iload_n hx hb dX0_storeCell_9 rfl (lv_at hl 0 rfl) ?_
  refine lv_istore (lv' := [(4, .int (nI a)), (3, .int (nI a)), (0, .ref o), (1, .int (nI j)), (2, .int v)]) hx hb dX0_storeCell_10 hl (by decide) rfl (fun ls hl => ?_)
  refine lv_aload_n hx hb dX0_storeCell_12 rfl (lv_at hl 2 rfl) ?_
  refine dk_g5 E hP dX0_storeCell_13 ?_
  refine lv_iload_n hx hb dX0_storeCell_16 rfl (lv_at hl 1 rfl) ?_
  refine dk_l5 E hP (x := (nI n)) (ho) (by omega) dX0_storeCell_17 ?_
  refine lv_iconst (v := (nI 1)) hx hb dX0_storeCell_18 (by decide) ?_
  refine nv_icmp_le (tgt := 88) hx hb (by omega) (by omega) dX0_storeCell_19 (by decide) (fun c19 => ?_) (fun c19 => ?_)
  · refine lv_aload_n hx hb dX0_storeCell_88 rfl (lv_at hl 2 rfl) ?_
    refine dk_g4 E hP dX0_storeCell_89 ?_
    refine lv_iload hx hb dX0_storeCell_92 (lv_at hl 0 rfl) ?_
    refine lv_iconst (v := (nI 4)) hx hb dX0_storeCell_94 (by decide) ?_
    refine nv_imul hx hb dX0_storeCell_95 ?_
    refine lv_iload_n hx hb dX0_storeCell_96 rfl (lv_at hl 3 rfl) ?_
    refine lv_iconst (v := (nI 3)) hx hb dX0_storeCell_97 (by decide) ?_
    refine nv_iand3 hx hb (by omega) dX0_storeCell_98 ?_
    refine nv_iadd hx hb dX0_storeCell_99 ?_
    refine lv_iload_n hx hb dX0_storeCell_100 rfl (lv_at hl 4 rfl) ?_
    refine dk_s4 E hP hS (by omega) dX0_storeCell_101 (fun d106 H locs ed106 hP hS => ?_)
    exact kR _ _ _ _ _ (Or.inl ⟨c19, ed106⟩) hP hS dX0_storeCell_102
  · refine lv_aload_n hx hb dX0_storeCell_22 rfl (lv_at hl 2 rfl) ?_
    refine dk_calli (As := []) (rest := []) E hP hS (met_dk_freshPage l D o ad cB cI d (hz c19)) (cwV 0 E.2.2.1 (lw_V q115 q117 qs2 q19 q118) rfl rfl rfl (by decide +kernel) ⟨by decide, by decide⟩) rfl hl.1 rfl (Nat.le_of_ble_eq_true rfl) ⟨Nat.zero_le _, Nat.zero_le _⟩ dX0_storeCell_23 (fun r108 d107 H locs hpd107 hP hS => ?_)
    obtain ⟨b, hb56, rfl, hb0, hb5, hb4, hbf⟩ := hpd107
    refine lv_istore (lv' := [(4, .int (nI b)), (3, .int (nI a)), (0, .ref o), (1, .int (nI j)), (2, .int v)]) hx hb dX0_storeCell_26 hl (by decide) rfl (fun ls hl => ?_)
    refine lv_iconst (v := (nI 0)) hx hb dX0_storeCell_28 (by decide) ?_
    refine lv_istore (lv' := [(5, .int (nI 0)), (4, .int (nI b)), (3, .int (nI a)), (0, .ref o), (1, .int (nI j)), (2, .int v)]) hx hb dX0_storeCell_29 hl (by decide) rfl (fun ls hl => ?_)
    have hl : lv_has ls 6 [(0, .ref o), (1, .int (nI j)), (2, .int v), (3, .int (nI a)), (4, .int (nI b)), (5, .int (nI 0))] := lv_sub hl [3, 4, 5, 2, 1, 0] rfl
    have hab : a ≠ b := fun h => by rw [h, hb0] at ho; exact absurd ho (by rw [show (0 : Int32) = nI 0 from rfl, nI_eq (by decide) (by omega)]; omega)
    have copy : ∀ (i k : Nat) (d1 : MS), k + i = 4 → (∀ q, q ≠ 4 → d1 q = d107 q) → (∀ q, d1 4 q = if b * 4 ≤ q ∧ q < b * 4 + k then d 4 (a * 4 + (q - b * 4)) else d107 4 q) → ∀ (H : Heap) (locs : List Loc) (ls : Array Slot), va_P D vwCl (dk_w o ad cB cI d1) H → va_S (dk_A o ad) s.heap H locs → lv_has ls 6 [(0, .ref o), (1, .int (nI j)), (2, .int v), (3, .int (nI a)), (4, .int (nI b)), (5, .int (nI k))] → W p l e (rmk 1) s m args below meth c H locs 0 0 Q (F0 m 31 ls []) := by
      intro i
      induction i with
      | zero =>
        intro k d1 hk hf h4 H locs ls hP hS hl
        have hk : k = 4 := by omega
        subst hk
        refine lv_iload hx hb dX0_storeCell_31 (lv_at hl 5 rfl) ?_
        refine lv_iconst (v := (nI 4)) hx hb dX0_storeCell_33 (by decide) ?_
        refine nv_icmp_ge (tgt := 66) hx hb (by omega) (by omega) dX0_storeCell_34 (by decide) (fun c34 => ?_) (fun c34 => ?_)
        · refine lv_aload_n hx hb dX0_storeCell_66 rfl (lv_at hl 0 rfl) ?_
          refine dk_g5 E hP dX0_storeCell_67 ?_
          refine lv_iload_n hx hb dX0_storeCell_70 rfl (lv_at hl 3 rfl) ?_
          refine lv_dup2_11 hx hb dX0_storeCell_71 rfl rfl ?_
          refine dk_l5 E hP (x := (nI n)) (by rw [hf 5 (by decide), hb5 a, if_neg hab]; exact ho) (by omega) dX0_storeCell_72 ?_
          refine lv_iconst (v := (nI 1)) hx hb dX0_storeCell_73 (by decide) ?_
          refine nv_isub hx hb (by omega) dX0_storeCell_74 ?_
          refine lv_i2b (v := (nI (n - 1))) hx hb dX0_storeCell_75 (b8 (by omega)) ?_
          refine dk_s5 E hP hS (y := (nI (n - 1))) (nb8 (by omega)) (by omega) dX0_storeCell_76 (fun d109 H locs ed109 hP hS => ?_)
          refine lv_aload_n hx hb dX0_storeCell_77 rfl (lv_at hl 0 rfl) ?_
          refine dk_g15 E hP dX0_storeCell_78 ?_
          refine lv_iload_n hx hb dX0_storeCell_81 rfl (lv_at hl 1 rfl) ?_
          refine lv_iconst (v := (nI 2)) hx hb dX0_storeCell_82 (by decide) ?_
          refine nv_ishr2 hx hb (by omega) dX0_storeCell_83 ?_
          refine lv_iload hx hb dX0_storeCell_84 (lv_at hl 4 rfl) ?_
          refine lv_i2b (v := (nI b)) hx hb dX0_storeCell_86 (b8 (by omega)) ?_
          refine dk_s15 E hP hS (y := (nI b)) (nb8 (by omega)) (by omega) dX0_storeCell_87 (fun d110 H locs ed110 hP hS => ?_)
          refine lv_aload_n hx hb dX0_storeCell_88 rfl (lv_at hl 0 rfl) ?_
          refine dk_g4 E hP dX0_storeCell_89 ?_
          refine lv_iload hx hb dX0_storeCell_92 (lv_at hl 4 rfl) ?_
          refine lv_iconst (v := (nI 4)) hx hb dX0_storeCell_94 (by decide) ?_
          refine nv_imul hx hb dX0_storeCell_95 ?_
          refine lv_iload_n hx hb dX0_storeCell_96 rfl (lv_at hl 1 rfl) ?_
          refine lv_iconst (v := (nI 3)) hx hb dX0_storeCell_97 (by decide) ?_
          refine nv_iand3 hx hb (by omega) dX0_storeCell_98 ?_
          refine nv_iadd hx hb dX0_storeCell_99 ?_
          refine lv_iload_n hx hb dX0_storeCell_100 rfl (lv_at hl 2 rfl) ?_
          refine dk_s4 E hP hS (by omega) dX0_storeCell_101 (fun d111 H locs ed111 hP hS => ?_)
          refine kR _ _ _ _ _ (Or.inr ⟨c19, b, hb56, hb0, fun k h1 h2 h3 => ?_, fun q => ?_, fun q => ?_, fun q => ?_⟩) hP hS dX0_storeCell_102
          · rw [ed111, va_up_ne _ _ h1, ed110, va_up_ne _ _ h3, ed109, va_up_ne _ _ h2, hf k h1]; exact hbf k h1 h2
          · rw [ed111, va_up_self]; unfold upd; rw [ed110, va_up_ne _ _ (by decide), ed109, va_up_ne _ _ (by decide), h4 q, hb4 q]
            by_cases h1 : q = b * 4 + j % 4
            · rw [if_pos h1, if_pos h1]
            · rw [if_neg h1, if_neg h1]
              by_cases h2 : b * 4 ≤ q ∧ q < b * 4 + 4
              · rw [if_pos h2, if_pos h2]
              · rw [if_neg h2, if_neg h2, if_neg h2]
          · rw [ed111, va_up_ne _ _ (by decide), ed110, va_up_ne _ _ (by decide), ed109, va_up_self]; unfold upd; rw [hf 5 (by decide), hb5 q]
          · rw [ed111, va_up_ne _ _ (by decide), ed110, va_up_self]; unfold upd; rw [ed109, va_up_ne _ _ (by decide), hf 15 (by decide), hbf 15 (by decide) (by decide)]
        · exact absurd c34 (by omega)
      | succ i ih =>
        intro k d1 hk hf h4 H locs ls hP hS hl
        refine lv_iload hx hb dX0_storeCell_31 (lv_at hl 5 rfl) ?_
        refine lv_iconst (v := (nI 4)) hx hb dX0_storeCell_33 (by decide) ?_
        refine nv_icmp_ge (tgt := 66) hx hb (by omega) (by omega) dX0_storeCell_34 (by decide) (fun c34 => ?_) (fun c34 => ?_)
        · exact absurd c34 (by omega)
        · refine lv_aload_n hx hb dX0_storeCell_37 rfl (lv_at hl 0 rfl) ?_
          refine dk_g4 E hP dX0_storeCell_38 ?_
          refine lv_iload hx hb dX0_storeCell_41 (lv_at hl 4 rfl) ?_
          refine lv_iconst (v := (nI 4)) hx hb dX0_storeCell_43 (by decide) ?_
          refine nv_imul hx hb dX0_storeCell_44 ?_
          refine lv_iload hx hb dX0_storeCell_45 (lv_at hl 5 rfl) ?_
          refine nv_iadd hx hb dX0_storeCell_47 ?_
          refine lv_aload_n hx hb dX0_storeCell_48 rfl (lv_at hl 0 rfl) ?_
          refine dk_g4 E hP dX0_storeCell_49 ?_
          refine lv_iload_n hx hb dX0_storeCell_52 rfl (lv_at hl 3 rfl) ?_
          refine lv_iconst (v := (nI 4)) hx hb dX0_storeCell_53 (by decide) ?_
          refine nv_imul hx hb dX0_storeCell_54 ?_
          refine lv_iload hx hb dX0_storeCell_55 (lv_at hl 5 rfl) ?_
          refine nv_iadd hx hb dX0_storeCell_57 ?_
          refine dk_l4 E hP (x := (d 4 (a * 4 + k))) (by rw [h4, if_neg (by omega), hb4, if_neg (by omega)]) (by omega) dX0_storeCell_58 ?_
          refine dk_s4 E hP hS (by omega) dX0_storeCell_59 (fun d112 H locs ed112 hP hS => ?_)
          refine nv_iinc (lv' := [(5, .int (nI (k + 1))), (0, .ref o), (1, .int (nI j)), (2, .int v), (3, .int (nI a)), (4, .int (nI b))]) hx hb 5 dX0_storeCell_60 hl rfl (by decide) rfl (fun ls hl => ?_)
          refine lv_goto (tgt := 31) hx hb dX0_storeCell_63 (by decide) ?_
          have hl : lv_has ls 6 [(0, .ref o), (1, .int (nI j)), (2, .int v), (3, .int (nI a)), (4, .int (nI b)), (5, .int (nI (k + 1)))] := lv_sub hl [1, 2, 3, 4, 5, 0] rfl
          refine ih (k + 1) _ (by omega) (fun q hq => by rw [ed112, va_up_ne _ _ hq]; exact hf q hq) (fun q => ?_) H locs ls hP hS hl
          rw [ed112, va_up_self]
          unfold upd
          rw [h4 q]
          by_cases h1 : q = b * 4 + k
          · rw [if_pos h1, if_pos ⟨by omega, by omega⟩]; congr 1; omega
          · rw [if_neg h1]
            by_cases h2 : b * 4 ≤ q ∧ q < b * 4 + k
            · rw [if_pos h2, if_pos ⟨by omega, by omega⟩]
            · rw [if_neg h2, if_neg (by omega)]
    exact copy 4 0 _ rfl (fun q _ => rfl) (fun q => by rw [if_neg (by omega)]) H locs ls hP hS hl
set_option maxHeartbeats 4000000 in
set_option maxRecDepth 100000 in
theorem met_dk_storeCell (l : Launch) (D : va_G) (o : Nat) (ad : Nat → Nat) (cB cI : ClassId) (d : MS) {j a n : Nat} {v : Int32} (hj : j < 16) (ha : a < 56) (hn : n < 128) (hp : d 15 (j / 4) = nI a) (ho : d 5 a = nI n) (hz : 1 < n → ∃ z, z < 56 ∧ d 5 z = 0) : dkMv l yX0_storeCell cX0_storeCell 6 none (rmk 1) D o ad cB cI [.int (nI j), .int v] d (StoreR d j v a n) :=
  dk_metv (by decide) rfl (Nat.le_of_ble_eq_true rfl) (fun p e s m args below meth c ls Q E hP hl kR => wk_dk_storeCell hj ha hn hp ho hz E hP hl kR)
end
section
/-! the abstract machine (on the model's state) and the relation of the two states -/
def mpos (md : MS) (v : Int32) : MS := va_up md 10 (fun _ => v)
def mWork (md : MS) (op a : Nat) (b : Int32) : MS :=
  if op = 0 then va_up md 12 (upd (md 12) a b)
  else if op = 1 then va_up md 12 (upd (md 12) a (md 12 a + md 12 (lo4 b)))
  else if op = 2 then va_up md 12 (upd (md 12) a (md 12 a - md 12 (lo4 b)))
  else if op = 3 then va_up md 12 (upd (md 12) a (md 12 (4 + lo16 (md 12 (lo4 b)))))
  else if op = 4 then va_up md 12 (upd (md 12) (4 + lo16 (md 12 (lo4 b))) (md 12 a))
  else md
def mSay (md : MS) (v : Int32) : MS := va_up (va_up md 13 (fun k => if k = 0 then v else md 13 (k - 1))) 11 (fun _ => md 11 0 + 1)
def mCarry (md : MS) (op a : Nat) (b : Int32) : MS :=
  if op = 5 then mpos md (if md 12 a = 0 then b else md 10 0 + 1)
  else if op = 6 then mpos md b
  else if op = 7 then mpos (mSay md (md 12 a)) (md 10 0 + 1)
  else mpos (mWork md op a b) (md 10 0 + 1)
def mq (md : MS) : Nat := (md 10 0).toNatClampNeg
def mRun (n : Nat) : Nat → MS → Int32 × MS
  | 0, md => if md 10 0 < 0 ∨ nI n ≤ md 10 0 then (nI 0, md) else if md 1 (mq md) = nI 9 then (nI 1, md) else if md 1 (mq md) = nI 8 then (nI 2, md) else (nI 3, md)
  | f + 1, md => if md 10 0 < 0 ∨ nI n ≤ md 10 0 then (nI 0, md) else if md 1 (mq md) = nI 9 then (nI 1, md) else if md 1 (mq md) = nI 8 then (nI 2, md) else mRun n f (mCarry md (lo16 (md 1 (mq md))) (lo4 (md 2 (mq md))) (md 3 (mq md)))
def mKeep (md : MS) (m : Nat) (kd : Int32) : MS := fun k => if k = 4 then upd (md 4) m 1 else if k = 5 then upd (md 5) m kd else if k = 6 then upd (md 6) m (md 10 0) else if k = 7 then upd (md 7) m (md 11 0) else if k = 8 then (fun q => if 20 * m ≤ q ∧ q < 20 * m + 20 then md 12 (q - 20 * m) else md 8 q) else if k = 9 then (fun q => if 8 * m ≤ q ∧ q < 8 * m + 8 then md 13 (q - 8 * m) else md 9 q) else md k
def mTake (md : MS) (m : Nat) : MS := fun k => if k = 10 then (fun _ => md 6 m) else if k = 11 then (fun _ => md 7 m) else if k = 12 then (fun i => md 8 (20 * m + i)) else if k = 13 then (fun i => md 9 (8 * m + i)) else md k
def mZero (md : MS) : MS := fun k => if k = 10 then (fun _ => 0) else if k = 11 then (fun _ => 0) else if k = 12 then (fun _ => 0) else if k = 13 then (fun _ => 0) else md k
def mAns (md : MS) (v : Int32) : MS := mpos (va_up md 12 (upd (md 12) (lo4 (md 2 (lo16 (md 10 0)))) v)) (md 10 0 + 1)
def mGo (md : MS) (n m : Nat) : MS := mKeep (mRun n 60 md).2 m (mRun n 60 md).1
/-! counts -/
def rcn (pg : Nat → Nat) (p : Nat) : Nat → Nat
  | 0 => 0
  | k + 1 => rcn pg p k + (if pg k = p then 1 else 0)
def cs (K : Nat) (kp : Nat → Nat) (p : Nat) : Nat → Nat
  | 0 => 0
  | M + 1 => cs K kp p M + (if K.testBit M = true then rcn (fun i => kp (M * 4 + i)) p 4 else 0)
def sm (f : Nat → Nat) : Nat → Nat
  | 0 => 0
  | N + 1 => sm f N + f N
def bc (K : Nat) : Nat → Nat
  | 0 => 0
  | M + 1 => bc K M + (if K.testBit M = true then 1 else 0)
theorem sm_add (f g : Nat → Nat) : ∀ N, sm (fun p => f p + g p) N = sm f N + sm g N := by
  intro N
  induction N with
  | zero => rfl
  | succ N ih => simp only [sm]; omega
theorem sm_zero : ∀ N, sm (fun _ => 0) N = 0 := by
  intro N
  induction N with
  | zero => rfl
  | succ N ih => simp only [sm]; omega
theorem sm_ind (a : Nat) : ∀ N, sm (fun p => if a = p then 1 else 0) N = if a < N then 1 else 0 := by
  intro N
  induction N with
  | zero => rfl
  | succ N ih =>
    simp only [sm]
    rw [ih]
    by_cases h1 : a < N
    · rw [if_pos h1, if_neg (by omega), if_pos (by omega)]
    · rw [if_neg h1]
      by_cases h2 : a = N
      · rw [if_pos h2, if_pos (by omega)]
      · rw [if_neg h2, if_neg (by omega)]
theorem sm_rcn (pg : Nat → Nat) (N : Nat) : ∀ k, sm (fun p => rcn pg p k) N ≤ k := by
  intro k
  induction k with
  | zero => simp only [rcn]; rw [sm_zero]; exact Nat.le_refl _
  | succ k ih =>
    show sm (fun p => rcn pg p k + (if pg k = p then 1 else 0)) N ≤ k + 1
    rw [sm_add, sm_ind]
    split <;> omega
theorem sm_ge {f : Nat → Nat} : ∀ N, (∀ p, p < N → 1 ≤ f p) → N ≤ sm f N := by
  intro N
  induction N with
  | zero => intro _; exact Nat.zero_le _
  | succ N ih =>
    intro h
    have h1 := ih (fun p hp => h p (by omega))
    have h2 := h N (by omega)
    simp only [sm]
    omega
theorem bc_le (K : Nat) : ∀ M, bc K M ≤ M := by
  intro M
  induction M with
  | zero => exact Nat.le_refl _
  | succ M ih => simp only [bc]; split <;> omega
theorem bc_lt {K mf : Nat} (h : K.testBit mf = false) : ∀ M, mf < M → bc K M + 1 ≤ M := by
  intro M
  induction M with
  | zero => intro h; omega
  | succ M ih =>
    intro hm
    simp only [bc]
    by_cases h1 : mf = M
    · subst h1
      have := bc_le K mf
      rw [if_neg (by rw [h]; decide)]
      omega
    · have := ih (by omega)
      split <;> omega
theorem sm_cs (K : Nat) (kp : Nat → Nat) (N : Nat) : ∀ M, sm (fun p => cs K kp p M) N ≤ 4 * bc K M := by
  intro M
  induction M with
  | zero => simp only [cs]; rw [sm_zero]; exact Nat.zero_le _
  | succ M ih =>
    simp only [cs, bc]
    by_cases h : K.testBit M = true
    · simp only [if_pos h]
      rw [sm_add]
      have := sm_rcn (fun i => kp (M * 4 + i)) N 4
      omega
    · simp only [if_neg h]
      rw [sm_add, sm_zero]
      omega
theorem page_free {K : Nat} {kp pg : Nat → Nat} {i : Nat} (hmf : ∃ mf, mf < 12 ∧ K.testBit mf = false) (hi : i ≤ 4) : ∃ p, p < 56 ∧ cs K kp p 12 + rcn pg p i = 0 := by
  obtain ⟨mf, h1, h2⟩ := hmf
  apply Classical.byContradiction
  intro h
  have h3 := sm_ge (f := fun p => cs K kp p 12 + rcn pg p i) 56 (fun p hp => Nat.pos_of_ne_zero (fun z => h ⟨p, hp, z⟩))
  rw [sm_add] at h3
  have h4 := sm_cs K kp 56 12
  have h5 := sm_rcn pg 56 i
  have h6 := bc_lt h2 12 h1
  omega
theorem rcn_le (pg : Nat → Nat) (p : Nat) : ∀ k, rcn pg p k ≤ k := by
  intro k
  induction k with
  | zero => exact Nat.le_refl _
  | succ k ih => simp only [rcn]; split <;> omega
theorem cs_le (K : Nat) (kp : Nat → Nat) (p : Nat) : ∀ M, cs K kp p M ≤ 4 * M := by
  intro M
  induction M with
  | zero => exact Nat.le_refl _
  | succ M ih =>
    have := rcn_le (fun i => kp (M * 4 + i)) p 4
    simp only [cs]
    split <;> omega
theorem rcn_pos {pg : Nat → Nat} {p i : Nat} (h : pg i = p) : ∀ k, i < k → 1 ≤ rcn pg p k := by
  intro k
  induction k with
  | zero => intro h; omega
  | succ k ih =>
    intro hi
    simp only [rcn]
    by_cases h1 : i = k
    · subst h1; rw [if_pos h]; omega
    · have := ih (by omega); omega
theorem rcn_two {pg : Nat → Nat} {p i j : Nat} (h : pg i = p) (h2 : pg j = p) (hij : i < j) : ∀ k, j < k → 2 ≤ rcn pg p k := by
  intro k
  induction k with
  | zero => intro h; omega
  | succ k ih =>
    intro hi
    simp only [rcn]
    by_cases h1 : j = k
    · subst h1
      have := rcn_pos h j hij
      rw [if_pos h2]; omega
    · have := ih (by omega); omega
theorem rcn_one {pg : Nat → Nat} {p i j k : Nat} (hr : rcn pg p k ≤ 1) (hi : i < k) (hj : j < k) (h : pg i = p) (h2 : pg j = p) : i = j := by
  rcases Nat.lt_trichotomy i j with q | q | q
  · have := rcn_two h h2 q k hj; omega
  · exact q
  · have := rcn_two h2 h q k hi; omega
theorem rcn_congr {pg pg' : Nat → Nat} {p : Nat} : ∀ k, (∀ i, i < k → pg i = pg' i) → rcn pg p k = rcn pg' p k := by
  intro k
  induction k with
  | zero => intro _; rfl
  | succ k ih =>
    intro h
    simp only [rcn]
    rw [ih (fun i hi => h i (by omega)), h k (by omega)]
theorem rcn_upd {pg : Nat → Nat} {p k b : Nat} : ∀ M, k < M → rcn (va_up pg k b) p M + (if pg k = p then 1 else 0) = rcn pg p M + (if b = p then 1 else 0) := by
  intro M
  induction M with
  | zero => intro h; omega
  | succ M ih =>
    intro h
    simp only [rcn]
    by_cases h1 : k = M
    · subst h1
      rw [va_up_self, rcn_congr (pg := va_up pg k b) (pg' := pg) k (fun i hi => va_up_ne _ _ (by omega))]
      omega
    · rw [va_up_ne _ _ (fun z => h1 z.symm)]
      have := ih (by omega)
      omega
theorem cs_pos {K : Nat} {kp : Nat → Nat} {p m i : Nat} (hm : K.testBit m = true) (hi : i < 4) (h : kp (m * 4 + i) = p) : ∀ M, m < M → 1 ≤ cs K kp p M := by
  intro M
  induction M with
  | zero => intro h; omega
  | succ M ih =>
    intro hM
    simp only [cs]
    by_cases h1 : m = M
    · subst h1
      rw [if_pos hm]
      have := rcn_pos (pg := fun i => kp (m * 4 + i)) (i := i) (p := p) h 4 hi
      omega
    · have := ih (by omega); omega
theorem cs_set {K m : Nat} {kp pg : Nat → Nat} {p : Nat} (hm : K.testBit m = false) : ∀ M, cs (K ||| 2 ^ m) (fun q => if m * 4 ≤ q ∧ q < m * 4 + 4 then pg (q - m * 4) else kp q) p M = cs K kp p M + (if m < M then rcn pg p 4 else 0) := by
  intro M
  induction M with
  | zero => rfl
  | succ M ih =>
    simp only [cs]
    rw [ih, set_bit]
    by_cases h1 : m = M
    · subst h1
      rw [if_neg (Nat.lt_irrefl _), if_pos (Nat.lt_succ_self m), if_pos (by simp), if_neg (by rw [hm]; decide)]
      rw [rcn_congr (pg := fun i => (fun q => if m * 4 ≤ q ∧ q < m * 4 + 4 then pg (q - m * 4) else kp q) (m * 4 + i)) (pg' := pg) 4 (fun i hi => by simp only []; rw [if_pos ⟨by omega, by omega⟩]; congr 1; omega)]
    · have h2 : (K.testBit M || decide (m = M)) = K.testBit M := by simp [h1]
      rw [h2]
      rw [rcn_congr (pg := fun i => (fun q => if m * 4 ≤ q ∧ q < m * 4 + 4 then pg (q - m * 4) else kp q) (M * 4 + i)) (pg' := fun i => kp (M * 4 + i)) 4 (fun i hi => by simp only []; rw [if_neg (by omega)])]
      have h3 : (m < M + 1) ↔ (m < M) := by omega
      simp only [h3]
      omega
theorem cs_clr {K m : Nat} {kp : Nat → Nat} {p : Nat} (hm : K.testBit m = true) : ∀ M, M ≤ 12 → cs (clr K m) kp p M + (if m < M then rcn (fun i => kp (m * 4 + i)) p 4 else 0) = cs K kp p M := by
  intro M
  induction M with
  | zero => intro _; rfl
  | succ M ih =>
    intro hM
    simp only [cs]
    rw [← ih (by omega), clr_bit (by omega)]
    by_cases h1 : m = M
    · subst h1
      rw [if_neg (Nat.lt_irrefl _), if_pos (Nat.lt_succ_self m), if_neg (by simp), if_pos hm]
    · have h2 : (K.testBit M && !(decide (m = M))) = K.testBit M := by simp [h1]
      rw [h2]
      have h3 : (m < M + 1) ↔ (m < M) := by omega
      simp only [h3]
      omega
/-! the relation -/
def MP (md : MS) (n : Nat) : Prop := ∀ j, j < n → ∃ o a, o < 10 ∧ a < 4 ∧ md 1 j = nI o ∧ md 2 j = nI a ∧ (1 ≤ o → o ≤ 4 → ∃ b, b < 4 ∧ md 3 j = nI b)
/-- the model's state is well made: n instructions, K the moments that are there -/
def MW (md : MS) (n K : Nat) : Prop := md 0 0 = nI n ∧ n ≤ 16 ∧ MP md n ∧ K < 4096 ∧ ∀ m, m < 12 → md 4 m = if K.testBit m = true then 1 else 0
def RP (d md : MS) (n : Nat) : Prop := d 3 0 = nI n ∧ ∀ j, j < n → d 0 j = md 1 j ∧ d 1 j = md 2 j ∧ d 2 j = md 3 j
def RM (d md : MS) (n : Nat) (kp : Nat → Nat) (m : Nat) : Prop := d 7 m = md 5 m ∧ d 8 m = md 6 m ∧ d 11 m = md 7 m ∧ (∀ i, i < 4 → d 9 (m * 4 + i) = md 8 (20 * m + i)) ∧ (∀ i, i < 4 → kp (m * 4 + i) < 56 ∧ d 10 (m * 4 + i) = nI (kp (m * 4 + i)) ∧ ∀ j, j < 4 → d 4 (kp (m * 4 + i) * 4 + j) = md 8 (20 * m + (4 + (i * 4 + j)))) ∧ (∀ k, k < 8 → d 12 (m * 8 + k) = md 9 (8 * m + k)) ∧ (∃ kd, kd < 4 ∧ md 5 m = nI kd) ∧ (md 5 m = nI 2 → ∃ q, q < n ∧ md 6 m = nI q)
def RC (d md : MS) (n K : Nat) (kp : Nat → Nat) : Prop := MW md n K ∧ RP d md n ∧ d 6 0 = nI K ∧ ∀ m, m < 12 → K.testBit m = true → RM d md n kp m
/-- between the calls -/
def RB (d md : MS) (n K : Nat) : Prop := ∃ kp, RC d md n K kp ∧ ∀ p, p < 56 → d 5 p = nI (cs K kp p 12)
/-- while a run is at hand -/
def RV (d md : MS) (n K : Nat) (kp pg : Nat → Nat) : Prop := RC d md n K kp ∧ (∀ p, p < 56 → d 5 p = nI (cs K kp p 12 + rcn pg p 4)) ∧ (∃ mf, mf < 12 ∧ K.testBit mf = false) ∧ (∀ i, i < 4 → pg i < 56 ∧ d 15 i = nI (pg i) ∧ ∀ j, j < 4 → d 4 (pg i * 4 + j) = md 12 (4 + (i * 4 + j))) ∧ (∀ i, i < 4 → d 14 i = md 12 i) ∧ d 13 0 = md 10 0 ∧ d 16 0 = md 11 0 ∧ ∀ k, k < 8 → d 17 k = md 13 k
def RU (d md : MS) (n K : Nat) : Prop := ∃ kp pg, RV d md n K kp pg
theorem MW_frame {md md' : MS} {n K : Nat} (h : MW md n K) (hm : ∀ k, k < 10 → md' k = md k) : MW md' n K := by
  obtain ⟨h1, h2, h3, h4, h5⟩ := h
  refine ⟨by rw [hm 0 (by decide)]; exact h1, h2, fun j hj => ?_, h4, fun m h => by rw [hm 4 (by decide)]; exact h5 m h⟩
  rw [hm 1 (by decide), hm 2 (by decide), hm 3 (by decide)]
  exact h3 j hj
theorem RM_frame {d d' md md' : MS} {n m : Nat} {kp : Nat → Nat} (h : RM d md n kp m) (hd : ∀ k, k < 13 → k ≠ 4 → k ≠ 5 → d' k = d k) (hm : ∀ k, k < 10 → md' k = md k) (h4 : ∀ i, i < 4 → ∀ j, j < 4 → d' 4 (kp (m * 4 + i) * 4 + j) = d 4 (kp (m * 4 + i) * 4 + j)) : RM d' md' n kp m := by
  obtain ⟨a1, a2, a3, a4, a5, a6, a7, a8⟩ := h
  unfold RM
  rw [hd 7 (by decide) (by decide) (by decide), hd 8 (by decide) (by decide) (by decide), hd 11 (by decide) (by decide) (by decide), hd 9 (by decide) (by decide) (by decide), hd 10 (by decide) (by decide) (by decide), hd 12 (by decide) (by decide) (by decide), hm 5 (by decide), hm 6 (by decide), hm 7 (by decide), hm 8 (by decide), hm 9 (by decide)]
  exact ⟨a1, a2, a3, a4, fun i hi => ⟨(a5 i hi).1, (a5 i hi).2.1, fun j hj => by rw [h4 i hi j hj]; exact (a5 i hi).2.2 j hj⟩, a6, a7, a8⟩
theorem RC_frame {d d' md md' : MS} {n K : Nat} {kp : Nat → Nat} (h : RC d md n K kp) (hd : ∀ k, k < 13 → k ≠ 4 → k ≠ 5 → d' k = d k) (hm : ∀ k, k < 10 → md' k = md k) (h4 : ∀ m, m < 12 → K.testBit m = true → ∀ i, i < 4 → ∀ j, j < 4 → d' 4 (kp (m * 4 + i) * 4 + j) = d 4 (kp (m * 4 + i) * 4 + j)) : RC d' md' n K kp := by
  obtain ⟨a1, ⟨a2, a2'⟩, a3, a4⟩ := h
  refine ⟨MW_frame a1 hm, ⟨by rw [hd 3 (by decide) (by decide) (by decide)]; exact a2, fun j hj => ?_⟩, by rw [hd 6 (by decide) (by decide) (by decide)]; exact a3, fun m h1 h2 => RM_frame (a4 m h1 h2) hd hm (h4 m h1 h2)⟩
  rw [hd 0 (by decide) (by decide) (by decide), hd 1 (by decide) (by decide) (by decide), hd 2 (by decide) (by decide) (by decide), hm 1 (by decide), hm 2 (by decide), hm 3 (by decide)]
  exact a2' j hj
/-- a register is written -/
theorem RU_reg {d md : MS} {n K a : Nat} {v : Int32} (h : RU d md n K) (ha : a < 4) : RU (va_up d 14 (upd (d 14) a v)) (va_up md 12 (upd (md 12) a v)) n K := by
  obtain ⟨kp, pg, hC, hO, hf, hp, hr, h13, h16, h17⟩ := h
  refine ⟨kp, pg, RC_frame hC (fun k h1 _ _ => va_up_ne _ _ (by omega)) (fun k h1 => va_up_ne _ _ (by omega)) (fun m _ _ i _ j _ => rfl), hO, hf, fun i hi => ⟨(hp i hi).1, (hp i hi).2.1, fun j hj => ?_⟩, fun i hi => ?_, h13, h16, h17⟩
  · rw [va_up_self, va_up_ne _ _ (by decide), (hp i hi).2.2 j hj]
    unfold upd
    rw [if_neg (by omega)]
  · rw [va_up_self, va_up_self]
    unfold upd
    rw [hr i hi]
theorem RU_at {d md : MS} {n K : Nat} {v : Int32} (h : RU d md n K) : RU (va_up d 13 (fun _ => v)) (mpos md v) n K := by
  obtain ⟨kp, pg, hC, hO, hf, hp, hr, h13, h16, h17⟩ := h
  exact ⟨kp, pg, RC_frame hC (fun k h1 _ _ => va_up_ne _ _ (by omega)) (fun k h1 => va_up_ne _ _ (by omega)) (fun m _ _ i _ j _ => rfl), hO, hf, hp, hr, rfl, h16, h17⟩
/-- the run's state after a store -/
theorem RU_store {d d' md : MS} {n K j b : Nat} {kp pg : Nat → Nat} {v : Int32} (h : RV d md n K kp pg) (hj : j < 16) (hb : b = cs K kp (pg (j / 4)) 12 + rcn pg (pg (j / 4)) 4) (hs : StoreR d j v (pg (j / 4)) b d') : RU d' (va_up md 12 (upd (md 12) (4 + j) v)) n K := by
  obtain ⟨hC, hO, hf, hp, hr, h13, h16, h17⟩ := h
  have hk : j / 4 < 4 := by omega
  have hpos := rcn_pos (pg := pg) (i := j / 4) rfl 4 hk
  rcases hs with ⟨h1, rfl⟩ | ⟨h1, z, hz, hz0, hfr, g4, g5, g15⟩
  · have hcs : cs K kp (pg (j / 4)) 12 = 0 := by omega
    have hrc : rcn pg (pg (j / 4)) 4 ≤ 1 := by omega
    refine ⟨kp, pg, RC_frame hC (fun k _ h4 _ => va_up_ne _ _ h4) (fun k h1 => va_up_ne _ _ (by omega)) (fun m hm hK i hi jj hjj => ?_), hO, hf, fun i hi => ⟨(hp i hi).1, (hp i hi).2.1, fun jj hjj => ?_⟩, fun i hi => ?_, h13, h16, h17⟩
    · rw [va_up_self]
      unfold upd
      rw [if_neg]
      intro z
      have hq : kp (m * 4 + i) = pg (j / 4) := by omega
      have := cs_pos hK hi hq 12 hm
      omega
    · rw [va_up_self, va_up_self]
      unfold upd
      rw [(hp i hi).2.2 jj hjj]
      by_cases h2 : i * 4 + jj = j
      · have h3 : i = j / 4 := by omega
        rw [if_pos (by rw [h3]; omega), if_pos (by omega)]
      · rw [if_neg, if_neg (by omega)]
        intro z
        have h3 : pg i = pg (j / 4) := by omega
        have h4 := rcn_one hrc hi hk h3 rfl
        omega
    · rw [va_up_ne _ _ (by decide), va_up_self, hr i hi]
      unfold upd
      rw [if_neg (by omega)]
  · have hz1 := hO z hz
    rw [hz0, show (0 : Int32) = nI 0 from rfl, nI_eq (by decide) (by have := cs_le K kp z 12; have := rcn_le pg z 4; omega)] at hz1
    have hzc : cs K kp z 12 = 0 := by omega
    have hzr : rcn pg z 4 = 0 := by omega
    have hne : ∀ i, i < 4 → pg i ≠ z := fun i hi e => by have := rcn_pos e 4 hi; omega
    refine ⟨kp, va_up pg (j / 4) z, RC_frame hC (fun k h1 h4 h5 => hfr k h4 h5 (by omega)) (fun k h1 => va_up_ne _ _ (by omega)) (fun m hm hK i hi jj hjj => ?_), fun p hp56 => ?_, hf, fun i hi => ?_, fun i hi => ?_, by rw [hfr 13 (by decide) (by decide) (by decide)]; exact h13, by rw [hfr 16 (by decide) (by decide) (by decide)]; exact h16, by rw [hfr 17 (by decide) (by decide) (by decide)]; exact h17⟩
    · have hq : kp (m * 4 + i) ≠ z := fun e => by have := cs_pos hK hi e 12 hm; omega
      rw [g4, if_neg (by omega), if_neg (by omega)]
    · rw [g5 p, hO p hp56]
      have hu := rcn_upd (pg := pg) (p := p) (k := j / 4) (b := z) 4 hk
      by_cases e1 : p = pg (j / 4)
      · subst e1
        rw [if_pos rfl, if_neg (fun e => hne _ hk e.symm)] at hu
        rw [if_pos rfl]
        congr 1
        omega
      · rw [if_neg (fun e => e1 e.symm)] at hu
        rw [if_neg e1]
        by_cases e2 : p = z
        · subst e2
          rw [if_pos rfl] at hu
          rw [if_pos rfl, hzc, show rcn (va_up pg (j / 4) p) p 4 = 1 by omega]
          rfl
        · rw [if_neg (fun e => e2 e.symm)] at hu
          rw [if_neg e2]
          congr 1
          omega
    · rw [g15 i]
      by_cases e1 : i = j / 4
      · rw [e1, va_up_self, if_pos rfl]
        refine ⟨hz, rfl, fun jj hjj => ?_⟩
        rw [va_up_self, g4]
        unfold upd
        by_cases e2 : jj = j % 4
        · rw [if_pos (by omega), if_pos (by omega)]
        · rw [if_neg (by omega), if_pos ⟨by omega, by omega⟩, if_neg (by omega), ← (hp (j / 4) hk).2.2 jj hjj]
          congr 1
          omega
      · rw [va_up_ne _ _ e1, if_neg e1]
        refine ⟨(hp i hi).1, (hp i hi).2.1, fun jj hjj => ?_⟩
        have := hne i hi
        rw [va_up_self, g4, if_neg (by omega), if_neg (by omega)]
        unfold upd
        rw [if_neg (by omega)]
        exact (hp i hi).2.2 jj hjj
    · rw [hfr 14 (by decide) (by decide) (by decide), va_up_self, hr i hi]
      unfold upd
      rw [if_neg (by omega)]
end
section
/-! ReplayDesk: say, work, carry, stretch -/
def SayR (d : MS) (v : Int32) (d' : MS) : Prop := d' 17 0 = v ∧ (∀ q, q < 7 → d' 17 (q + 1) = d 17 q) ∧ d' 16 0 = d 16 0 + 1 ∧ ∀ k, k ≠ 16 → k ≠ 17 → d' k = d k
theorem RU_say {d d' md : MS} {n K : Nat} {v : Int32} (h : RU d md n K) (hs : SayR d v d') : RU d' (mSay md v) n K := by
  obtain ⟨kp, pg, hC, hO, hf, hp, hr, h13, h16, h17⟩ := h
  obtain ⟨s1, s2, s3, s4⟩ := hs
  have e4 := s4 4 (by decide) (by decide)
  have e5 := s4 5 (by decide) (by decide)
  have e15 := s4 15 (by decide) (by decide)
  have e14 := s4 14 (by decide) (by decide)
  have e13 := s4 13 (by decide) (by decide)
  refine ⟨kp, pg, RC_frame hC (fun k h1 _ _ => s4 k (by omega) (by omega)) (fun k h1 => by unfold mSay; rw [va_up_ne _ _ (by omega), va_up_ne _ _ (by omega)]) (fun m _ _ i _ j _ => by rw [e4]), by rw [e5]; exact hO, hf, by rw [e15, e4]; exact hp, by rw [e14]; exact hr, by rw [e13]; exact h13, by rw [s3, h16]; rfl, fun k hk => ?_⟩
  show d' 17 k = if k = 0 then v else md 13 (k - 1)
  by_cases h0 : k = 0
  · rw [if_pos h0, h0]; exact s1
  · rw [if_neg h0, ← h17 (k - 1) (by omega), ← s2 (k - 1) (by omega)]
    congr 1
    omega
theorem RU_13 {d md : MS} {n K : Nat} (h : RU d md n K) : d 13 0 = md 10 0 := by
  obtain ⟨kp, pg, hC, hO, hf, hp, hr, h13, h16, h17⟩ := h
  exact h13
theorem RU_14 {d md : MS} {n K : Nat} (h : RU d md n K) {i : Nat} (hi : i < 4) : d 14 i = md 12 i := by
  obtain ⟨kp, pg, hC, hO, hf, hp, hr, h13, h16, h17⟩ := h
  exact hr i hi
theorem RU_C {d md : MS} {n K : Nat} (h : RU d md n K) : ∃ kp, RC d md n K kp := by
  obtain ⟨kp, pg, hC, hO, hf, hp, hr, h13, h16, h17⟩ := h
  exact ⟨kp, hC⟩
theorem mWork_ne {md : MS} {op a : Nat} {b : Int32} {k : Nat} (h : k ≠ 12) : mWork md op a b k = md k := by
  unfold mWork
  repeat (first | (rw [va_up_ne _ _ h]) | split)
  all_goals rfl
theorem mCarry_5z {md : MS} {a : Nat} {b : Int32} (h : md 12 a = 0) : mCarry md 5 a b = mpos md b := by unfold mCarry; rw [if_pos rfl, if_pos h]
theorem mCarry_5n {md : MS} {a : Nat} {b : Int32} (h : ¬ md 12 a = 0) : mCarry md 5 a b = mpos md (md 10 0 + 1) := by unfold mCarry; rw [if_pos rfl, if_neg h]
theorem mCarry_6 {md : MS} {a : Nat} {b : Int32} : mCarry md 6 a b = mpos md b := rfl
theorem mCarry_7 {md : MS} {a : Nat} {b : Int32} : mCarry md 7 a b = mpos (mSay md (md 12 a)) (md 10 0 + 1) := rfl
theorem mCarry_w {md : MS} {op a : Nat} {b : Int32} (h5 : op ≠ 5) (h6 : op ≠ 6) (h7 : op ≠ 7) : mCarry md op a b = mpos (mWork md op a b) (md 10 0 + 1) := by unfold mCarry; rw [if_neg h5, if_neg h6, if_neg h7]
theorem mCarry_lt {md : MS} {op a : Nat} {b : Int32} {k : Nat} (h : k < 10) : mCarry md op a b k = md k := by
  have key : ∀ (x : MS) (v : Int32), x k = md k → mpos x v k = md k := fun x v e => by unfold mpos; rw [va_up_ne _ _ (by omega)]; exact e
  unfold mCarry
  split
  · exact key _ _ rfl
  · split
    · exact key _ _ rfl
    · split
      · exact key _ _ (by unfold mSay; rw [va_up_ne _ _ (by omega), va_up_ne _ _ (by omega)])
      · exact key _ _ (mWork_ne (by omega))
theorem mRun_out {n f : Nat} {md : MS} (h : md 10 0 < 0 ∨ nI n ≤ md 10 0) : mRun n f md = (nI 0, md) := by
  cases f <;> (unfold mRun; rw [if_pos h])
theorem mq_of {md : MS} {q : Nat} (h : md 10 0 = nI q) (hq : q < 2 ^ 31) : mq md = q := by unfold mq; rw [h]; exact nI_clamp hq
theorem in_no {md : MS} {n q : Nat} (h : md 10 0 = nI q) (hq : q < n) (hn : n ≤ 16) : ¬ (md 10 0 < 0 ∨ nI n ≤ md 10 0) := by
  rw [h]
  rintro (z | z)
  · exact nI_pos (by omega) z
  · exact nI_ge hq (by omega) z
theorem mRun_9 {n f q : Nat} {md : MS} (h : md 10 0 = nI q) (hq : q < n) (hn : n ≤ 16) (ho : md 1 q = nI 9) : mRun n f md = (nI 1, md) := by
  cases f <;> (unfold mRun; rw [if_neg (in_no h hq hn), mq_of h (by omega), if_pos ho])
theorem mRun_8 {n f q : Nat} {md : MS} (h : md 10 0 = nI q) (hq : q < n) (hn : n ≤ 16) (ho : md 1 q = nI 8) : mRun n f md = (nI 2, md) := by
  cases f <;> (unfold mRun; rw [if_neg (in_no h hq hn), mq_of h (by omega), if_neg (by rw [ho]; decide), if_pos ho])
theorem mRun_t {n q oo : Nat} {md : MS} (h : md 10 0 = nI q) (hq : q < n) (hn : n ≤ 16) (ho : md 1 q = nI oo) (h10 : oo < 10) (h9 : ¬ oo = 9) (h8 : ¬ oo = 8) : mRun n 0 md = (nI 3, md) := by
  unfold mRun
  rw [if_neg (in_no h hq hn), mq_of h (by omega), ho, if_neg (by rw [nI_eq (by omega) (by omega)]; exact h9), if_neg (by rw [nI_eq (by omega) (by omega)]; exact h8)]
theorem mRun_s {n f q oo a : Nat} {md : MS} (h : md 10 0 = nI q) (hq : q < n) (hn : n ≤ 16) (ho : md 1 q = nI oo) (h10 : oo < 10) (h9 : ¬ oo = 9) (h8 : ¬ oo = 8) (ha : md 2 q = nI a) (h4 : a < 4) : mRun n (f + 1) md = mRun n f (mCarry md oo a (md 3 q)) := by
  conv => lhs; unfold mRun
  rw [if_neg (in_no h hq hn), mq_of h (by omega), ho, ha, if_neg (by rw [nI_eq (by omega) (by omega)]; exact h9), if_neg (by rw [nI_eq (by omega) (by omega)]; exact h8), lo16_nI (by omega), lo4_nI h4]
set_option maxHeartbeats 4000000 in
set_option maxRecDepth 100000 in
theorem wk_dk_say {p : Program} {l : Launch} {e : Env} {s : State} {m : MethodId} {args : Array Value} {below : List Frame} {meth : Method} {c : Code} {ls : Array Slot} {Q : State → Prop} {D : va_G} {o : Nat} {ad : Nat → Nat} {cB cI : ClassId} {d : MS} {v : Int32} (E : dkE D o ad cB cI p s m args c cX0_say 3) (hP : va_P D vwCl (dk_w o ad cB cI d) s.heap) (hl : lv_has ls 3 [(0, .ref o), (1, .int v)]) (kR : dkKv D o ad cB cI p l e (rmk 0) s m args below meth c cX0_say Q (SayR d v)) : W p l e (rmk 0) s m args below meth c s.heap [] 0 0 Q (F0 m 0 ls []) := by
  obtain ⟨hx, hb, -⟩ := id E
  have hS : va_S (dk_A o ad) s.heap s.heap [] := va_S.rf
  have loop : ∀ (k : Nat) (d1 : MS), k < 8 → (∀ q, q ≠ 17 → d1 q = d q) → (∀ q, q < 8 → d1 17 q = if k < q then d 17 (q - 1) else d 17 q) → ∀ (H : Heap) (locs : List Loc) (ls : Array Slot), va_P D vwCl (dk_w o ad cB cI d1) H → va_S (dk_A o ad) s.heap H locs → lv_has ls 3 [(0, .ref o), (1, .int v), (2, .int (nI k))] → W p l e (rmk 0) s m args below meth c H locs 0 0 Q (F0 m 3 ls []) := by
    intro k
    induction k with
    | zero =>
      intro d1 hk hf h17 H locs ls hP hS hl
      refine lv_iload_n hx hb dX0_say_3 rfl (lv_at hl 2 rfl) ?_
      refine lv_if_le (tgt := 27) hx hb dX0_say_4 (by decide) (fun c4 => ?_) (fun c4 => ?_)
      · refine lv_aload_n hx hb dX0_say_27 rfl (lv_at hl 0 rfl) ?_
        refine dk_g17 E hP dX0_say_28 ?_
        refine lv_iconst (v := (nI 0)) hx hb dX0_say_31 (by decide) ?_
        refine lv_iload_n hx hb dX0_say_32 rfl (lv_at hl 1 rfl) ?_
        refine dk_s17 E hP hS (by omega) dX0_say_33 (fun d101 H locs ed101 hP hS => ?_)
        refine lv_aload_n hx hb dX0_say_34 rfl (lv_at hl 0 rfl) ?_
        refine lv_dup hx hb dX0_say_35 rfl ?_
        refine dk_g16 E hP dX0_say_36 ?_
        refine lv_iconst (v := (nI 1)) hx hb dX0_say_39 (by decide) ?_
        refine lv_iadd hx hb dX0_say_40 ?_
        refine dk_p16 E hP hS dX0_say_41 (fun d102 H locs ed102 hP hS => ?_)
        exact kR _ _ _ _ _ (⟨by rw [ed102, va_up_ne _ _ (by decide), ed101, va_up_self]; rfl, fun q hq => by rw [ed102, va_up_ne _ _ (by decide), ed101, va_up_self, pk_un (by omega), h17 (q + 1) (by omega), if_pos (by omega)]; rfl, by rw [ed102, va_up_self, ed101, va_up_ne _ _ (by decide), hf 16 (by decide)]; rfl, fun k h1 h2 => by rw [ed102, va_up_ne _ _ h1, ed101, va_up_ne _ _ h2]; exact hf k h2⟩) hP hS dX0_say_44
      · exact absurd (by decide) c4
    | succ k ih =>
      intro d1 hk hf h17 H locs ls hP hS hl
      refine lv_iload_n hx hb dX0_say_3 rfl (lv_at hl 2 rfl) ?_
      refine lv_if_le (tgt := 27) hx hb dX0_say_4 (by decide) (fun c4 => ?_) (fun c4 => ?_)
      · exact absurd c4 (nI_nle (by omega) (by omega))
      · refine lv_aload_n hx hb dX0_say_7 rfl (lv_at hl 0 rfl) ?_
        refine dk_g17 E hP dX0_say_8 ?_
        refine lv_iload_n hx hb dX0_say_11 rfl (lv_at hl 2 rfl) ?_
        refine lv_aload_n hx hb dX0_say_12 rfl (lv_at hl 0 rfl) ?_
        refine dk_g17 E hP dX0_say_13 ?_
        refine lv_iload_n hx hb dX0_say_16 rfl (lv_at hl 2 rfl) ?_
        refine lv_iconst (v := (nI 1)) hx hb dX0_say_17 (by decide) ?_
        refine nv_isub hx hb (by omega) dX0_say_18 ?_
        refine dk_l17 E hP (x := (d 17 k)) (by rw [Nat.add_sub_cancel, h17 k (by omega), if_neg (by omega)]) (by omega) dX0_say_19 ?_
        refine dk_s17 E hP hS (by omega) dX0_say_20 (fun d103 H locs ed103 hP hS => ?_)
        refine nv_idec (lv' := [(2, .int (nI k)), (0, .ref o), (1, .int v)]) hx hb 2 dX0_say_21 hl rfl (by decide) rfl (fun ls hl => ?_)
        refine lv_goto (tgt := 3) hx hb dX0_say_24 (by decide) ?_
        have hl : lv_has ls 3 [(0, .ref o), (1, .int v), (2, .int (nI k))] := lv_sub hl [1, 2, 0] rfl
        refine ih _ (by omega) (fun q hq => by rw [ed103, va_up_ne _ _ hq]; exact hf q hq) (fun q hq => ?_) H locs ls hP hS hl
        rw [ed103, va_up_self]
        unfold upd
        by_cases h1 : q = k + 1
        · rw [if_pos h1, if_pos (by omega), h1]; rfl
        · rw [if_neg h1, h17 q hq]
          by_cases h2 : k + 1 < q
          · rw [if_pos h2, if_pos (by omega)]
          · rw [if_neg h2, if_neg (by omega)]
  refine lv_bipush (v := (nI 7)) hx hb dX0_say_0 (by decide) ?_
  refine lv_istore_n (lv' := [(2, .int (nI 7)), (0, .ref o), (1, .int v)]) hx hb dX0_say_2 rfl hl (by decide) rfl (fun ls hl => ?_)
  have hl : lv_has ls 3 [(0, .ref o), (1, .int v), (2, .int (nI 7))] := lv_sub hl [1, 2, 0] rfl
  exact loop 7 d (by decide) (fun _ _ => rfl) (fun q hq => by rw [if_neg (by omega)]) _ _ ls hP hS hl
set_option maxHeartbeats 4000000 in
set_option maxRecDepth 100000 in
theorem met_dk_say (l : Launch) (D : va_G) (o : Nat) (ad : Nat → Nat) (cB cI : ClassId) (d : MS) {v : Int32} : dkMv l yX0_say cX0_say 3 none (rmk 0) D o ad cB cI [.int v] d (SayR d v) :=
  dk_metv (by decide) rfl (Nat.le_of_ble_eq_true rfl) (fun p e s m args below meth c ls Q E hP hl kR => wk_dk_say  E hP hl kR)
set_option maxHeartbeats 4000000 in
set_option maxRecDepth 100000 in
theorem wk_dk_work {p : Program} {l : Launch} {e : Env} {s : State} {m : MethodId} {args : Array Value} {below : List Frame} {meth : Method} {c : Code} {ls : Array Slot} {Q : State → Prop} {D : va_G} {o : Nat} {ad : Nat → Nat} {cB cI : ClassId} {d : MS} {md : MS} {n K oo a : Nat} {b : Int32} (hR : RU d md n K) (ho : oo ≤ 4) (ha : a < 4) (hbb : 1 ≤ oo → ∃ z, z < 4 ∧ b = nI z) (E : dkE D o ad cB cI p s m args c cX0_work 4) (hP : va_P D vwCl (dk_w o ad cB cI d) s.heap) (hl : lv_has ls 4 [(0, .ref o), (1, .int (nI oo)), (2, .int (nI a)), (3, .int b)]) (kR : dkKv D o ad cB cI p l e (rmk 2) s m args below meth c cX0_work Q (fun d' => RU d' (mWork md oo a b) n K)) : W p l e (rmk 2) s m args below meth c s.heap [] 0 0 Q (F0 m 0 ls []) := by
  obtain ⟨hx, hb, -⟩ := id E
  have hS : va_S (dk_A o ad) s.heap s.heap [] := va_S.rf
  refine lv_iload_n hx hb dX0_work_0 rfl (lv_at hl 1 rfl) ?_
  refine lv_if_ne (tgt := 14) hx hb dX0_work_1 (by decide) (fun c1 => ?_) (fun c1 => ?_)
  · have c1 : 1 ≤ oo := Nat.pos_of_ne_zero (fun z => c1 (by rw [z]; rfl))
    obtain ⟨z, hz, rfl⟩ := hbb c1
    refine lv_iload_n hx hb dX0_work_14 rfl (lv_at hl 1 rfl) ?_
    refine lv_iconst (v := (nI 1)) hx hb dX0_work_15 (by decide) ?_
    refine nv_icmp_ne (tgt := 37) hx hb (by omega) (by omega) dX0_work_16 (by decide) (fun c16 => ?_) (fun c16 => ?_)
    · refine lv_iload_n hx hb dX0_work_37 rfl (lv_at hl 1 rfl) ?_
      refine lv_iconst (v := (nI 2)) hx hb dX0_work_38 (by decide) ?_
      refine nv_icmp_ne (tgt := 60) hx hb (by omega) (by omega) dX0_work_39 (by decide) (fun c39 => ?_) (fun c39 => ?_)
      · refine lv_iload_n hx hb dX0_work_60 rfl (lv_at hl 1 rfl) ?_
        refine lv_iconst (v := (nI 3)) hx hb dX0_work_61 (by decide) ?_
        refine nv_icmp_ne (tgt := 87) hx hb (by omega) (by omega) dX0_work_62 (by decide) (fun c62 => ?_) (fun c62 => ?_)
        · have c62 : oo = 4 := by omega
          subst c62
          obtain ⟨kp, pg, hV⟩ := id hR
          have hV2 := hV
          obtain ⟨hC, hO, hf, hp, hr, h13, h16, h17⟩ := hV2
          have hj := lo16_lt (md 12 z)
          have hj4 : lo16 (md 12 z) / 4 < 4 := by omega
          have hcl := cs_le K kp (pg (lo16 (md 12 z) / 4)) 12
          have hrl := rcn_le pg (pg (lo16 (md 12 z) / 4)) 4
          have hz0 : ∃ z, z < 56 ∧ d 5 z = 0 := by
            obtain ⟨y, hy, hy0⟩ := page_free (K := K) (kp := kp) (pg := pg) (i := 4) hf (Nat.le_refl _)
            exact ⟨y, hy, by rw [hO y hy, hy0]; rfl⟩
          refine lv_aload_n hx hb dX0_work_87 rfl (lv_at hl 0 rfl) ?_
          refine lv_aload_n hx hb dX0_work_88 rfl (lv_at hl 0 rfl) ?_
          refine dk_g14 E hP dX0_work_89 ?_
          refine lv_iload_n hx hb dX0_work_92 rfl (lv_at hl 3 rfl) ?_
          refine dk_l14 E hP (x := (md 12 z)) (RU_14 hR hz) (by omega) dX0_work_93 ?_
          refine lv_bipush (v := (nI 15)) hx hb dX0_work_94 (by decide) ?_
          refine rv_iand15 hx hb dX0_work_96 ?_
          refine lv_aload_n hx hb dX0_work_97 rfl (lv_at hl 0 rfl) ?_
          refine dk_g14 E hP dX0_work_98 ?_
          refine lv_iload_n hx hb dX0_work_101 rfl (lv_at hl 2 rfl) ?_
          refine dk_l14 E hP (x := (md 12 a)) (RU_14 hR ha) (by omega) dX0_work_102 ?_
          refine dk_callv (As := [.int (nI (lo16 (md 12 z))), .int (md 12 a)]) (rest := []) E hP hS (met_dk_storeCell l D o ad cB cI d hj (hp _ hj4).1 (by omega) (hp _ hj4).2.1 (hO _ (hp _ hj4).1) (fun _ => hz0)) (cwV 2 E.2.2.1 (lw_V q139 q141 qs8 q19 q142) rfl rfl rfl (by decide +kernel) ⟨by decide, by decide⟩) rfl hl.1 rfl (Nat.le_of_ble_eq_true rfl) ⟨Nat.zero_le _, Nat.zero_le _⟩ dX0_work_103 (fun d104 H locs hpd104 hP hS => ?_)
          exact kR _ _ _ _ _ (by unfold mWork; rw [if_neg (by decide), if_neg (by decide), if_neg (by decide), if_neg (by decide), if_pos rfl, lo4_nI hz]; exact RU_store hV hj rfl hpd104) hP hS dX0_work_106
        · subst c62
          obtain ⟨kp, pg, hV⟩ := id hR
          have hV2 := hV
          obtain ⟨hC, hO, hf, hp, hr, h13, h16, h17⟩ := hV2
          have hj := lo16_lt (md 12 z)
          have hj4 : lo16 (md 12 z) / 4 < 4 := by omega
          refine lv_aload_n hx hb dX0_work_65 rfl (lv_at hl 0 rfl) ?_
          refine dk_g14 E hP dX0_work_66 ?_
          refine lv_iload_n hx hb dX0_work_69 rfl (lv_at hl 2 rfl) ?_
          refine lv_aload_n hx hb dX0_work_70 rfl (lv_at hl 0 rfl) ?_
          refine lv_aload_n hx hb dX0_work_71 rfl (lv_at hl 0 rfl) ?_
          refine dk_g14 E hP dX0_work_72 ?_
          refine lv_iload_n hx hb dX0_work_75 rfl (lv_at hl 3 rfl) ?_
          refine dk_l14 E hP (x := (md 12 z)) (RU_14 hR hz) (by omega) dX0_work_76 ?_
          refine lv_bipush (v := (nI 15)) hx hb dX0_work_77 (by decide) ?_
          refine rv_iand15 hx hb dX0_work_79 ?_
          refine dk_calli (As := [.int (nI (lo16 (md 12 z)))]) (rest := [.int (nI a), .ref (ad 14)]) E hP hS (met_dk_loadCell l D o ad cB cI d hj (hp _ hj4).1 (hp _ hj4).2.1) (cwV 1 E.2.2.1 (lw_V q135 q137 qs7 q19 q138) rfl rfl rfl (by decide +kernel) ⟨by decide, by decide⟩) rfl hl.1 rfl (Nat.le_of_ble_eq_true rfl) ⟨Nat.zero_le _, Nat.zero_le _⟩ dX0_work_80 (fun r106 d105 H locs hpd105 hP hS => ?_)
          obtain ⟨e0, er⟩ := hpd105
          rw [e0] at hP
          refine tp (y := (md 12 (4 + lo16 (md 12 z)))) (by rw [er, (hp _ hj4).2.2 _ (Nat.mod_lt _ (by decide))]; congr 1; omega) ?_
          refine dk_s14 E hP hS (by omega) dX0_work_83 (fun d107 H locs ed107 hP hS => ?_)
          refine lv_goto (tgt := 106) hx hb dX0_work_84 (by decide) ?_
          exact kR _ _ _ _ _ (by rw [ed107]; unfold mWork; rw [if_neg (by decide), if_neg (by decide), if_neg (by decide), if_pos rfl, lo4_nI hz]; exact RU_reg hR ha) hP hS dX0_work_106
      · subst c39
        refine lv_aload_n hx hb dX0_work_42 rfl (lv_at hl 0 rfl) ?_
        refine dk_g14 E hP dX0_work_43 ?_
        refine lv_iload_n hx hb dX0_work_46 rfl (lv_at hl 2 rfl) ?_
        refine lv_dup2_11 hx hb dX0_work_47 rfl rfl ?_
        refine dk_l14 E hP (x := (md 12 a)) (RU_14 hR ha) (by omega) dX0_work_48 ?_
        refine lv_aload_n hx hb dX0_work_49 rfl (lv_at hl 0 rfl) ?_
        refine dk_g14 E hP dX0_work_50 ?_
        refine lv_iload_n hx hb dX0_work_53 rfl (lv_at hl 3 rfl) ?_
        refine dk_l14 E hP (x := (md 12 z)) (RU_14 hR hz) (by omega) dX0_work_54 ?_
        refine lv_isub hx hb dX0_work_55 ?_
        refine dk_s14 E hP hS (by omega) dX0_work_56 (fun d108 H locs ed108 hP hS => ?_)
        refine lv_goto (tgt := 106) hx hb dX0_work_57 (by decide) ?_
        exact kR _ _ _ _ _ (by rw [ed108]; unfold mWork; rw [if_neg (by decide), if_neg (by decide), if_pos rfl, lo4_nI hz]; exact RU_reg hR ha) hP hS dX0_work_106
    · subst c16
      refine lv_aload_n hx hb dX0_work_19 rfl (lv_at hl 0 rfl) ?_
      refine dk_g14 E hP dX0_work_20 ?_
      refine lv_iload_n hx hb dX0_work_23 rfl (lv_at hl 2 rfl) ?_
      refine lv_dup2_11 hx hb dX0_work_24 rfl rfl ?_
      refine dk_l14 E hP (x := (md 12 a)) (RU_14 hR ha) (by omega) dX0_work_25 ?_
      refine lv_aload_n hx hb dX0_work_26 rfl (lv_at hl 0 rfl) ?_
      refine dk_g14 E hP dX0_work_27 ?_
      refine lv_iload_n hx hb dX0_work_30 rfl (lv_at hl 3 rfl) ?_
      refine dk_l14 E hP (x := (md 12 z)) (RU_14 hR hz) (by omega) dX0_work_31 ?_
      refine lv_iadd hx hb dX0_work_32 ?_
      refine dk_s14 E hP hS (by omega) dX0_work_33 (fun d109 H locs ed109 hP hS => ?_)
      refine lv_goto (tgt := 106) hx hb dX0_work_34 (by decide) ?_
      exact kR _ _ _ _ _ (by rw [ed109]; unfold mWork; rw [if_neg (by decide), if_pos rfl, lo4_nI hz]; exact RU_reg hR ha) hP hS dX0_work_106
  · have c1 : oo = 0 := Classical.byContradiction (fun z => nI_ne0 (Nat.pos_of_ne_zero z) (by omega) c1)
    subst c1
    refine lv_aload_n hx hb dX0_work_4 rfl (lv_at hl 0 rfl) ?_
    refine dk_g14 E hP dX0_work_5 ?_
    refine lv_iload_n hx hb dX0_work_8 rfl (lv_at hl 2 rfl) ?_
    refine lv_iload_n hx hb dX0_work_9 rfl (lv_at hl 3 rfl) ?_
    refine dk_s14 E hP hS (by omega) dX0_work_10 (fun d110 H locs ed110 hP hS => ?_)
    refine lv_goto (tgt := 106) hx hb dX0_work_11 (by decide) ?_
    exact kR _ _ _ _ _ (by rw [ed110]; exact RU_reg hR ha) hP hS dX0_work_106
set_option maxHeartbeats 4000000 in
set_option maxRecDepth 100000 in
theorem met_dk_work (l : Launch) (D : va_G) (o : Nat) (ad : Nat → Nat) (cB cI : ClassId) (d : MS) {md : MS} {n K oo a : Nat} {b : Int32} (hR : RU d md n K) (ho : oo ≤ 4) (ha : a < 4) (hbb : 1 ≤ oo → ∃ z, z < 4 ∧ b = nI z) : dkMv l yX0_work cX0_work 4 none (rmk 2) D o ad cB cI [.int (nI oo), .int (nI a), .int b] d (fun d' => RU d' (mWork md oo a b) n K) :=
  dk_metv (by decide) rfl (Nat.le_of_ble_eq_true rfl) (fun p e s m args below meth c ls Q E hP hl kR => wk_dk_work hR ho ha hbb E hP hl kR)
set_option maxHeartbeats 4000000 in
set_option maxRecDepth 100000 in
theorem wk_dk_carry {p : Program} {l : Launch} {e : Env} {s : State} {m : MethodId} {args : Array Value} {below : List Frame} {meth : Method} {c : Code} {ls : Array Slot} {Q : State → Prop} {D : va_G} {o : Nat} {ad : Nat → Nat} {cB cI : ClassId} {d : MS} {md : MS} {n K oo a : Nat} {b : Int32} (hR : RU d md n K) (ho : oo < 8) (ha : a < 4) (hbb : 1 ≤ oo → oo ≤ 4 → ∃ z, z < 4 ∧ b = nI z) (E : dkE D o ad cB cI p s m args c cX0_carry 4) (hP : va_P D vwCl (dk_w o ad cB cI d) s.heap) (hl : lv_has ls 4 [(0, .ref o), (1, .int (nI oo)), (2, .int (nI a)), (3, .int b)]) (kR : dkKv D o ad cB cI p l e (rmk 3) s m args below meth c cX0_carry Q (fun d' => RU d' (mCarry md oo a b) n K)) : W p l e (rmk 3) s m args below meth c s.heap [] 0 0 Q (F0 m 0 ls []) := by
  obtain ⟨hx, hb, -⟩ := id E
  have hS : va_S (dk_A o ad) s.heap s.heap [] := va_S.rf
  refine lv_iload_n hx hb dX0_carry_0 rfl (lv_at hl 1 rfl) ?_
  refine lv_iconst (v := (nI 5)) hx hb dX0_carry_1 (by decide) ?_
  refine nv_icmp_ne (tgt := 29) hx hb (by omega) (by omega) dX0_carry_2 (by decide) (fun c2 => ?_) (fun c2 => ?_)
  · refine lv_iload_n hx hb dX0_carry_29 rfl (lv_at hl 1 rfl) ?_
    refine lv_bipush (v := (nI 6)) hx hb dX0_carry_30 (by decide) ?_
    refine nv_icmp_ne (tgt := 41) hx hb (by omega) (by omega) dX0_carry_32 (by decide) (fun c32 => ?_) (fun c32 => ?_)
    · refine lv_iload_n hx hb dX0_carry_41 rfl (lv_at hl 1 rfl) ?_
      refine lv_bipush (v := (nI 7)) hx hb dX0_carry_42 (by decide) ?_
      refine nv_icmp_ne (tgt := 60) hx hb (by omega) (by omega) dX0_carry_44 (by decide) (fun c44 => ?_) (fun c44 => ?_)
      · refine lv_aload_n hx hb dX0_carry_60 rfl (lv_at hl 0 rfl) ?_
        refine lv_iload_n hx hb dX0_carry_61 rfl (lv_at hl 1 rfl) ?_
        refine lv_iload_n hx hb dX0_carry_62 rfl (lv_at hl 2 rfl) ?_
        refine lv_iload_n hx hb dX0_carry_63 rfl (lv_at hl 3 rfl) ?_
        refine dk_callv (As := [.int (nI oo), .int (nI a), .int b]) (rest := []) E hP hS (met_dk_work l D o ad cB cI d hR (by omega) ha (fun h => hbb h (by omega))) (cwV 3 E.2.2.1 (lw_V q131 q133 qs6 q19 q134) rfl rfl rfl (by decide +kernel) ⟨by decide, by decide⟩) rfl hl.1 rfl (Nat.le_of_ble_eq_true rfl) ⟨Nat.zero_le _, Nat.zero_le _⟩ dX0_carry_64 (fun d111 H locs hpd111 hP hS => ?_)
        have hR1 := hpd111
        refine lv_aload_n hx hb dX0_carry_67 rfl (lv_at hl 0 rfl) ?_
        refine lv_dup hx hb dX0_carry_68 rfl ?_
        refine dk_g13 E hP dX0_carry_69 ?_
        refine tp (y := (md 10 0)) (by rw [RU_13 hR1, mWork_ne (by decide)]) ?_
        refine lv_iconst (v := (nI 1)) hx hb dX0_carry_72 (by decide) ?_
        refine lv_iadd hx hb dX0_carry_73 ?_
        refine dk_p13 E hP hS dX0_carry_74 (fun d112 H locs ed112 hP hS => ?_)
        exact kR _ _ _ _ _ (by rw [ed112, mCarry_w c2 c32 c44]; exact RU_at hR1) hP hS dX0_carry_77
      · subst c44
        refine lv_aload_n hx hb dX0_carry_47 rfl (lv_at hl 0 rfl) ?_
        refine lv_aload_n hx hb dX0_carry_48 rfl (lv_at hl 0 rfl) ?_
        refine dk_g14 E hP dX0_carry_49 ?_
        refine lv_iload_n hx hb dX0_carry_52 rfl (lv_at hl 2 rfl) ?_
        refine dk_l14 E hP (x := (md 12 a)) (RU_14 hR ha) (by omega) dX0_carry_53 ?_
        refine dk_callv (As := [.int (md 12 a)]) (rest := []) E hP hS (met_dk_say l D o ad cB cI d) (cwV 1 E.2.2.1 (lw_V q127 q129 qs5 q19 q130) rfl rfl rfl (by decide +kernel) ⟨by decide, by decide⟩) rfl hl.1 rfl (Nat.le_of_ble_eq_true rfl) ⟨Nat.zero_le _, Nat.zero_le _⟩ dX0_carry_54 (fun d113 H locs hpd113 hP hS => ?_)
        have hR1 := RU_say hR hpd113
        refine lv_goto (tgt := 67) hx hb dX0_carry_57 (by decide) ?_
        refine lv_aload_n hx hb dX0_carry_67 rfl (lv_at hl 0 rfl) ?_
        refine lv_dup hx hb dX0_carry_68 rfl ?_
        refine dk_g13 E hP dX0_carry_69 ?_
        refine tp (y := (md 10 0)) ((RU_13 hR1).trans rfl) ?_
        refine lv_iconst (v := (nI 1)) hx hb dX0_carry_72 (by decide) ?_
        refine lv_iadd hx hb dX0_carry_73 ?_
        refine dk_p13 E hP hS dX0_carry_74 (fun d114 H locs ed114 hP hS => ?_)
        exact kR _ _ _ _ _ (by rw [ed114, mCarry_7]; exact RU_at hR1) hP hS dX0_carry_77
    · subst c32
      refine lv_aload_n hx hb dX0_carry_35 rfl (lv_at hl 0 rfl) ?_
      refine lv_iload_n hx hb dX0_carry_36 rfl (lv_at hl 3 rfl) ?_
      refine dk_p13 E hP hS dX0_carry_37 (fun d115 H locs ed115 hP hS => ?_)
      exact kR _ _ _ _ _ (by rw [ed115, mCarry_6]; exact RU_at hR) hP hS dX0_carry_40
  · subst c2
    refine lv_aload_n hx hb dX0_carry_5 rfl (lv_at hl 0 rfl) ?_
    refine lv_aload_n hx hb dX0_carry_6 rfl (lv_at hl 0 rfl) ?_
    refine dk_g14 E hP dX0_carry_7 ?_
    refine lv_iload_n hx hb dX0_carry_10 rfl (lv_at hl 2 rfl) ?_
    refine dk_l14 E hP (x := (md 12 a)) (RU_14 hR ha) (by omega) dX0_carry_11 ?_
    refine lv_if_ne (tgt := 19) hx hb dX0_carry_12 (by decide) (fun c12 => ?_) (fun c12 => ?_)
    · refine lv_aload_n hx hb dX0_carry_19 rfl (lv_at hl 0 rfl) ?_
      refine dk_g13 E hP dX0_carry_20 ?_
      refine tp (y := (md 10 0)) (RU_13 hR) ?_
      refine lv_iconst (v := (nI 1)) hx hb dX0_carry_23 (by decide) ?_
      refine lv_iadd hx hb dX0_carry_24 ?_
      refine dk_p13 E hP hS dX0_carry_25 (fun d116 H locs ed116 hP hS => ?_)
      exact kR _ _ _ _ _ (by rw [ed116, mCarry_5n c12]; exact RU_at hR) hP hS dX0_carry_28
    · refine lv_iload_n hx hb dX0_carry_15 rfl (lv_at hl 3 rfl) ?_
      refine lv_goto (tgt := 25) hx hb dX0_carry_16 (by decide) ?_
      refine dk_p13 E hP hS dX0_carry_25 (fun d117 H locs ed117 hP hS => ?_)
      exact kR _ _ _ _ _ (by rw [ed117, mCarry_5z c12]; exact RU_at hR) hP hS dX0_carry_28
set_option maxHeartbeats 4000000 in
set_option maxRecDepth 100000 in
theorem met_dk_carry (l : Launch) (D : va_G) (o : Nat) (ad : Nat → Nat) (cB cI : ClassId) (d : MS) {md : MS} {n K oo a : Nat} {b : Int32} (hR : RU d md n K) (ho : oo < 8) (ha : a < 4) (hbb : 1 ≤ oo → oo ≤ 4 → ∃ z, z < 4 ∧ b = nI z) : dkMv l yX0_carry cX0_carry 4 none (rmk 3) D o ad cB cI [.int (nI oo), .int (nI a), .int b] d (fun d' => RU d' (mCarry md oo a b) n K) :=
  dk_metv (by decide) rfl (Nat.le_of_ble_eq_true rfl) (fun p e s m args below meth c ls Q E hP hl kR => wk_dk_carry hR ho ha hbb E hP hl kR)
set_option maxHeartbeats 4000000 in
set_option maxRecDepth 100000 in
theorem wk_dk_stretch {p : Program} {l : Launch} {e : Env} {s : State} {m : MethodId} {args : Array Value} {below : List Frame} {meth : Method} {c : Code} {ls : Array Slot} {Q : State → Prop} {D : va_G} {o : Nat} {ad : Nat → Nat} {cB cI : ClassId} {d : MS} {md : MS} {n K : Nat} (hR : RU d md n K) (E : dkE D o ad cB cI p s m args c cX0_stretch 4) (hP : va_P D vwCl (dk_w o ad cB cI d) s.heap) (hl : lv_has ls 4 [(0, .ref o)]) (kR : dkKi D o ad cB cI p l e (rmk 4) s m args below meth c cX0_stretch Q (fun r d' => r = (mRun n 60 md).1 ∧ RU d' (mRun n 60 md).2 n K)) : W p l e (rmk 4) s m args below meth c s.heap [] 0 0 Q (F0 m 0 ls []) := by
  obtain ⟨hx, hb, -⟩ := id E
  have hS : va_S (dk_A o ad) s.heap s.heap [] := va_S.rf
  have loop : ∀ (f k : Nat) (d1 md1 : MS), k + f = 60 → mRun n 60 md = mRun n f md1 → RU d1 md1 n K → ∀ (H : Heap) (locs : List Loc) (ls : Array Slot), va_P D vwCl (dk_w o ad cB cI d1) H → va_S (dk_A o ad) s.heap H locs → lv_has ls 4 [(0, .ref o), (1, .int (nI k))] → W p l e (rmk 4) s m args below meth c H locs 0 0 Q (F0 m 2 ls []) := by
    intro f
    induction f with
    | zero =>
      intro k d1 md1 hk hm hR1 H locs ls hP hS hl
      obtain ⟨kp, ⟨-, hn16, hMP, -⟩, ⟨h3, hRP⟩, -⟩ := RU_C hR1
      refine lv_iload_n hx hb dX0_stretch_2 rfl (lv_at hl 1 rfl) ?_
      refine lv_bipush (v := (nI 60)) hx hb dX0_stretch_3 (by decide) ?_
      refine nv_icmp_gt (tgt := 91) hx hb (by omega) (by omega) dX0_stretch_5 (by decide) (fun c5 => ?_) (fun c5 => ?_)
      · exact absurd c5 (by omega)
      · refine lv_aload_n hx hb dX0_stretch_8 rfl (lv_at hl 0 rfl) ?_
        refine dk_g13 E hP dX0_stretch_9 ?_
        refine tp (y := (md1 10 0)) (RU_13 hR1) ?_
        refine lv_if_lt (tgt := 26) hx hb dX0_stretch_12 (by decide) (fun c12 => ?_) (fun c12 => ?_)
        · refine lv_iconst (v := (nI 0)) hx hb dX0_stretch_26 (by decide) ?_
          exact kR _ _ _ _ _ _ (by rw [hm, mRun_out (Or.inl c12)]; exact ⟨rfl, hR1⟩) hP hS dX0_stretch_27
        · refine lv_aload_n hx hb dX0_stretch_15 rfl (lv_at hl 0 rfl) ?_
          refine dk_g13 E hP dX0_stretch_16 ?_
          refine tp (y := (md1 10 0)) (RU_13 hR1) ?_
          refine lv_aload_n hx hb dX0_stretch_19 rfl (lv_at hl 0 rfl) ?_
          refine dk_g3 E hP dX0_stretch_20 ?_
          refine tp (y := (nI n)) (h3) ?_
          refine lv_icmp_lt (tgt := 28) hx hb dX0_stretch_23 (by decide) (fun c23 => ?_) (fun c23 => ?_)
          · obtain ⟨q, hqn, hq⟩ : ∃ q, q < n ∧ md1 10 0 = nI q := by
              rcases pk_ix (md1 10 0) (n := n) (by omega) with z | z | z
              · exact absurd z c12
              · exact absurd c23 (Int32.not_lt.mpr z)
              · exact z
            obtain ⟨oo, a, ho10, ha4, ho, ha, hbb⟩ := hMP q hqn
            obtain ⟨p1, p2, p3⟩ := hRP q hqn
            refine lv_aload_n hx hb dX0_stretch_28 rfl (lv_at hl 0 rfl) ?_
            refine dk_g0 E hP dX0_stretch_29 ?_
            refine lv_aload_n hx hb dX0_stretch_32 rfl (lv_at hl 0 rfl) ?_
            refine dk_g13 E hP dX0_stretch_33 ?_
            refine tp (y := (nI q)) ((RU_13 hR1).trans hq) ?_
            refine dk_l0 E hP (x := (nI oo)) (p1.trans ho) (by omega) dX0_stretch_36 ?_
            refine lv_istore_n (lv' := [(2, .int (nI oo)), (0, .ref o), (1, .int (nI k))]) hx hb dX0_stretch_37 rfl hl (by decide) rfl (fun ls hl => ?_)
            refine lv_iload_n hx hb dX0_stretch_38 rfl (lv_at hl 0 rfl) ?_
            refine lv_bipush (v := (nI 9)) hx hb dX0_stretch_39 (by decide) ?_
            refine nv_icmp_ne (tgt := 46) hx hb (by omega) (by omega) dX0_stretch_41 (by decide) (fun c41 => ?_) (fun c41 => ?_)
            · refine lv_iload_n hx hb dX0_stretch_46 rfl (lv_at hl 0 rfl) ?_
              refine lv_bipush (v := (nI 8)) hx hb dX0_stretch_47 (by decide) ?_
              refine nv_icmp_ne (tgt := 54) hx hb (by omega) (by omega) dX0_stretch_49 (by decide) (fun c49 => ?_) (fun c49 => ?_)
              · refine lv_iload_n hx hb dX0_stretch_54 rfl (lv_at hl 2 rfl) ?_
                refine lv_bipush (v := (nI 60)) hx hb dX0_stretch_55 (by decide) ?_
                refine nv_icmp_ge (tgt := 85) hx hb (by omega) (by omega) dX0_stretch_57 (by decide) (fun c57 => ?_) (fun c57 => ?_)
                · refine nv_iinc (lv' := [(1, .int (nI (k + 1))), (2, .int (nI oo)), (0, .ref o)]) hx hb 2 dX0_stretch_85 hl rfl (by decide) rfl (fun ls hl => ?_)
                  refine lv_goto (tgt := 2) hx hb dX0_stretch_88 (by decide) ?_
                  refine lv_iload_n hx hb dX0_stretch_2 rfl (lv_at hl 0 rfl) ?_
                  refine lv_bipush (v := (nI 60)) hx hb dX0_stretch_3 (by decide) ?_
                  refine nv_icmp_gt (tgt := 91) hx hb (by omega) (by omega) dX0_stretch_5 (by decide) (fun c5b => ?_) (fun c5b => ?_)
                  · refine lv_iconst (v := (nI 3)) hx hb dX0_stretch_91 (by decide) ?_
                    exact kR _ _ _ _ _ _ (by rw [hm, mRun_t hq hqn hn16 ho ho10 c41 c49]; exact ⟨rfl, hR1⟩) hP hS dX0_stretch_92
                  · exact absurd c5b (by omega)
                · exact absurd c57 (by omega)
              · subst c49
                refine lv_iconst (v := (nI 2)) hx hb dX0_stretch_52 (by decide) ?_
                exact kR _ _ _ _ _ _ (by rw [hm, mRun_8 hq hqn hn16 ho]; exact ⟨rfl, hR1⟩) hP hS dX0_stretch_53
            · subst c41
              refine lv_iconst (v := (nI 1)) hx hb dX0_stretch_44 (by decide) ?_
              exact kR _ _ _ _ _ _ (by rw [hm, mRun_9 hq hqn hn16 ho]; exact ⟨rfl, hR1⟩) hP hS dX0_stretch_45
          · refine lv_iconst (v := (nI 0)) hx hb dX0_stretch_26 (by decide) ?_
            exact kR _ _ _ _ _ _ (by rw [hm, mRun_out (Or.inr (Int32.not_lt.mp c23))]; exact ⟨rfl, hR1⟩) hP hS dX0_stretch_27
    | succ f ih =>
      intro k d1 md1 hk hm hR1 H locs ls hP hS hl
      obtain ⟨kp, ⟨-, hn16, hMP, -⟩, ⟨h3, hRP⟩, -⟩ := RU_C hR1
      refine lv_iload_n hx hb dX0_stretch_2 rfl (lv_at hl 1 rfl) ?_
      refine lv_bipush (v := (nI 60)) hx hb dX0_stretch_3 (by decide) ?_
      refine nv_icmp_gt (tgt := 91) hx hb (by omega) (by omega) dX0_stretch_5 (by decide) (fun c5 => ?_) (fun c5 => ?_)
      · exact absurd c5 (by omega)
      · refine lv_aload_n hx hb dX0_stretch_8 rfl (lv_at hl 0 rfl) ?_
        refine dk_g13 E hP dX0_stretch_9 ?_
        refine tp (y := (md1 10 0)) (RU_13 hR1) ?_
        refine lv_if_lt (tgt := 26) hx hb dX0_stretch_12 (by decide) (fun c12 => ?_) (fun c12 => ?_)
        · refine lv_iconst (v := (nI 0)) hx hb dX0_stretch_26 (by decide) ?_
          exact kR _ _ _ _ _ _ (by rw [hm, mRun_out (Or.inl c12)]; exact ⟨rfl, hR1⟩) hP hS dX0_stretch_27
        · refine lv_aload_n hx hb dX0_stretch_15 rfl (lv_at hl 0 rfl) ?_
          refine dk_g13 E hP dX0_stretch_16 ?_
          refine tp (y := (md1 10 0)) (RU_13 hR1) ?_
          refine lv_aload_n hx hb dX0_stretch_19 rfl (lv_at hl 0 rfl) ?_
          refine dk_g3 E hP dX0_stretch_20 ?_
          refine tp (y := (nI n)) (h3) ?_
          refine lv_icmp_lt (tgt := 28) hx hb dX0_stretch_23 (by decide) (fun c23 => ?_) (fun c23 => ?_)
          · obtain ⟨q, hqn, hq⟩ : ∃ q, q < n ∧ md1 10 0 = nI q := by
              rcases pk_ix (md1 10 0) (n := n) (by omega) with z | z | z
              · exact absurd z c12
              · exact absurd c23 (Int32.not_lt.mpr z)
              · exact z
            obtain ⟨oo, a, ho10, ha4, ho, ha, hbb⟩ := hMP q hqn
            obtain ⟨p1, p2, p3⟩ := hRP q hqn
            refine lv_aload_n hx hb dX0_stretch_28 rfl (lv_at hl 0 rfl) ?_
            refine dk_g0 E hP dX0_stretch_29 ?_
            refine lv_aload_n hx hb dX0_stretch_32 rfl (lv_at hl 0 rfl) ?_
            refine dk_g13 E hP dX0_stretch_33 ?_
            refine tp (y := (nI q)) ((RU_13 hR1).trans hq) ?_
            refine dk_l0 E hP (x := (nI oo)) (p1.trans ho) (by omega) dX0_stretch_36 ?_
            refine lv_istore_n (lv' := [(2, .int (nI oo)), (0, .ref o), (1, .int (nI k))]) hx hb dX0_stretch_37 rfl hl (by decide) rfl (fun ls hl => ?_)
            refine lv_iload_n hx hb dX0_stretch_38 rfl (lv_at hl 0 rfl) ?_
            refine lv_bipush (v := (nI 9)) hx hb dX0_stretch_39 (by decide) ?_
            refine nv_icmp_ne (tgt := 46) hx hb (by omega) (by omega) dX0_stretch_41 (by decide) (fun c41 => ?_) (fun c41 => ?_)
            · refine lv_iload_n hx hb dX0_stretch_46 rfl (lv_at hl 0 rfl) ?_
              refine lv_bipush (v := (nI 8)) hx hb dX0_stretch_47 (by decide) ?_
              refine nv_icmp_ne (tgt := 54) hx hb (by omega) (by omega) dX0_stretch_49 (by decide) (fun c49 => ?_) (fun c49 => ?_)
              · refine lv_iload_n hx hb dX0_stretch_54 rfl (lv_at hl 2 rfl) ?_
                refine lv_bipush (v := (nI 60)) hx hb dX0_stretch_55 (by decide) ?_
                refine nv_icmp_ge (tgt := 85) hx hb (by omega) (by omega) dX0_stretch_57 (by decide) (fun c57 => ?_) (fun c57 => ?_)
                · exact absurd c57 (by omega)
                · refine lv_aload_n hx hb dX0_stretch_60 rfl (lv_at hl 1 rfl) ?_
                  refine dk_g1 E hP dX0_stretch_61 ?_
                  refine lv_aload_n hx hb dX0_stretch_64 rfl (lv_at hl 1 rfl) ?_
                  refine dk_g13 E hP dX0_stretch_65 ?_
                  refine tp (y := (nI q)) ((RU_13 hR1).trans hq) ?_
                  refine dk_l1 E hP (x := (nI a)) (p2.trans ha) (by omega) dX0_stretch_68 ?_
                  refine lv_istore_n (lv' := [(3, .int (nI a)), (2, .int (nI oo)), (0, .ref o), (1, .int (nI k))]) hx hb dX0_stretch_69 rfl hl (by decide) rfl (fun ls hl => ?_)
                  refine lv_aload_n hx hb dX0_stretch_70 rfl (lv_at hl 2 rfl) ?_
                  refine lv_iload_n hx hb dX0_stretch_71 rfl (lv_at hl 1 rfl) ?_
                  refine lv_iload_n hx hb dX0_stretch_72 rfl (lv_at hl 0 rfl) ?_
                  refine lv_aload_n hx hb dX0_stretch_73 rfl (lv_at hl 2 rfl) ?_
                  refine dk_g2 E hP dX0_stretch_74 ?_
                  refine lv_aload_n hx hb dX0_stretch_77 rfl (lv_at hl 2 rfl) ?_
                  refine dk_g13 E hP dX0_stretch_78 ?_
                  refine tp (y := (nI q)) ((RU_13 hR1).trans hq) ?_
                  refine dk_l2 E hP (x := (md1 3 q)) (p3) (by omega) dX0_stretch_81 ?_
                  refine dk_callv (As := [.int (nI oo), .int (nI a), .int (md1 3 q)]) (rest := []) E hP hS (met_dk_carry l D o ad cB cI d1 hR1 (by omega) ha4 hbb) (cwV 3 E.2.2.1 (lw_V q123 q125 qs4 q19 q126) rfl rfl rfl (by decide +kernel) ⟨by decide, by decide⟩) rfl hl.1 rfl (Nat.le_of_ble_eq_true rfl) ⟨Nat.zero_le _, Nat.zero_le _⟩ dX0_stretch_82 (fun d118 H locs hpd118 hP hS => ?_)
                  refine nv_iinc (lv' := [(1, .int (nI (k + 1))), (3, .int (nI a)), (2, .int (nI oo)), (0, .ref o)]) hx hb 3 dX0_stretch_85 hl rfl (by decide) rfl (fun ls hl => ?_)
                  refine lv_goto (tgt := 2) hx hb dX0_stretch_88 (by decide) ?_
                  have hl : lv_has ls 4 [(0, .ref o), (1, .int (nI (k + 1)))] := lv_sub hl [3, 0] rfl
                  exact ih (k + 1) _ _ (by omega) (by rw [hm, mRun_s hq hqn hn16 ho ho10 c41 c49 ha ha4]) hpd118 H locs ls hP hS hl
              · subst c49
                refine lv_iconst (v := (nI 2)) hx hb dX0_stretch_52 (by decide) ?_
                exact kR _ _ _ _ _ _ (by rw [hm, mRun_8 hq hqn hn16 ho]; exact ⟨rfl, hR1⟩) hP hS dX0_stretch_53
            · subst c41
              refine lv_iconst (v := (nI 1)) hx hb dX0_stretch_44 (by decide) ?_
              exact kR _ _ _ _ _ _ (by rw [hm, mRun_9 hq hqn hn16 ho]; exact ⟨rfl, hR1⟩) hP hS dX0_stretch_45
          · refine lv_iconst (v := (nI 0)) hx hb dX0_stretch_26 (by decide) ?_
            exact kR _ _ _ _ _ _ (by rw [hm, mRun_out (Or.inr (Int32.not_lt.mp c23))]; exact ⟨rfl, hR1⟩) hP hS dX0_stretch_27
  refine lv_iconst (v := (nI 0)) hx hb dX0_stretch_0 (by decide) ?_
  refine lv_istore_n (lv' := [(1, .int (nI 0)), (0, .ref o)]) hx hb dX0_stretch_1 rfl hl (by decide) rfl (fun ls hl => ?_)
  have hl : lv_has ls 4 [(0, .ref o), (1, .int (nI 0))] := lv_sub hl [1, 0] rfl
  exact loop 60 0 d md rfl rfl hR _ _ ls hP hS hl
set_option maxHeartbeats 4000000 in
set_option maxRecDepth 100000 in
theorem met_dk_stretch (l : Launch) (D : va_G) (o : Nat) (ad : Nat → Nat) (cB cI : ClassId) (d : MS) {md : MS} {n K : Nat} (hR : RU d md n K) : dkMi l yX0_stretch cX0_stretch 4 (some .int) (rmk 4) D o ad cB cI [] d (fun r d' => r = (mRun n 60 md).1 ∧ RU d' (mRun n 60 md).2 n K) :=
  dk_meti (by decide) rfl (Nat.le_of_ble_eq_true rfl) (fun _ _ _ => rfl) (fun p e s m args below meth c ls Q E hP hl kR => wk_dk_stretch hR E hP hl kR)
end
section
/-! ReplayDesk: recall, keep, forget -/
theorem rcn_mono (pg : Nat → Nat) (p : Nat) : ∀ k i, i ≤ k → rcn pg p i ≤ rcn pg p k := by
  intro k
  induction k with
  | zero => intro i h; rw [Nat.le_zero.mp h]; exact Nat.le_refl _
  | succ k ih =>
    intro i h
    by_cases h1 : i = k + 1
    · rw [h1]; exact Nat.le_refl _
    · have := ih i (by omega)
      simp only [rcn]
      omega
def TakeR (d md : MS) (m : Nat) (kp : Nat → Nat) (K : Nat) (d' : MS) : Prop := (∀ k, k ≠ 5 → k ≠ 13 → k ≠ 14 → k ≠ 15 → k ≠ 16 → k ≠ 17 → d' k = d k) ∧ d' 13 0 = md 6 m ∧ d' 16 0 = md 7 m ∧ (∀ q, q < 4 → d' 14 q = md 8 (20 * m + q)) ∧ (∀ q, q < 4 → d' 15 q = nI (kp (m * 4 + q))) ∧ (∀ p, p < 56 → d' 5 p = nI (cs K kp p 12 + rcn (fun i => kp (m * 4 + i)) p 4)) ∧ ∀ q, q < 8 → d' 17 q = md 9 (8 * m + q)
theorem RU_take {d d' md : MS} {n K m : Nat} {kp : Nat → Nat} (hC : RC d md n K kp) (hm : m < 12) (hb : K.testBit m = true) (hf : ∃ mf, mf < 12 ∧ K.testBit mf = false) (h : TakeR d md m kp K d') : RU d' (mTake md m) n K := by
  obtain ⟨g, h13, h16, h14, h15, h5, h17⟩ := h
  have e4 := g 4 (by decide) (by decide) (by decide) (by decide) (by decide) (by decide)
  have hM := (hC.2.2.2 m hm hb).2.2.2.2.1
  refine ⟨kp, fun i => kp (m * 4 + i), RC_frame hC (fun k h1 h4 h5 => g k h5 (by omega) (by omega) (by omega) (by omega) (by omega)) (fun k h1 => ?_) (fun m _ _ i _ j _ => by rw [e4]), h5, hf, fun i hi => ⟨(hM i hi).1, h15 i hi, fun j hj => by rw [e4]; exact (hM i hi).2.2 j hj⟩, h14, h13, h16, h17⟩
  unfold mTake
  rw [if_neg (by omega), if_neg (by omega), if_neg (by omega), if_neg (by omega)]
def KeepR (d md : MS) (K m kd : Nat) (pg : Nat → Nat) (d' : MS) : Prop := d' 6 0 = nI (K ||| 2 ^ m) ∧ d' 7 = upd (d 7) m (nI kd) ∧ d' 8 = upd (d 8) m (md 10 0) ∧ d' 11 = upd (d 11) m (md 11 0) ∧ (∀ q, d' 9 q = if m * 4 ≤ q ∧ q < m * 4 + 4 then md 12 (q - m * 4) else d 9 q) ∧ (∀ q, d' 10 q = if m * 4 ≤ q ∧ q < m * 4 + 4 then nI (pg (q - m * 4)) else d 10 q) ∧ (∀ q, d' 12 q = if m * 8 ≤ q ∧ q < m * 8 + 8 then md 13 (q - m * 8) else d 12 q) ∧ ∀ k, k ≠ 6 → k ≠ 7 → k ≠ 8 → k ≠ 9 → k ≠ 10 → k ≠ 11 → k ≠ 12 → d' k = d k
theorem mKeep_lo {md : MS} {m : Nat} {kd : Int32} {k : Nat} (h : k < 4) : mKeep md m kd k = md k := by
  unfold mKeep
  rw [if_neg (by omega), if_neg (by omega), if_neg (by omega), if_neg (by omega), if_neg (by omega), if_neg (by omega)]
theorem RB_keep {d d' md : MS} {n K m kd : Nat} {kp pg : Nat → Nat} (hV : RV d md n K kp pg) (hm : m < 12) (hb : K.testBit m = false) (hk4 : kd < 4) (hkq : kd = 2 → ∃ q, q < n ∧ md 10 0 = nI q) (h : KeepR d md K m kd pg d') : RB d' (mKeep md m (nI kd)) n (K ||| 2 ^ m) := by
  obtain ⟨⟨⟨w1, w2, w3, w4, w5⟩, ⟨p1, p2⟩, hk6, hRM⟩, hO, hf, hp, hr, h13, h16, h17⟩ := hV
  obtain ⟨g6, g7, g8, g11, g9, g10, g12, g⟩ := h
  have e4 := g 4 (by decide) (by decide) (by decide) (by decide) (by decide) (by decide) (by decide)
  have e5 := g 5 (by decide) (by decide) (by decide) (by decide) (by decide) (by decide) (by decide)
  have e0 := g 0 (by decide) (by decide) (by decide) (by decide) (by decide) (by decide) (by decide)
  have e1 := g 1 (by decide) (by decide) (by decide) (by decide) (by decide) (by decide) (by decide)
  have e2 := g 2 (by decide) (by decide) (by decide) (by decide) (by decide) (by decide) (by decide)
  have e3 := g 3 (by decide) (by decide) (by decide) (by decide) (by decide) (by decide) (by decide)
  have m5 : mKeep md m (nI kd) 5 = upd (md 5) m (nI kd) := rfl
  have m6 : mKeep md m (nI kd) 6 = upd (md 6) m (md 10 0) := rfl
  have m7 : mKeep md m (nI kd) 7 = upd (md 7) m (md 11 0) := rfl
  have m8 : ∀ q, mKeep md m (nI kd) 8 q = if 20 * m ≤ q ∧ q < 20 * m + 20 then md 12 (q - 20 * m) else md 8 q := fun _ => rfl
  have m9 : ∀ q, mKeep md m (nI kd) 9 q = if 8 * m ≤ q ∧ q < 8 * m + 8 then md 13 (q - 8 * m) else md 9 q := fun _ => rfl
  refine ⟨fun q => if m * 4 ≤ q ∧ q < m * 4 + 4 then pg (q - m * 4) else kp q, ⟨⟨w1, w2, w3, set_lt w4 hm, fun j hj => ?_⟩, ⟨by rw [e3]; exact p1, by rw [e0, e1, e2]; exact p2⟩, g6, fun j hj hbj => ?_⟩, fun p hp56 => ?_⟩
  · show upd (md 4) m 1 j = _
    unfold upd
    rw [set_bit, w5 j hj]
    by_cases h1 : j = m
    · rw [if_pos h1, if_pos (by simp [h1])]
    · rw [if_neg h1]
      have : (K.testBit j || decide (m = j)) = K.testBit j := by rw [decide_eq_false (fun z : m = j => h1 z.symm), Bool.or_false]
      rw [this]
  · unfold RM
    rw [g7, g8, g11, m5, m6, m7, e4]
    by_cases h1 : j = m
    · subst h1
      refine ⟨by rw [pk_us, pk_us], by rw [pk_us, pk_us], by rw [pk_us, pk_us], fun i hi => ?_, fun i hi => ?_, fun k hk => ?_, ⟨kd, hk4, by rw [pk_us]⟩, fun z => ?_⟩
      · rw [g9, m8, if_pos ⟨by omega, by omega⟩, if_pos ⟨by omega, by omega⟩]
        congr 1
        omega
      · rw [g10, if_pos ⟨by omega, by omega⟩]
        simp only []
        rw [if_pos ⟨by omega, by omega⟩]
        have ei : j * 4 + i - j * 4 = i := by omega
        rw [ei]
        refine ⟨(hp i hi).1, rfl, fun jj hjj => ?_⟩
        rw [m8, if_pos ⟨by omega, by omega⟩, (hp i hi).2.2 jj hjj]
        congr 1
        omega
      · rw [g12, m9, if_pos ⟨by omega, by omega⟩, if_pos ⟨by omega, by omega⟩]
        have ei : j * 8 + k - j * 8 = k := by omega
        have ei2 : 8 * j + k - 8 * j = k := by omega
        rw [ei, ei2]
      · rw [pk_us] at z ⊢
        exact hkq ((nI_eq (by omega) (by omega)).mp z)
    · have hbj' : K.testBit j = true := by
        rw [set_bit, decide_eq_false (fun z : m = j => h1 z.symm), Bool.or_false] at hbj
        exact hbj
      obtain ⟨a1, a2, a3, a4, a5, a6, a7, a8⟩ := hRM j hj hbj'
      rw [pk_un h1, pk_un h1, pk_un h1, pk_un h1, pk_un h1, pk_un h1]
      refine ⟨a1, a2, a3, fun i hi => ?_, fun i hi => ?_, fun k hk => ?_, a7, a8⟩
      · rw [g9, m8, if_neg (by omega), if_neg (by omega)]
        exact a4 i hi
      · rw [g10, if_neg (by omega)]
        simp only []
        rw [if_neg (by omega)]
        refine ⟨(a5 i hi).1, (a5 i hi).2.1, fun jj hjj => ?_⟩
        rw [m8, if_neg (by omega)]
        exact (a5 i hi).2.2 jj hjj
      · rw [g12, m9, if_neg (by omega), if_neg (by omega)]
        exact a6 k hk
  · rw [e5, hO p hp56, cs_set hb, if_pos hm]
noncomputable def mForget (md : MS) (K : Nat) (x : Int32) : MS := cif (hasK K x) (va_up md 4 (upd (md 4) x.toNatClampNeg 0)) md
noncomputable def kForget (K : Nat) (x : Int32) : Nat := cif (hasK K x) (clr K x.toNatClampNeg) K
theorem RB_forget {d d' md : MS} {n K k : Nat} {kp : Nat → Nat} (hC : RC d md n K kp) (hk : k < 12) (hb : K.testBit k = true) (h6 : d' 6 0 = nI (clr K k)) (hf : ∀ j, j ≠ 5 → j ≠ 6 → d' j = d j) (h5 : ∀ p, p < 56 → d' 5 p = nI (cs K kp p 12 - rcn (fun i => kp (k * 4 + i)) p 4)) : RB d' (va_up md 4 (upd (md 4) k 0)) n (clr K k) := by
  obtain ⟨⟨w1, w2, w3, w4, w5⟩, ⟨p1, p2⟩, hk6, hRM⟩ := hC
  refine ⟨kp, ⟨⟨w1, w2, w3, clr_lt w4, fun j hj => ?_⟩, ⟨by rw [hf 3 (by decide) (by decide)]; exact p1, by rw [hf 0 (by decide) (by decide), hf 1 (by decide) (by decide), hf 2 (by decide) (by decide)]; exact p2⟩, h6, fun j hj hbj => ?_⟩, fun p hp => ?_⟩
  · rw [va_up_self, clr_bit hj]
    unfold upd
    by_cases h1 : j = k
    · rw [if_pos h1, if_neg (by simp [h1])]
    · have h2 : (K.testBit j && !(decide (k = j))) = K.testBit j := by rw [decide_eq_false (fun z : k = j => h1 z.symm), Bool.not_false, Bool.and_true]
      rw [if_neg h1, h2]
      exact w5 j hj
  · rw [clr_bit hj] at hbj
    have hbj' : K.testBit j = true := by simp at hbj; exact hbj.1
    have hM := hRM j hj hbj'
    unfold RM at hM ⊢
    rw [hf 7 (by decide) (by decide), hf 8 (by decide) (by decide), hf 11 (by decide) (by decide), hf 9 (by decide) (by decide), hf 10 (by decide) (by decide), hf 12 (by decide) (by decide), hf 4 (by decide) (by decide)]
    exact hM
  · rw [h5 p hp]
    have := cs_clr (K := K) (m := k) (kp := kp) (p := p) hb 12 (Nat.le_refl _)
    rw [if_pos hk] at this
    congr 1
    omega
set_option maxHeartbeats 4000000 in
set_option maxRecDepth 100000 in
theorem wk_dk_recall {p : Program} {l : Launch} {e : Env} {s : State} {m : MethodId} {args : Array Value} {below : List Frame} {meth : Method} {c : Code} {ls : Array Slot} {Q : State → Prop} {D : va_G} {o : Nat} {ad : Nat → Nat} {cB cI : ClassId} {d : MS} {md : MS} {n K i0 : Nat} (hR : RB d md n K) (hi0 : i0 < 12) (hbit : K.testBit i0 = true) (hfree : ∃ mf, mf < 12 ∧ K.testBit mf = false) (E : dkE D o ad cB cI p s m args c cX0_recall 3) (hP : va_P D vwCl (dk_w o ad cB cI d) s.heap) (hl : lv_has ls 3 [(0, .ref o), (1, .int (nI i0))]) (kR : dkKv D o ad cB cI p l e (rmk 0) s m args below meth c cX0_recall Q (fun d' => RU d' (mTake md i0) n K)) : W p l e (rmk 0) s m args below meth c s.heap [] 0 0 Q (F0 m 0 ls []) := by
  obtain ⟨hx, hb, -⟩ := id E
  have hS : va_S (dk_A o ad) s.heap s.heap [] := va_S.rf
  obtain ⟨kp, hC, hO⟩ := hR
  have hRM := hC.2.2.2 i0 hi0 hbit
  obtain ⟨-, r8, r11, r9, r10, r12, -, -⟩ := id hRM
  have loop2 : ∀ (n0 k : Nat) (d1 : MS), k + n0 = 8 → (∀ j, j ≠ 5 → j ≠ 13 → j ≠ 14 → j ≠ 15 → j ≠ 16 → j ≠ 17 → d1 j = d j) → d1 13 0 = md 6 i0 → d1 16 0 = md 7 i0 → (∀ q, q < 4 → d1 14 q = md 8 (20 * i0 + q)) → (∀ q, q < 4 → d1 15 q = nI (kp (i0 * 4 + q))) → (∀ p, p < 56 → d1 5 p = nI (cs K kp p 12 + rcn (fun i => kp (i0 * 4 + i)) p 4)) → (∀ q, q < k → d1 17 q = md 9 (8 * i0 + q)) → ∀ (H : Heap) (locs : List Loc) (ls : Array Slot), va_P D vwCl (dk_w o ad cB cI d1) H → va_S (dk_A o ad) s.heap H locs → lv_has ls 3 [(0, .ref o), (1, .int (nI i0)), (2, .int (nI k))] → W p l e (rmk 0) s m args below meth c H locs 0 0 Q (F0 m 83 ls []) := by
    intro n0
    induction n0 with
    | zero =>
      intro k d1 hkn hf h13 h16 h14 h15 h5 h17 H locs ls hP hS hl
      have hk0 : k = 8 := by omega
      subst hk0
      refine lv_iload_n hx hb dX0_recall_83 rfl (lv_at hl 2 rfl) ?_
      refine lv_bipush (v := (nI 8)) hx hb dX0_recall_84 (by decide) ?_
      refine nv_icmp_ge (tgt := 112) hx hb (by omega) (by omega) dX0_recall_86 (by decide) (fun c86 => ?_) (fun c86 => ?_)
      · exact kR _ _ _ _ _ (RU_take hC hi0 hbit hfree ⟨hf, h13, h16, h14, h15, h5, h17⟩) hP hS dX0_recall_112
      · exact absurd c86 (by omega)
    | succ n0 ih =>
      intro k d1 hkn hf h13 h16 h14 h15 h5 h17 H locs ls hP hS hl
      refine lv_iload_n hx hb dX0_recall_83 rfl (lv_at hl 2 rfl) ?_
      refine lv_bipush (v := (nI 8)) hx hb dX0_recall_84 (by decide) ?_
      refine nv_icmp_ge (tgt := 112) hx hb (by omega) (by omega) dX0_recall_86 (by decide) (fun c86 => ?_) (fun c86 => ?_)
      · exact absurd c86 (by omega)
      · refine lv_aload_n hx hb dX0_recall_89 rfl (lv_at hl 0 rfl) ?_
        refine dk_g17 E hP dX0_recall_90 ?_
        refine lv_iload_n hx hb dX0_recall_93 rfl (lv_at hl 2 rfl) ?_
        refine lv_aload_n hx hb dX0_recall_94 rfl (lv_at hl 0 rfl) ?_
        refine dk_g12 E hP dX0_recall_95 ?_
        refine lv_iload_n hx hb dX0_recall_98 rfl (lv_at hl 1 rfl) ?_
        refine lv_bipush (v := (nI 8)) hx hb dX0_recall_99 (by decide) ?_
        refine nv_imul hx hb dX0_recall_101 ?_
        refine lv_iload_n hx hb dX0_recall_102 rfl (lv_at hl 2 rfl) ?_
        refine nv_iadd hx hb dX0_recall_103 ?_
        refine dk_l12 E hP (x := (md 9 (8 * i0 + k))) (by rw [hf 12 (by decide) (by decide) (by decide) (by decide) (by decide) (by decide)]; exact r12 k (by omega)) (by omega) dX0_recall_104 ?_
        refine dk_s17 E hP hS (by omega) dX0_recall_105 (fun d101 H locs ed101 hP hS => ?_)
        refine nv_iinc (lv' := [(2, .int (nI (k + 1))), (0, .ref o), (1, .int (nI i0))]) hx hb 2 dX0_recall_106 hl rfl (by decide) rfl (fun ls hl => ?_)
        refine lv_goto (tgt := 83) hx hb dX0_recall_109 (by decide) ?_
        have hl : lv_has ls 3 [(0, .ref o), (1, .int (nI i0)), (2, .int (nI (k + 1)))] := lv_sub hl [1, 2, 0] rfl
        refine ih (k + 1) _ (by omega) (fun j a1 a2 a3 a4 a5 a6 => by rw [ed101, va_up_ne _ _ a6]; exact hf j a1 a2 a3 a4 a5 a6) (by rw [ed101, va_up_ne _ _ (by decide)]; exact h13) (by rw [ed101, va_up_ne _ _ (by decide)]; exact h16) (by rw [ed101, va_up_ne _ _ (by decide)]; exact h14) (by rw [ed101, va_up_ne _ _ (by decide)]; exact h15) (by rw [ed101, va_up_ne _ _ (by decide)]; exact h5) (fun q hq => ?_) H locs ls hP hS hl
        rw [ed101, va_up_self]
        unfold upd
        by_cases h1 : q = k
        · rw [if_pos h1, h1]
        · rw [if_neg h1]; exact h17 q (by omega)
  have loop1 : ∀ (n0 k : Nat) (d1 : MS), k + n0 = 4 → (∀ j, j ≠ 5 → j ≠ 13 → j ≠ 14 → j ≠ 15 → j ≠ 16 → j ≠ 17 → d1 j = d j) → d1 13 0 = md 6 i0 → d1 16 0 = md 7 i0 → (∀ q, q < k → d1 14 q = md 8 (20 * i0 + q)) → (∀ q, q < k → d1 15 q = nI (kp (i0 * 4 + q))) → (∀ p, p < 56 → d1 5 p = nI (cs K kp p 12 + rcn (fun i => kp (i0 * 4 + i)) p k)) → ∀ (H : Heap) (locs : List Loc) (ls : Array Slot), va_P D vwCl (dk_w o ad cB cI d1) H → va_S (dk_A o ad) s.heap H locs → lv_has ls 3 [(0, .ref o), (1, .int (nI i0)), (2, .int (nI k))] → W p l e (rmk 0) s m args below meth c H locs 0 0 Q (F0 m 22 ls []) := by
    intro n0
    induction n0 with
    | zero =>
      intro k d1 hkn hf h13 h16 h14 h15 h5 H locs ls hP hS hl
      have hk0 : k = 4 := by omega
      subst hk0
      refine lv_iload_n hx hb dX0_recall_22 rfl (lv_at hl 2 rfl) ?_
      refine lv_iconst (v := (nI 4)) hx hb dX0_recall_23 (by decide) ?_
      refine nv_icmp_ge (tgt := 81) hx hb (by omega) (by omega) dX0_recall_24 (by decide) (fun c24 => ?_) (fun c24 => ?_)
      · refine lv_iconst (v := (nI 0)) hx hb dX0_recall_81 (by decide) ?_
        refine lv_istore_n (lv' := [(2, .int (nI 0)), (0, .ref o), (1, .int (nI i0))]) hx hb dX0_recall_82 rfl hl (by decide) rfl (fun ls hl => ?_)
        have hl : lv_has ls 3 [(0, .ref o), (1, .int (nI i0)), (2, .int (nI 0))] := lv_sub hl [1, 2, 0] rfl
        exact loop2 8 0 d1 rfl hf h13 h16 h14 h15 h5 (fun q hq => absurd hq (by omega)) H locs ls hP hS hl
      · exact absurd c24 (by omega)
    | succ n0 ih =>
      intro k d1 hkn hf h13 h16 h14 h15 h5 H locs ls hP hS hl
      refine lv_iload_n hx hb dX0_recall_22 rfl (lv_at hl 2 rfl) ?_
      refine lv_iconst (v := (nI 4)) hx hb dX0_recall_23 (by decide) ?_
      refine nv_icmp_ge (tgt := 81) hx hb (by omega) (by omega) dX0_recall_24 (by decide) (fun c24 => ?_) (fun c24 => ?_)
      · exact absurd c24 (by omega)
      · obtain ⟨hp56, hp10, -⟩ := r10 k (by omega)
        have hc1 := cs_le K kp (kp (i0 * 4 + k)) 12
        have hc2 := rcn_le (fun i => kp (i0 * 4 + i)) (kp (i0 * 4 + k)) k
        refine lv_aload_n hx hb dX0_recall_27 rfl (lv_at hl 0 rfl) ?_
        refine dk_g14 E hP dX0_recall_28 ?_
        refine lv_iload_n hx hb dX0_recall_31 rfl (lv_at hl 2 rfl) ?_
        refine lv_aload_n hx hb dX0_recall_32 rfl (lv_at hl 0 rfl) ?_
        refine dk_g9 E hP dX0_recall_33 ?_
        refine lv_iload_n hx hb dX0_recall_36 rfl (lv_at hl 1 rfl) ?_
        refine lv_iconst (v := (nI 4)) hx hb dX0_recall_37 (by decide) ?_
        refine nv_imul hx hb dX0_recall_38 ?_
        refine lv_iload_n hx hb dX0_recall_39 rfl (lv_at hl 2 rfl) ?_
        refine nv_iadd hx hb dX0_recall_40 ?_
        refine dk_l9 E hP (x := (md 8 (20 * i0 + k))) (by rw [hf 9 (by decide) (by decide) (by decide) (by decide) (by decide) (by decide)]; exact r9 k (by omega)) (by omega) dX0_recall_41 ?_
        refine dk_s14 E hP hS (by omega) dX0_recall_42 (fun d102 H locs ed102 hP hS => ?_)
        refine lv_aload_n hx hb dX0_recall_43 rfl (lv_at hl 0 rfl) ?_
        refine dk_g15 E hP dX0_recall_44 ?_
        refine lv_iload_n hx hb dX0_recall_47 rfl (lv_at hl 2 rfl) ?_
        refine lv_aload_n hx hb dX0_recall_48 rfl (lv_at hl 0 rfl) ?_
        refine dk_g10 E hP dX0_recall_49 ?_
        refine lv_iload_n hx hb dX0_recall_52 rfl (lv_at hl 1 rfl) ?_
        refine lv_iconst (v := (nI 4)) hx hb dX0_recall_53 (by decide) ?_
        refine nv_imul hx hb dX0_recall_54 ?_
        refine lv_iload_n hx hb dX0_recall_55 rfl (lv_at hl 2 rfl) ?_
        refine nv_iadd hx hb dX0_recall_56 ?_
        refine dk_l10 E hP (x := (nI (kp (i0 * 4 + k)))) (by rw [ed102, va_up_ne _ _ (by decide), hf 10 (by decide) (by decide) (by decide) (by decide) (by decide) (by decide)]; exact hp10) (by omega) dX0_recall_57 ?_
        refine dk_s15 E hP hS (y := (nI (kp (i0 * 4 + k)))) (nb8 (by omega)) (by omega) dX0_recall_58 (fun d103 H locs ed103 hP hS => ?_)
        refine lv_aload_n hx hb dX0_recall_59 rfl (lv_at hl 0 rfl) ?_
        refine dk_g5 E hP dX0_recall_60 ?_
        refine lv_aload_n hx hb dX0_recall_63 rfl (lv_at hl 0 rfl) ?_
        refine dk_g15 E hP dX0_recall_64 ?_
        refine lv_iload_n hx hb dX0_recall_67 rfl (lv_at hl 2 rfl) ?_
        refine dk_l15 E hP (x := (nI (kp (i0 * 4 + k)))) (by rw [ed103, va_up_self, pk_us]) (by omega) dX0_recall_68 ?_
        refine lv_dup2_11 hx hb dX0_recall_69 rfl rfl ?_
        refine dk_l5 E hP (x := (nI (cs K kp (kp (i0 * 4 + k)) 12 + rcn (fun i => kp (i0 * 4 + i)) (kp (i0 * 4 + k)) k))) (by rw [ed103, va_up_ne _ _ (by decide), ed102, va_up_ne _ _ (by decide)]; exact h5 _ hp56) (by omega) dX0_recall_70 ?_
        refine lv_iconst (v := (nI 1)) hx hb dX0_recall_71 (by decide) ?_
        refine nv_iadd hx hb dX0_recall_72 ?_
        refine lv_i2b (v := (nI ((cs K kp (kp (i0 * 4 + k)) 12 + rcn (fun i => kp (i0 * 4 + i)) (kp (i0 * 4 + k)) k) + 1))) hx hb dX0_recall_73 (b8 (by omega)) ?_
        refine dk_s5 E hP hS (y := (nI ((cs K kp (kp (i0 * 4 + k)) 12 + rcn (fun i => kp (i0 * 4 + i)) (kp (i0 * 4 + k)) k) + 1))) (nb8 (by omega)) (by omega) dX0_recall_74 (fun d104 H locs ed104 hP hS => ?_)
        refine nv_iinc (lv' := [(2, .int (nI (k + 1))), (0, .ref o), (1, .int (nI i0))]) hx hb 2 dX0_recall_75 hl rfl (by decide) rfl (fun ls hl => ?_)
        refine lv_goto (tgt := 22) hx hb dX0_recall_78 (by decide) ?_
        have hl : lv_has ls 3 [(0, .ref o), (1, .int (nI i0)), (2, .int (nI (k + 1)))] := lv_sub hl [1, 2, 0] rfl
        refine ih (k + 1) _ (by omega) (fun j a1 a2 a3 a4 a5 a6 => by rw [ed104, va_up_ne _ _ a1, ed103, va_up_ne _ _ a4, ed102, va_up_ne _ _ a3]; exact hf j a1 a2 a3 a4 a5 a6) (by rw [ed104, va_up_ne _ _ (by decide), ed103, va_up_ne _ _ (by decide), ed102, va_up_ne _ _ (by decide)]; exact h13) (by rw [ed104, va_up_ne _ _ (by decide), ed103, va_up_ne _ _ (by decide), ed102, va_up_ne _ _ (by decide)]; exact h16) (fun q hq => ?_) (fun q hq => ?_) (fun p hp => ?_) H locs ls hP hS hl
        · rw [ed104, va_up_ne _ _ (by decide), ed103, va_up_ne _ _ (by decide), ed102, va_up_self]
          unfold upd
          by_cases h1 : q = k
          · rw [if_pos h1, h1]
          · rw [if_neg h1]; exact h14 q (by omega)
        · rw [ed104, va_up_ne _ _ (by decide), ed103, va_up_self]
          unfold upd
          by_cases h1 : q = k
          · rw [if_pos h1, h1]
          · rw [if_neg h1, ed102, va_up_ne _ _ (by decide)]; exact h15 q (by omega)
        · rw [ed104, va_up_self]
          unfold upd
          simp only [rcn]
          by_cases h1 : p = kp (i0 * 4 + k)
          · rw [if_pos h1, if_pos h1.symm, h1]; congr 1
          · rw [if_neg h1, if_neg (fun z => h1 z.symm), ed103, va_up_ne _ _ (by decide), ed102, va_up_ne _ _ (by decide)]; exact h5 p hp
  refine lv_aload_n hx hb dX0_recall_0 rfl (lv_at hl 0 rfl) ?_
  refine lv_aload_n hx hb dX0_recall_1 rfl (lv_at hl 0 rfl) ?_
  refine dk_g8 E hP dX0_recall_2 ?_
  refine lv_iload_n hx hb dX0_recall_5 rfl (lv_at hl 1 rfl) ?_
  refine dk_l8 E hP (x := (md 6 i0)) (r8) (by omega) dX0_recall_6 ?_
  refine dk_p13 E hP hS dX0_recall_7 (fun d105 H locs ed105 hP hS => ?_)
  refine lv_aload_n hx hb dX0_recall_10 rfl (lv_at hl 0 rfl) ?_
  refine lv_aload_n hx hb dX0_recall_11 rfl (lv_at hl 0 rfl) ?_
  refine dk_g11 E hP dX0_recall_12 ?_
  refine lv_iload_n hx hb dX0_recall_15 rfl (lv_at hl 1 rfl) ?_
  refine dk_l11 E hP (x := (md 7 i0)) (by rw [ed105, va_up_ne _ _ (by decide)]; exact r11) (by omega) dX0_recall_16 ?_
  refine dk_p16 E hP hS dX0_recall_17 (fun d106 H locs ed106 hP hS => ?_)
  refine lv_iconst (v := (nI 0)) hx hb dX0_recall_20 (by decide) ?_
  refine lv_istore_n (lv' := [(2, .int (nI 0)), (0, .ref o), (1, .int (nI i0))]) hx hb dX0_recall_21 rfl hl (by decide) rfl (fun ls hl => ?_)
  have hl : lv_has ls 3 [(0, .ref o), (1, .int (nI i0)), (2, .int (nI 0))] := lv_sub hl [1, 2, 0] rfl
  exact loop1 4 0 _ rfl (fun j a1 a2 a3 a4 a5 a6 => by rw [ed106, va_up_ne _ _ a5, ed105, va_up_ne _ _ a2]) (by rw [ed106, va_up_ne _ _ (by decide), ed105, va_up_self]) (by rw [ed106, va_up_self]) (fun q hq => absurd hq (by omega)) (fun q hq => absurd hq (by omega)) (by rw [ed106, va_up_ne _ _ (by decide), ed105, va_up_ne _ _ (by decide)]; exact hO) _ _ ls hP hS hl
set_option maxHeartbeats 4000000 in
set_option maxRecDepth 100000 in
theorem met_dk_recall (l : Launch) (D : va_G) (o : Nat) (ad : Nat → Nat) (cB cI : ClassId) (d : MS) {md : MS} {n K i0 : Nat} (hR : RB d md n K) (hi0 : i0 < 12) (hbit : K.testBit i0 = true) (hfree : ∃ mf, mf < 12 ∧ K.testBit mf = false) : dkMv l yX0_recall cX0_recall 3 none (rmk 0) D o ad cB cI [.int (nI i0)] d (fun d' => RU d' (mTake md i0) n K) :=
  dk_metv (by decide) rfl (Nat.le_of_ble_eq_true rfl) (fun p e s m args below meth c ls Q E hP hl kR => wk_dk_recall hR hi0 hbit hfree E hP hl kR)
set_option maxHeartbeats 4000000 in
set_option maxRecDepth 100000 in
theorem wk_dk_keep {p : Program} {l : Launch} {e : Env} {s : State} {m : MethodId} {args : Array Value} {below : List Frame} {meth : Method} {c : Code} {ls : Array Slot} {Q : State → Prop} {D : va_G} {o : Nat} {ad : Nat → Nat} {cB cI : ClassId} {d : MS} {md : MS} {n K i0 kd : Nat} (hR : RU d md n K) (hi0 : i0 < 12) (hbit : K.testBit i0 = false) (hkd : kd < 4) (hkq : kd = 2 → ∃ q, q < n ∧ md 10 0 = nI q) (E : dkE D o ad cB cI p s m args c cX0_keep 4) (hP : va_P D vwCl (dk_w o ad cB cI d) s.heap) (hl : lv_has ls 4 [(0, .ref o), (1, .int (nI i0)), (2, .int (nI kd))]) (kR : dkKv D o ad cB cI p l e (rmk 0) s m args below meth c cX0_keep Q (fun d' => RB d' (mKeep md i0 (nI kd)) n (K ||| 2 ^ i0))) : W p l e (rmk 0) s m args below meth c s.heap [] 0 0 Q (F0 m 0 ls []) := by
  obtain ⟨hx, hb, -⟩ := id E
  have hS : va_S (dk_A o ad) s.heap s.heap [] := va_S.rf
  obtain ⟨kp, pg, hV⟩ := hR
  have hV2 := hV
  obtain ⟨⟨-, -, hk6, -⟩, hO, -, hp, hr, h13, h16, h17⟩ := hV2
  have loop2 : ∀ (n0 k : Nat) (d1 : MS), k + n0 = 8 → d1 6 0 = nI (K ||| 2 ^ i0) → d1 7 = upd (d 7) i0 (nI kd) → d1 8 = upd (d 8) i0 (md 10 0) → d1 11 = upd (d 11) i0 (md 11 0) → (∀ q, d1 9 q = if i0 * 4 ≤ q ∧ q < i0 * 4 + 4 then md 12 (q - i0 * 4) else d 9 q) → (∀ q, d1 10 q = if i0 * 4 ≤ q ∧ q < i0 * 4 + 4 then nI (pg (q - i0 * 4)) else d 10 q) → (∀ j, j ≠ 6 → j ≠ 7 → j ≠ 8 → j ≠ 9 → j ≠ 10 → j ≠ 11 → j ≠ 12 → d1 j = d j) → (∀ q, d1 12 q = if i0 * 8 ≤ q ∧ q < i0 * 8 + k then md 13 (q - i0 * 8) else d 12 q) → ∀ (H : Heap) (locs : List Loc) (ls : Array Slot), va_P D vwCl (dk_w o ad cB cI d1) H → va_S (dk_A o ad) s.heap H locs → lv_has ls 4 [(0, .ref o), (1, .int (nI i0)), (2, .int (nI kd)), (3, .int (nI k))] → W p l e (rmk 0) s m args below meth c H locs 0 0 Q (F0 m 87 ls []) := by
    intro n0
    induction n0 with
    | zero =>
      intro k d1 hkn g6 g7 g8 g11 g9 g10 gf g12 H locs ls hP hS hl
      have hk0 : k = 8 := by omega
      subst hk0
      refine lv_iload_n hx hb dX0_keep_87 rfl (lv_at hl 3 rfl) ?_
      refine lv_bipush (v := (nI 8)) hx hb dX0_keep_88 (by decide) ?_
      refine nv_icmp_ge (tgt := 116) hx hb (by omega) (by omega) dX0_keep_90 (by decide) (fun c90 => ?_) (fun c90 => ?_)
      · exact kR _ _ _ _ _ (RB_keep hV hi0 hbit hkd hkq ⟨g6, g7, g8, g11, g9, g10, g12, gf⟩) hP hS dX0_keep_116
      · exact absurd c90 (by omega)
    | succ n0 ih =>
      intro k d1 hkn g6 g7 g8 g11 g9 g10 gf g12 H locs ls hP hS hl
      refine lv_iload_n hx hb dX0_keep_87 rfl (lv_at hl 3 rfl) ?_
      refine lv_bipush (v := (nI 8)) hx hb dX0_keep_88 (by decide) ?_
      refine nv_icmp_ge (tgt := 116) hx hb (by omega) (by omega) dX0_keep_90 (by decide) (fun c90 => ?_) (fun c90 => ?_)
      · exact absurd c90 (by omega)
      · refine lv_aload_n hx hb dX0_keep_93 rfl (lv_at hl 0 rfl) ?_
        refine dk_g12 E hP dX0_keep_94 ?_
        refine lv_iload_n hx hb dX0_keep_97 rfl (lv_at hl 1 rfl) ?_
        refine lv_bipush (v := (nI 8)) hx hb dX0_keep_98 (by decide) ?_
        refine nv_imul hx hb dX0_keep_100 ?_
        refine lv_iload_n hx hb dX0_keep_101 rfl (lv_at hl 3 rfl) ?_
        refine nv_iadd hx hb dX0_keep_102 ?_
        refine lv_aload_n hx hb dX0_keep_103 rfl (lv_at hl 0 rfl) ?_
        refine dk_g17 E hP dX0_keep_104 ?_
        refine lv_iload_n hx hb dX0_keep_107 rfl (lv_at hl 3 rfl) ?_
        refine dk_l17 E hP (x := (md 13 k)) (by rw [gf 17 (by decide) (by decide) (by decide) (by decide) (by decide) (by decide) (by decide)]; exact h17 k (by omega)) (by omega) dX0_keep_108 ?_
        refine dk_s12 E hP hS (by omega) dX0_keep_109 (fun d107 H locs ed107 hP hS => ?_)
        refine nv_iinc (lv' := [(3, .int (nI (k + 1))), (0, .ref o), (1, .int (nI i0)), (2, .int (nI kd))]) hx hb 3 dX0_keep_110 hl rfl (by decide) rfl (fun ls hl => ?_)
        refine lv_goto (tgt := 87) hx hb dX0_keep_113 (by decide) ?_
        have hl : lv_has ls 4 [(0, .ref o), (1, .int (nI i0)), (2, .int (nI kd)), (3, .int (nI (k + 1)))] := lv_sub hl [1, 2, 3, 0] rfl
        refine ih (k + 1) _ (by omega) (by rw [ed107, va_up_ne _ _ (by decide)]; exact g6) (by rw [ed107, va_up_ne _ _ (by decide)]; exact g7) (by rw [ed107, va_up_ne _ _ (by decide)]; exact g8) (by rw [ed107, va_up_ne _ _ (by decide)]; exact g11) (by rw [ed107, va_up_ne _ _ (by decide)]; exact g9) (by rw [ed107, va_up_ne _ _ (by decide)]; exact g10) (fun j a1 a2 a3 a4 a5 a6 a7 => by rw [ed107, va_up_ne _ _ a7]; exact gf j a1 a2 a3 a4 a5 a6 a7) (fun q => ?_) H locs ls hP hS hl
        rw [ed107, va_up_self]
        unfold upd
        rw [g12 q]
        by_cases h1 : q = i0 * 8 + k
        · rw [if_pos h1, if_pos ⟨by omega, by omega⟩]; congr 1; omega
        · rw [if_neg h1]
          by_cases h2 : i0 * 8 ≤ q ∧ q < i0 * 8 + k
          · rw [if_pos h2, if_pos ⟨by omega, by omega⟩]
          · rw [if_neg h2, if_neg (by omega)]
  have loop1 : ∀ (n0 k : Nat) (d1 : MS), k + n0 = 4 → d1 6 0 = nI (K ||| 2 ^ i0) → d1 7 = upd (d 7) i0 (nI kd) → d1 8 = upd (d 8) i0 (md 10 0) → d1 11 = upd (d 11) i0 (md 11 0) → (∀ q, d1 9 q = if i0 * 4 ≤ q ∧ q < i0 * 4 + k then md 12 (q - i0 * 4) else d 9 q) → (∀ q, d1 10 q = if i0 * 4 ≤ q ∧ q < i0 * 4 + k then nI (pg (q - i0 * 4)) else d 10 q) → (∀ j, j ≠ 6 → j ≠ 7 → j ≠ 8 → j ≠ 9 → j ≠ 10 → j ≠ 11 → j ≠ 12 → d1 j = d j) → d1 12 = d 12 → ∀ (H : Heap) (locs : List Loc) (ls : Array Slot), va_P D vwCl (dk_w o ad cB cI d1) H → va_S (dk_A o ad) s.heap H locs → lv_has ls 4 [(0, .ref o), (1, .int (nI i0)), (2, .int (nI kd)), (3, .int (nI k))] → W p l e (rmk 0) s m args below meth c H locs 0 0 Q (F0 m 42 ls []) := by
    intro n0
    induction n0 with
    | zero =>
      intro k d1 hkn g6 g7 g8 g11 g9 g10 gf g12 H locs ls hP hS hl
      have hk0 : k = 4 := by omega
      subst hk0
      refine lv_iload_n hx hb dX0_keep_42 rfl (lv_at hl 3 rfl) ?_
      refine lv_iconst (v := (nI 4)) hx hb dX0_keep_43 (by decide) ?_
      refine nv_icmp_ge (tgt := 85) hx hb (by omega) (by omega) dX0_keep_44 (by decide) (fun c44 => ?_) (fun c44 => ?_)
      · refine lv_iconst (v := (nI 0)) hx hb dX0_keep_85 (by decide) ?_
        refine lv_istore_n (lv' := [(3, .int (nI 0)), (0, .ref o), (1, .int (nI i0)), (2, .int (nI kd))]) hx hb dX0_keep_86 rfl hl (by decide) rfl (fun ls hl => ?_)
        have hl : lv_has ls 4 [(0, .ref o), (1, .int (nI i0)), (2, .int (nI kd)), (3, .int (nI 0))] := lv_sub hl [1, 2, 3, 0] rfl
        exact loop2 8 0 d1 rfl g6 g7 g8 g11 g9 g10 gf (fun q => by rw [if_neg (by omega)]; exact congrFun g12 q) H locs ls hP hS hl
      · exact absurd c44 (by omega)
    | succ n0 ih =>
      intro k d1 hkn g6 g7 g8 g11 g9 g10 gf g12 H locs ls hP hS hl
      refine lv_iload_n hx hb dX0_keep_42 rfl (lv_at hl 3 rfl) ?_
      refine lv_iconst (v := (nI 4)) hx hb dX0_keep_43 (by decide) ?_
      refine nv_icmp_ge (tgt := 85) hx hb (by omega) (by omega) dX0_keep_44 (by decide) (fun c44 => ?_) (fun c44 => ?_)
      · exact absurd c44 (by omega)
      · obtain ⟨hp56, hp15, -⟩ := hp k (by omega)
        refine lv_aload_n hx hb dX0_keep_47 rfl (lv_at hl 0 rfl) ?_
        refine dk_g9 E hP dX0_keep_48 ?_
        refine lv_iload_n hx hb dX0_keep_51 rfl (lv_at hl 1 rfl) ?_
        refine lv_iconst (v := (nI 4)) hx hb dX0_keep_52 (by decide) ?_
        refine nv_imul hx hb dX0_keep_53 ?_
        refine lv_iload_n hx hb dX0_keep_54 rfl (lv_at hl 3 rfl) ?_
        refine nv_iadd hx hb dX0_keep_55 ?_
        refine lv_aload_n hx hb dX0_keep_56 rfl (lv_at hl 0 rfl) ?_
        refine dk_g14 E hP dX0_keep_57 ?_
        refine lv_iload_n hx hb dX0_keep_60 rfl (lv_at hl 3 rfl) ?_
        refine dk_l14 E hP (x := (md 12 k)) (by rw [gf 14 (by decide) (by decide) (by decide) (by decide) (by decide) (by decide) (by decide)]; exact hr k (by omega)) (by omega) dX0_keep_61 ?_
        refine dk_s9 E hP hS (by omega) dX0_keep_62 (fun d108 H locs ed108 hP hS => ?_)
        refine lv_aload_n hx hb dX0_keep_63 rfl (lv_at hl 0 rfl) ?_
        refine dk_g10 E hP dX0_keep_64 ?_
        refine lv_iload_n hx hb dX0_keep_67 rfl (lv_at hl 1 rfl) ?_
        refine lv_iconst (v := (nI 4)) hx hb dX0_keep_68 (by decide) ?_
        refine nv_imul hx hb dX0_keep_69 ?_
        refine lv_iload_n hx hb dX0_keep_70 rfl (lv_at hl 3 rfl) ?_
        refine nv_iadd hx hb dX0_keep_71 ?_
        refine lv_aload_n hx hb dX0_keep_72 rfl (lv_at hl 0 rfl) ?_
        refine dk_g15 E hP dX0_keep_73 ?_
        refine lv_iload_n hx hb dX0_keep_76 rfl (lv_at hl 3 rfl) ?_
        refine dk_l15 E hP (x := (nI (pg k))) (by rw [ed108, va_up_ne _ _ (by decide), gf 15 (by decide) (by decide) (by decide) (by decide) (by decide) (by decide) (by decide)]; exact hp15) (by omega) dX0_keep_77 ?_
        refine dk_s10 E hP hS (y := (nI (pg k))) (nb8 (by omega)) (by omega) dX0_keep_78 (fun d109 H locs ed109 hP hS => ?_)
        refine nv_iinc (lv' := [(3, .int (nI (k + 1))), (0, .ref o), (1, .int (nI i0)), (2, .int (nI kd))]) hx hb 3 dX0_keep_79 hl rfl (by decide) rfl (fun ls hl => ?_)
        refine lv_goto (tgt := 42) hx hb dX0_keep_82 (by decide) ?_
        have hl : lv_has ls 4 [(0, .ref o), (1, .int (nI i0)), (2, .int (nI kd)), (3, .int (nI (k + 1)))] := lv_sub hl [1, 2, 3, 0] rfl
        refine ih (k + 1) _ (by omega) (by rw [ed109, va_up_ne _ _ (by decide), ed108, va_up_ne _ _ (by decide)]; exact g6) (by rw [ed109, va_up_ne _ _ (by decide), ed108, va_up_ne _ _ (by decide)]; exact g7) (by rw [ed109, va_up_ne _ _ (by decide), ed108, va_up_ne _ _ (by decide)]; exact g8) (by rw [ed109, va_up_ne _ _ (by decide), ed108, va_up_ne _ _ (by decide)]; exact g11) (fun q => ?_) (fun q => ?_) (fun j a1 a2 a3 a4 a5 a6 a7 => by rw [ed109, va_up_ne _ _ a5, ed108, va_up_ne _ _ a4]; exact gf j a1 a2 a3 a4 a5 a6 a7) (by rw [ed109, va_up_ne _ _ (by decide), ed108, va_up_ne _ _ (by decide)]; exact g12) H locs ls hP hS hl
        · rw [ed109, va_up_ne _ _ (by decide), ed108, va_up_self]
          unfold upd
          rw [g9 q]
          by_cases h1 : q = i0 * 4 + k
          · rw [if_pos h1, if_pos ⟨by omega, by omega⟩]; congr 1; omega
          · rw [if_neg h1]
            by_cases h2 : i0 * 4 ≤ q ∧ q < i0 * 4 + k
            · rw [if_pos h2, if_pos ⟨by omega, by omega⟩]
            · rw [if_neg h2, if_neg (by omega)]
        · rw [ed109, va_up_self]
          unfold upd
          rw [ed108, va_up_ne _ _ (by decide), g10 q]
          by_cases h1 : q = i0 * 4 + k
          · rw [if_pos h1, if_pos ⟨by omega, by omega⟩]; congr 2; omega
          · rw [if_neg h1]
            by_cases h2 : i0 * 4 ≤ q ∧ q < i0 * 4 + k
            · rw [if_pos h2, if_pos ⟨by omega, by omega⟩]
            · rw [if_neg h2, if_neg (by omega)]
  refine lv_aload_n hx hb dX0_keep_0 rfl (lv_at hl 0 rfl) ?_
  refine lv_dup hx hb dX0_keep_1 rfl ?_
  refine dk_g6 E hP dX0_keep_2 ?_
  refine tp (y := (nI K)) (hk6) ?_
  refine lv_iconst (v := (nI 1)) hx hb dX0_keep_5 (by decide) ?_
  refine lv_iload_n hx hb dX0_keep_6 rfl (lv_at hl 1 rfl) ?_
  refine lv_ishl hx hb dX0_keep_7 ?_
  refine lv_ior hx hb dX0_keep_8 ?_
  refine tp (y := (nI (K ||| 2 ^ i0))) (bit_set hi0) ?_
  refine dk_p6 E hP hS dX0_keep_9 (fun d110 H locs ed110 hP hS => ?_)
  refine lv_aload_n hx hb dX0_keep_12 rfl (lv_at hl 0 rfl) ?_
  refine dk_g7 E hP dX0_keep_13 ?_
  refine lv_iload_n hx hb dX0_keep_16 rfl (lv_at hl 1 rfl) ?_
  refine lv_iload_n hx hb dX0_keep_17 rfl (lv_at hl 2 rfl) ?_
  refine lv_i2b (v := (nI kd)) hx hb dX0_keep_18 (b8 (by omega)) ?_
  refine dk_s7 E hP hS (y := (nI kd)) (nb8 (by omega)) (by omega) dX0_keep_19 (fun d111 H locs ed111 hP hS => ?_)
  refine lv_aload_n hx hb dX0_keep_20 rfl (lv_at hl 0 rfl) ?_
  refine dk_g8 E hP dX0_keep_21 ?_
  refine lv_iload_n hx hb dX0_keep_24 rfl (lv_at hl 1 rfl) ?_
  refine lv_aload_n hx hb dX0_keep_25 rfl (lv_at hl 0 rfl) ?_
  refine dk_g13 E hP dX0_keep_26 ?_
  refine tp (y := (md 10 0)) (by rw [ed111, va_up_ne _ _ (by decide), ed110, va_up_ne _ _ (by decide)]; exact h13) ?_
  refine dk_s8 E hP hS (by omega) dX0_keep_29 (fun d112 H locs ed112 hP hS => ?_)
  refine lv_aload_n hx hb dX0_keep_30 rfl (lv_at hl 0 rfl) ?_
  refine dk_g11 E hP dX0_keep_31 ?_
  refine lv_iload_n hx hb dX0_keep_34 rfl (lv_at hl 1 rfl) ?_
  refine lv_aload_n hx hb dX0_keep_35 rfl (lv_at hl 0 rfl) ?_
  refine dk_g16 E hP dX0_keep_36 ?_
  refine tp (y := (md 11 0)) (by rw [ed112, va_up_ne _ _ (by decide), ed111, va_up_ne _ _ (by decide), ed110, va_up_ne _ _ (by decide)]; exact h16) ?_
  refine dk_s11 E hP hS (by omega) dX0_keep_39 (fun d113 H locs ed113 hP hS => ?_)
  refine lv_iconst (v := (nI 0)) hx hb dX0_keep_40 (by decide) ?_
  refine lv_istore_n (lv' := [(3, .int (nI 0)), (0, .ref o), (1, .int (nI i0)), (2, .int (nI kd))]) hx hb dX0_keep_41 rfl hl (by decide) rfl (fun ls hl => ?_)
  have hl : lv_has ls 4 [(0, .ref o), (1, .int (nI i0)), (2, .int (nI kd)), (3, .int (nI 0))] := lv_sub hl [1, 2, 3, 0] rfl
  exact loop1 4 0 _ rfl (by rw [ed113, va_up_ne _ _ (by decide), ed112, va_up_ne _ _ (by decide), ed111, va_up_ne _ _ (by decide), ed110, va_up_self]) (by rw [ed113, va_up_ne _ _ (by decide), ed112, va_up_ne _ _ (by decide), ed111, va_up_self, ed110, va_up_ne _ _ (by decide)]) (by rw [ed113, va_up_ne _ _ (by decide), ed112, va_up_self, ed111, va_up_ne _ _ (by decide), ed110, va_up_ne _ _ (by decide)]) (by rw [ed113, va_up_self, ed112, va_up_ne _ _ (by decide), ed111, va_up_ne _ _ (by decide), ed110, va_up_ne _ _ (by decide)]) (fun q => by rw [if_neg (by omega), ed113, va_up_ne _ _ (by decide), ed112, va_up_ne _ _ (by decide), ed111, va_up_ne _ _ (by decide), ed110, va_up_ne _ _ (by decide)]) (fun q => by rw [if_neg (by omega), ed113, va_up_ne _ _ (by decide), ed112, va_up_ne _ _ (by decide), ed111, va_up_ne _ _ (by decide), ed110, va_up_ne _ _ (by decide)]) (fun j a1 a2 a3 a4 a5 a6 a7 => by rw [ed113, va_up_ne _ _ a6, ed112, va_up_ne _ _ a3, ed111, va_up_ne _ _ a2, ed110, va_up_ne _ _ a1]) (by rw [ed113, va_up_ne _ _ (by decide), ed112, va_up_ne _ _ (by decide), ed111, va_up_ne _ _ (by decide), ed110, va_up_ne _ _ (by decide)]) _ _ ls hP hS hl
set_option maxHeartbeats 4000000 in
set_option maxRecDepth 100000 in
theorem met_dk_keep (l : Launch) (D : va_G) (o : Nat) (ad : Nat → Nat) (cB cI : ClassId) (d : MS) {md : MS} {n K i0 kd : Nat} (hR : RU d md n K) (hi0 : i0 < 12) (hbit : K.testBit i0 = false) (hkd : kd < 4) (hkq : kd = 2 → ∃ q, q < n ∧ md 10 0 = nI q) : dkMv l yX0_keep cX0_keep 4 none (rmk 0) D o ad cB cI [.int (nI i0), .int (nI kd)] d (fun d' => RB d' (mKeep md i0 (nI kd)) n (K ||| 2 ^ i0)) :=
  dk_metv (by decide) rfl (Nat.le_of_ble_eq_true rfl) (fun p e s m args below meth c ls Q E hP hl kR => wk_dk_keep hR hi0 hbit hkd hkq E hP hl kR)
set_option maxHeartbeats 4000000 in
set_option maxRecDepth 100000 in
theorem wk_dk_forget {p : Program} {l : Launch} {e : Env} {s : State} {m : MethodId} {args : Array Value} {below : List Frame} {meth : Method} {c : Code} {ls : Array Slot} {Q : State → Prop} {D : va_G} {o : Nat} {ad : Nat → Nat} {cB cI : ClassId} {d : MS} {md : MS} {n K : Nat} {x : Int32} (hR : RB d md n K) (E : dkE D o ad cB cI p s m args c cX0_forget 3) (hP : va_P D vwCl (dk_w o ad cB cI d) s.heap) (hl : lv_has ls 3 [(0, .ref o), (1, .int x)]) (kR : dkKi D o ad cB cI p l e (rmk 1) s m args below meth c cX0_forget Q (fun r d' => r = cif (hasK K x) 1 0 ∧ RB d' (mForget md K x) n (kForget K x))) : W p l e (rmk 1) s m args below meth c s.heap [] 0 0 Q (F0 m 0 ls []) := by
  obtain ⟨hx, hb, -⟩ := id E
  have hS : va_S (dk_A o ad) s.heap s.heap [] := va_S.rf
  have hR0 := hR
  obtain ⟨kp, hC, hO⟩ := hR
  have hC2 := hC
  obtain ⟨⟨-, -, -, hK, -⟩, -, hk6, hRM⟩ := hC2
  refine lv_aload_n hx hb dX0_forget_0 rfl (lv_at hl 0 rfl) ?_
  refine lv_iload_n hx hb dX0_forget_1 rfl (lv_at hl 1 rfl) ?_
  refine dk_calli (As := [.int x]) (rest := []) E hP hS (met_dk_has l D o ad cB cI d hK hk6) (cwV 1 E.2.2.1 (lw_V q98 q100 qs0 q19 q101) rfl rfl rfl (by decide +kernel) ⟨by decide, by decide⟩) rfl hl.1 rfl (Nat.le_of_ble_eq_true rfl) ⟨Nat.zero_le _, Nat.zero_le _⟩ dX0_forget_2 (fun r115 d114 H locs hpd114 hP hS => ?_)
  obtain ⟨e0, hh⟩ := hpd114
  rw [e0] at hP
  refine lv_if_ne (tgt := 10) hx hb dX0_forget_5 (by decide) (fun c5 => ?_) (fun c5 => ?_)
  · obtain ⟨i0, hi0, rfl, hbit⟩ := hh.ne c5
    obtain ⟨-, -, -, -, r10, -, -, -⟩ := hRM i0 hi0 hbit
    skip
    have loop : ∀ (n0 k : Nat) (d1 : MS), k + n0 = 4 → d1 6 0 = nI (clr K i0) → (∀ j, j ≠ 5 → j ≠ 6 → d1 j = d j) → (∀ p, p < 56 → d1 5 p = nI (cs K kp p 12 - rcn (fun i => kp (i0 * 4 + i)) p k)) → ∀ (H : Heap) (locs : List Loc) (ls : Array Slot), va_P D vwCl (dk_w o ad cB cI d1) H → va_S (dk_A o ad) s.heap H locs → lv_has ls 3 [(0, .ref o), (1, .int (nI i0)), (2, .int (nI k))] → W p l e (rmk 1) s m args below meth c H locs 0 0 Q (F0 m 26 ls []) := by
      intro n0
      induction n0 with
      | zero =>
        intro k d1 hkn g6 gf g5 H locs ls hP hS hl
        have hk0 : k = 4 := by omega
        subst hk0
        refine lv_iload_n hx hb dX0_forget_26 rfl (lv_at hl 2 rfl) ?_
        refine lv_iconst (v := (nI 4)) hx hb dX0_forget_27 (by decide) ?_
        refine nv_icmp_ge (tgt := 57) hx hb (by omega) (by omega) dX0_forget_28 (by decide) (fun c28 => ?_) (fun c28 => ?_)
        · refine lv_iconst (v := (nI 1)) hx hb dX0_forget_57 (by decide) ?_
          exact kR _ _ _ _ _ _ (⟨(cif_pos (hasK_nI hi0 hbit)).symm, by unfold mForget kForget; rw [cif_pos (hasK_nI hi0 hbit), cif_pos (hasK_nI hi0 hbit), nI_clamp (by omega)]; exact RB_forget hC hi0 hbit g6 gf g5⟩) hP hS dX0_forget_58
        · exact absurd c28 (by omega)
      | succ n0 ih =>
        intro k d1 hkn g6 gf g5 H locs ls hP hS hl
        refine lv_iload_n hx hb dX0_forget_26 rfl (lv_at hl 2 rfl) ?_
        refine lv_iconst (v := (nI 4)) hx hb dX0_forget_27 (by decide) ?_
        refine nv_icmp_ge (tgt := 57) hx hb (by omega) (by omega) dX0_forget_28 (by decide) (fun c28 => ?_) (fun c28 => ?_)
        · exact absurd c28 (by omega)
        · obtain ⟨hp56, hp10, -⟩ := r10 k (by omega)
          have hc1 := cs_le K kp (kp (i0 * 4 + k)) 12
          have hc2 := cs_clr (K := K) (m := i0) (kp := kp) (p := kp (i0 * 4 + k)) hbit 12 (Nat.le_refl _)
          rw [if_pos hi0] at hc2
          have hc3 := rcn_mono (fun i => kp (i0 * 4 + i)) (kp (i0 * 4 + k)) 4 (k + 1) (by omega)
          have hc4 : rcn (fun i => kp (i0 * 4 + i)) (kp (i0 * 4 + k)) (k + 1) = rcn (fun i => kp (i0 * 4 + i)) (kp (i0 * 4 + k)) k + 1 := by
            show rcn (fun i => kp (i0 * 4 + i)) (kp (i0 * 4 + k)) k + (if kp (i0 * 4 + k) = kp (i0 * 4 + k) then 1 else 0) = _
            rw [if_pos rfl]
          refine lv_aload_n hx hb dX0_forget_31 rfl (lv_at hl 0 rfl) ?_
          refine dk_g5 E hP dX0_forget_32 ?_
          refine lv_aload_n hx hb dX0_forget_35 rfl (lv_at hl 0 rfl) ?_
          refine dk_g10 E hP dX0_forget_36 ?_
          refine lv_iload_n hx hb dX0_forget_39 rfl (lv_at hl 1 rfl) ?_
          refine lv_iconst (v := (nI 4)) hx hb dX0_forget_40 (by decide) ?_
          refine nv_imul hx hb dX0_forget_41 ?_
          refine lv_iload_n hx hb dX0_forget_42 rfl (lv_at hl 2 rfl) ?_
          refine nv_iadd hx hb dX0_forget_43 ?_
          refine dk_l10 E hP (x := (nI (kp (i0 * 4 + k)))) (by rw [gf 10 (by decide) (by decide)]; exact hp10) (by omega) dX0_forget_44 ?_
          refine lv_dup2_11 hx hb dX0_forget_45 rfl rfl ?_
          refine dk_l5 E hP (x := (nI (cs K kp (kp (i0 * 4 + k)) 12 - rcn (fun i => kp (i0 * 4 + i)) (kp (i0 * 4 + k)) k))) (g5 _ hp56) (by omega) dX0_forget_46 ?_
          refine lv_iconst (v := (nI 1)) hx hb dX0_forget_47 (by decide) ?_
          refine nv_isub hx hb (by omega) dX0_forget_48 ?_
          refine lv_i2b (v := (nI ((cs K kp (kp (i0 * 4 + k)) 12 - rcn (fun i => kp (i0 * 4 + i)) (kp (i0 * 4 + k)) k) - 1))) hx hb dX0_forget_49 (b8 (by omega)) ?_
          refine dk_s5 E hP hS (y := (nI ((cs K kp (kp (i0 * 4 + k)) 12 - rcn (fun i => kp (i0 * 4 + i)) (kp (i0 * 4 + k)) k) - 1))) (nb8 (by omega)) (by omega) dX0_forget_50 (fun d116 H locs ed116 hP hS => ?_)
          refine nv_iinc (lv' := [(2, .int (nI (k + 1))), (0, .ref o), (1, .int (nI i0))]) hx hb 2 dX0_forget_51 hl rfl (by decide) rfl (fun ls hl => ?_)
          refine lv_goto (tgt := 26) hx hb dX0_forget_54 (by decide) ?_
          have hl : lv_has ls 3 [(0, .ref o), (1, .int (nI i0)), (2, .int (nI (k + 1)))] := lv_sub hl [1, 2, 0] rfl
          refine ih (k + 1) _ (by omega) (by rw [ed116, va_up_ne _ _ (by decide)]; exact g6) (fun j a1 a2 => by rw [ed116, va_up_ne _ _ a1]; exact gf j a1 a2) (fun p hp => ?_) H locs ls hP hS hl
          rw [ed116, va_up_self]
          unfold upd
          by_cases h1 : p = kp (i0 * 4 + k)
          · rw [if_pos h1, h1, hc4]; congr 1
          · rw [if_neg h1, g5 p hp]; simp only [rcn]; rw [if_neg (fun z => h1 z.symm)]; rfl
    refine lv_aload_n hx hb dX0_forget_10 rfl (lv_at hl 0 rfl) ?_
    refine lv_dup hx hb dX0_forget_11 rfl ?_
    refine dk_g6 E hP dX0_forget_12 ?_
    refine tp (y := (nI K)) (hk6) ?_
    refine lv_iconst (v := (nI 1)) hx hb dX0_forget_15 (by decide) ?_
    refine lv_iload_n hx hb dX0_forget_16 rfl (lv_at hl 1 rfl) ?_
    refine lv_ishl hx hb dX0_forget_17 ?_
    refine lv_iconst (v := (-1)) hx hb dX0_forget_18 (by decide) ?_
    refine lv_ixor hx hb dX0_forget_19 ?_
    refine lv_iand hx hb dX0_forget_20 ?_
    refine tp (y := (nI (clr K i0))) (bit_clr hi0) ?_
    refine dk_p6 E hP hS dX0_forget_21 (fun d117 H locs ed117 hP hS => ?_)
    refine lv_iconst (v := (nI 0)) hx hb dX0_forget_24 (by decide) ?_
    refine lv_istore_n (lv' := [(2, .int (nI 0)), (0, .ref o), (1, .int (nI i0))]) hx hb dX0_forget_25 rfl hl (by decide) rfl (fun ls hl => ?_)
    have hl : lv_has ls 3 [(0, .ref o), (1, .int (nI i0)), (2, .int (nI 0))] := lv_sub hl [1, 2, 0] rfl
    exact loop 4 0 _ rfl (by rw [ed117, va_up_self]) (fun j a1 a2 => by rw [ed117, va_up_ne _ _ a2]) (by rw [ed117, va_up_ne _ _ (by decide)]; exact hO) _ _ ls hP hS hl
  · refine lv_iconst (v := (nI 0)) hx hb dX0_forget_8 (by decide) ?_
    exact kR _ _ _ _ _ _ (⟨(cif_neg (hh.eq c5)).symm, by unfold mForget kForget; rw [cif_neg (hh.eq c5), cif_neg (hh.eq c5)]; exact hR0⟩) hP hS dX0_forget_9
set_option maxHeartbeats 4000000 in
set_option maxRecDepth 100000 in
theorem met_dk_forget (l : Launch) (D : va_G) (o : Nat) (ad : Nat → Nat) (cB cI : ClassId) (d : MS) {md : MS} {n K : Nat} {x : Int32} (hR : RB d md n K) : dkMi l yX0_forget cX0_forget 3 (some .boolean) (rmk 1) D o ad cB cI [.int x] d (fun r d' => r = cif (hasK K x) 1 0 ∧ RB d' (mForget md K x) n (kForget K x)) :=
  dk_meti (by decide) rfl (Nat.le_of_ble_eq_true rfl) (fun r d' h => by rw [h.1]; unfold cif; split <;> rfl) (fun p e s m args below meth c ls Q E hP hl kR => wk_dk_forget hR E hP hl kR)
end
section
/-! ReplayDesk: forgetAll, clear, start, answer, goOn, emit -/
def GoR (K n : Nat) (md mdX : MS) (r : Int32) (P : MS → Nat → Prop) : Prop := (rm_ K.testBit 12 0 = none ∧ r = -2 ∧ P md K) ∨ ∃ m, m < 12 ∧ rm_ K.testBit 12 0 = some m ∧ r = nI m ∧ P (mGo mdX n m) (K ||| 2 ^ m)
def isK (K : Nat) (md : MS) (x kd : Int32) : Prop := ∃ k, k < 12 ∧ x = nI k ∧ K.testBit k = true ∧ md 5 k = kd
def AsR (K n : Nat) (md : MS) (x kd : Int32) (f : Nat → MS) (r : Int32) (P : MS → Nat → Prop) : Prop := (¬ isK K md x kd ∧ r = -1 ∧ P md K) ∨ ∃ k, k < 12 ∧ x = nI k ∧ K.testBit k = true ∧ md 5 k = kd ∧ GoR K n md (f k) r P
def mFA (md : MS) : MS := va_up md 4 (fun q => if q < 12 then 0 else md 4 q)
def okE (op a b : Int32) : Prop := ∃ oo aa, oo < 10 ∧ aa < 4 ∧ op = nI oo ∧ a = nI aa ∧ (1 ≤ oo → oo ≤ 4 → ∃ bb, bb < 4 ∧ b = nI bb)
def mEmit (md : MS) (n : Nat) (op a b : Int32) : MS := va_up (va_up (va_up (va_up md 1 (upd (md 1) n op)) 2 (upd (md 2) n a)) 3 (upd (md 3) n b)) 0 (fun _ => nI (n + 1))
def EmR (K n : Nat) (md : MS) (op a b r : Int32) (P : MS → Nat → Prop) : Prop := (¬ okE op a b ∧ r = -1 ∧ P md n) ∨ (okE op a b ∧ 16 ≤ n ∧ r = -2 ∧ P md n) ∨ (okE op a b ∧ n < 16 ∧ K ≠ 0 ∧ r = -1 ∧ P md n) ∨ (okE op a b ∧ n < 16 ∧ K = 0 ∧ r = nI n ∧ P (mEmit md n op a b) (n + 1))
theorem inN {x : Int32} (N : Nat) (hN : (nI N).toInt = N) (h0 : ¬ x < 0) (h1 : ¬ nI N < x) : ∃ j, j ≤ N ∧ x = nI j := nI_of2 hN h0 (Int32.not_lt.mp h1)
theorem neg_nI {k : Nat} (h : k < 2 ^ 31) (z : nI k < 0) : False := nI_pos h z
theorem gt_nI {k N : Nat} (h : k ≤ N) (hN : N < 2 ^ 31) (z : nI N < nI k) : False := by
  rw [nI_ltI hN (by omega)] at z
  omega
theorem nok_op {op a b : Int32} (h : op < 0 ∨ nI 9 < op) : ¬ okE op a b := fun ⟨oo, aa, h1, h2, e1, e2, h3⟩ => by
  subst e1
  rcases h with h | h
  · exact neg_nI (by omega) h
  · exact gt_nI (by omega) (by omega) h
theorem nok_a {op a b : Int32} (h : a < 0 ∨ nI 3 < a) : ¬ okE op a b := fun ⟨oo, aa, h1, h2, e1, e2, h3⟩ => by
  subst e2
  rcases h with h | h
  · exact neg_nI (by omega) h
  · exact gt_nI (by omega) (by omega) h
theorem nok_b {a b : Int32} {oo : Nat} (h10 : oo < 10) (h1 : 1 ≤ oo) (h4 : oo ≤ 4) (h : b < 0 ∨ nI 3 < b) : ¬ okE (nI oo) a b := fun ⟨o2, aa, h1', h2, e1, e2, h3⟩ => by
  rw [nI_eq (by omega) (by omega)] at e1
  subst e1
  obtain ⟨bb, hb, e3⟩ := h3 h1 h4
  subst e3
  rcases h with h | h
  · exact neg_nI (by omega) h
  · exact gt_nI (by omega) (by omega) h
theorem mRun_kd (n : Nat) (hn : n ≤ 16) : ∀ (f : Nat) (md : MS), MP md n → ∃ kd, kd < 4 ∧ (mRun n f md).1 = nI kd ∧ (kd = 2 → ∃ q, q < n ∧ (mRun n f md).2 10 0 = nI q) := by
  intro f
  have out : ∀ (f : Nat) (md : MS), (md 10 0 < 0 ∨ nI n ≤ md 10 0) → ∃ kd, kd < 4 ∧ (mRun n f md).1 = nI kd ∧ (kd = 2 → ∃ q, q < n ∧ (mRun n f md).2 10 0 = nI q) := fun f md h => by
    rw [mRun_out h]
    exact ⟨0, by decide, rfl, fun z => absurd z (by decide)⟩
  have inn : ∀ (md : MS), ¬ (md 10 0 < 0 ∨ nI n ≤ md 10 0) → ∃ q, q < n ∧ md 10 0 = nI q := fun md h => by
    rcases pk_ix (md 10 0) (n := n) (by omega) with z | z | z
    · exact absurd (Or.inl z) h
    · exact absurd (Or.inr z) h
    · exact z
  induction f with
  | zero =>
    intro md hMP
    by_cases h : md 10 0 < 0 ∨ nI n ≤ md 10 0
    · exact out 0 md h
    · obtain ⟨q, hq, e⟩ := inn md h
      obtain ⟨oo, a, ho, ha, e1, e2, -⟩ := hMP q hq
      by_cases h9 : oo = 9
      · rw [mRun_9 e hq hn (by rw [e1, h9])]
        exact ⟨1, by decide, rfl, fun z => absurd z (by decide)⟩
      · by_cases h8 : oo = 8
        · rw [mRun_8 e hq hn (by rw [e1, h8])]
          exact ⟨2, by decide, rfl, fun _ => ⟨q, hq, e⟩⟩
        · rw [mRun_t e hq hn e1 ho h9 h8]
          exact ⟨3, by decide, rfl, fun z => absurd z (by decide)⟩
  | succ f ih =>
    intro md hMP
    by_cases h : md 10 0 < 0 ∨ nI n ≤ md 10 0
    · exact out (f + 1) md h
    · obtain ⟨q, hq, e⟩ := inn md h
      obtain ⟨oo, a, ho, ha, e1, e2, -⟩ := hMP q hq
      by_cases h9 : oo = 9
      · rw [mRun_9 e hq hn (by rw [e1, h9])]
        exact ⟨1, by decide, rfl, fun z => absurd z (by decide)⟩
      · by_cases h8 : oo = 8
        · rw [mRun_8 e hq hn (by rw [e1, h8])]
          exact ⟨2, by decide, rfl, fun _ => ⟨q, hq, e⟩⟩
        · rw [mRun_s e hq hn e1 ho h9 h8 e2 ha]
          refine ih _ (fun j hj => ?_)
          rw [mCarry_lt (by decide), mCarry_lt (by decide), mCarry_lt (by decide)]
          exact hMP j hj
theorem RU_MP {d md : MS} {n K : Nat} (h : RU d md n K) : MP md n ∧ n ≤ 16 := by
  obtain ⟨kp, ⟨-, hn, hM, -⟩, -⟩ := RU_C h
  exact ⟨hM, hn⟩
theorem RB_K {d md : MS} {n K : Nat} (h : RB d md n K) : K < 4096 ∧ d 6 0 = nI K := by
  obtain ⟨kp, ⟨⟨-, -, -, hK, -⟩, -, hk, -⟩, -⟩ := h
  exact ⟨hK, hk⟩
theorem RB_emit {d d' md : MS} {n : Nat} {op a b : Int32} (h : RB d md n 0) (hn : n < 16) (hok : okE op a b) (h0 : d' 0 = upd (d 0) n op) (h1 : d' 1 = upd (d 1) n a) (h2 : d' 2 = upd (d 2) n b) (h3 : d' 3 0 = nI (n + 1)) (hf : ∀ k, k ≠ 0 → k ≠ 1 → k ≠ 2 → k ≠ 3 → d' k = d k) : RB d' (mEmit md n op a b) (n + 1) 0 := by
  obtain ⟨kp, ⟨⟨w1, w2, w3, w4, w5⟩, ⟨p1, p2⟩, hk6, hRM⟩, hO⟩ := h
  have m1 : mEmit md n op a b 1 = upd (md 1) n op := rfl
  have m2 : mEmit md n op a b 2 = upd (md 2) n a := rfl
  have m3 : mEmit md n op a b 3 = upd (md 3) n b := rfl
  refine ⟨kp, ⟨⟨rfl, by omega, fun j hj => ?_, w4, w5⟩, ⟨h3, fun j hj => ?_⟩, by rw [hf 6 (by decide) (by decide) (by decide) (by decide)]; exact hk6, fun m _ hb => ?_⟩, by rw [hf 5 (by decide) (by decide) (by decide) (by decide)]; exact hO⟩
  · rw [m1, m2, m3]
    by_cases e : j = n
    · subst e
      rw [pk_us, pk_us, pk_us]
      obtain ⟨oo, aa, g1, g2, g3, g4, g5⟩ := hok
      exact ⟨oo, aa, g1, g2, g3, g4, g5⟩
    · rw [pk_un e, pk_un e, pk_un e]
      exact w3 j (by omega)
  · rw [h0, h1, h2, m1, m2, m3]
    by_cases e : j = n
    · subst e
      rw [pk_us, pk_us, pk_us, pk_us, pk_us, pk_us]
      exact ⟨rfl, rfl, rfl⟩
    · rw [pk_un e, pk_un e, pk_un e, pk_un e, pk_un e, pk_un e]
      exact p2 j (by omega)
  · rw [Nat.zero_testBit] at hb
    exact absurd hb (by decide)
set_option maxHeartbeats 4000000 in
set_option maxRecDepth 100000 in
theorem wk_dk_forgetAll {p : Program} {l : Launch} {e : Env} {s : State} {m : MethodId} {args : Array Value} {below : List Frame} {meth : Method} {c : Code} {ls : Array Slot} {Q : State → Prop} {D : va_G} {o : Nat} {ad : Nat → Nat} {cB cI : ClassId} {d : MS} {md : MS} {n K : Nat} (hR : RB d md n K) (E : dkE D o ad cB cI p s m args c cX0_forgetAll 2) (hP : va_P D vwCl (dk_w o ad cB cI d) s.heap) (hl : lv_has ls 2 [(0, .ref o)]) (kR : dkKv D o ad cB cI p l e (rmk 2) s m args below meth c cX0_forgetAll Q (fun d' => RB d' (mFA md) n 0)) : W p l e (rmk 2) s m args below meth c s.heap [] 0 0 Q (F0 m 0 ls []) := by
  obtain ⟨hx, hb, -⟩ := id E
  have hS : va_S (dk_A o ad) s.heap s.heap [] := va_S.rf
  have loop : ∀ (n0 k : Nat) (d1 : MS) (K1 : Nat), k + n0 = 12 → RB d1 (va_up md 4 (fun q => if q < k then 0 else md 4 q)) n K1 → (∀ j, j < 12 → j < k → K1.testBit j = false) → ∀ (H : Heap) (locs : List Loc) (ls : Array Slot), va_P D vwCl (dk_w o ad cB cI d1) H → va_S (dk_A o ad) s.heap H locs → lv_has ls 2 [(0, .ref o), (1, .int (nI k))] → W p l e (rmk 2) s m args below meth c H locs 0 0 Q (F0 m 2 ls []) := by
    intro n0
    induction n0 with
    | zero =>
      intro k d1 K1 hkn hR1 hb1 H locs ls hP hS hl
      have hk0 : k = 12 := by omega
      subst hk0
      refine lv_iload_n hx hb dX0_forgetAll_2 rfl (lv_at hl 1 rfl) ?_
      refine lv_bipush (v := (nI 12)) hx hb dX0_forgetAll_3 (by decide) ?_
      refine nv_icmp_ge (tgt := 20) hx hb (by omega) (by omega) dX0_forgetAll_5 (by decide) (fun c5 => ?_) (fun c5 => ?_)
      · have hz : K1 = 0 := by
          apply Nat.eq_of_testBit_eq
          intro j
          rw [Nat.zero_testBit]
          by_cases hj : j < 12
          · exact hb1 j hj hj
          · exact Nat.testBit_lt_two_pow (Nat.lt_of_lt_of_le (RB_K hR1).1 (Nat.pow_le_pow_right (n := 2) (i := 12) (by decide) (by omega)))
        subst hz
        exact kR _ _ _ _ _ (hR1) hP hS dX0_forgetAll_20
      · exact absurd c5 (by omega)
    | succ n0 ih =>
      intro k d1 K1 hkn hR1 hb1 H locs ls hP hS hl
      refine lv_iload_n hx hb dX0_forgetAll_2 rfl (lv_at hl 1 rfl) ?_
      refine lv_bipush (v := (nI 12)) hx hb dX0_forgetAll_3 (by decide) ?_
      refine nv_icmp_ge (tgt := 20) hx hb (by omega) (by omega) dX0_forgetAll_5 (by decide) (fun c5 => ?_) (fun c5 => ?_)
      · exact absurd c5 (by omega)
      · refine lv_aload_n hx hb dX0_forgetAll_8 rfl (lv_at hl 0 rfl) ?_
        refine lv_iload_n hx hb dX0_forgetAll_9 rfl (lv_at hl 1 rfl) ?_
        refine dk_calli (As := [.int (nI k)]) (rest := []) E hP hS (met_dk_forget l D o ad cB cI d1 (x := nI k) hR1) (cwV 1 E.2.2.1 (lw_V q94 q95 q96 q19 q97) rfl rfl rfl (by decide +kernel) ⟨by decide, by decide⟩) rfl hl.1 rfl (Nat.le_of_ble_eq_true rfl) ⟨Nat.zero_le _, Nat.zero_le _⟩ dX0_forgetAll_10 (fun r102 d101 H locs hpd101 hP hS => ?_)
        obtain ⟨-, hR2⟩ := hpd101
        refine lv_pop hx hb dX0_forgetAll_13 rfl ?_
        refine nv_iinc (lv' := [(1, .int (nI (k + 1))), (0, .ref o)]) hx hb 1 dX0_forgetAll_14 hl rfl (by decide) rfl (fun ls hl => ?_)
        refine lv_goto (tgt := 2) hx hb dX0_forgetAll_17 (by decide) ?_
        have hl : lv_has ls 2 [(0, .ref o), (1, .int (nI (k + 1)))] := lv_sub hl [1, 0] rfl
        have hw := hR1.choose_spec.1.1.2.2.2.2 k (by omega)
        have he : mForget (va_up md 4 (fun q => if q < k then 0 else md 4 q)) K1 (nI k) = va_up md 4 (fun q => if q < k + 1 then 0 else md 4 q) := by
          unfold mForget
          funext j q
          by_cases hj : j = 4
          · subst hj
            by_cases hh : hasK K1 (nI k)
            · rw [cif_pos hh, nI_clamp (by omega), va_up_self, va_up_self, va_up_self]
              unfold upd
              by_cases e : q = k
              · rw [if_pos e, if_pos (by omega)]
              · rw [if_neg e]
                show (if q < k then 0 else md 4 q) = _
                by_cases e2 : q < k
                · rw [if_pos e2, if_pos (by omega)]
                · rw [if_neg e2, if_neg (by omega)]
            · rw [cif_neg hh, va_up_self, va_up_self]
              by_cases e : q = k
              · rw [va_up_self, if_neg (fun z => hh (hasK_nI (by omega) z))] at hw
                rw [if_pos (show q < k + 1 by omega), e, hw]
              · by_cases e2 : q < k
                · rw [if_pos e2, if_pos (by omega)]
                · rw [if_neg e2, if_neg (by omega)]
          · by_cases hh : hasK K1 (nI k)
            · rw [cif_pos hh, va_up_ne _ _ hj, va_up_ne _ _ hj, va_up_ne _ _ hj]
            · rw [cif_neg hh, va_up_ne _ _ hj, va_up_ne _ _ hj]
        have hkb : ∀ j, j < 12 → j < k + 1 → (kForget K1 (nI k)).testBit j = false := by
          intro j hj hjk
          unfold kForget
          by_cases hh : hasK K1 (nI k)
          · rw [cif_pos hh, nI_clamp (by omega), clr_bit hj]
            by_cases e : j = k
            · rw [decide_eq_true e.symm, Bool.not_true, Bool.and_false]
            · rw [hb1 j hj (by omega), Bool.false_and]
          · rw [cif_neg hh]
            by_cases e : j = k
            · rw [e]
              cases hc : K1.testBit k with
              | false => rfl
              | true => exact absurd (hasK_nI (by omega) hc) hh
            · exact hb1 j hj (by omega)
        rw [he] at hR2
        exact ih (k + 1) _ _ (by omega) hR2 hkb H locs ls hP hS hl
  refine lv_iconst (v := (nI 0)) hx hb dX0_forgetAll_0 (by decide) ?_
  refine lv_istore_n (lv' := [(1, .int (nI 0)), (0, .ref o)]) hx hb dX0_forgetAll_1 rfl hl (by decide) rfl (fun ls hl => ?_)
  have hl : lv_has ls 2 [(0, .ref o), (1, .int (nI 0))] := lv_sub hl [1, 0] rfl
  have he : va_up md 4 (fun q => if q < 0 then 0 else md 4 q) = md := by
    funext j q
    by_cases hj : j = 4
    · subst hj; rw [va_up_self, if_neg (by omega)]
    · rw [va_up_ne _ _ hj]
  exact loop 12 0 d K rfl (by rw [he]; exact hR) (fun j _ h => absurd h (by omega)) _ _ ls hP hS hl
set_option maxHeartbeats 4000000 in
set_option maxRecDepth 100000 in
theorem met_dk_forgetAll (l : Launch) (D : va_G) (o : Nat) (ad : Nat → Nat) (cB cI : ClassId) (d : MS) {md : MS} {n K : Nat} (hR : RB d md n K) : dkMv l yX0_forgetAll cX0_forgetAll 2 none (rmk 2) D o ad cB cI [] d (fun d' => RB d' (mFA md) n 0) :=
  dk_metv (by decide) rfl (Nat.le_of_ble_eq_true rfl) (fun p e s m args below meth c ls Q E hP hl kR => wk_dk_forgetAll hR E hP hl kR)
set_option maxHeartbeats 4000000 in
set_option maxRecDepth 100000 in
theorem wk_dk_clear {p : Program} {l : Launch} {e : Env} {s : State} {m : MethodId} {args : Array Value} {below : List Frame} {meth : Method} {c : Code} {ls : Array Slot} {Q : State → Prop} {D : va_G} {o : Nat} {ad : Nat → Nat} {cB cI : ClassId} {d : MS} {md : MS} {n K : Nat} (hR : RB d md n K) (E : dkE D o ad cB cI p s m args c cX0_clear 1) (hP : va_P D vwCl (dk_w o ad cB cI d) s.heap) (hl : lv_has ls 1 [(0, .ref o)]) (kR : dkKv D o ad cB cI p l e (rmk 3) s m args below meth c cX0_clear Q (fun d' => RB d' (va_up (mFA md) 0 (fun _ => nI 0)) 0 0)) : W p l e (rmk 3) s m args below meth c s.heap [] 0 0 Q (F0 m 0 ls []) := by
  obtain ⟨hx, hb, -⟩ := id E
  have hS : va_S (dk_A o ad) s.heap s.heap [] := va_S.rf
  refine lv_aload_n hx hb dX0_clear_0 rfl (lv_at hl 0 rfl) ?_
  refine dk_callv (As := []) (rest := []) E hP hS (met_dk_forgetAll l D o ad cB cI d hR) (cwV 0 E.2.2.1 (lw_V q106 q91 q92 q19 q93) rfl rfl rfl (by decide +kernel) ⟨by decide, by decide⟩) rfl hl.1 rfl (Nat.le_of_ble_eq_true rfl) ⟨Nat.zero_le _, Nat.zero_le _⟩ dX0_clear_1 (fun d103 H locs hpd103 hP hS => ?_)
  obtain ⟨kp, ⟨⟨w1, w2, w3, w4, w5⟩, ⟨p1, p2⟩, hk6, hRM⟩, hO⟩ := hpd103
  refine lv_aload_n hx hb dX0_clear_4 rfl (lv_at hl 0 rfl) ?_
  refine lv_iconst (v := (nI 0)) hx hb dX0_clear_5 (by decide) ?_
  refine dk_p3 E hP hS dX0_clear_6 (fun d104 H locs ed104 hP hS => ?_)
  exact kR _ _ _ _ _ (⟨kp, ⟨⟨rfl, by decide, fun j hj => absurd hj (by omega), w4, w5⟩, ⟨by rw [ed104]; rfl, fun j hj => absurd hj (by omega)⟩, by rw [ed104, va_up_ne _ _ (by decide)]; exact hk6, fun m _ hb => by rw [Nat.zero_testBit] at hb; exact absurd hb (by decide)⟩, by rw [ed104, va_up_ne _ _ (by decide)]; exact hO⟩) hP hS dX0_clear_9
set_option maxHeartbeats 4000000 in
set_option maxRecDepth 100000 in
theorem met_dk_clear (l : Launch) (D : va_G) (o : Nat) (ad : Nat → Nat) (cB cI : ClassId) (d : MS) {md : MS} {n K : Nat} (hR : RB d md n K) : dkMv l yX0_clear cX0_clear 1 none (rmk 3) D o ad cB cI [] d (fun d' => RB d' (va_up (mFA md) 0 (fun _ => nI 0)) 0 0) :=
  dk_metv (by decide) rfl (Nat.le_of_ble_eq_true rfl) (fun p e s m args below meth c ls Q E hP hl kR => wk_dk_clear hR E hP hl kR)
set_option maxHeartbeats 4000000 in
set_option maxRecDepth 100000 in
theorem wk_dk_start {p : Program} {l : Launch} {e : Env} {s : State} {m : MethodId} {args : Array Value} {below : List Frame} {meth : Method} {c : Code} {ls : Array Slot} {Q : State → Prop} {D : va_G} {o : Nat} {ad : Nat → Nat} {cB cI : ClassId} {d : MS} {md : MS} {n K : Nat} (hR : RB d md n K) (E : dkE D o ad cB cI p s m args c cX0_start 3) (hP : va_P D vwCl (dk_w o ad cB cI d) s.heap) (hl : lv_has ls 3 [(0, .ref o)]) (kR : dkKi D o ad cB cI p l e (rmk 5) s m args below meth c cX0_start Q (fun r d' => GoR K n md (mZero md) r (fun x K' => RB d' x n K'))) : W p l e (rmk 5) s m args below meth c s.heap [] 0 0 Q (F0 m 0 ls []) := by
  obtain ⟨hx, hb, -⟩ := id E
  have hS : va_S (dk_A o ad) s.heap s.heap [] := va_S.rf
  obtain ⟨hK, hk6⟩ := RB_K hR
  refine lv_aload_n hx hb dX0_start_0 rfl (lv_at hl 0 rfl) ?_
  refine dk_calli (As := []) (rest := []) E hP hS (met_dk_freeMoment l D o ad cB cI d hK hk6) (cwV 0 E.2.2.1 (lw_V q111 q113 qs1 q19 q114) rfl rfl rfl (by decide +kernel) ⟨by decide, by decide⟩) rfl hl.1 rfl (Nat.le_of_ble_eq_true rfl) ⟨Nat.zero_le _, Nat.zero_le _⟩ dX0_start_1 (fun r106 d105 H locs hpd105 hP hS => ?_)
  obtain ⟨e0, er⟩ := hpd105
  rw [e0] at hP
  refine lv_istore_n (lv' := [(1, .int r106), (0, .ref o)]) hx hb dX0_start_4 rfl hl (by decide) rfl (fun ls hl => ?_)
  cases hrm : rm_ K.testBit 12 0 with
  | none =>
    rw [hrm] at er
    subst er
    refine lv_iload_n hx hb dX0_start_5 rfl (lv_at hl 0 rfl) ?_
    refine lv_if_ge (tgt := 12) hx hb dX0_start_6 (by decide) (fun c6 => ?_) (fun c6 => ?_)
    · exact absurd c6 (by decide)
    · refine lv_bipush (v := (-2)) hx hb dX0_start_9 (by decide) ?_
      exact kR _ _ _ _ _ _ (Or.inl ⟨hrm, rfl, hR⟩) hP hS dX0_start_11
  | some i0 =>
    rw [hrm] at er
    subst er
    obtain ⟨-, hi0, hbit⟩ := rm_some 12 0 i0 hrm
    have hi0 : i0 < 12 := by omega
    have hl : lv_has ls 3 [(1, .int (nI i0)), (0, .ref o)] := hl
    refine lv_iload_n hx hb dX0_start_5 rfl (lv_at hl 0 rfl) ?_
    refine lv_if_ge (tgt := 12) hx hb dX0_start_6 (by decide) (fun c6 => ?_) (fun c6 => ?_)
    · have hfree : ∃ mf, mf < 12 ∧ K.testBit mf = false := ⟨i0, hi0, hbit⟩
      obtain ⟨kp, hC, hO⟩ := id hR
      skip
      have loop1 : ∀ (n0 k : Nat) (d1 : MS) (pg : Nat → Nat), k + n0 = 4 → RC d1 md n K kp → (∀ p, p < 56 → d1 5 p = nI (cs K kp p 12 + rcn pg p k)) → (∀ q, q < k → pg q < 56 ∧ d1 15 q = nI (pg q) ∧ ∀ j, j < 4 → d1 4 (pg q * 4 + j) = 0) → (∀ q, q < k → d1 14 q = 0) → d1 13 0 = 0 → d1 16 0 = 0 → ∀ (H : Heap) (locs : List Loc) (ls : Array Slot), va_P D vwCl (dk_w o ad cB cI d1) H → va_S (dk_A o ad) s.heap H locs → lv_has ls 3 [(0, .ref o), (1, .int (nI i0)), (2, .int (nI k))] → W p l e (rmk 5) s m args below meth c H locs 0 0 Q (F0 m 24 ls []) := by
        intro n0
        induction n0 with
        | zero =>
          intro k d1 pg hkn gC g5 g15 g14 g13 g16 H locs ls hP hS hl
          have hk0 : k = 4 := by omega
          subst hk0
          refine lv_iload_n hx hb dX0_start_24 rfl (lv_at hl 2 rfl) ?_
          refine lv_iconst (v := (nI 4)) hx hb dX0_start_25 (by decide) ?_
          refine nv_icmp_ge (tgt := 53) hx hb (by omega) (by omega) dX0_start_26 (by decide) (fun c26 => ?_) (fun c26 => ?_)
          · refine lv_iconst (v := (nI 0)) hx hb dX0_start_53 (by decide) ?_
            refine lv_istore_n (lv' := [(2, .int (nI 0)), (0, .ref o), (1, .int (nI i0))]) hx hb dX0_start_54 rfl hl (by decide) rfl (fun ls hl => ?_)
            have hl : lv_has ls 3 [(0, .ref o), (1, .int (nI i0)), (2, .int (nI 0))] := lv_sub hl [1, 2, 0] rfl
            have loop2 : ∀ (n0 k : Nat) (d1 : MS), k + n0 = 8 → RC d1 md n K kp → (∀ p, p < 56 → d1 5 p = nI (cs K kp p 12 + rcn pg p 4)) → (∀ q, q < 4 → pg q < 56 ∧ d1 15 q = nI (pg q) ∧ ∀ j, j < 4 → d1 4 (pg q * 4 + j) = 0) → (∀ q, q < 4 → d1 14 q = 0) → d1 13 0 = 0 → d1 16 0 = 0 → (∀ q, q < k → d1 17 q = (0 : Int32)) → ∀ (H : Heap) (locs : List Loc) (ls : Array Slot), va_P D vwCl (dk_w o ad cB cI d1) H → va_S (dk_A o ad) s.heap H locs → lv_has ls 3 [(0, .ref o), (1, .int (nI i0)), (2, .int (nI k))] → W p l e (rmk 5) s m args below meth c H locs 0 0 Q (F0 m 55 ls []) := by
              intro n0
              induction n0 with
              | zero =>
                intro k d1 hkn gC g5 g15 g14 g13 g16 g17 H locs ls hP hS hl
                have hk0 : k = 8 := by omega
                subst hk0
                refine lv_iload_n hx hb dX0_start_55 rfl (lv_at hl 2 rfl) ?_
                refine lv_bipush (v := (nI 8)) hx hb dX0_start_56 (by decide) ?_
                refine nv_icmp_ge (tgt := 74) hx hb (by omega) (by omega) dX0_start_58 (by decide) (fun c58 => ?_) (fun c58 => ?_)
                · have hU : RU d1 (mZero md) n K := ⟨kp, pg, RC_frame gC (fun _ _ _ _ => rfl) (fun j hj => by unfold mZero; rw [if_neg (by omega), if_neg (by omega), if_neg (by omega), if_neg (by omega)]) (fun _ _ _ _ _ _ _ => rfl), g5, hfree, g15, g14, g13, g16, g17⟩
                  obtain ⟨hMP, hn16⟩ := RU_MP hU
                  obtain ⟨kd, hkd, ekd, hkq⟩ := mRun_kd n hn16 60 _ hMP
                  refine lv_aload_n hx hb dX0_start_74 rfl (lv_at hl 0 rfl) ?_
                  refine dk_calli (As := []) (rest := []) E hP hS (met_dk_stretch l D o ad cB cI d1 hU) (cwV 0 E.2.2.1 (lw_V q119 q121 qs3 q19 q122) rfl rfl rfl (by decide +kernel) ⟨by decide, by decide⟩) rfl hl.1 rfl (Nat.le_of_ble_eq_true rfl) ⟨Nat.zero_le _, Nat.zero_le _⟩ dX0_start_75 (fun r108 d107 H locs hpd107 hP hS => ?_)
                  obtain ⟨er2, hU2⟩ := hpd107
                  rw [ekd] at er2
                  refine tp (y := (nI kd)) (er2) ?_
                  refine lv_istore_n (lv' := [(2, .int (nI kd)), (0, .ref o), (1, .int (nI i0))]) hx hb dX0_start_78 rfl hl (by decide) rfl (fun ls hl => ?_)
                  refine lv_aload_n hx hb dX0_start_79 rfl (lv_at hl 1 rfl) ?_
                  refine lv_iload_n hx hb dX0_start_80 rfl (lv_at hl 2 rfl) ?_
                  refine lv_iload_n hx hb dX0_start_81 rfl (lv_at hl 0 rfl) ?_
                  refine dk_callv (As := [.int (nI i0), .int (nI kd)]) (rest := []) E hP hS (met_dk_keep l D o ad cB cI _ hU2 hi0 hbit hkd hkq) (cwV 2 E.2.2.1 (lw_V q143 q145 qs9 q19 q146) rfl rfl rfl (by decide +kernel) ⟨by decide, by decide⟩) rfl hl.1 rfl (Nat.le_of_ble_eq_true rfl) ⟨Nat.zero_le _, Nat.zero_le _⟩ dX0_start_82 (fun d109 H locs hpd109 hP hS => ?_)
                  refine lv_iload_n hx hb dX0_start_85 rfl (lv_at hl 2 rfl) ?_
                  exact kR _ _ _ _ _ _ (Or.inr ⟨i0, hi0, hrm, rfl, by have h9 := hpd109; unfold mGo; rw [ekd]; exact h9⟩) hP hS dX0_start_86
                · exact absurd c58 (by omega)
              | succ n0 ih =>
                intro k d1 hkn gC g5 g15 g14 g13 g16 g17 H locs ls hP hS hl
                refine lv_iload_n hx hb dX0_start_55 rfl (lv_at hl 2 rfl) ?_
                refine lv_bipush (v := (nI 8)) hx hb dX0_start_56 (by decide) ?_
                refine nv_icmp_ge (tgt := 74) hx hb (by omega) (by omega) dX0_start_58 (by decide) (fun c58 => ?_) (fun c58 => ?_)
                · exact absurd c58 (by omega)
                · refine lv_aload_n hx hb dX0_start_61 rfl (lv_at hl 0 rfl) ?_
                  refine dk_g17 E hP dX0_start_62 ?_
                  refine lv_iload_n hx hb dX0_start_65 rfl (lv_at hl 2 rfl) ?_
                  refine lv_iconst (v := (nI 0)) hx hb dX0_start_66 (by decide) ?_
                  refine dk_s17 E hP hS (by omega) dX0_start_67 (fun d110 H locs ed110 hP hS => ?_)
                  refine nv_iinc (lv' := [(2, .int (nI (k + 1))), (0, .ref o), (1, .int (nI i0))]) hx hb 2 dX0_start_68 hl rfl (by decide) rfl (fun ls hl => ?_)
                  refine lv_goto (tgt := 55) hx hb dX0_start_71 (by decide) ?_
                  have hl : lv_has ls 3 [(0, .ref o), (1, .int (nI i0)), (2, .int (nI (k + 1)))] := lv_sub hl [1, 2, 0] rfl
                  refine ih (k + 1) _ (by omega) (RC_frame gC (fun j a1 a2 a3 => by rw [ed110, va_up_ne _ _ (by omega)]) (fun _ _ => rfl) (fun _ _ _ _ _ _ _ => by rw [ed110, va_up_ne _ _ (by decide)])) (by rw [ed110, va_up_ne _ _ (by decide)]; exact g5) (by rw [ed110, va_up_ne _ _ (by decide), va_up_ne _ _ (by decide)]; exact g15) (by rw [ed110, va_up_ne _ _ (by decide)]; exact g14) (by rw [ed110, va_up_ne _ _ (by decide)]; exact g13) (by rw [ed110, va_up_ne _ _ (by decide)]; exact g16) (fun q hq => ?_) H locs ls hP hS hl
                  rw [ed110, va_up_self]
                  unfold upd
                  by_cases h1 : q = k
                  · rw [if_pos h1]; rfl
                  · rw [if_neg h1]; exact g17 q (by omega)
            exact loop2 8 0 d1 rfl gC g5 g15 g14 g13 g16 (fun q hq => absurd hq (by omega)) H locs ls hP hS hl
          · exact absurd c26 (by omega)
        | succ n0 ih =>
          intro k d1 pg hkn gC g5 g15 g14 g13 g16 H locs ls hP hS hl
          refine lv_iload_n hx hb dX0_start_24 rfl (lv_at hl 2 rfl) ?_
          refine lv_iconst (v := (nI 4)) hx hb dX0_start_25 (by decide) ?_
          refine nv_icmp_ge (tgt := 53) hx hb (by omega) (by omega) dX0_start_26 (by decide) (fun c26 => ?_) (fun c26 => ?_)
          · exact absurd c26 (by omega)
          · obtain ⟨y, hy, hy0⟩ := page_free (K := K) (kp := kp) (pg := pg) (i := k) hfree (by omega)
            refine lv_aload_n hx hb dX0_start_29 rfl (lv_at hl 0 rfl) ?_
            refine dk_g14 E hP dX0_start_30 ?_
            refine lv_iload_n hx hb dX0_start_33 rfl (lv_at hl 2 rfl) ?_
            refine lv_iconst (v := (nI 0)) hx hb dX0_start_34 (by decide) ?_
            refine dk_s14 E hP hS (by omega) dX0_start_35 (fun d111 H locs ed111 hP hS => ?_)
            refine lv_aload_n hx hb dX0_start_36 rfl (lv_at hl 0 rfl) ?_
            refine dk_g15 E hP dX0_start_37 ?_
            refine lv_iload_n hx hb dX0_start_40 rfl (lv_at hl 2 rfl) ?_
            refine lv_aload_n hx hb dX0_start_41 rfl (lv_at hl 0 rfl) ?_
            refine dk_calli (As := []) (rest := [.int (nI k), .ref (ad 15)]) E hP hS (met_dk_freshPage l D o ad cB cI d111 ⟨y, hy, by rw [ed111, va_up_ne _ _ (by decide), g5 y hy, hy0]; rfl⟩) (cwV 0 E.2.2.1 (lw_V q115 q117 qs2 q19 q118) rfl rfl rfl (by decide +kernel) ⟨by decide, by decide⟩) rfl hl.1 rfl (Nat.le_of_ble_eq_true rfl) ⟨Nat.zero_le _, Nat.zero_le _⟩ dX0_start_42 (fun r113 d112 H locs hpd112 hP hS => ?_)
            obtain ⟨b, hb56, erb, hb0, hb5, hb4, hbf⟩ := hpd112
            refine tp (y := (nI b)) (erb) ?_
            refine lv_i2b (v := (nI b)) hx hb dX0_start_45 (b8 (by omega)) ?_
            refine dk_s15 E hP hS (y := (nI b)) (nb8 (by omega)) (by omega) dX0_start_46 (fun d114 H locs ed114 hP hS => ?_)
            refine nv_iinc (lv' := [(2, .int (nI (k + 1))), (0, .ref o), (1, .int (nI i0))]) hx hb 2 dX0_start_47 hl rfl (by decide) rfl (fun ls hl => ?_)
            refine lv_goto (tgt := 24) hx hb dX0_start_50 (by decide) ?_
            have hl : lv_has ls 3 [(0, .ref o), (1, .int (nI i0)), (2, .int (nI (k + 1)))] := lv_sub hl [1, 2, 0] rfl
            rw [ed111, va_up_ne _ _ (by decide), g5 b hb56, show (0 : Int32) = nI 0 from rfl, nI_eq (by have := cs_le K kp b 12; have := rcn_le pg b k; omega) (by decide)] at hb0
            have hbc : cs K kp b 12 = 0 := by omega
            have hbr : rcn pg b k = 0 := by omega
            have hbk : ∀ m, m < 12 → K.testBit m = true → ∀ i, i < 4 → kp (m * 4 + i) ≠ b := fun m hm hK i hi z => by have := cs_pos hK hi z 12 hm; omega
            have hbp : ∀ i, i < k → pg i ≠ b := fun i hi z => by have := rcn_pos z k hi; omega
            refine ih (k + 1) d114 (va_up pg k b) (by omega) (RC_frame gC (fun j a1 a2 a3 => by rw [ed114, va_up_ne _ _ (by omega), hbf j a2 a3, ed111, va_up_ne _ _ (by omega)]) (fun _ _ => rfl) (fun m hm hK i hi jj hjj => by have := hbk m hm hK i hi; rw [ed114, va_up_ne _ _ (by decide), hb4, if_neg (by omega), ed111, va_up_ne _ _ (by decide)])) (fun p hp => ?_) (fun q hq => ?_) (fun q hq => ?_) (by rw [ed114, va_up_ne _ _ (by decide), hbf 13 (by decide) (by decide), ed111, va_up_ne _ _ (by decide)]; exact g13) (by rw [ed114, va_up_ne _ _ (by decide), hbf 16 (by decide) (by decide), ed111, va_up_ne _ _ (by decide)]; exact g16) H locs ls hP hS hl
            · rw [ed114, va_up_ne _ _ (by decide), hb5 p, ed111, va_up_ne _ _ (by decide), g5 p hp]
              simp only [rcn]
              rw [va_up_self, rcn_congr (pg := va_up pg k b) (pg' := pg) k (fun i hi => va_up_ne _ _ (by omega))]
              by_cases h1 : p = b
              · rw [if_pos h1, if_pos h1.symm, h1, hbc, hbr]; rfl
              · rw [if_neg h1, if_neg (fun z => h1 z.symm)]; rfl
            · have x15 : d114 15 = upd (d112 15) k (nI b) := by rw [ed114, va_up_self]
              have x4 : d114 4 = d112 4 := by rw [ed114, va_up_ne _ _ (by decide)]
              rw [x15, x4]
              unfold upd
              by_cases h1 : q = k
              · subst h1
                rw [va_up_self, if_pos rfl]
                exact ⟨hb56, rfl, fun j hj => by rw [hb4, if_pos ⟨by omega, by omega⟩]⟩
              · rw [va_up_ne _ _ h1, if_neg h1, hbf 15 (by decide) (by decide), ed111, va_up_ne _ _ (by decide)]
                obtain ⟨f1, f2, f3⟩ := g15 q (by omega)
                refine ⟨f1, f2, fun j hj => ?_⟩
                have := hbp q (by omega)
                rw [hb4, if_neg (by omega), ed111, va_up_ne _ _ (by decide)]
                exact f3 j hj
            · rw [ed114, va_up_ne _ _ (by decide), hbf 14 (by decide) (by decide), ed111, va_up_self]
              unfold upd
              by_cases h1 : q = k
              · rw [if_pos h1]; rfl
              · rw [if_neg h1]; exact g14 q (by omega)
      refine lv_aload_n hx hb dX0_start_12 rfl (lv_at hl 1 rfl) ?_
      refine lv_iconst (v := (nI 0)) hx hb dX0_start_13 (by decide) ?_
      refine dk_p13 E hP hS dX0_start_14 (fun d115 H locs ed115 hP hS => ?_)
      refine lv_aload_n hx hb dX0_start_17 rfl (lv_at hl 1 rfl) ?_
      refine lv_iconst (v := (nI 0)) hx hb dX0_start_18 (by decide) ?_
      refine dk_p16 E hP hS dX0_start_19 (fun d116 H locs ed116 hP hS => ?_)
      refine lv_iconst (v := (nI 0)) hx hb dX0_start_22 (by decide) ?_
      refine lv_istore_n (lv' := [(2, .int (nI 0)), (1, .int (nI i0)), (0, .ref o)]) hx hb dX0_start_23 rfl hl (by decide) rfl (fun ls hl => ?_)
      have hl : lv_has ls 3 [(0, .ref o), (1, .int (nI i0)), (2, .int (nI 0))] := lv_sub hl [2, 1, 0] rfl
      exact loop1 4 0 _ (fun _ => 0) rfl (RC_frame hC (fun j a1 a2 a3 => by rw [ed116, va_up_ne _ _ (by omega), ed115, va_up_ne _ _ (by omega)]) (fun _ _ => rfl) (fun _ _ _ _ _ _ _ => by rw [ed116, va_up_ne _ _ (by decide), ed115, va_up_ne _ _ (by decide)])) (by rw [ed116, va_up_ne _ _ (by decide), ed115, va_up_ne _ _ (by decide)]; exact hO) (fun q hq => absurd hq (by omega)) (fun q hq => absurd hq (by omega)) (by rw [ed116, va_up_ne _ _ (by decide), ed115, va_up_self]; rfl) (by rw [ed116, va_up_self]; rfl) _ _ ls hP hS hl
    · exact absurd (nI_pos' (by omega)) c6
set_option maxHeartbeats 4000000 in
set_option maxRecDepth 100000 in
theorem met_dk_start (l : Launch) (D : va_G) (o : Nat) (ad : Nat → Nat) (cB cI : ClassId) (d : MS) {md : MS} {n K : Nat} (hR : RB d md n K) : dkMi l yX0_start cX0_start 3 (some .int) (rmk 5) D o ad cB cI [] d (fun r d' => GoR K n md (mZero md) r (fun x K' => RB d' x n K')) :=
  dk_meti (by decide) rfl (Nat.le_of_ble_eq_true rfl) (fun _ _ _ => rfl) (fun p e s m args below meth c ls Q E hP hl kR => wk_dk_start hR E hP hl kR)
set_option maxHeartbeats 4000000 in
set_option maxRecDepth 100000 in
theorem wk_dk_answer {p : Program} {l : Launch} {e : Env} {s : State} {m : MethodId} {args : Array Value} {below : List Frame} {meth : Method} {c : Code} {ls : Array Slot} {Q : State → Prop} {D : va_G} {o : Nat} {ad : Nat → Nat} {cB cI : ClassId} {d : MS} {md : MS} {n K : Nat} {x v : Int32} (hR : RB d md n K) (E : dkE D o ad cB cI p s m args c cX0_answer 5) (hP : va_P D vwCl (dk_w o ad cB cI d) s.heap) (hl : lv_has ls 5 [(0, .ref o), (1, .int x), (2, .int v)]) (kR : dkKi D o ad cB cI p l e (rmk 5) s m args below meth c cX0_answer Q (fun r d' => AsR K n md x (nI 2) (fun k => mAns (mTake md k) v) r (fun x K' => RB d' x n K'))) : W p l e (rmk 5) s m args below meth c s.heap [] 0 0 Q (F0 m 0 ls []) := by
  obtain ⟨hx, hb, -⟩ := id E
  have hS : va_S (dk_A o ad) s.heap s.heap [] := va_S.rf
  obtain ⟨hK, hk6⟩ := RB_K hR
  obtain ⟨kp, hC, hO⟩ := id hR
  have hRM := hC.2.2.2
  obtain ⟨-, -, hMP, -⟩ := id hC.1
  obtain ⟨-, hRP⟩ := id hC.2.1
  refine lv_aload_n hx hb dX0_answer_0 rfl (lv_at hl 0 rfl) ?_
  refine lv_iload_n hx hb dX0_answer_1 rfl (lv_at hl 1 rfl) ?_
  refine dk_calli (As := [.int x]) (rest := []) E hP hS (met_dk_has l D o ad cB cI d hK hk6) (cwV 1 E.2.2.1 (lw_V q98 q100 qs0 q19 q101) rfl rfl rfl (by decide +kernel) ⟨by decide, by decide⟩) rfl hl.1 rfl (Nat.le_of_ble_eq_true rfl) ⟨Nat.zero_le _, Nat.zero_le _⟩ dX0_answer_2 (fun r118 d117 H locs hpd117 hP hS => ?_)
  obtain ⟨e0, hh⟩ := hpd117
  rw [e0] at hP
  refine lv_if_eq (tgt := 18) hx hb dX0_answer_5 (by decide) (fun c5 => ?_) (fun c5 => ?_)
  · refine lv_iconst (v := (-1)) hx hb dX0_answer_18 (by decide) ?_
    exact kR _ _ _ _ _ _ (Or.inl ⟨fun ⟨k, a1, a2, a3, _⟩ => hh.eq c5 ⟨k, a1, a2, a3⟩, rfl, hR⟩) hP hS dX0_answer_19
  · obtain ⟨j0, hj0, rfl, hjb⟩ := hh.ne c5
    obtain ⟨r7, r8, -, -, -, -, ⟨kd, hkd, ekd⟩, hask⟩ := hRM j0 hj0 hjb
    refine lv_aload_n hx hb dX0_answer_8 rfl (lv_at hl 0 rfl) ?_
    refine dk_g7 E hP dX0_answer_9 ?_
    refine lv_iload_n hx hb dX0_answer_12 rfl (lv_at hl 1 rfl) ?_
    refine dk_l7 E hP (x := (nI kd)) (r7.trans ekd) (by omega) dX0_answer_13 ?_
    refine lv_iconst (v := (nI 2)) hx hb dX0_answer_14 (by decide) ?_
    refine nv_icmp_eq (tgt := 20) hx hb (by omega) (by omega) dX0_answer_15 (by decide) (fun c15 => ?_) (fun c15 => ?_)
    · subst c15
      refine lv_aload_n hx hb dX0_answer_20 rfl (lv_at hl 0 rfl) ?_
      refine dk_calli (As := []) (rest := []) E hP hS (met_dk_freeMoment l D o ad cB cI d hK hk6) (cwV 0 E.2.2.1 (lw_V q111 q113 qs1 q19 q114) rfl rfl rfl (by decide +kernel) ⟨by decide, by decide⟩) rfl hl.1 rfl (Nat.le_of_ble_eq_true rfl) ⟨Nat.zero_le _, Nat.zero_le _⟩ dX0_answer_21 (fun r120 d119 H locs hpd119 hP hS => ?_)
      obtain ⟨e0, er⟩ := hpd119
      rw [e0] at hP
      refine lv_istore_n (lv' := [(3, .int r120), (0, .ref o), (1, .int (nI j0)), (2, .int v)]) hx hb dX0_answer_24 rfl hl (by decide) rfl (fun ls hl => ?_)
      cases hrm : rm_ K.testBit 12 0 with
      | none =>
        rw [hrm] at er
        subst er
        refine lv_iload_n hx hb dX0_answer_25 rfl (lv_at hl 0 rfl) ?_
        refine lv_if_ge (tgt := 32) hx hb dX0_answer_26 (by decide) (fun c26 => ?_) (fun c26 => ?_)
        · exact absurd c26 (by decide)
        · refine lv_bipush (v := (-2)) hx hb dX0_answer_29 (by decide) ?_
          exact kR _ _ _ _ _ _ (Or.inr ⟨j0, hj0, rfl, hjb, ekd, Or.inl ⟨hrm, rfl, hR⟩⟩) hP hS dX0_answer_31
      | some i0 =>
        rw [hrm] at er
        subst er
        obtain ⟨-, hi0, hbit⟩ := rm_some 12 0 i0 hrm
        have hi0 : i0 < 12 := by omega
        have hfree : ∃ mf, mf < 12 ∧ K.testBit mf = false := ⟨i0, hi0, hbit⟩
        have hl : lv_has ls 5 [(3, .int (nI i0)), (0, .ref o), (1, .int (nI j0)), (2, .int v)] := hl
        refine lv_iload_n hx hb dX0_answer_25 rfl (lv_at hl 0 rfl) ?_
        refine lv_if_ge (tgt := 32) hx hb dX0_answer_26 (by decide) (fun c26 => ?_) (fun c26 => ?_)
        · obtain ⟨q, hqn, hq⟩ := hask ekd
          obtain ⟨oo, a, ho10, ha4, ho, ha, -⟩ := hMP q hqn
          obtain ⟨-, hn16, -⟩ := id hC.1
          refine lv_aload_n hx hb dX0_answer_32 rfl (lv_at hl 1 rfl) ?_
          refine lv_iload_n hx hb dX0_answer_33 rfl (lv_at hl 2 rfl) ?_
          refine dk_callv (As := [.int (nI j0)]) (rest := []) E hP hS (met_dk_recall l D o ad cB cI d hR hj0 hjb hfree) (cwV 1 E.2.2.1 (lw_V q151 q153 qs10 q19 q154) rfl rfl rfl (by decide +kernel) ⟨by decide, by decide⟩) rfl hl.1 rfl (Nat.le_of_ble_eq_true rfl) ⟨Nat.zero_le _, Nat.zero_le _⟩ dX0_answer_34 (fun d121 H locs hpd121 hP hS => ?_)
          have hU := hpd121
          obtain ⟨kp2, -, ⟨-, hRP2⟩, -⟩ := RU_C hU
          obtain ⟨-, p2', -⟩ := hRP2 q hqn
          refine lv_aload_n hx hb dX0_answer_37 rfl (lv_at hl 1 rfl) ?_
          refine dk_g14 E hP dX0_answer_38 ?_
          refine lv_aload_n hx hb dX0_answer_41 rfl (lv_at hl 1 rfl) ?_
          refine dk_g1 E hP dX0_answer_42 ?_
          refine lv_aload_n hx hb dX0_answer_45 rfl (lv_at hl 1 rfl) ?_
          refine dk_g13 E hP dX0_answer_46 ?_
          refine tp (y := (nI q)) ((RU_13 hU).trans hq) ?_
          refine dk_l1 E hP (x := (nI a)) (p2'.trans ha) (by omega) dX0_answer_49 ?_
          refine lv_iload_n hx hb dX0_answer_50 rfl (lv_at hl 3 rfl) ?_
          refine dk_s14 E hP hS (by omega) dX0_answer_51 (fun d122 H locs ed122 hP hS => ?_)
          have hU1 := RU_reg (v := v) hU ha4
          rw [← ed122] at hU1
          refine lv_aload_n hx hb dX0_answer_52 rfl (lv_at hl 1 rfl) ?_
          refine lv_dup hx hb dX0_answer_53 rfl ?_
          refine dk_g13 E hP dX0_answer_54 ?_
          refine tp (y := (mTake md j0 10 0)) ((RU_13 hU1).trans rfl) ?_
          refine lv_iconst (v := (nI 1)) hx hb dX0_answer_57 (by decide) ?_
          refine lv_iadd hx hb dX0_answer_58 ?_
          refine dk_p13 E hP hS dX0_answer_59 (fun d123 H locs ed123 hP hS => ?_)
          have hU2 := RU_at (v := mTake md j0 10 0 + 1) hU1
          have he : mAns (mTake md j0) v = mpos (va_up (mTake md j0) 12 (upd (mTake md j0 12) a v)) (mTake md j0 10 0 + 1) := by
            unfold mAns
            have h1 : mTake md j0 10 0 = nI q := hq
            have h2 : mTake md j0 2 q = nI a := ha
            rw [h1, lo16_nI (by omega), h2, lo4_nI ha4]
          rw [← he] at hU2
          have hU3 : RU d123 (mAns (mTake md j0) v) n K := by rw [ed123]; exact hU2
          obtain ⟨hMP2, -⟩ := RU_MP hU3
          obtain ⟨kd2, hkd2, ekd2, hkq⟩ := mRun_kd n hn16 60 _ hMP2
          refine lv_aload_n hx hb dX0_answer_62 rfl (lv_at hl 1 rfl) ?_
          refine dk_calli (As := []) (rest := []) E hP hS (met_dk_stretch l D o ad cB cI _ hU3) (cwV 0 E.2.2.1 (lw_V q119 q121 qs3 q19 q122) rfl rfl rfl (by decide +kernel) ⟨by decide, by decide⟩) rfl hl.1 rfl (Nat.le_of_ble_eq_true rfl) ⟨Nat.zero_le _, Nat.zero_le _⟩ dX0_answer_63 (fun r125 d124 H locs hpd124 hP hS => ?_)
          obtain ⟨er2, hU4⟩ := hpd124
          rw [ekd2] at er2
          refine tp (y := (nI kd2)) (er2) ?_
          refine lv_istore (lv' := [(4, .int (nI kd2)), (3, .int (nI i0)), (0, .ref o), (1, .int (nI j0)), (2, .int v)]) hx hb dX0_answer_66 hl (by decide) rfl (fun ls hl => ?_)
          refine lv_aload_n hx hb dX0_answer_68 rfl (lv_at hl 2 rfl) ?_
          refine lv_iload_n hx hb dX0_answer_69 rfl (lv_at hl 1 rfl) ?_
          refine lv_iload hx hb dX0_answer_70 (lv_at hl 0 rfl) ?_
          refine dk_callv (As := [.int (nI i0), .int (nI kd2)]) (rest := []) E hP hS (met_dk_keep l D o ad cB cI _ hU4 hi0 hbit hkd2 hkq) (cwV 2 E.2.2.1 (lw_V q143 q145 qs9 q19 q146) rfl rfl rfl (by decide +kernel) ⟨by decide, by decide⟩) rfl hl.1 rfl (Nat.le_of_ble_eq_true rfl) ⟨Nat.zero_le _, Nat.zero_le _⟩ dX0_answer_72 (fun d126 H locs hpd126 hP hS => ?_)
          refine lv_iload_n hx hb dX0_answer_75 rfl (lv_at hl 1 rfl) ?_
          exact kR _ _ _ _ _ _ (Or.inr ⟨j0, hj0, rfl, hjb, ekd, Or.inr ⟨i0, hi0, hrm, rfl, by have h9 := hpd126; unfold mGo; rw [ekd2]; exact h9⟩⟩) hP hS dX0_answer_76
        · exact absurd (nI_pos' (by omega)) c26
    · refine lv_iconst (v := (-1)) hx hb dX0_answer_18 (by decide) ?_
      exact kR _ _ _ _ _ _ (Or.inl ⟨fun ⟨k, a1, a2, a3, a4⟩ => c15 (by rw [nI_eq (by omega) (by omega)] at a2; subst a2; rw [ekd, nI_eq (by omega) (by decide)] at a4; exact a4), rfl, hR⟩) hP hS dX0_answer_19
set_option maxHeartbeats 4000000 in
set_option maxRecDepth 100000 in
theorem met_dk_answer (l : Launch) (D : va_G) (o : Nat) (ad : Nat → Nat) (cB cI : ClassId) (d : MS) {md : MS} {n K : Nat} {x v : Int32} (hR : RB d md n K) : dkMi l yX0_answer cX0_answer 5 (some .int) (rmk 5) D o ad cB cI [.int x, .int v] d (fun r d' => AsR K n md x (nI 2) (fun k => mAns (mTake md k) v) r (fun x K' => RB d' x n K')) :=
  dk_meti (by decide) rfl (Nat.le_of_ble_eq_true rfl) (fun _ _ _ => rfl) (fun p e s m args below meth c ls Q E hP hl kR => wk_dk_answer hR E hP hl kR)
set_option maxHeartbeats 4000000 in
set_option maxRecDepth 100000 in
theorem wk_dk_goOn {p : Program} {l : Launch} {e : Env} {s : State} {m : MethodId} {args : Array Value} {below : List Frame} {meth : Method} {c : Code} {ls : Array Slot} {Q : State → Prop} {D : va_G} {o : Nat} {ad : Nat → Nat} {cB cI : ClassId} {d : MS} {md : MS} {n K : Nat} {x : Int32} (hR : RB d md n K) (E : dkE D o ad cB cI p s m args c cX0_goOn 4) (hP : va_P D vwCl (dk_w o ad cB cI d) s.heap) (hl : lv_has ls 4 [(0, .ref o), (1, .int x)]) (kR : dkKi D o ad cB cI p l e (rmk 5) s m args below meth c cX0_goOn Q (fun r d' => AsR K n md x (nI 3) (fun k => mTake md k) r (fun x K' => RB d' x n K'))) : W p l e (rmk 5) s m args below meth c s.heap [] 0 0 Q (F0 m 0 ls []) := by
  obtain ⟨hx, hb, -⟩ := id E
  have hS : va_S (dk_A o ad) s.heap s.heap [] := va_S.rf
  obtain ⟨hK, hk6⟩ := RB_K hR
  obtain ⟨kp, hC, hO⟩ := id hR
  have hRM := hC.2.2.2
  obtain ⟨-, -, hMP, -⟩ := id hC.1
  obtain ⟨-, hRP⟩ := id hC.2.1
  refine lv_aload_n hx hb dX0_goOn_0 rfl (lv_at hl 0 rfl) ?_
  refine lv_iload_n hx hb dX0_goOn_1 rfl (lv_at hl 1 rfl) ?_
  refine dk_calli (As := [.int x]) (rest := []) E hP hS (met_dk_has l D o ad cB cI d hK hk6) (cwV 1 E.2.2.1 (lw_V q98 q100 qs0 q19 q101) rfl rfl rfl (by decide +kernel) ⟨by decide, by decide⟩) rfl hl.1 rfl (Nat.le_of_ble_eq_true rfl) ⟨Nat.zero_le _, Nat.zero_le _⟩ dX0_goOn_2 (fun r128 d127 H locs hpd127 hP hS => ?_)
  obtain ⟨e0, hh⟩ := hpd127
  rw [e0] at hP
  refine lv_if_eq (tgt := 18) hx hb dX0_goOn_5 (by decide) (fun c5 => ?_) (fun c5 => ?_)
  · refine lv_iconst (v := (-1)) hx hb dX0_goOn_18 (by decide) ?_
    exact kR _ _ _ _ _ _ (Or.inl ⟨fun ⟨k, a1, a2, a3, _⟩ => hh.eq c5 ⟨k, a1, a2, a3⟩, rfl, hR⟩) hP hS dX0_goOn_19
  · obtain ⟨j0, hj0, rfl, hjb⟩ := hh.ne c5
    obtain ⟨r7, r8, -, -, -, -, ⟨kd, hkd, ekd⟩, hask⟩ := hRM j0 hj0 hjb
    refine lv_aload_n hx hb dX0_goOn_8 rfl (lv_at hl 0 rfl) ?_
    refine dk_g7 E hP dX0_goOn_9 ?_
    refine lv_iload_n hx hb dX0_goOn_12 rfl (lv_at hl 1 rfl) ?_
    refine dk_l7 E hP (x := (nI kd)) (r7.trans ekd) (by omega) dX0_goOn_13 ?_
    refine lv_iconst (v := (nI 3)) hx hb dX0_goOn_14 (by decide) ?_
    refine nv_icmp_eq (tgt := 20) hx hb (by omega) (by omega) dX0_goOn_15 (by decide) (fun c15 => ?_) (fun c15 => ?_)
    · subst c15
      refine lv_aload_n hx hb dX0_goOn_20 rfl (lv_at hl 0 rfl) ?_
      refine dk_calli (As := []) (rest := []) E hP hS (met_dk_freeMoment l D o ad cB cI d hK hk6) (cwV 0 E.2.2.1 (lw_V q111 q113 qs1 q19 q114) rfl rfl rfl (by decide +kernel) ⟨by decide, by decide⟩) rfl hl.1 rfl (Nat.le_of_ble_eq_true rfl) ⟨Nat.zero_le _, Nat.zero_le _⟩ dX0_goOn_21 (fun r130 d129 H locs hpd129 hP hS => ?_)
      obtain ⟨e0, er⟩ := hpd129
      rw [e0] at hP
      refine lv_istore_n (lv' := [(2, .int r130), (0, .ref o), (1, .int (nI j0))]) hx hb dX0_goOn_24 rfl hl (by decide) rfl (fun ls hl => ?_)
      cases hrm : rm_ K.testBit 12 0 with
      | none =>
        rw [hrm] at er
        subst er
        refine lv_iload_n hx hb dX0_goOn_25 rfl (lv_at hl 0 rfl) ?_
        refine lv_if_ge (tgt := 32) hx hb dX0_goOn_26 (by decide) (fun c26 => ?_) (fun c26 => ?_)
        · exact absurd c26 (by decide)
        · refine lv_bipush (v := (-2)) hx hb dX0_goOn_29 (by decide) ?_
          exact kR _ _ _ _ _ _ (Or.inr ⟨j0, hj0, rfl, hjb, ekd, Or.inl ⟨hrm, rfl, hR⟩⟩) hP hS dX0_goOn_31
      | some i0 =>
        rw [hrm] at er
        subst er
        obtain ⟨-, hi0, hbit⟩ := rm_some 12 0 i0 hrm
        have hi0 : i0 < 12 := by omega
        have hfree : ∃ mf, mf < 12 ∧ K.testBit mf = false := ⟨i0, hi0, hbit⟩
        have hl : lv_has ls 4 [(2, .int (nI i0)), (0, .ref o), (1, .int (nI j0))] := hl
        refine lv_iload_n hx hb dX0_goOn_25 rfl (lv_at hl 0 rfl) ?_
        refine lv_if_ge (tgt := 32) hx hb dX0_goOn_26 (by decide) (fun c26 => ?_) (fun c26 => ?_)
        · refine lv_aload_n hx hb dX0_goOn_32 rfl (lv_at hl 1 rfl) ?_
          refine lv_iload_n hx hb dX0_goOn_33 rfl (lv_at hl 2 rfl) ?_
          refine dk_callv (As := [.int (nI j0)]) (rest := []) E hP hS (met_dk_recall l D o ad cB cI d hR hj0 hjb hfree) (cwV 1 E.2.2.1 (lw_V q151 q153 qs10 q19 q154) rfl rfl rfl (by decide +kernel) ⟨by decide, by decide⟩) rfl hl.1 rfl (Nat.le_of_ble_eq_true rfl) ⟨Nat.zero_le _, Nat.zero_le _⟩ dX0_goOn_34 (fun d131 H locs hpd131 hP hS => ?_)
          have hU := hpd131
          obtain ⟨hMP2, hn16⟩ := RU_MP hU
          obtain ⟨kd2, hkd2, ekd2, hkq⟩ := mRun_kd n hn16 60 _ hMP2
          refine lv_aload_n hx hb dX0_goOn_37 rfl (lv_at hl 1 rfl) ?_
          refine dk_calli (As := []) (rest := []) E hP hS (met_dk_stretch l D o ad cB cI _ hU) (cwV 0 E.2.2.1 (lw_V q119 q121 qs3 q19 q122) rfl rfl rfl (by decide +kernel) ⟨by decide, by decide⟩) rfl hl.1 rfl (Nat.le_of_ble_eq_true rfl) ⟨Nat.zero_le _, Nat.zero_le _⟩ dX0_goOn_38 (fun r133 d132 H locs hpd132 hP hS => ?_)
          obtain ⟨er2, hU2⟩ := hpd132
          rw [ekd2] at er2
          refine tp (y := (nI kd2)) (er2) ?_
          refine lv_istore_n (lv' := [(3, .int (nI kd2)), (2, .int (nI i0)), (0, .ref o), (1, .int (nI j0))]) hx hb dX0_goOn_41 rfl hl (by decide) rfl (fun ls hl => ?_)
          refine lv_aload_n hx hb dX0_goOn_42 rfl (lv_at hl 2 rfl) ?_
          refine lv_iload_n hx hb dX0_goOn_43 rfl (lv_at hl 1 rfl) ?_
          refine lv_iload_n hx hb dX0_goOn_44 rfl (lv_at hl 0 rfl) ?_
          refine dk_callv (As := [.int (nI i0), .int (nI kd2)]) (rest := []) E hP hS (met_dk_keep l D o ad cB cI _ hU2 hi0 hbit hkd2 hkq) (cwV 2 E.2.2.1 (lw_V q143 q145 qs9 q19 q146) rfl rfl rfl (by decide +kernel) ⟨by decide, by decide⟩) rfl hl.1 rfl (Nat.le_of_ble_eq_true rfl) ⟨Nat.zero_le _, Nat.zero_le _⟩ dX0_goOn_45 (fun d134 H locs hpd134 hP hS => ?_)
          refine lv_iload_n hx hb dX0_goOn_48 rfl (lv_at hl 1 rfl) ?_
          exact kR _ _ _ _ _ _ (Or.inr ⟨j0, hj0, rfl, hjb, ekd, Or.inr ⟨i0, hi0, hrm, rfl, by have h9 := hpd134; unfold mGo; rw [ekd2]; exact h9⟩⟩) hP hS dX0_goOn_49
        · exact absurd (nI_pos' (by omega)) c26
    · refine lv_iconst (v := (-1)) hx hb dX0_goOn_18 (by decide) ?_
      exact kR _ _ _ _ _ _ (Or.inl ⟨fun ⟨k, a1, a2, a3, a4⟩ => c15 (by rw [nI_eq (by omega) (by omega)] at a2; subst a2; rw [ekd, nI_eq (by omega) (by decide)] at a4; exact a4), rfl, hR⟩) hP hS dX0_goOn_19
set_option maxHeartbeats 4000000 in
set_option maxRecDepth 100000 in
theorem met_dk_goOn (l : Launch) (D : va_G) (o : Nat) (ad : Nat → Nat) (cB cI : ClassId) (d : MS) {md : MS} {n K : Nat} {x : Int32} (hR : RB d md n K) : dkMi l yX0_goOn cX0_goOn 4 (some .int) (rmk 5) D o ad cB cI [.int x] d (fun r d' => AsR K n md x (nI 3) (fun k => mTake md k) r (fun x K' => RB d' x n K')) :=
  dk_meti (by decide) rfl (Nat.le_of_ble_eq_true rfl) (fun _ _ _ => rfl) (fun p e s m args below meth c ls Q E hP hl kR => wk_dk_goOn hR E hP hl kR)
set_option maxHeartbeats 4000000 in
set_option maxRecDepth 100000 in
theorem wk_dk_emit {p : Program} {l : Launch} {e : Env} {s : State} {m : MethodId} {args : Array Value} {below : List Frame} {meth : Method} {c : Code} {ls : Array Slot} {Q : State → Prop} {D : va_G} {o : Nat} {ad : Nat → Nat} {cB cI : ClassId} {d : MS} {md : MS} {n K : Nat} {op a b : Int32} (hR : RB d md n K) (E : dkE D o ad cB cI p s m args c cX0_emit 5) (hP : va_P D vwCl (dk_w o ad cB cI d) s.heap) (hl : lv_has ls 5 [(0, .ref o), (1, .int op), (2, .int a), (3, .int b)]) (kR : dkKi D o ad cB cI p l e (rmk 0) s m args below meth c cX0_emit Q (fun r d' => EmR K n md op a b r (fun x n' => RB d' x n' K))) : W p l e (rmk 0) s m args below meth c s.heap [] 0 0 Q (F0 m 0 ls []) := by
  obtain ⟨hx, hb, -⟩ := id E
  have hS : va_S (dk_A o ad) s.heap s.heap [] := va_S.rf
  obtain ⟨hK, hk6⟩ := RB_K hR
  obtain ⟨kp, ⟨⟨-, hn16, -⟩, ⟨hsz, -⟩, -⟩, -⟩ := id hR
  have tail52 : ∀ (ls : Array Slot) (oo aa : Nat), oo < 10 → aa < 4 → op = nI oo → a = nI aa → okE op a b → lv_has ls 5 [(0, .ref o), (1, .int op), (2, .int a), (3, .int b)] → W p l e (rmk 0) s m args below meth c s.heap [] 0 0 Q (F0 m 52 ls []) := by
    intro ls oo aa hoo haa eo ea hok hl
    subst eo
    subst ea
    refine lv_aload_n hx hb dX0_emit_52 rfl (lv_at hl 0 rfl) ?_
    refine dk_g3 E hP dX0_emit_53 ?_
    refine tp (y := (nI n)) (hsz) ?_
    refine lv_bipush (v := (nI 16)) hx hb dX0_emit_56 (by decide) ?_
    refine nv_icmp_lt (tgt := 64) hx hb (by omega) (by omega) dX0_emit_58 (by decide) (fun c58 => ?_) (fun c58 => ?_)
    · refine lv_aload_n hx hb dX0_emit_64 rfl (lv_at hl 0 rfl) ?_
      refine dk_g6 E hP dX0_emit_65 ?_
      refine tp (y := (nI K)) (hk6) ?_
      refine lv_if_eq (tgt := 73) hx hb dX0_emit_68 (by decide) (fun c68 => ?_) (fun c68 => ?_)
      · have hK0 : K = 0 := Classical.byContradiction (fun z => nI_ne0 (Nat.pos_of_ne_zero z) (by omega) c68)
        subst hK0
        refine lv_aload_n hx hb dX0_emit_73 rfl (lv_at hl 0 rfl) ?_
        refine dk_g0 E hP dX0_emit_74 ?_
        refine lv_aload_n hx hb dX0_emit_77 rfl (lv_at hl 0 rfl) ?_
        refine dk_g3 E hP dX0_emit_78 ?_
        refine tp (y := (nI n)) (hsz) ?_
        refine lv_iload_n hx hb dX0_emit_81 rfl (lv_at hl 1 rfl) ?_
        refine lv_i2b (v := (nI oo)) hx hb dX0_emit_82 (b8 (by omega)) ?_
        refine dk_s0 E hP hS (y := (nI oo)) (nb8 (by omega)) (by omega) dX0_emit_83 (fun d135 H locs ed135 hP hS => ?_)
        refine lv_aload_n hx hb dX0_emit_84 rfl (lv_at hl 0 rfl) ?_
        refine dk_g1 E hP dX0_emit_85 ?_
        refine lv_aload_n hx hb dX0_emit_88 rfl (lv_at hl 0 rfl) ?_
        refine dk_g3 E hP dX0_emit_89 ?_
        refine tp (y := (nI n)) (by rw [ed135, va_up_ne _ _ (by decide)]; exact hsz) ?_
        refine lv_iload_n hx hb dX0_emit_92 rfl (lv_at hl 2 rfl) ?_
        refine lv_i2b (v := (nI aa)) hx hb dX0_emit_93 (b8 (by omega)) ?_
        refine dk_s1 E hP hS (y := (nI aa)) (nb8 (by omega)) (by omega) dX0_emit_94 (fun d136 H locs ed136 hP hS => ?_)
        refine lv_aload_n hx hb dX0_emit_95 rfl (lv_at hl 0 rfl) ?_
        refine dk_g2 E hP dX0_emit_96 ?_
        refine lv_aload_n hx hb dX0_emit_99 rfl (lv_at hl 0 rfl) ?_
        refine dk_g3 E hP dX0_emit_100 ?_
        refine tp (y := (nI n)) (by rw [ed136, va_up_ne _ _ (by decide), ed135, va_up_ne _ _ (by decide)]; exact hsz) ?_
        refine lv_iload_n hx hb dX0_emit_103 rfl (lv_at hl 3 rfl) ?_
        refine dk_s2 E hP hS (by omega) dX0_emit_104 (fun d137 H locs ed137 hP hS => ?_)
        refine lv_aload_n hx hb dX0_emit_105 rfl (lv_at hl 0 rfl) ?_
        refine lv_dup hx hb dX0_emit_106 rfl ?_
        refine dk_g3 E hP dX0_emit_107 ?_
        refine tp (y := (nI n)) (by rw [ed137, va_up_ne _ _ (by decide), ed136, va_up_ne _ _ (by decide), ed135, va_up_ne _ _ (by decide)]; exact hsz) ?_
        refine lv_iconst (v := (nI 1)) hx hb dX0_emit_110 (by decide) ?_
        refine nv_iadd hx hb dX0_emit_111 ?_
        refine dk_p3 E hP hS dX0_emit_112 (fun d138 H locs ed138 hP hS => ?_)
        refine lv_aload_n hx hb dX0_emit_115 rfl (lv_at hl 0 rfl) ?_
        refine dk_g3 E hP dX0_emit_116 ?_
        refine tp (y := (nI (n + 1))) (by rw [ed138, va_up_self]) ?_
        refine lv_iconst (v := (nI 1)) hx hb dX0_emit_119 (by decide) ?_
        refine nv_isub hx hb (by omega) dX0_emit_120 ?_
        exact kR _ _ _ _ _ _ (Or.inr (Or.inr (Or.inr ⟨hok, c58, rfl, rfl, RB_emit hR c58 hok (by rw [ed138, va_up_ne _ _ (by decide), ed137, va_up_ne _ _ (by decide), ed136, va_up_ne _ _ (by decide), ed135, va_up_self]) (by rw [ed138, va_up_ne _ _ (by decide), ed137, va_up_ne _ _ (by decide), ed136, va_up_self, ed135, va_up_ne _ _ (by decide)]) (by rw [ed138, va_up_ne _ _ (by decide), ed137, va_up_self, ed136, va_up_ne _ _ (by decide), ed135, va_up_ne _ _ (by decide)]) (by rw [ed138, va_up_self]) (fun k a0 a1 a2 a3 => by rw [ed138, va_up_ne _ _ a3, ed137, va_up_ne _ _ a2, ed136, va_up_ne _ _ a1, ed135, va_up_ne _ _ a0])⟩))) hP hS dX0_emit_121
      · refine lv_iconst (v := (-1)) hx hb dX0_emit_71 (by decide) ?_
        exact kR _ _ _ _ _ _ (Or.inr (Or.inr (Or.inl ⟨hok, c58, fun z => c68 (by rw [z]; rfl), rfl, hR⟩))) hP hS dX0_emit_72
    · refine lv_bipush (v := (-2)) hx hb dX0_emit_61 (by decide) ?_
      exact kR _ _ _ _ _ _ (Or.inr (Or.inl ⟨hok, c58, rfl, hR⟩)) hP hS dX0_emit_63
  have tail17 : ∀ (ls : Array Slot) (sc : Nat), (sc = 1 ∧ ¬ op < nI 1 ∧ ¬ nI 4 < op ∨ sc = 0 ∧ (op < nI 1 ∨ nI 4 < op)) → lv_has ls 5 [(0, .ref o), (1, .int op), (2, .int a), (3, .int b), (4, .int (nI sc))] → W p l e (rmk 0) s m args below meth c s.heap [] 0 0 Q (F0 m 17 ls []) := by
    intro ls sc hsc hl
    refine lv_iload_n hx hb dX0_emit_17 rfl (lv_at hl 1 rfl) ?_
    refine lv_if_lt (tgt := 50) hx hb dX0_emit_18 (by decide) (fun c18 => ?_) (fun c18 => ?_)
    · refine lv_iconst (v := (-1)) hx hb dX0_emit_50 (by decide) ?_
      exact kR _ _ _ _ _ _ (Or.inl ⟨nok_op (Or.inl c18), rfl, hR⟩) hP hS dX0_emit_51
    · refine lv_iload_n hx hb dX0_emit_21 rfl (lv_at hl 1 rfl) ?_
      refine lv_bipush (v := (nI 9)) hx hb dX0_emit_22 (by decide) ?_
      refine lv_icmp_gt (tgt := 50) hx hb dX0_emit_24 (by decide) (fun c24 => ?_) (fun c24 => ?_)
      · refine lv_iconst (v := (-1)) hx hb dX0_emit_50 (by decide) ?_
        exact kR _ _ _ _ _ _ (Or.inl ⟨nok_op (Or.inr c24), rfl, hR⟩) hP hS dX0_emit_51
      · refine lv_iload_n hx hb dX0_emit_27 rfl (lv_at hl 2 rfl) ?_
        refine lv_if_lt (tgt := 50) hx hb dX0_emit_28 (by decide) (fun c28 => ?_) (fun c28 => ?_)
        · refine lv_iconst (v := (-1)) hx hb dX0_emit_50 (by decide) ?_
          exact kR _ _ _ _ _ _ (Or.inl ⟨nok_a (Or.inl c28), rfl, hR⟩) hP hS dX0_emit_51
        · refine lv_iload_n hx hb dX0_emit_31 rfl (lv_at hl 2 rfl) ?_
          refine lv_iconst (v := (nI 3)) hx hb dX0_emit_32 (by decide) ?_
          refine lv_icmp_gt (tgt := 50) hx hb dX0_emit_33 (by decide) (fun c33 => ?_) (fun c33 => ?_)
          · refine lv_iconst (v := (-1)) hx hb dX0_emit_50 (by decide) ?_
            exact kR _ _ _ _ _ _ (Or.inl ⟨nok_a (Or.inr c33), rfl, hR⟩) hP hS dX0_emit_51
          · obtain ⟨oo, hoo, eo⟩ := inN 9 (by decide) c18 c24
            obtain ⟨aa, haa, ea⟩ := inN 3 (by decide) c28 c33
            refine lv_iload hx hb dX0_emit_36 (lv_at hl 4 rfl) ?_
            refine lv_if_eq (tgt := 52) hx hb dX0_emit_38 (by decide) (fun c38 => ?_) (fun c38 => ?_)
            · have hs0 : op < nI 1 ∨ nI 4 < op := by
                rcases hsc with h | h
                · rw [h.1] at c38; exact absurd c38 (by decide)
                · exact h.2
              have hok : okE op a b := ⟨oo, aa, by omega, by omega, eo, ea, fun h1 h4 => by
                rw [eo, nI_ltI (by omega) (by decide), nI_ltI (by decide) (by omega)] at hs0
                omega⟩
              have hl : lv_has ls 5 [(0, .ref o), (1, .int op), (2, .int a), (3, .int b)] := lv_sub hl [0, 1, 2, 3] rfl
              exact tail52 ls oo aa (by omega) (by omega) eo ea hok hl
            · have hs1 : 1 ≤ oo ∧ oo ≤ 4 := by
                rcases hsc with h | h
                · obtain ⟨-, h1, h2⟩ := h
                  rw [eo, nI_ltI (by omega) (by decide)] at h1
                  rw [eo, nI_ltI (by decide) (by omega)] at h2
                  omega
                · rw [h.1] at c38; exact absurd rfl c38
              refine lv_iload_n hx hb dX0_emit_41 rfl (lv_at hl 3 rfl) ?_
              refine lv_if_lt (tgt := 50) hx hb dX0_emit_42 (by decide) (fun c42 => ?_) (fun c42 => ?_)
              · refine lv_iconst (v := (-1)) hx hb dX0_emit_50 (by decide) ?_
                exact kR _ _ _ _ _ _ (Or.inl ⟨by rw [eo]; exact nok_b (by omega) hs1.1 hs1.2 (Or.inl c42), rfl, hR⟩) hP hS dX0_emit_51
              · refine lv_iload_n hx hb dX0_emit_45 rfl (lv_at hl 3 rfl) ?_
                refine lv_iconst (v := (nI 3)) hx hb dX0_emit_46 (by decide) ?_
                refine lv_icmp_le (tgt := 52) hx hb dX0_emit_47 (by decide) (fun c47 => ?_) (fun c47 => ?_)
                · obtain ⟨bb, hbb, eb⟩ := inN 3 (by decide) c42 (Int32.not_lt.mpr c47)
                  have hok : okE op a b := ⟨oo, aa, by omega, by omega, eo, ea, fun _ _ => ⟨bb, by omega, eb⟩⟩
                  have hl : lv_has ls 5 [(0, .ref o), (1, .int op), (2, .int a), (3, .int b)] := lv_sub hl [0, 1, 2, 3] rfl
                  exact tail52 ls oo aa (by omega) (by omega) eo ea hok hl
                · refine lv_iconst (v := (-1)) hx hb dX0_emit_50 (by decide) ?_
                  exact kR _ _ _ _ _ _ (Or.inl ⟨by rw [eo]; exact nok_b (by omega) hs1.1 hs1.2 (Or.inr (Int32.not_le.mp c47)), rfl, hR⟩) hP hS dX0_emit_51
  refine lv_iload_n hx hb dX0_emit_0 rfl (lv_at hl 1 rfl) ?_
  refine lv_iconst (v := (nI 1)) hx hb dX0_emit_1 (by decide) ?_
  refine lv_icmp_lt (tgt := 14) hx hb dX0_emit_2 (by decide) (fun c2 => ?_) (fun c2 => ?_)
  · refine lv_iconst (v := (nI 0)) hx hb dX0_emit_14 (by decide) ?_
    refine lv_istore (lv' := [(4, .int (nI 0)), (0, .ref o), (1, .int op), (2, .int a), (3, .int b)]) hx hb dX0_emit_15 hl (by decide) rfl (fun ls hl => ?_)
    have hl : lv_has ls 5 [(0, .ref o), (1, .int op), (2, .int a), (3, .int b), (4, .int (nI 0))] := lv_sub hl [1, 2, 3, 4, 0] rfl
    exact tail17 ls _ (Or.inr ⟨rfl, Or.inl c2⟩) hl
  · refine lv_iload_n hx hb dX0_emit_5 rfl (lv_at hl 1 rfl) ?_
    refine lv_iconst (v := (nI 4)) hx hb dX0_emit_6 (by decide) ?_
    refine lv_icmp_gt (tgt := 14) hx hb dX0_emit_7 (by decide) (fun c7 => ?_) (fun c7 => ?_)
    · refine lv_iconst (v := (nI 0)) hx hb dX0_emit_14 (by decide) ?_
      refine lv_istore (lv' := [(4, .int (nI 0)), (0, .ref o), (1, .int op), (2, .int a), (3, .int b)]) hx hb dX0_emit_15 hl (by decide) rfl (fun ls hl => ?_)
      have hl : lv_has ls 5 [(0, .ref o), (1, .int op), (2, .int a), (3, .int b), (4, .int (nI 0))] := lv_sub hl [1, 2, 3, 4, 0] rfl
      exact tail17 ls _ (Or.inr ⟨rfl, Or.inr c7⟩) hl
    · refine lv_iconst (v := (nI 1)) hx hb dX0_emit_10 (by decide) ?_
      refine lv_goto (tgt := 15) hx hb dX0_emit_11 (by decide) ?_
      refine lv_istore (lv' := [(4, .int (nI 1)), (0, .ref o), (1, .int op), (2, .int a), (3, .int b)]) hx hb dX0_emit_15 hl (by decide) rfl (fun ls hl => ?_)
      have hl : lv_has ls 5 [(0, .ref o), (1, .int op), (2, .int a), (3, .int b), (4, .int (nI 1))] := lv_sub hl [1, 2, 3, 4, 0] rfl
      exact tail17 ls _ (Or.inl ⟨rfl, c2, c7⟩) hl
set_option maxHeartbeats 4000000 in
set_option maxRecDepth 100000 in
theorem met_dk_emit (l : Launch) (D : va_G) (o : Nat) (ad : Nat → Nat) (cB cI : ClassId) (d : MS) {md : MS} {n K : Nat} {op a b : Int32} (hR : RB d md n K) : dkMi l yX0_emit cX0_emit 5 (some .int) (rmk 0) D o ad cB cI [.int op, .int a, .int b] d (fun r d' => EmR K n md op a b r (fun x n' => RB d' x n' K)) :=
  dk_meti (by decide) rfl (Nat.le_of_ble_eq_true rfl) (fun _ _ _ => rfl) (fun p e s m args below meth c ls Q E hP hl kR => wk_dk_emit hR E hP hl kR)
end
section
/-! ReplayDesk: what is asked -/
def bt (x : Int32) (i : Nat) : Bool := x.toBitVec.getLsbD i
theorem b_ext {x y : Int32} (h : ∀ i, i < 32 → bt x i = bt y i) : x = y := Int32.toBitVec_inj.mp (BitVec.eq_of_getLsbD_eq (fun i hi => h i hi))
theorem b_or (x y : Int32) (i : Nat) : bt (x ||| y) i = (bt x i || bt y i) := by unfold bt; rw [Int32.toBitVec_or, BitVec.getLsbD_or]
theorem b_0 (i : Nat) : bt 0 i = false := BitVec.getLsbD_zero
theorem b_shl (n : Nat) (hn : n < 32) (x : Int32) {i : Nat} (hi : i < 32) : bt (x <<< (nI n &&& 31)) i = (decide (n ≤ i) && bt x (i - n)) := by
  unfold bt
  rw [Int32.toBitVec_shiftLeft]
  show (x.toBitVec <<< ((nI n &&& 31).toBitVec.smod 32).toNat).getLsbD i = _
  rw [sm_ n hn, BitVec.getLsbD_shiftLeft]
  rcases Nat.lt_or_ge i n with h | h
  · simp [h, Nat.not_le.mpr h]
  · simp [hi, h, Nat.not_lt.mpr h]
theorem b_1 : ∀ i, i < 32 → bt (nI 1) i = decide (i = 0) := by decide +kernel
theorem b_or1 (x : Int32) {k i : Nat} (hk : k < 32) (hi : i < 32) : bt (x ||| (nI 1 <<< (nI k &&& 31))) i = (bt x i || decide (i = k)) := by
  rw [b_or, b_shl k hk _ hi, b_1 (i - k) (by omega)]
  congr 1
  by_cases h : i = k
  · subst h; simp
  · by_cases h2 : k ≤ i
    · rw [decide_eq_false h, decide_eq_false (show ¬ i - k = 0 by omega), Bool.and_false]
    · rw [decide_eq_false h, decide_eq_false h2, Bool.false_and]
noncomputable def fAt (md : MS) (K : Nat) (f : Nat) (x z : Int32) : Int32 := cif (hasK K x) (md f x.toNatClampNeg) z
theorem fAt_yes {md : MS} {K f k : Nat} {z : Int32} (hk : k < 12) (hb : K.testBit k = true) : fAt md K f (nI k) z = md f k := by
  unfold fAt
  rw [cif_pos (hasK_nI hk hb), nI_clamp (by omega)]
theorem fAt_no {md : MS} {K f : Nat} {x z : Int32} (h : ¬ hasK K x) : fAt md K f x z = z := cif_neg h
def PeekR (md : MS) (K : Nat) (x i r : Int32) : Prop := (∃ k j, k < 12 ∧ j < 20 ∧ x = nI k ∧ K.testBit k = true ∧ i = nI (if j < 4 then j else j + 12) ∧ r = md 8 (20 * k + j)) ∨ ((¬ hasK K x ∨ ∀ j, j < 20 → ¬ i = nI (if j < 4 then j else j + 12)) ∧ r = 0)
def LastR (md : MS) (K : Nat) (x i r : Int32) : Prop := (∃ k j, k < 12 ∧ j < 8 ∧ x = nI k ∧ K.testBit k = true ∧ i = nI j ∧ i < md 7 k ∧ r = md 9 (8 * k + j)) ∨ ((¬ hasK K x ∨ (∀ j, j < 8 → ¬ i = nI j) ∨ ∃ k, k < 12 ∧ x = nI k ∧ ¬ i < md 7 k) ∧ r = 0)
def dbit (md : MS) (a b q : Nat) : Bool := if q < 4 then decide (¬ md 8 (20 * a + q) = md 8 (20 * b + q)) else if 16 ≤ q then decide (¬ md 8 (20 * a + (q - 12)) = md 8 (20 * b + (q - 12))) else false
def DiffR (md : MS) (K : Nat) (x y r : Int32) : Prop := (∃ a b, a < 12 ∧ b < 12 ∧ x = nI a ∧ y = nI b ∧ K.testBit a = true ∧ K.testBit b = true ∧ ∀ q, q < 32 → bt r q = dbit md a b q) ∨ (¬ (hasK K x ∧ hasK K y) ∧ r = 0)
theorem RB_M {d md : MS} {n K : Nat} (h : RB d md n K) {k : Nat} (hk : k < 12) (hb : K.testBit k = true) : ∃ kp, RM d md n kp k := by
  obtain ⟨kp, hC, -⟩ := h
  exact ⟨kp, hC.2.2.2 k hk hb⟩
set_option maxHeartbeats 4000000 in
set_option maxRecDepth 100000 in
theorem wk_dk_moments {p : Program} {l : Launch} {e : Env} {s : State} {m : MethodId} {args : Array Value} {below : List Frame} {meth : Method} {c : Code} {ls : Array Slot} {Q : State → Prop} {D : va_G} {o : Nat} {ad : Nat → Nat} {cB cI : ClassId} {d : MS} {md : MS} {n K : Nat} (hR : RB d md n K) (E : dkE D o ad cB cI p s m args c cX0_moments 1) (hP : va_P D vwCl (dk_w o ad cB cI d) s.heap) (hl : lv_has ls 1 [(0, .ref o)]) (kR : dkKi D o ad cB cI p l e (rmk 0) s m args below meth c cX0_moments Q (fun r d' => d' = d ∧ r = nI K)) : W p l e (rmk 0) s m args below meth c s.heap [] 0 0 Q (F0 m 0 ls []) := by
  obtain ⟨hx, hb, -⟩ := id E
  have hS : va_S (dk_A o ad) s.heap s.heap [] := va_S.rf
  obtain ⟨hK, hk6⟩ := RB_K hR
  refine lv_aload_n hx hb dX0_moments_0 rfl (lv_at hl 0 rfl) ?_
  refine dk_g6 E hP dX0_moments_1 ?_
  exact kR _ _ _ _ _ _ (⟨rfl, hk6⟩) hP hS dX0_moments_4
set_option maxHeartbeats 4000000 in
set_option maxRecDepth 100000 in
theorem met_dk_moments (l : Launch) (D : va_G) (o : Nat) (ad : Nat → Nat) (cB cI : ClassId) (d : MS) {md : MS} {n K : Nat} (hR : RB d md n K) : dkMi l yX0_moments cX0_moments 1 (some .int) (rmk 0) D o ad cB cI [] d (fun r d' => d' = d ∧ r = nI K) :=
  dk_meti (by decide) rfl (Nat.le_of_ble_eq_true rfl) (fun _ _ _ => rfl) (fun p e s m args below meth c ls Q E hP hl kR => wk_dk_moments hR E hP hl kR)
set_option maxHeartbeats 4000000 in
set_option maxRecDepth 100000 in
theorem wk_dk_kind {p : Program} {l : Launch} {e : Env} {s : State} {m : MethodId} {args : Array Value} {below : List Frame} {meth : Method} {c : Code} {ls : Array Slot} {Q : State → Prop} {D : va_G} {o : Nat} {ad : Nat → Nat} {cB cI : ClassId} {d : MS} {md : MS} {n K : Nat} {x : Int32} (hR : RB d md n K) (E : dkE D o ad cB cI p s m args c cX0_kind 2) (hP : va_P D vwCl (dk_w o ad cB cI d) s.heap) (hl : lv_has ls 2 [(0, .ref o), (1, .int x)]) (kR : dkKi D o ad cB cI p l e (rmk 1) s m args below meth c cX0_kind Q (fun r d' => d' = d ∧ r = fAt md K 5 x (-1))) : W p l e (rmk 1) s m args below meth c s.heap [] 0 0 Q (F0 m 0 ls []) := by
  obtain ⟨hx, hb, -⟩ := id E
  have hS : va_S (dk_A o ad) s.heap s.heap [] := va_S.rf
  obtain ⟨hK, hk6⟩ := RB_K hR
  refine lv_aload_n hx hb dX0_kind_0 rfl (lv_at hl 0 rfl) ?_
  refine lv_iload_n hx hb dX0_kind_1 rfl (lv_at hl 1 rfl) ?_
  refine dk_calli (As := [.int x]) (rest := []) E hP hS (met_dk_has l D o ad cB cI d hK hk6) (cwV 1 E.2.2.1 (lw_V q98 q100 qs0 q19 q101) rfl rfl rfl (by decide +kernel) ⟨by decide, by decide⟩) rfl hl.1 rfl (Nat.le_of_ble_eq_true rfl) ⟨Nat.zero_le _, Nat.zero_le _⟩ dX0_kind_2 (fun r102 d101 H locs hpd101 hP hS => ?_)
  obtain ⟨e0, hh⟩ := hpd101
  rw [e0] at hP
  refine lv_if_eq (tgt := 17) hx hb dX0_kind_5 (by decide) (fun c5 => ?_) (fun c5 => ?_)
  · refine lv_iconst (v := (-1)) hx hb dX0_kind_17 (by decide) ?_
    exact kR _ _ _ _ _ _ (⟨rfl, (fAt_no (hh.eq c5)).symm⟩) hP hS dX0_kind_18
  · obtain ⟨k, hk, rfl, hb1⟩ := hh.ne c5
    obtain ⟨kp, r⟩ := RB_M hR hk hb1
    refine lv_aload_n hx hb dX0_kind_8 rfl (lv_at hl 0 rfl) ?_
    refine dk_g7 E hP dX0_kind_9 ?_
    refine lv_iload_n hx hb dX0_kind_12 rfl (lv_at hl 1 rfl) ?_
    refine dk_l7 E hP (x := (md 5 k)) (r.1) (by omega) dX0_kind_13 ?_
    refine lv_goto (tgt := 18) hx hb dX0_kind_14 (by decide) ?_
    exact kR _ _ _ _ _ _ (⟨rfl, (fAt_yes hk hb1).symm⟩) hP hS dX0_kind_18
set_option maxHeartbeats 4000000 in
set_option maxRecDepth 100000 in
theorem met_dk_kind (l : Launch) (D : va_G) (o : Nat) (ad : Nat → Nat) (cB cI : ClassId) (d : MS) {md : MS} {n K : Nat} {x : Int32} (hR : RB d md n K) : dkMi l yX0_kind cX0_kind 2 (some .int) (rmk 1) D o ad cB cI [.int x] d (fun r d' => d' = d ∧ r = fAt md K 5 x (-1)) :=
  dk_meti (by decide) rfl (Nat.le_of_ble_eq_true rfl) (fun _ _ _ => rfl) (fun p e s m args below meth c ls Q E hP hl kR => wk_dk_kind hR E hP hl kR)
set_option maxHeartbeats 4000000 in
set_option maxRecDepth 100000 in
theorem wk_dk_position {p : Program} {l : Launch} {e : Env} {s : State} {m : MethodId} {args : Array Value} {below : List Frame} {meth : Method} {c : Code} {ls : Array Slot} {Q : State → Prop} {D : va_G} {o : Nat} {ad : Nat → Nat} {cB cI : ClassId} {d : MS} {md : MS} {n K : Nat} {x : Int32} (hR : RB d md n K) (E : dkE D o ad cB cI p s m args c cX0_position 2) (hP : va_P D vwCl (dk_w o ad cB cI d) s.heap) (hl : lv_has ls 2 [(0, .ref o), (1, .int x)]) (kR : dkKi D o ad cB cI p l e (rmk 1) s m args below meth c cX0_position Q (fun r d' => d' = d ∧ r = fAt md K 6 x 0)) : W p l e (rmk 1) s m args below meth c s.heap [] 0 0 Q (F0 m 0 ls []) := by
  obtain ⟨hx, hb, -⟩ := id E
  have hS : va_S (dk_A o ad) s.heap s.heap [] := va_S.rf
  obtain ⟨hK, hk6⟩ := RB_K hR
  refine lv_aload_n hx hb dX0_position_0 rfl (lv_at hl 0 rfl) ?_
  refine lv_iload_n hx hb dX0_position_1 rfl (lv_at hl 1 rfl) ?_
  refine dk_calli (As := [.int x]) (rest := []) E hP hS (met_dk_has l D o ad cB cI d hK hk6) (cwV 1 E.2.2.1 (lw_V q98 q100 qs0 q19 q101) rfl rfl rfl (by decide +kernel) ⟨by decide, by decide⟩) rfl hl.1 rfl (Nat.le_of_ble_eq_true rfl) ⟨Nat.zero_le _, Nat.zero_le _⟩ dX0_position_2 (fun r104 d103 H locs hpd103 hP hS => ?_)
  obtain ⟨e0, hh⟩ := hpd103
  rw [e0] at hP
  refine lv_if_eq (tgt := 17) hx hb dX0_position_5 (by decide) (fun c5 => ?_) (fun c5 => ?_)
  · refine lv_iconst (v := (nI 0)) hx hb dX0_position_17 (by decide) ?_
    exact kR _ _ _ _ _ _ (⟨rfl, (fAt_no (hh.eq c5)).symm⟩) hP hS dX0_position_18
  · obtain ⟨k, hk, rfl, hb1⟩ := hh.ne c5
    obtain ⟨kp, r⟩ := RB_M hR hk hb1
    refine lv_aload_n hx hb dX0_position_8 rfl (lv_at hl 0 rfl) ?_
    refine dk_g8 E hP dX0_position_9 ?_
    refine lv_iload_n hx hb dX0_position_12 rfl (lv_at hl 1 rfl) ?_
    refine dk_l8 E hP (x := (md 6 k)) (r.2.1) (by omega) dX0_position_13 ?_
    refine lv_goto (tgt := 18) hx hb dX0_position_14 (by decide) ?_
    exact kR _ _ _ _ _ _ (⟨rfl, (fAt_yes hk hb1).symm⟩) hP hS dX0_position_18
set_option maxHeartbeats 4000000 in
set_option maxRecDepth 100000 in
theorem met_dk_position (l : Launch) (D : va_G) (o : Nat) (ad : Nat → Nat) (cB cI : ClassId) (d : MS) {md : MS} {n K : Nat} {x : Int32} (hR : RB d md n K) : dkMi l yX0_position cX0_position 2 (some .int) (rmk 1) D o ad cB cI [.int x] d (fun r d' => d' = d ∧ r = fAt md K 6 x 0) :=
  dk_meti (by decide) rfl (Nat.le_of_ble_eq_true rfl) (fun _ _ _ => rfl) (fun p e s m args below meth c ls Q E hP hl kR => wk_dk_position hR E hP hl kR)
set_option maxHeartbeats 4000000 in
set_option maxRecDepth 100000 in
theorem wk_dk_said {p : Program} {l : Launch} {e : Env} {s : State} {m : MethodId} {args : Array Value} {below : List Frame} {meth : Method} {c : Code} {ls : Array Slot} {Q : State → Prop} {D : va_G} {o : Nat} {ad : Nat → Nat} {cB cI : ClassId} {d : MS} {md : MS} {n K : Nat} {x : Int32} (hR : RB d md n K) (E : dkE D o ad cB cI p s m args c cX0_said 2) (hP : va_P D vwCl (dk_w o ad cB cI d) s.heap) (hl : lv_has ls 2 [(0, .ref o), (1, .int x)]) (kR : dkKi D o ad cB cI p l e (rmk 1) s m args below meth c cX0_said Q (fun r d' => d' = d ∧ r = fAt md K 7 x 0)) : W p l e (rmk 1) s m args below meth c s.heap [] 0 0 Q (F0 m 0 ls []) := by
  obtain ⟨hx, hb, -⟩ := id E
  have hS : va_S (dk_A o ad) s.heap s.heap [] := va_S.rf
  obtain ⟨hK, hk6⟩ := RB_K hR
  refine lv_aload_n hx hb dX0_said_0 rfl (lv_at hl 0 rfl) ?_
  refine lv_iload_n hx hb dX0_said_1 rfl (lv_at hl 1 rfl) ?_
  refine dk_calli (As := [.int x]) (rest := []) E hP hS (met_dk_has l D o ad cB cI d hK hk6) (cwV 1 E.2.2.1 (lw_V q98 q100 qs0 q19 q101) rfl rfl rfl (by decide +kernel) ⟨by decide, by decide⟩) rfl hl.1 rfl (Nat.le_of_ble_eq_true rfl) ⟨Nat.zero_le _, Nat.zero_le _⟩ dX0_said_2 (fun r106 d105 H locs hpd105 hP hS => ?_)
  obtain ⟨e0, hh⟩ := hpd105
  rw [e0] at hP
  refine lv_if_eq (tgt := 17) hx hb dX0_said_5 (by decide) (fun c5 => ?_) (fun c5 => ?_)
  · refine lv_iconst (v := (nI 0)) hx hb dX0_said_17 (by decide) ?_
    exact kR _ _ _ _ _ _ (⟨rfl, (fAt_no (hh.eq c5)).symm⟩) hP hS dX0_said_18
  · obtain ⟨k, hk, rfl, hb1⟩ := hh.ne c5
    obtain ⟨kp, r⟩ := RB_M hR hk hb1
    refine lv_aload_n hx hb dX0_said_8 rfl (lv_at hl 0 rfl) ?_
    refine dk_g11 E hP dX0_said_9 ?_
    refine lv_iload_n hx hb dX0_said_12 rfl (lv_at hl 1 rfl) ?_
    refine dk_l11 E hP (x := (md 7 k)) (r.2.2.1) (by omega) dX0_said_13 ?_
    refine lv_goto (tgt := 18) hx hb dX0_said_14 (by decide) ?_
    exact kR _ _ _ _ _ _ (⟨rfl, (fAt_yes hk hb1).symm⟩) hP hS dX0_said_18
set_option maxHeartbeats 4000000 in
set_option maxRecDepth 100000 in
theorem met_dk_said (l : Launch) (D : va_G) (o : Nat) (ad : Nat → Nat) (cB cI : ClassId) (d : MS) {md : MS} {n K : Nat} {x : Int32} (hR : RB d md n K) : dkMi l yX0_said cX0_said 2 (some .int) (rmk 1) D o ad cB cI [.int x] d (fun r d' => d' = d ∧ r = fAt md K 7 x 0) :=
  dk_meti (by decide) rfl (Nat.le_of_ble_eq_true rfl) (fun _ _ _ => rfl) (fun p e s m args below meth c ls Q E hP hl kR => wk_dk_said hR E hP hl kR)
set_option maxHeartbeats 4000000 in
set_option maxRecDepth 100000 in
theorem wk_dk_peek {p : Program} {l : Launch} {e : Env} {s : State} {m : MethodId} {args : Array Value} {below : List Frame} {meth : Method} {c : Code} {ls : Array Slot} {Q : State → Prop} {D : va_G} {o : Nat} {ad : Nat → Nat} {cB cI : ClassId} {d : MS} {md : MS} {n K : Nat} {x i : Int32} (hR : RB d md n K) (E : dkE D o ad cB cI p s m args c cX0_peek 4) (hP : va_P D vwCl (dk_w o ad cB cI d) s.heap) (hl : lv_has ls 4 [(0, .ref o), (1, .int x), (2, .int i)]) (kR : dkKi D o ad cB cI p l e (rmk 1) s m args below meth c cX0_peek Q (fun r d' => d' = d ∧ PeekR md K x i r)) : W p l e (rmk 1) s m args below meth c s.heap [] 0 0 Q (F0 m 0 ls []) := by
  obtain ⟨hx, hb, -⟩ := id E
  have hS : va_S (dk_A o ad) s.heap s.heap [] := va_S.rf
  obtain ⟨hK, hk6⟩ := RB_K hR
  refine lv_aload_n hx hb dX0_peek_0 rfl (lv_at hl 0 rfl) ?_
  refine lv_iload_n hx hb dX0_peek_1 rfl (lv_at hl 1 rfl) ?_
  refine dk_calli (As := [.int x]) (rest := []) E hP hS (met_dk_has l D o ad cB cI d hK hk6) (cwV 1 E.2.2.1 (lw_V q98 q100 qs0 q19 q101) rfl rfl rfl (by decide +kernel) ⟨by decide, by decide⟩) rfl hl.1 rfl (Nat.le_of_ble_eq_true rfl) ⟨Nat.zero_le _, Nat.zero_le _⟩ dX0_peek_2 (fun r108 d107 H locs hpd107 hP hS => ?_)
  obtain ⟨e0, hh⟩ := hpd107
  rw [e0] at hP
  refine lv_if_ne (tgt := 10) hx hb dX0_peek_5 (by decide) (fun c5 => ?_) (fun c5 => ?_)
  · obtain ⟨k, hk, rfl, hb1⟩ := hh.ne c5
    obtain ⟨kp, r⟩ := RB_M hR hk hb1
    refine lv_iload_n hx hb dX0_peek_10 rfl (lv_at hl 2 rfl) ?_
    refine lv_if_lt (tgt := 30) hx hb dX0_peek_11 (by decide) (fun c11 => ?_) (fun c11 => ?_)
    · refine lv_iload_n hx hb dX0_peek_30 rfl (lv_at hl 2 rfl) ?_
      refine lv_bipush (v := (nI 16)) hx hb dX0_peek_31 (by decide) ?_
      refine lv_icmp_lt (tgt := 71) hx hb dX0_peek_33 (by decide) (fun c33 => ?_) (fun c33 => ?_)
      · refine lv_iconst (v := (nI 0)) hx hb dX0_peek_71 (by decide) ?_
        exact kR _ _ _ _ _ _ (⟨rfl, Or.inr ⟨Or.inr (fun j hj z => by subst z; exact neg_nI (by split <;> omega) c11), rfl⟩⟩) hP hS dX0_peek_72
      · exact absurd c11 (fun z => c33 (Int32.lt_trans z (by decide)))
    · refine lv_iload_n hx hb dX0_peek_14 rfl (lv_at hl 2 rfl) ?_
      refine lv_iconst (v := (nI 4)) hx hb dX0_peek_15 (by decide) ?_
      refine lv_icmp_ge (tgt := 30) hx hb dX0_peek_16 (by decide) (fun c16 => ?_) (fun c16 => ?_)
      · refine lv_iload_n hx hb dX0_peek_30 rfl (lv_at hl 2 rfl) ?_
        refine lv_bipush (v := (nI 16)) hx hb dX0_peek_31 (by decide) ?_
        refine lv_icmp_lt (tgt := 71) hx hb dX0_peek_33 (by decide) (fun c33 => ?_) (fun c33 => ?_)
        · refine lv_iconst (v := (nI 0)) hx hb dX0_peek_71 (by decide) ?_
          exact kR _ _ _ _ _ _ (⟨rfl, Or.inr ⟨Or.inr (fun j hj z => by subst z; rw [nI_leI (by decide) (by split <;> omega)] at c16; rw [nI_ltI (by split <;> omega) (by decide)] at c33; split at c16 <;> split at c33 <;> omega), rfl⟩⟩) hP hS dX0_peek_72
        · refine lv_iload_n hx hb dX0_peek_36 rfl (lv_at hl 2 rfl) ?_
          refine lv_bipush (v := (nI 32)) hx hb dX0_peek_37 (by decide) ?_
          refine lv_icmp_ge (tgt := 71) hx hb dX0_peek_39 (by decide) (fun c39 => ?_) (fun c39 => ?_)
          · refine lv_iconst (v := (nI 0)) hx hb dX0_peek_71 (by decide) ?_
            exact kR _ _ _ _ _ _ (⟨rfl, Or.inr ⟨Or.inr (fun j hj z => by subst z; rw [nI_leI (by decide) (by split <;> omega)] at c39; split at c39 <;> omega), rfl⟩⟩) hP hS dX0_peek_72
          · obtain ⟨j, hj, rfl⟩ : ∃ j, j < 32 ∧ i = nI j := by
              rcases pk_ix i (n := 32) (by decide) with z | z | z
              · exact absurd z c11
              · exact absurd z c39
              · exact z
            rw [nI_ltI (by omega) (by decide)] at c33
            obtain ⟨hp56, hp10, hp4⟩ := r.2.2.2.2.1 ((j - 16) / 4) (by omega)
            refine lv_iload_n hx hb dX0_peek_42 rfl (lv_at hl 2 rfl) ?_
            refine lv_bipush (v := (nI 16)) hx hb dX0_peek_43 (by decide) ?_
            refine nv_isub hx hb (by omega) dX0_peek_45 ?_
            refine lv_istore_n (lv' := [(3, .int (nI (j - 16))), (0, .ref o), (1, .int (nI k)), (2, .int (nI j))]) hx hb dX0_peek_46 rfl hl (by decide) rfl (fun ls hl => ?_)
            refine lv_aload_n hx hb dX0_peek_47 rfl (lv_at hl 1 rfl) ?_
            refine dk_g4 E hP dX0_peek_48 ?_
            refine lv_aload_n hx hb dX0_peek_51 rfl (lv_at hl 1 rfl) ?_
            refine dk_g10 E hP dX0_peek_52 ?_
            refine lv_iload_n hx hb dX0_peek_55 rfl (lv_at hl 2 rfl) ?_
            refine lv_iconst (v := (nI 4)) hx hb dX0_peek_56 (by decide) ?_
            refine nv_imul hx hb dX0_peek_57 ?_
            refine lv_iload_n hx hb dX0_peek_58 rfl (lv_at hl 0 rfl) ?_
            refine lv_iconst (v := (nI 2)) hx hb dX0_peek_59 (by decide) ?_
            refine nv_ishr2 hx hb (by omega) dX0_peek_60 ?_
            refine nv_iadd hx hb dX0_peek_61 ?_
            refine dk_l10 E hP (x := (nI (kp (k * 4 + (j - 16) / 4)))) (hp10) (by omega) dX0_peek_62 ?_
            refine lv_iconst (v := (nI 4)) hx hb dX0_peek_63 (by decide) ?_
            refine nv_imul hx hb dX0_peek_64 ?_
            refine lv_iload_n hx hb dX0_peek_65 rfl (lv_at hl 0 rfl) ?_
            refine lv_iconst (v := (nI 3)) hx hb dX0_peek_66 (by decide) ?_
            refine nv_iand3 hx hb (by omega) dX0_peek_67 ?_
            refine nv_iadd hx hb dX0_peek_68 ?_
            refine dk_l4 E hP (x := (md 8 (20 * k + (j - 12)))) (by rw [hp4 _ (Nat.mod_lt _ (by decide))]; congr 1; omega) (by omega) dX0_peek_69 ?_
            exact kR _ _ _ _ _ _ (⟨rfl, Or.inl ⟨k, j - 12, hk, by omega, rfl, hb1, by rw [if_neg (by omega)]; congr 1; omega, rfl⟩⟩) hP hS dX0_peek_70
      · obtain ⟨j, hj, rfl⟩ : ∃ j, j < 4 ∧ i = nI j := by
          rcases pk_ix i (n := 4) (by decide) with z | z | z
          · exact absurd z c11
          · exact absurd z c16
          · exact z
        refine lv_aload_n hx hb dX0_peek_19 rfl (lv_at hl 0 rfl) ?_
        refine dk_g9 E hP dX0_peek_20 ?_
        refine lv_iload_n hx hb dX0_peek_23 rfl (lv_at hl 1 rfl) ?_
        refine lv_iconst (v := (nI 4)) hx hb dX0_peek_24 (by decide) ?_
        refine nv_imul hx hb dX0_peek_25 ?_
        refine lv_iload_n hx hb dX0_peek_26 rfl (lv_at hl 2 rfl) ?_
        refine nv_iadd hx hb dX0_peek_27 ?_
        refine dk_l9 E hP (x := (md 8 (20 * k + j))) (r.2.2.2.1 j hj) (by omega) dX0_peek_28 ?_
        exact kR _ _ _ _ _ _ (⟨rfl, Or.inl ⟨k, j, hk, by omega, rfl, hb1, by rw [if_pos hj], rfl⟩⟩) hP hS dX0_peek_29
  · refine lv_iconst (v := (nI 0)) hx hb dX0_peek_8 (by decide) ?_
    exact kR _ _ _ _ _ _ (⟨rfl, Or.inr ⟨Or.inl (hh.eq c5), rfl⟩⟩) hP hS dX0_peek_9
set_option maxHeartbeats 4000000 in
set_option maxRecDepth 100000 in
theorem met_dk_peek (l : Launch) (D : va_G) (o : Nat) (ad : Nat → Nat) (cB cI : ClassId) (d : MS) {md : MS} {n K : Nat} {x i : Int32} (hR : RB d md n K) : dkMi l yX0_peek cX0_peek 4 (some .int) (rmk 1) D o ad cB cI [.int x, .int i] d (fun r d' => d' = d ∧ PeekR md K x i r) :=
  dk_meti (by decide) rfl (Nat.le_of_ble_eq_true rfl) (fun _ _ _ => rfl) (fun p e s m args below meth c ls Q E hP hl kR => wk_dk_peek hR E hP hl kR)
set_option maxHeartbeats 4000000 in
set_option maxRecDepth 100000 in
theorem wk_dk_lastSaid {p : Program} {l : Launch} {e : Env} {s : State} {m : MethodId} {args : Array Value} {below : List Frame} {meth : Method} {c : Code} {ls : Array Slot} {Q : State → Prop} {D : va_G} {o : Nat} {ad : Nat → Nat} {cB cI : ClassId} {d : MS} {md : MS} {n K : Nat} {x i : Int32} (hR : RB d md n K) (E : dkE D o ad cB cI p s m args c cX0_lastSaid 3) (hP : va_P D vwCl (dk_w o ad cB cI d) s.heap) (hl : lv_has ls 3 [(0, .ref o), (1, .int x), (2, .int i)]) (kR : dkKi D o ad cB cI p l e (rmk 1) s m args below meth c cX0_lastSaid Q (fun r d' => d' = d ∧ LastR md K x i r)) : W p l e (rmk 1) s m args below meth c s.heap [] 0 0 Q (F0 m 0 ls []) := by
  obtain ⟨hx, hb, -⟩ := id E
  have hS : va_S (dk_A o ad) s.heap s.heap [] := va_S.rf
  obtain ⟨hK, hk6⟩ := RB_K hR
  refine lv_aload_n hx hb dX0_lastSaid_0 rfl (lv_at hl 0 rfl) ?_
  refine lv_iload_n hx hb dX0_lastSaid_1 rfl (lv_at hl 1 rfl) ?_
  refine dk_calli (As := [.int x]) (rest := []) E hP hS (met_dk_has l D o ad cB cI d hK hk6) (cwV 1 E.2.2.1 (lw_V q98 q100 qs0 q19 q101) rfl rfl rfl (by decide +kernel) ⟨by decide, by decide⟩) rfl hl.1 rfl (Nat.le_of_ble_eq_true rfl) ⟨Nat.zero_le _, Nat.zero_le _⟩ dX0_lastSaid_2 (fun r110 d109 H locs hpd109 hP hS => ?_)
  obtain ⟨e0, hh⟩ := hpd109
  rw [e0] at hP
  refine lv_if_eq (tgt := 28) hx hb dX0_lastSaid_5 (by decide) (fun c5 => ?_) (fun c5 => ?_)
  · refine lv_iconst (v := (nI 0)) hx hb dX0_lastSaid_28 (by decide) ?_
    exact kR _ _ _ _ _ _ (⟨rfl, Or.inr ⟨Or.inl (hh.eq c5), rfl⟩⟩) hP hS dX0_lastSaid_29
  · obtain ⟨k, hk, rfl, hb1⟩ := hh.ne c5
    obtain ⟨kp, r⟩ := RB_M hR hk hb1
    refine lv_iload_n hx hb dX0_lastSaid_8 rfl (lv_at hl 2 rfl) ?_
    refine lv_if_lt (tgt := 28) hx hb dX0_lastSaid_9 (by decide) (fun c9 => ?_) (fun c9 => ?_)
    · refine lv_iconst (v := (nI 0)) hx hb dX0_lastSaid_28 (by decide) ?_
      exact kR _ _ _ _ _ _ (⟨rfl, Or.inr ⟨Or.inr (Or.inl (fun j hj z => by subst z; exact neg_nI (by omega) c9)), rfl⟩⟩) hP hS dX0_lastSaid_29
    · refine lv_iload_n hx hb dX0_lastSaid_12 rfl (lv_at hl 2 rfl) ?_
      refine lv_bipush (v := (nI 7)) hx hb dX0_lastSaid_13 (by decide) ?_
      refine lv_icmp_gt (tgt := 28) hx hb dX0_lastSaid_15 (by decide) (fun c15 => ?_) (fun c15 => ?_)
      · refine lv_iconst (v := (nI 0)) hx hb dX0_lastSaid_28 (by decide) ?_
        exact kR _ _ _ _ _ _ (⟨rfl, Or.inr ⟨Or.inr (Or.inl (fun j hj z => by subst z; exact gt_nI (by omega) (by decide) c15)), rfl⟩⟩) hP hS dX0_lastSaid_29
      · refine lv_iload_n hx hb dX0_lastSaid_18 rfl (lv_at hl 2 rfl) ?_
        refine lv_aload_n hx hb dX0_lastSaid_19 rfl (lv_at hl 0 rfl) ?_
        refine dk_g11 E hP dX0_lastSaid_20 ?_
        refine lv_iload_n hx hb dX0_lastSaid_23 rfl (lv_at hl 1 rfl) ?_
        refine dk_l11 E hP (x := (md 7 k)) (r.2.2.1) (by omega) dX0_lastSaid_24 ?_
        refine lv_icmp_lt (tgt := 30) hx hb dX0_lastSaid_25 (by decide) (fun c25 => ?_) (fun c25 => ?_)
        · obtain ⟨j, hj, rfl⟩ := inN 7 (by decide) c9 c15
          refine lv_aload_n hx hb dX0_lastSaid_30 rfl (lv_at hl 0 rfl) ?_
          refine dk_g12 E hP dX0_lastSaid_31 ?_
          refine lv_iload_n hx hb dX0_lastSaid_34 rfl (lv_at hl 1 rfl) ?_
          refine lv_bipush (v := (nI 8)) hx hb dX0_lastSaid_35 (by decide) ?_
          refine nv_imul hx hb dX0_lastSaid_37 ?_
          refine lv_iload_n hx hb dX0_lastSaid_38 rfl (lv_at hl 2 rfl) ?_
          refine nv_iadd hx hb dX0_lastSaid_39 ?_
          refine dk_l12 E hP (x := (md 9 (8 * k + j))) (r.2.2.2.2.2.1 j (by omega)) (by omega) dX0_lastSaid_40 ?_
          exact kR _ _ _ _ _ _ (⟨rfl, Or.inl ⟨k, j, hk, by omega, rfl, hb1, rfl, c25, rfl⟩⟩) hP hS dX0_lastSaid_41
        · refine lv_iconst (v := (nI 0)) hx hb dX0_lastSaid_28 (by decide) ?_
          exact kR _ _ _ _ _ _ (⟨rfl, Or.inr ⟨Or.inr (Or.inr ⟨k, hk, rfl, c25⟩), rfl⟩⟩) hP hS dX0_lastSaid_29
set_option maxHeartbeats 4000000 in
set_option maxRecDepth 100000 in
theorem met_dk_lastSaid (l : Launch) (D : va_G) (o : Nat) (ad : Nat → Nat) (cB cI : ClassId) (d : MS) {md : MS} {n K : Nat} {x i : Int32} (hR : RB d md n K) : dkMi l yX0_lastSaid cX0_lastSaid 3 (some .int) (rmk 1) D o ad cB cI [.int x, .int i] d (fun r d' => d' = d ∧ LastR md K x i r) :=
  dk_meti (by decide) rfl (Nat.le_of_ble_eq_true rfl) (fun _ _ _ => rfl) (fun p e s m args below meth c ls Q E hP hl kR => wk_dk_lastSaid hR E hP hl kR)
set_option maxHeartbeats 4000000 in
set_option maxRecDepth 100000 in
theorem wk_dk_differing {p : Program} {l : Launch} {e : Env} {s : State} {m : MethodId} {args : Array Value} {below : List Frame} {meth : Method} {c : Code} {ls : Array Slot} {Q : State → Prop} {D : va_G} {o : Nat} {ad : Nat → Nat} {cB cI : ClassId} {d : MS} {u v : Nat} (hu : u < 56) (hv : v < 56) (E : dkE D o ad cB cI p s m args c cX0_differing 5) (hP : va_P D vwCl (dk_w o ad cB cI d) s.heap) (hl : lv_has ls 5 [(0, .ref o), (1, .int (nI u)), (2, .int (nI v))]) (kR : dkKi D o ad cB cI p l e (rmk 0) s m args below meth c cX0_differing Q (fun r d' => d' = d ∧ ∀ q, q < 32 → bt r q = (decide (q < 4) && decide (¬ d 4 (u * 4 + q) = d 4 (v * 4 + q))))) : W p l e (rmk 0) s m args below meth c s.heap [] 0 0 Q (F0 m 0 ls []) := by
  obtain ⟨hx, hb, -⟩ := id E
  have hS : va_S (dk_A o ad) s.heap s.heap [] := va_S.rf
  have loop : ∀ (n0 k : Nat) (z : Int32), k + n0 = 4 → (∀ q, q < 32 → bt z q = (decide (q < k) && decide (¬ d 4 (u * 4 + q) = d 4 (v * 4 + q)))) → ∀ (H : Heap) (locs : List Loc) (ls : Array Slot), va_P D vwCl (dk_w o ad cB cI d) H → va_S (dk_A o ad) s.heap H locs → lv_has ls 5 [(0, .ref o), (1, .int (nI u)), (2, .int (nI v)), (3, .int z), (4, .int (nI k))] → W p l e (rmk 0) s m args below meth c H locs 0 0 Q (F0 m 5 ls []) := by
    intro n0
    induction n0 with
    | zero =>
      intro k z hkn hz H locs ls hP hS hl
      have hk0 : k = 4 := by omega
      subst hk0
      refine lv_iload hx hb dX0_differing_5 (lv_at hl 4 rfl) ?_
      refine lv_iconst (v := (nI 4)) hx hb dX0_differing_7 (by decide) ?_
      refine nv_icmp_ge (tgt := 49) hx hb (by omega) (by omega) dX0_differing_8 (by decide) (fun c8 => ?_) (fun c8 => ?_)
      · refine lv_iload_n hx hb dX0_differing_49 rfl (lv_at hl 3 rfl) ?_
        exact kR _ _ _ _ _ _ (⟨rfl, hz⟩) hP hS dX0_differing_50
      · exact absurd c8 (by omega)
    | succ n0 ih =>
      intro k z hkn hz H locs ls hP hS hl
      refine lv_iload hx hb dX0_differing_5 (lv_at hl 4 rfl) ?_
      refine lv_iconst (v := (nI 4)) hx hb dX0_differing_7 (by decide) ?_
      refine nv_icmp_ge (tgt := 49) hx hb (by omega) (by omega) dX0_differing_8 (by decide) (fun c8 => ?_) (fun c8 => ?_)
      · exact absurd c8 (by omega)
      · refine lv_aload_n hx hb dX0_differing_11 rfl (lv_at hl 0 rfl) ?_
        refine dk_g4 E hP dX0_differing_12 ?_
        refine lv_iload_n hx hb dX0_differing_15 rfl (lv_at hl 1 rfl) ?_
        refine lv_iconst (v := (nI 4)) hx hb dX0_differing_16 (by decide) ?_
        refine nv_imul hx hb dX0_differing_17 ?_
        refine lv_iload hx hb dX0_differing_18 (lv_at hl 4 rfl) ?_
        refine nv_iadd hx hb dX0_differing_20 ?_
        refine dk_l4 E hP (x := (d 4 ((u * 4) + k))) (rfl) (by omega) dX0_differing_21 ?_
        refine lv_aload_n hx hb dX0_differing_22 rfl (lv_at hl 0 rfl) ?_
        refine dk_g4 E hP dX0_differing_23 ?_
        refine lv_iload_n hx hb dX0_differing_26 rfl (lv_at hl 2 rfl) ?_
        refine lv_iconst (v := (nI 4)) hx hb dX0_differing_27 (by decide) ?_
        refine nv_imul hx hb dX0_differing_28 ?_
        refine lv_iload hx hb dX0_differing_29 (lv_at hl 4 rfl) ?_
        refine nv_iadd hx hb dX0_differing_31 ?_
        refine dk_l4 E hP (x := (d 4 ((v * 4) + k))) (rfl) (by omega) dX0_differing_32 ?_
        refine lv_icmp_eq (tgt := 43) hx hb dX0_differing_33 (by decide) (fun c33 => ?_) (fun c33 => ?_)
        · refine nv_iinc (lv' := [(4, .int (nI (k + 1))), (0, .ref o), (1, .int (nI u)), (2, .int (nI v)), (3, .int z)]) hx hb 4 dX0_differing_43 hl rfl (by decide) rfl (fun ls hl => ?_)
          refine lv_goto (tgt := 5) hx hb dX0_differing_46 (by decide) ?_
          have hl : lv_has ls 5 [(0, .ref o), (1, .int (nI u)), (2, .int (nI v)), (3, .int z), (4, .int (nI (k + 1)))] := lv_sub hl [1, 2, 3, 4, 0] rfl
          exact ih (k + 1) z (by omega) (fun q hq => by
            rw [hz q hq]
            by_cases h1 : q = k
            · rw [h1, decide_eq_false (show ¬ k < k by omega), decide_eq_false (fun h => h c33), Bool.and_false, Bool.and_false]
            · congr 1
              exact decide_eq_decide.mpr (by omega)) H locs ls hP hS hl
        · refine lv_iload_n hx hb dX0_differing_36 rfl (lv_at hl 3 rfl) ?_
          refine lv_iconst (v := (nI 1)) hx hb dX0_differing_37 (by decide) ?_
          refine lv_iload hx hb dX0_differing_38 (lv_at hl 4 rfl) ?_
          refine lv_ishl hx hb dX0_differing_40 ?_
          refine lv_ior hx hb dX0_differing_41 ?_
          refine lv_istore_n (lv' := [(3, .int (z ||| ((nI 1) <<< ((nI k) &&& 31)))), (0, .ref o), (1, .int (nI u)), (2, .int (nI v)), (4, .int (nI k))]) hx hb dX0_differing_42 rfl hl (by decide) rfl (fun ls hl => ?_)
          refine nv_iinc (lv' := [(4, .int (nI (k + 1))), (3, .int (z ||| ((nI 1) <<< ((nI k) &&& 31)))), (0, .ref o), (1, .int (nI u)), (2, .int (nI v))]) hx hb 4 dX0_differing_43 hl rfl (by decide) rfl (fun ls hl => ?_)
          refine lv_goto (tgt := 5) hx hb dX0_differing_46 (by decide) ?_
          have hl : lv_has ls 5 [(0, .ref o), (1, .int (nI u)), (2, .int (nI v)), (3, .int (z ||| ((nI 1) <<< ((nI k) &&& 31)))), (4, .int (nI (k + 1)))] := lv_sub hl [2, 3, 4, 1, 0] rfl
          exact ih (k + 1) _ (by omega) (fun q hq => by
            rw [b_or1 z (by omega) hq, hz q hq]
            by_cases h1 : q = k
            · rw [h1, decide_eq_true (show k < k + 1 by omega), decide_eq_true c33, decide_eq_true rfl, Bool.or_true, Bool.and_true]
            · rw [decide_eq_false h1, Bool.or_false]
              congr 1
              exact decide_eq_decide.mpr (by omega)) H locs ls hP hS hl
  refine lv_iconst (v := (nI 0)) hx hb dX0_differing_0 (by decide) ?_
  refine lv_istore_n (lv' := [(3, .int (nI 0)), (0, .ref o), (1, .int (nI u)), (2, .int (nI v))]) hx hb dX0_differing_1 rfl hl (by decide) rfl (fun ls hl => ?_)
  refine lv_iconst (v := (nI 0)) hx hb dX0_differing_2 (by decide) ?_
  refine lv_istore (lv' := [(4, .int (nI 0)), (3, .int (nI 0)), (0, .ref o), (1, .int (nI u)), (2, .int (nI v))]) hx hb dX0_differing_3 hl (by decide) rfl (fun ls hl => ?_)
  have hl : lv_has ls 5 [(0, .ref o), (1, .int (nI u)), (2, .int (nI v)), (3, .int (nI 0)), (4, .int (nI 0))] := lv_sub hl [2, 3, 4, 1, 0] rfl
  exact loop 4 0 _ rfl (fun q hq => by rw [decide_eq_false (show ¬ q < 0 by omega), Bool.false_and]; exact b_0 q) _ _ ls hP hS hl
set_option maxHeartbeats 4000000 in
set_option maxRecDepth 100000 in
theorem met_dk_differing (l : Launch) (D : va_G) (o : Nat) (ad : Nat → Nat) (cB cI : ClassId) (d : MS) {u v : Nat} (hu : u < 56) (hv : v < 56) : dkMi l yX0_differing cX0_differing 5 (some .int) (rmk 0) D o ad cB cI [.int (nI u), .int (nI v)] d (fun r d' => d' = d ∧ ∀ q, q < 32 → bt r q = (decide (q < 4) && decide (¬ d 4 (u * 4 + q) = d 4 (v * 4 + q)))) :=
  dk_meti (by decide) rfl (Nat.le_of_ble_eq_true rfl) (fun _ _ _ => rfl) (fun p e s m args below meth c ls Q E hP hl kR => wk_dk_differing hu hv E hP hl kR)
set_option maxHeartbeats 4000000 in
set_option maxRecDepth 100000 in
theorem wk_dk_difference {p : Program} {l : Launch} {e : Env} {s : State} {m : MethodId} {args : Array Value} {below : List Frame} {meth : Method} {c : Code} {ls : Array Slot} {Q : State → Prop} {D : va_G} {o : Nat} {ad : Nat → Nat} {cB cI : ClassId} {d : MS} {md : MS} {n K : Nat} {x y : Int32} (hR : RB d md n K) (E : dkE D o ad cB cI p s m args c cX0_difference 7) (hP : va_P D vwCl (dk_w o ad cB cI d) s.heap) (hl : lv_has ls 7 [(0, .ref o), (1, .int x), (2, .int y)]) (kR : dkKi D o ad cB cI p l e (rmk 1) s m args below meth c cX0_difference Q (fun r d' => d' = d ∧ DiffR md K x y r)) : W p l e (rmk 1) s m args below meth c s.heap [] 0 0 Q (F0 m 0 ls []) := by
  obtain ⟨hx, hb, -⟩ := id E
  have hS : va_S (dk_A o ad) s.heap s.heap [] := va_S.rf
  obtain ⟨hK, hk6⟩ := RB_K hR
  obtain ⟨kp, hC, -⟩ := id hR
  refine lv_aload_n hx hb dX0_difference_0 rfl (lv_at hl 0 rfl) ?_
  refine lv_iload_n hx hb dX0_difference_1 rfl (lv_at hl 1 rfl) ?_
  refine dk_calli (As := [.int x]) (rest := []) E hP hS (met_dk_has l D o ad cB cI d hK hk6) (cwV 1 E.2.2.1 (lw_V q98 q100 qs0 q19 q101) rfl rfl rfl (by decide +kernel) ⟨by decide, by decide⟩) rfl hl.1 rfl (Nat.le_of_ble_eq_true rfl) ⟨Nat.zero_le _, Nat.zero_le _⟩ dX0_difference_2 (fun r112 d111 H locs hpd111 hP hS => ?_)
  obtain ⟨e0, hh⟩ := hpd111
  rw [e0] at hP
  refine lv_if_eq (tgt := 16) hx hb dX0_difference_5 (by decide) (fun c5 => ?_) (fun c5 => ?_)
  · refine lv_iconst (v := (nI 0)) hx hb dX0_difference_16 (by decide) ?_
    exact kR _ _ _ _ _ _ (⟨rfl, Or.inr ⟨fun h => hh.eq c5 h.1, rfl⟩⟩) hP hS dX0_difference_17
  · refine lv_aload_n hx hb dX0_difference_8 rfl (lv_at hl 0 rfl) ?_
    refine lv_iload_n hx hb dX0_difference_9 rfl (lv_at hl 2 rfl) ?_
    refine dk_calli (As := [.int y]) (rest := []) E hP hS (met_dk_has l D o ad cB cI d hK hk6) (cwV 1 E.2.2.1 (lw_V q98 q100 qs0 q19 q101) rfl rfl rfl (by decide +kernel) ⟨by decide, by decide⟩) rfl hl.1 rfl (Nat.le_of_ble_eq_true rfl) ⟨Nat.zero_le _, Nat.zero_le _⟩ dX0_difference_10 (fun r114 d113 H locs hpd113 hP hS => ?_)
    obtain ⟨e0, hh2⟩ := hpd113
    rw [e0] at hP
    refine lv_if_ne (tgt := 18) hx hb dX0_difference_13 (by decide) (fun c13 => ?_) (fun c13 => ?_)
    · obtain ⟨a, ha, rfl, hba⟩ := hh.ne c5
      obtain ⟨b, hb12, rfl, hbb⟩ := hh2.ne c13
      have ra := hC.2.2.2 a ha hba
      have rb := hC.2.2.2 b hb12 hbb
      have loop : ∀ (n0 k : Nat) (z : Int32), k + n0 = 4 → (∀ q, q < 32 → bt z q = (decide (q < k ∨ 16 ≤ q ∧ q < 16 + 4 * k) && dbit md a b q)) → ∀ (H : Heap) (locs : List Loc) (ls : Array Slot), va_P D vwCl (dk_w o ad cB cI d) H → va_S (dk_A o ad) s.heap H locs → lv_has ls 7 [(0, .ref o), (1, .int (nI a)), (2, .int (nI b)), (3, .int z), (4, .int (nI k))] → W p l e (rmk 1) s m args below meth c H locs 0 0 Q (F0 m 23 ls []) := by
        intro n0
        induction n0 with
        | zero =>
          intro k z hkn hz H locs ls hP hS hl
          have hk0 : k = 4 := by omega
          subst hk0
          refine lv_iload hx hb dX0_difference_23 (lv_at hl 4 rfl) ?_
          refine lv_iconst (v := (nI 4)) hx hb dX0_difference_25 (by decide) ?_
          refine nv_icmp_ge (tgt := 119) hx hb (by omega) (by omega) dX0_difference_26 (by decide) (fun c26 => ?_) (fun c26 => ?_)
          · refine lv_iload_n hx hb dX0_difference_119 rfl (lv_at hl 3 rfl) ?_
            exact kR _ _ _ _ _ _ (⟨rfl, Or.inl ⟨a, b, ha, hb12, rfl, rfl, hba, hbb, fun q hq => by
              rw [hz q hq]
              by_cases h1 : q < 4 ∨ 16 ≤ q ∧ q < 16 + 4 * 4
              · rw [decide_eq_true h1, Bool.true_and]
              · rw [decide_eq_false h1, Bool.false_and]
                unfold dbit
                rw [if_neg (by omega), if_neg (by omega)]⟩⟩) hP hS dX0_difference_120
          · exact absurd c26 (by omega)
        | succ n0 ih =>
          intro k z hkn hz H locs ls hP hS hl
          refine lv_iload hx hb dX0_difference_23 (lv_at hl 4 rfl) ?_
          refine lv_iconst (v := (nI 4)) hx hb dX0_difference_25 (by decide) ?_
          refine nv_icmp_ge (tgt := 119) hx hb (by omega) (by omega) dX0_difference_26 (by decide) (fun c26 => ?_) (fun c26 => ?_)
          · exact absurd c26 (by omega)
          · obtain ⟨pa56, pa10, pa4⟩ := ra.2.2.2.2.1 k (by omega)
            obtain ⟨pb56, pb10, pb4⟩ := rb.2.2.2.2.1 k (by omega)
            have half : ∀ (z1 : Int32), (∀ q, q < 32 → bt z1 q = (decide (q < k + 1 ∨ 16 ≤ q ∧ q < 16 + 4 * k) && dbit md a b q)) → ∀ (ls : Array Slot), lv_has ls 7 [(0, .ref o), (1, .int (nI a)), (2, .int (nI b)), (3, .int z1), (4, .int (nI k))] → W p l e (rmk 1) s m args below meth c H locs 0 0 Q (F0 m 61 ls []) := by
              intro z1 hz1 ls hl
              refine lv_aload_n hx hb dX0_difference_61 rfl (lv_at hl 0 rfl) ?_
              refine dk_g10 E hP dX0_difference_62 ?_
              refine lv_iload_n hx hb dX0_difference_65 rfl (lv_at hl 1 rfl) ?_
              refine lv_iconst (v := (nI 4)) hx hb dX0_difference_66 (by decide) ?_
              refine nv_imul hx hb dX0_difference_67 ?_
              refine lv_iload hx hb dX0_difference_68 (lv_at hl 4 rfl) ?_
              refine nv_iadd hx hb dX0_difference_70 ?_
              refine dk_l10 E hP (x := (nI (kp (a * 4 + k)))) (pa10) (by omega) dX0_difference_71 ?_
              refine lv_istore (lv' := [(5, .int (nI (kp (a * 4 + k)))), (0, .ref o), (1, .int (nI a)), (2, .int (nI b)), (3, .int z1), (4, .int (nI k))]) hx hb dX0_difference_72 hl (by decide) rfl (fun ls hl => ?_)
              refine lv_aload_n hx hb dX0_difference_74 rfl (lv_at hl 1 rfl) ?_
              refine dk_g10 E hP dX0_difference_75 ?_
              refine lv_iload_n hx hb dX0_difference_78 rfl (lv_at hl 3 rfl) ?_
              refine lv_iconst (v := (nI 4)) hx hb dX0_difference_79 (by decide) ?_
              refine nv_imul hx hb dX0_difference_80 ?_
              refine lv_iload hx hb dX0_difference_81 (lv_at hl 5 rfl) ?_
              refine nv_iadd hx hb dX0_difference_83 ?_
              refine dk_l10 E hP (x := (nI (kp (b * 4 + k)))) (pb10) (by omega) dX0_difference_84 ?_
              refine lv_istore (lv' := [(6, .int (nI (kp (b * 4 + k)))), (5, .int (nI (kp (a * 4 + k)))), (0, .ref o), (1, .int (nI a)), (2, .int (nI b)), (3, .int z1), (4, .int (nI k))]) hx hb dX0_difference_85 hl (by decide) rfl (fun ls hl => ?_)
              refine lv_iload hx hb dX0_difference_87 (lv_at hl 1 rfl) ?_
              refine lv_iload hx hb dX0_difference_89 (lv_at hl 0 rfl) ?_
              refine nv_icmp_eq (tgt := 113) hx hb (by omega) (by omega) dX0_difference_91 (by decide) (fun c91 => ?_) (fun c91 => ?_)
              · refine nv_iinc (lv' := [(4, .int (nI (k + 1))), (6, .int (nI (kp (b * 4 + k)))), (5, .int (nI (kp (a * 4 + k)))), (0, .ref o), (1, .int (nI a)), (2, .int (nI b)), (3, .int z1)]) hx hb 6 dX0_difference_113 hl rfl (by decide) rfl (fun ls hl => ?_)
                refine lv_goto (tgt := 23) hx hb dX0_difference_116 (by decide) ?_
                have hl : lv_has ls 7 [(0, .ref o), (1, .int (nI a)), (2, .int (nI b)), (3, .int z1), (4, .int (nI (k + 1)))] := lv_sub hl [3, 4, 5, 6, 0] rfl
                exact ih (k + 1) z1 (by omega) (fun q hq => by
                  rw [hz1 q hq]
                  by_cases h1 : 16 + 4 * k ≤ q ∧ q < 16 + 4 * (k + 1)
                  · have h2 : dbit md a b q = false := by
                      unfold dbit
                      rw [if_neg (by omega), if_pos (by omega)]
                      have e1 := pa4 (q - 16 - 4 * k) (by omega)
                      have e2 := pb4 (q - 16 - 4 * k) (by omega)
                      rw [c91] at e1
                      have e3 : 4 + (k * 4 + (q - 16 - 4 * k)) = q - 12 := by omega
                      rw [e3] at e1 e2
                      exact decide_eq_false (fun h => h (e1.symm.trans e2))
                    rw [h2, Bool.and_false, Bool.and_false]
                  · congr 1
                    exact decide_eq_decide.mpr (by omega)) H locs ls hP hS hl
              · refine lv_iload_n hx hb dX0_difference_94 rfl (lv_at hl 5 rfl) ?_
                refine lv_aload_n hx hb dX0_difference_95 rfl (lv_at hl 2 rfl) ?_
                refine lv_iload hx hb dX0_difference_96 (lv_at hl 1 rfl) ?_
                refine lv_iload hx hb dX0_difference_98 (lv_at hl 0 rfl) ?_
                refine dk_calli (As := [.int (nI (kp (a * 4 + k))), .int (nI (kp (b * 4 + k)))]) (rest := [.int z1]) E hP hS (met_dk_differing l D o ad cB cI d pa56 pb56) (cwV 2 E.2.2.1 (lw_V q188 q190 qs11 q19 q191) rfl rfl rfl (by decide +kernel) ⟨by decide, by decide⟩) rfl hl.1 rfl (Nat.le_of_ble_eq_true rfl) ⟨Nat.zero_le _, Nat.zero_le _⟩ dX0_difference_100 (fun r116 d115 H locs hpd115 hP hS => ?_)
                obtain ⟨e0, hd⟩ := hpd115
                rw [e0] at hP
                refine lv_bipush (v := (nI 16)) hx hb dX0_difference_103 (by decide) ?_
                refine lv_iconst (v := (nI 4)) hx hb dX0_difference_105 (by decide) ?_
                refine lv_iload hx hb dX0_difference_106 (lv_at hl 6 rfl) ?_
                refine nv_imul hx hb dX0_difference_108 ?_
                refine nv_iadd hx hb dX0_difference_109 ?_
                refine lv_ishl hx hb dX0_difference_110 ?_
                refine lv_ior hx hb dX0_difference_111 ?_
                refine lv_istore_n (lv' := [(3, .int (z1 ||| (r116 <<< ((nI (16 + (4 * k))) &&& 31)))), (6, .int (nI (kp (b * 4 + k)))), (5, .int (nI (kp (a * 4 + k)))), (0, .ref o), (1, .int (nI a)), (2, .int (nI b)), (4, .int (nI k))]) hx hb dX0_difference_112 rfl hl (by decide) rfl (fun ls hl => ?_)
                refine nv_iinc (lv' := [(4, .int (nI (k + 1))), (3, .int (z1 ||| (r116 <<< ((nI (16 + (4 * k))) &&& 31)))), (6, .int (nI (kp (b * 4 + k)))), (5, .int (nI (kp (a * 4 + k)))), (0, .ref o), (1, .int (nI a)), (2, .int (nI b))]) hx hb 6 dX0_difference_113 hl rfl (by decide) rfl (fun ls hl => ?_)
                refine lv_goto (tgt := 23) hx hb dX0_difference_116 (by decide) ?_
                have hl : lv_has ls 7 [(0, .ref o), (1, .int (nI a)), (2, .int (nI b)), (3, .int (z1 ||| (r116 <<< ((nI (16 + (4 * k))) &&& 31)))), (4, .int (nI (k + 1)))] := lv_sub hl [4, 5, 6, 1, 0] rfl
                exact ih (k + 1) _ (by omega) (fun q hq => by
                  rw [b_or, b_shl (16 + 4 * k) (by omega) _ hq, hz1 q hq, hd (q - (16 + 4 * k)) (by omega)]
                  by_cases h1 : 16 + 4 * k ≤ q ∧ q < 16 + 4 * (k + 1)
                  · have e1 := pa4 (q - (16 + 4 * k)) (by omega)
                    have e2 := pb4 (q - (16 + 4 * k)) (by omega)
                    have e3 : 4 + (k * 4 + (q - (16 + 4 * k))) = q - 12 := by omega
                    rw [e3] at e1 e2
                    rw [e1, e2, decide_eq_false (show ¬ (q < k + 1 ∨ 16 ≤ q ∧ q < 16 + 4 * k) by omega), Bool.false_and, Bool.false_or, decide_eq_true h1.1, Bool.true_and, decide_eq_true (show q - (16 + 4 * k) < 4 by omega), Bool.true_and, decide_eq_true (show q < k + 1 ∨ 16 ≤ q ∧ q < 16 + 4 * (k + 1) by omega), Bool.true_and]
                    unfold dbit
                    rw [if_neg (by omega), if_pos (by omega)]
                  · have h2 : (decide (16 + 4 * k ≤ q) && decide (q - (16 + 4 * k) < 4)) = false := by
                      by_cases h3 : 16 + 4 * k ≤ q
                      · rw [decide_eq_false (show ¬ q - (16 + 4 * k) < 4 by omega), Bool.and_false]
                      · rw [decide_eq_false h3, Bool.false_and]
                    rw [← Bool.and_assoc, h2, Bool.false_and, Bool.or_false]
                    congr 1
                    exact decide_eq_decide.mpr (by omega)) H locs ls hP hS hl
            refine lv_aload_n hx hb dX0_difference_29 rfl (lv_at hl 0 rfl) ?_
            refine dk_g9 E hP dX0_difference_30 ?_
            refine lv_iload_n hx hb dX0_difference_33 rfl (lv_at hl 1 rfl) ?_
            refine lv_iconst (v := (nI 4)) hx hb dX0_difference_34 (by decide) ?_
            refine nv_imul hx hb dX0_difference_35 ?_
            refine lv_iload hx hb dX0_difference_36 (lv_at hl 4 rfl) ?_
            refine nv_iadd hx hb dX0_difference_38 ?_
            refine dk_l9 E hP (x := (md 8 (20 * a + k))) (ra.2.2.2.1 k (by omega)) (by omega) dX0_difference_39 ?_
            refine lv_aload_n hx hb dX0_difference_40 rfl (lv_at hl 0 rfl) ?_
            refine dk_g9 E hP dX0_difference_41 ?_
            refine lv_iload_n hx hb dX0_difference_44 rfl (lv_at hl 2 rfl) ?_
            refine lv_iconst (v := (nI 4)) hx hb dX0_difference_45 (by decide) ?_
            refine nv_imul hx hb dX0_difference_46 ?_
            refine lv_iload hx hb dX0_difference_47 (lv_at hl 4 rfl) ?_
            refine nv_iadd hx hb dX0_difference_49 ?_
            refine dk_l9 E hP (x := (md 8 (20 * b + k))) (rb.2.2.2.1 k (by omega)) (by omega) dX0_difference_50 ?_
            refine lv_icmp_eq (tgt := 61) hx hb dX0_difference_51 (by decide) (fun c51 => ?_) (fun c51 => ?_)
            · have hl : lv_has ls 7 [(0, .ref o), (1, .int (nI a)), (2, .int (nI b)), (3, .int z), (4, .int (nI k))] := lv_sub hl [0, 1, 2, 3, 4] rfl
              exact half z (fun q hq => by
                rw [hz q hq]
                by_cases h1 : q = k
                · have h2 : dbit md a b q = false := by
                    unfold dbit
                    rw [if_pos (by omega), h1]
                    exact decide_eq_false (fun h => h c51)
                  rw [h2, Bool.and_false, Bool.and_false]
                · congr 1
                  exact decide_eq_decide.mpr (by omega)) ls hl
            · refine lv_iload_n hx hb dX0_difference_54 rfl (lv_at hl 3 rfl) ?_
              refine lv_iconst (v := (nI 1)) hx hb dX0_difference_55 (by decide) ?_
              refine lv_iload hx hb dX0_difference_56 (lv_at hl 4 rfl) ?_
              refine lv_ishl hx hb dX0_difference_58 ?_
              refine lv_ior hx hb dX0_difference_59 ?_
              refine lv_istore_n (lv' := [(3, .int (z ||| ((nI 1) <<< ((nI k) &&& 31)))), (0, .ref o), (1, .int (nI a)), (2, .int (nI b)), (4, .int (nI k))]) hx hb dX0_difference_60 rfl hl (by decide) rfl (fun ls hl => ?_)
              have hl : lv_has ls 7 [(0, .ref o), (1, .int (nI a)), (2, .int (nI b)), (3, .int (z ||| ((nI 1) <<< ((nI k) &&& 31)))), (4, .int (nI k))] := lv_sub hl [1, 2, 3, 0, 4] rfl
              exact half _ (fun q hq => by
                rw [b_or1 z (by omega) hq, hz q hq]
                by_cases h1 : q = k
                · have h2 : dbit md a b q = true := by
                    unfold dbit
                    rw [if_pos (by omega), h1]
                    exact decide_eq_true c51
                  rw [h2, decide_eq_true h1, Bool.or_true, Bool.and_true, decide_eq_true (show q < k + 1 ∨ 16 ≤ q ∧ q < 16 + 4 * k by omega)]
                · rw [decide_eq_false h1, Bool.or_false]
                  congr 1
                  exact decide_eq_decide.mpr (by omega)) ls hl
      refine lv_iconst (v := (nI 0)) hx hb dX0_difference_18 (by decide) ?_
      refine lv_istore_n (lv' := [(3, .int (nI 0)), (0, .ref o), (1, .int (nI a)), (2, .int (nI b))]) hx hb dX0_difference_19 rfl hl (by decide) rfl (fun ls hl => ?_)
      refine lv_iconst (v := (nI 0)) hx hb dX0_difference_20 (by decide) ?_
      refine lv_istore (lv' := [(4, .int (nI 0)), (3, .int (nI 0)), (0, .ref o), (1, .int (nI a)), (2, .int (nI b))]) hx hb dX0_difference_21 hl (by decide) rfl (fun ls hl => ?_)
      have hl : lv_has ls 7 [(0, .ref o), (1, .int (nI a)), (2, .int (nI b)), (3, .int (nI 0)), (4, .int (nI 0))] := lv_sub hl [2, 3, 4, 1, 0] rfl
      exact loop 4 0 _ rfl (fun q hq => by rw [decide_eq_false (show ¬ (q < 0 ∨ 16 ≤ q ∧ q < 16 + 4 * 0) by omega), Bool.false_and]; exact b_0 q) _ _ ls hP hS hl
    · refine lv_iconst (v := (nI 0)) hx hb dX0_difference_16 (by decide) ?_
      exact kR _ _ _ _ _ _ (⟨rfl, Or.inr ⟨fun h => hh2.eq c13 h.2, rfl⟩⟩) hP hS dX0_difference_17
set_option maxHeartbeats 4000000 in
set_option maxRecDepth 100000 in
theorem met_dk_difference (l : Launch) (D : va_G) (o : Nat) (ad : Nat → Nat) (cB cI : ClassId) (d : MS) {md : MS} {n K : Nat} {x y : Int32} (hR : RB d md n K) : dkMi l yX0_difference cX0_difference 7 (some .int) (rmk 1) D o ad cB cI [.int x, .int y] d (fun r d' => d' = d ∧ DiffR md K x y r) :=
  dk_meti (by decide) rfl (Nat.le_of_ble_eq_true rfl) (fun _ _ _ => rfl) (fun p e s m args below meth c ls Q E hP hl kR => wk_dk_difference hR E hP hl kR)
end
section
/-! ReplayDeskModel: the leaves and what is asked -/
set_option maxHeartbeats 4000000 in
set_option maxRecDepth 100000 in
theorem wk_md_kept {p : Program} {l : Launch} {e : Env} {s : State} {m : MethodId} {args : Array Value} {below : List Frame} {meth : Method} {c : Code} {ls : Array Slot} {Q : State → Prop} {D : va_G} {o : Nat} {ad : Nat → Nat} {cB cI : ClassId} {d : MS} {n K : Nat} {x : Int32} (hM : MW d n K) (E : mdE D o ad cB cI p s m args c cX1_kept 2) (hP : va_P D vwCl (md_w o ad cB cI d) s.heap) (hl : lv_has ls 2 [(0, .ref o), (1, .int x)]) (kR : mdKi D o ad cB cI p l e (rmk 0) s m args below meth c cX1_kept Q (fun r d' => d' = d ∧ HasR K x r)) : W p l e (rmk 0) s m args below meth c s.heap [] 0 0 Q (F0 m 0 ls []) := by
  obtain ⟨hx, hb, -⟩ := id E
  have hS : va_S (md_A o ad) s.heap s.heap [] := va_S.rf
  obtain ⟨hsz, hn16, hMP, hK, hW⟩ := id hM
  refine lv_iload_n hx hb dX1_kept_0 rfl (lv_at hl 1 rfl) ?_
  refine lv_if_lt (tgt := 23) hx hb dX1_kept_1 (by decide) (fun c1 => ?_) (fun c1 => ?_)
  · refine lv_iconst (v := (nI 0)) hx hb dX1_kept_23 (by decide) ?_
    exact kR _ _ _ _ _ _ (⟨rfl, Or.inr ⟨rfl, hasK_lt c1⟩⟩) hP hS dX1_kept_24
  · refine lv_iload_n hx hb dX1_kept_4 rfl (lv_at hl 1 rfl) ?_
    refine lv_bipush (v := (nI 12)) hx hb dX1_kept_5 (by decide) ?_
    refine lv_icmp_ge (tgt := 23) hx hb dX1_kept_7 (by decide) (fun c7 => ?_) (fun c7 => ?_)
    · refine lv_iconst (v := (nI 0)) hx hb dX1_kept_23 (by decide) ?_
      exact kR _ _ _ _ _ _ (⟨rfl, Or.inr ⟨rfl, hasK_ge c7⟩⟩) hP hS dX1_kept_24
    · obtain ⟨k, hk12, rfl⟩ := in12 c1 c7
      refine lv_aload_n hx hb dX1_kept_10 rfl (lv_at hl 0 rfl) ?_
      refine md_g4 E hP dX1_kept_11 ?_
      refine lv_iload_n hx hb dX1_kept_14 rfl (lv_at hl 1 rfl) ?_
      refine md_l4 E hP (x := (if K.testBit k = true then (1 : Int32) else 0)) (hW k (hk12)) (by omega) dX1_kept_15 ?_
      refine lv_if_eq (tgt := 23) hx hb dX1_kept_16 (by decide) (fun c16 => ?_) (fun c16 => ?_)
      · have c16 : ¬ K.testBit k = true := fun h => by rw [if_pos h] at c16; exact absurd c16 (by decide)
        refine lv_iconst (v := (nI 0)) hx hb dX1_kept_23 (by decide) ?_
        exact kR _ _ _ _ _ _ (⟨rfl, Or.inr ⟨rfl, fun h => c16 ((hasK_iff hk12).mp h)⟩⟩) hP hS dX1_kept_24
      · have c16 : K.testBit k = true := Classical.byContradiction fun h => c16 (by rw [if_neg h])
        refine lv_iconst (v := (nI 1)) hx hb dX1_kept_19 (by decide) ?_
        refine lv_goto (tgt := 24) hx hb dX1_kept_20 (by decide) ?_
        exact kR _ _ _ _ _ _ (⟨rfl, Or.inl ⟨rfl, hasK_nI hk12 c16⟩⟩) hP hS dX1_kept_24
set_option maxHeartbeats 4000000 in
set_option maxRecDepth 100000 in
theorem met_md_kept (l : Launch) (D : va_G) (o : Nat) (ad : Nat → Nat) (cB cI : ClassId) (d : MS) {n K : Nat} {x : Int32} (hM : MW d n K) : mdMi l yX1_kept cX1_kept 2 (some .boolean) (rmk 0) D o ad cB cI [.int x] d (fun r d' => d' = d ∧ HasR K x r) :=
  md_meti (by decide) rfl (Nat.le_of_ble_eq_true rfl) (fun _ _ h => h.2.z) (fun p e s m args below meth c ls Q E hP hl kR => wk_md_kept hM E hP hl kR)
def IsR (K : Nat) (md : MS) (x kd r : Int32) : Prop := (r = 1 ∧ isK K md x kd) ∨ (r = 0 ∧ ¬ isK K md x kd)
theorem IsR.z {K : Nat} {md : MS} {x kd r : Int32} (h : IsR K md x kd r) : narrow .boolean (.int r) = .int r := by
  rcases h with h | h
  · rw [h.1]; rfl
  · rw [h.1]; rfl
theorem IsR.ne {K : Nat} {md : MS} {x kd r : Int32} (h : IsR K md x kd r) (hr : ¬ r = 0) : isK K md x kd := by
  rcases h with h | h
  · exact h.2
  · exact absurd h.1 hr
theorem IsR.eq {K : Nat} {md : MS} {x kd r : Int32} (h : IsR K md x kd r) (hr : r = 0) : ¬ isK K md x kd := by
  rcases h with h | h
  · exact absurd (h.1.symm.trans hr) (by decide)
  · exact h.2
theorem isK_has {K : Nat} {md : MS} {x kd : Int32} (h : isK K md x kd) : hasK K x := by
  obtain ⟨k, a1, a2, a3, -⟩ := h
  exact ⟨k, a1, a2, a3⟩
theorem isK_nI {K k : Nat} {md : MS} {kd : Int32} (hk : k < 12) (h : isK K md (nI k) kd) : K.testBit k = true ∧ md 5 k = kd := by
  obtain ⟨j, a1, a2, a3, a4⟩ := h
  rw [nI_eq (by omega) (by omega)] at a2
  subst a2
  exact ⟨a3, a4⟩
set_option maxHeartbeats 4000000 in
set_option maxRecDepth 100000 in
theorem wk_md_is {p : Program} {l : Launch} {e : Env} {s : State} {m : MethodId} {args : Array Value} {below : List Frame} {meth : Method} {c : Code} {ls : Array Slot} {Q : State → Prop} {D : va_G} {o : Nat} {ad : Nat → Nat} {cB cI : ClassId} {d : MS} {n K : Nat} {x kd : Int32} (hM : MW d n K) (E : mdE D o ad cB cI p s m args c cX1_is 3) (hP : va_P D vwCl (md_w o ad cB cI d) s.heap) (hl : lv_has ls 3 [(0, .ref o), (1, .int x), (2, .int kd)]) (kR : mdKi D o ad cB cI p l e (rmk 0) s m args below meth c cX1_is Q (fun r d' => d' = d ∧ IsR K d x kd r)) : W p l e (rmk 0) s m args below meth c s.heap [] 0 0 Q (F0 m 0 ls []) := by
  obtain ⟨hx, hb, -⟩ := id E
  have hS : va_S (md_A o ad) s.heap s.heap [] := va_S.rf
  obtain ⟨hsz, hn16, hMP, hK, hW⟩ := id hM
  refine lv_iload_n hx hb dX1_is_0 rfl (lv_at hl 1 rfl) ?_
  refine lv_if_lt (tgt := 33) hx hb dX1_is_1 (by decide) (fun c1 => ?_) (fun c1 => ?_)
  · refine lv_iconst (v := (nI 0)) hx hb dX1_is_33 (by decide) ?_
    exact kR _ _ _ _ _ _ (⟨rfl, Or.inr ⟨rfl, fun h => hasK_lt c1 (isK_has h)⟩⟩) hP hS dX1_is_34
  · refine lv_iload_n hx hb dX1_is_4 rfl (lv_at hl 1 rfl) ?_
    refine lv_bipush (v := (nI 12)) hx hb dX1_is_5 (by decide) ?_
    refine lv_icmp_ge (tgt := 33) hx hb dX1_is_7 (by decide) (fun c7 => ?_) (fun c7 => ?_)
    · refine lv_iconst (v := (nI 0)) hx hb dX1_is_33 (by decide) ?_
      exact kR _ _ _ _ _ _ (⟨rfl, Or.inr ⟨rfl, fun h => hasK_ge c7 (isK_has h)⟩⟩) hP hS dX1_is_34
    · obtain ⟨k, hk12, rfl⟩ := in12 c1 c7
      refine lv_aload_n hx hb dX1_is_10 rfl (lv_at hl 0 rfl) ?_
      refine md_g4 E hP dX1_is_11 ?_
      refine lv_iload_n hx hb dX1_is_14 rfl (lv_at hl 1 rfl) ?_
      refine md_l4 E hP (x := (if K.testBit k = true then (1 : Int32) else 0)) (hW k (hk12)) (by omega) dX1_is_15 ?_
      refine lv_if_eq (tgt := 33) hx hb dX1_is_16 (by decide) (fun c16 => ?_) (fun c16 => ?_)
      · have c16 : ¬ K.testBit k = true := fun h => by rw [if_pos h] at c16; exact absurd c16 (by decide)
        refine lv_iconst (v := (nI 0)) hx hb dX1_is_33 (by decide) ?_
        exact kR _ _ _ _ _ _ (⟨rfl, Or.inr ⟨rfl, fun h => c16 (isK_nI hk12 h).1⟩⟩) hP hS dX1_is_34
      · have c16 : K.testBit k = true := Classical.byContradiction fun h => c16 (by rw [if_neg h])
        refine lv_aload_n hx hb dX1_is_19 rfl (lv_at hl 0 rfl) ?_
        refine md_g5 E hP dX1_is_20 ?_
        refine lv_iload_n hx hb dX1_is_23 rfl (lv_at hl 1 rfl) ?_
        refine md_l5 E hP (x := (d 5 k)) (rfl) (by omega) dX1_is_24 ?_
        refine lv_iload_n hx hb dX1_is_25 rfl (lv_at hl 2 rfl) ?_
        refine lv_icmp_ne (tgt := 33) hx hb dX1_is_26 (by decide) (fun c26 => ?_) (fun c26 => ?_)
        · refine lv_iconst (v := (nI 0)) hx hb dX1_is_33 (by decide) ?_
          exact kR _ _ _ _ _ _ (⟨rfl, Or.inr ⟨rfl, fun h => c26 (isK_nI hk12 h).2⟩⟩) hP hS dX1_is_34
        · refine lv_iconst (v := (nI 1)) hx hb dX1_is_29 (by decide) ?_
          refine lv_goto (tgt := 34) hx hb dX1_is_30 (by decide) ?_
          exact kR _ _ _ _ _ _ (⟨rfl, Or.inl ⟨rfl, k, hk12, rfl, c16, c26⟩⟩) hP hS dX1_is_34
set_option maxHeartbeats 4000000 in
set_option maxRecDepth 100000 in
theorem met_md_is (l : Launch) (D : va_G) (o : Nat) (ad : Nat → Nat) (cB cI : ClassId) (d : MS) {n K : Nat} {x kd : Int32} (hM : MW d n K) : mdMi l yX1_is cX1_is 3 (some .boolean) (rmk 0) D o ad cB cI [.int x, .int kd] d (fun r d' => d' = d ∧ IsR K d x kd r) :=
  md_meti (by decide) rfl (Nat.le_of_ble_eq_true rfl) (fun _ _ h => h.2.z) (fun p e s m args below meth c ls Q E hP hl kR => wk_md_is hM E hP hl kR)
set_option maxHeartbeats 4000000 in
set_option maxRecDepth 100000 in
theorem wk_md_room {p : Program} {l : Launch} {e : Env} {s : State} {m : MethodId} {args : Array Value} {below : List Frame} {meth : Method} {c : Code} {ls : Array Slot} {Q : State → Prop} {D : va_G} {o : Nat} {ad : Nat → Nat} {cB cI : ClassId} {d : MS} {n K : Nat} (hM : MW d n K) (E : mdE D o ad cB cI p s m args c cX1_room 2) (hP : va_P D vwCl (md_w o ad cB cI d) s.heap) (hl : lv_has ls 2 [(0, .ref o)]) (kR : mdKi D o ad cB cI p l e (rmk 0) s m args below meth c cX1_room Q (fun r d' => d' = d ∧ r = rmI (rm_ K.testBit 12 0))) : W p l e (rmk 0) s m args below meth c s.heap [] 0 0 Q (F0 m 0 ls []) := by
  obtain ⟨hx, hb, -⟩ := id E
  have hS : va_S (md_A o ad) s.heap s.heap [] := va_S.rf
  obtain ⟨hsz, hn16, hMP, hK, hW⟩ := id hM
  have loop : ∀ (n0 k : Nat), k + n0 = 12 → rm_ K.testBit 12 0 = rm_ K.testBit n0 k → ∀ (H : Heap) (locs : List Loc) (ls : Array Slot), va_P D vwCl (md_w o ad cB cI d) H → va_S (md_A o ad) s.heap H locs → lv_has ls 2 [(0, .ref o), (1, .int (nI k))] → W p l e (rmk 0) s m args below meth c H locs 0 0 Q (F0 m 2 ls []) := by
    intro n0
    induction n0 with
    | zero =>
      intro k hkn hr H locs ls hP hS hl
      have hk0 : k = 12 := by omega
      subst hk0
      refine lv_iload_n hx hb dX1_room_2 rfl (lv_at hl 1 rfl) ?_
      refine lv_bipush (v := (nI 12)) hx hb dX1_room_3 (by decide) ?_
      refine nv_icmp_ge (tgt := 25) hx hb (by omega) (by omega) dX1_room_5 (by decide) (fun c5 => ?_) (fun c5 => ?_)
      · refine lv_bipush (v := (-2)) hx hb dX1_room_25 (by decide) ?_
        exact kR _ _ _ _ _ _ (⟨rfl, by rw [hr]; rfl⟩) hP hS dX1_room_27
      · exact absurd c5 (by omega)
    | succ n0 ih =>
      intro k hkn hr H locs ls hP hS hl
      refine lv_iload_n hx hb dX1_room_2 rfl (lv_at hl 1 rfl) ?_
      refine lv_bipush (v := (nI 12)) hx hb dX1_room_3 (by decide) ?_
      refine nv_icmp_ge (tgt := 25) hx hb (by omega) (by omega) dX1_room_5 (by decide) (fun c5 => ?_) (fun c5 => ?_)
      · exact absurd c5 (by omega)
      · refine lv_aload_n hx hb dX1_room_8 rfl (lv_at hl 0 rfl) ?_
        refine md_g4 E hP dX1_room_9 ?_
        refine lv_iload_n hx hb dX1_room_12 rfl (lv_at hl 1 rfl) ?_
        refine md_l4 E hP (x := (if K.testBit k = true then (1 : Int32) else 0)) (hW k (by omega)) (by omega) dX1_room_13 ?_
        refine lv_if_ne (tgt := 19) hx hb dX1_room_14 (by decide) (fun c14 => ?_) (fun c14 => ?_)
        · have ht : K.testBit k = true := Classical.byContradiction fun h => c14 (by rw [if_neg h])
          refine nv_iinc (lv' := [(1, .int (nI (k + 1))), (0, .ref o)]) hx hb 1 dX1_room_19 hl rfl (by decide) rfl (fun ls hl => ?_)
          refine lv_goto (tgt := 2) hx hb dX1_room_22 (by decide) ?_
          have hl : lv_has ls 2 [(0, .ref o), (1, .int (nI (k + 1)))] := lv_sub hl [1, 0] rfl
          exact ih (k + 1) (by omega) (by rw [hr, rm_, if_pos ht]) H locs ls hP hS hl
        · have ht : ¬ K.testBit k = true := fun h => by rw [if_pos h] at c14; exact absurd c14 (by decide)
          refine lv_iload_n hx hb dX1_room_17 rfl (lv_at hl 1 rfl) ?_
          exact kR _ _ _ _ _ _ (⟨rfl, by rw [hr, rm_, if_neg ht]; rfl⟩) hP hS dX1_room_18
  refine lv_iconst (v := (nI 0)) hx hb dX1_room_0 (by decide) ?_
  refine lv_istore_n (lv' := [(1, .int (nI 0)), (0, .ref o)]) hx hb dX1_room_1 rfl hl (by decide) rfl (fun ls hl => ?_)
  have hl : lv_has ls 2 [(0, .ref o), (1, .int (nI 0))] := lv_sub hl [1, 0] rfl
  exact loop 12 0 rfl rfl _ _ ls hP hS hl
set_option maxHeartbeats 4000000 in
set_option maxRecDepth 100000 in
theorem met_md_room (l : Launch) (D : va_G) (o : Nat) (ad : Nat → Nat) (cB cI : ClassId) (d : MS) {n K : Nat} (hM : MW d n K) : mdMi l yX1_room cX1_room 2 (some .int) (rmk 0) D o ad cB cI [] d (fun r d' => d' = d ∧ r = rmI (rm_ K.testBit 12 0)) :=
  md_meti (by decide) rfl (Nat.le_of_ble_eq_true rfl) (fun _ _ _ => rfl) (fun p e s m args below meth c ls Q E hP hl kR => wk_md_room hM E hP hl kR)
set_option maxHeartbeats 4000000 in
set_option maxRecDepth 100000 in
theorem wk_md_moments {p : Program} {l : Launch} {e : Env} {s : State} {m : MethodId} {args : Array Value} {below : List Frame} {meth : Method} {c : Code} {ls : Array Slot} {Q : State → Prop} {D : va_G} {o : Nat} {ad : Nat → Nat} {cB cI : ClassId} {d : MS} {n K : Nat} (hM : MW d n K) (E : mdE D o ad cB cI p s m args c cX1_moments 3) (hP : va_P D vwCl (md_w o ad cB cI d) s.heap) (hl : lv_has ls 3 [(0, .ref o)]) (kR : mdKi D o ad cB cI p l e (rmk 0) s m args below meth c cX1_moments Q (fun r d' => d' = d ∧ r = nI K)) : W p l e (rmk 0) s m args below meth c s.heap [] 0 0 Q (F0 m 0 ls []) := by
  obtain ⟨hx, hb, -⟩ := id E
  have hS : va_S (md_A o ad) s.heap s.heap [] := va_S.rf
  obtain ⟨hsz, hn16, hMP, hK, hW⟩ := id hM
  have loop : ∀ (n0 k : Nat), k + n0 = 12 → ∀ (H : Heap) (locs : List Loc) (ls : Array Slot), va_P D vwCl (md_w o ad cB cI d) H → va_S (md_A o ad) s.heap H locs → lv_has ls 3 [(0, .ref o), (1, .int (nI (K % 2 ^ k))), (2, .int (nI k))] → W p l e (rmk 0) s m args below meth c H locs 0 0 Q (F0 m 4 ls []) := by
    intro n0
    induction n0 with
    | zero =>
      intro k hkn H locs ls hP hS hl
      have hk0 : k = 12 := by omega
      subst hk0
      refine lv_iload_n hx hb dX1_moments_4 rfl (lv_at hl 2 rfl) ?_
      refine lv_bipush (v := (nI 12)) hx hb dX1_moments_5 (by decide) ?_
      refine nv_icmp_ge (tgt := 35) hx hb (by omega) (by omega) dX1_moments_7 (by decide) (fun c7 => ?_) (fun c7 => ?_)
      · refine lv_iload_n hx hb dX1_moments_35 rfl (lv_at hl 1 rfl) ?_
        exact kR _ _ _ _ _ _ (⟨rfl, by rw [Nat.mod_eq_of_lt (show K < 2 ^ 12 from hK)]⟩) hP hS dX1_moments_36
      · exact absurd c7 (by omega)
    | succ n0 ih =>
      intro k hkn H locs ls hP hS hl
      refine lv_iload_n hx hb dX1_moments_4 rfl (lv_at hl 2 rfl) ?_
      refine lv_bipush (v := (nI 12)) hx hb dX1_moments_5 (by decide) ?_
      refine nv_icmp_ge (tgt := 35) hx hb (by omega) (by omega) dX1_moments_7 (by decide) (fun c7 => ?_) (fun c7 => ?_)
      · exact absurd c7 (by omega)
      · refine lv_iload_n hx hb dX1_moments_10 rfl (lv_at hl 1 rfl) ?_
        refine lv_aload_n hx hb dX1_moments_11 rfl (lv_at hl 0 rfl) ?_
        refine md_g4 E hP dX1_moments_12 ?_
        refine lv_iload_n hx hb dX1_moments_15 rfl (lv_at hl 2 rfl) ?_
        refine md_l4 E hP (x := (if K.testBit k = true then (1 : Int32) else 0)) (hW k (by omega)) (by omega) dX1_moments_16 ?_
        refine lv_if_eq (tgt := 26) hx hb dX1_moments_17 (by decide) (fun c17 => ?_) (fun c17 => ?_)
        · have hb1 : ¬ K.testBit k = true := fun h => by rw [if_pos h] at c17; exact absurd c17 (by decide)
          refine lv_iconst (v := (nI 0)) hx hb dX1_moments_26 (by decide) ?_
          refine lv_ior hx hb dX1_moments_27 ?_
          refine tp (y := (nI (K % 2 ^ (k + 1)))) (by rw [nx_or, mod_bit, if_neg hb1]) ?_
          refine lv_istore_n (lv' := [(1, .int (nI (K % 2 ^ (k + 1)))), (0, .ref o), (2, .int (nI k))]) hx hb dX1_moments_28 rfl hl (by decide) rfl (fun ls hl => ?_)
          refine nv_iinc (lv' := [(2, .int (nI (k + 1))), (1, .int (nI (K % 2 ^ (k + 1)))), (0, .ref o)]) hx hb 2 dX1_moments_29 hl rfl (by decide) rfl (fun ls hl => ?_)
          refine lv_goto (tgt := 4) hx hb dX1_moments_32 (by decide) ?_
          have hl : lv_has ls 3 [(0, .ref o), (1, .int (nI (K % 2 ^ (k + 1)))), (2, .int (nI (k + 1)))] := lv_sub hl [2, 1, 0] rfl
          exact ih (k + 1) (by omega) H locs ls hP hS hl
        · have hb1 : K.testBit k = true := Classical.byContradiction fun h => c17 (by rw [if_neg h])
          refine lv_iconst (v := (nI 1)) hx hb dX1_moments_20 (by decide) ?_
          refine lv_iload_n hx hb dX1_moments_21 rfl (lv_at hl 2 rfl) ?_
          refine lv_ishl hx hb dX1_moments_22 ?_
          refine lv_goto (tgt := 27) hx hb dX1_moments_23 (by decide) ?_
          refine lv_ior hx hb dX1_moments_27 ?_
          refine tp (y := (nI (K % 2 ^ (k + 1)))) (by rw [shl1 (by omega), nx_or, mod_bit, if_pos hb1]) ?_
          refine lv_istore_n (lv' := [(1, .int (nI (K % 2 ^ (k + 1)))), (0, .ref o), (2, .int (nI k))]) hx hb dX1_moments_28 rfl hl (by decide) rfl (fun ls hl => ?_)
          refine nv_iinc (lv' := [(2, .int (nI (k + 1))), (1, .int (nI (K % 2 ^ (k + 1)))), (0, .ref o)]) hx hb 2 dX1_moments_29 hl rfl (by decide) rfl (fun ls hl => ?_)
          refine lv_goto (tgt := 4) hx hb dX1_moments_32 (by decide) ?_
          have hl : lv_has ls 3 [(0, .ref o), (1, .int (nI (K % 2 ^ (k + 1)))), (2, .int (nI (k + 1)))] := lv_sub hl [2, 1, 0] rfl
          exact ih (k + 1) (by omega) H locs ls hP hS hl
  refine lv_iconst (v := (nI 0)) hx hb dX1_moments_0 (by decide) ?_
  refine lv_istore_n (lv' := [(1, .int (nI 0)), (0, .ref o)]) hx hb dX1_moments_1 rfl hl (by decide) rfl (fun ls hl => ?_)
  refine lv_iconst (v := (nI 0)) hx hb dX1_moments_2 (by decide) ?_
  refine lv_istore_n (lv' := [(2, .int (nI 0)), (1, .int (nI 0)), (0, .ref o)]) hx hb dX1_moments_3 rfl hl (by decide) rfl (fun ls hl => ?_)
  have hl : lv_has ls 3 [(0, .ref o), (1, .int (nI 0)), (2, .int (nI 0))] := lv_sub hl [2, 1, 0] rfl
  exact loop 12 0 rfl _ _ ls hP hS (by rw [show K % 2 ^ 0 = 0 from Nat.mod_one K]; exact hl)
set_option maxHeartbeats 4000000 in
set_option maxRecDepth 100000 in
theorem met_md_moments (l : Launch) (D : va_G) (o : Nat) (ad : Nat → Nat) (cB cI : ClassId) (d : MS) {n K : Nat} (hM : MW d n K) : mdMi l yX1_moments cX1_moments 3 (some .int) (rmk 0) D o ad cB cI [] d (fun r d' => d' = d ∧ r = nI K) :=
  md_meti (by decide) rfl (Nat.le_of_ble_eq_true rfl) (fun _ _ _ => rfl) (fun p e s m args below meth c ls Q E hP hl kR => wk_md_moments hM E hP hl kR)
set_option maxHeartbeats 4000000 in
set_option maxRecDepth 100000 in
theorem wk_md_forgetAll {p : Program} {l : Launch} {e : Env} {s : State} {m : MethodId} {args : Array Value} {below : List Frame} {meth : Method} {c : Code} {ls : Array Slot} {Q : State → Prop} {D : va_G} {o : Nat} {ad : Nat → Nat} {cB cI : ClassId} {d : MS}  (E : mdE D o ad cB cI p s m args c cX1_forgetAll 2) (hP : va_P D vwCl (md_w o ad cB cI d) s.heap) (hl : lv_has ls 2 [(0, .ref o)]) (kR : mdKv D o ad cB cI p l e (rmk 0) s m args below meth c cX1_forgetAll Q (fun d' => d' = mFA d)) : W p l e (rmk 0) s m args below meth c s.heap [] 0 0 Q (F0 m 0 ls []) := by
  obtain ⟨hx, hb, -⟩ := id E
  have hS : va_S (md_A o ad) s.heap s.heap [] := va_S.rf
  have loop : ∀ (n0 k : Nat) (d1 : MS), k + n0 = 12 → (∀ j, j ≠ 4 → d1 j = d j) → (∀ q, d1 4 q = if q < k then 0 else d 4 q) → ∀ (H : Heap) (locs : List Loc) (ls : Array Slot), va_P D vwCl (md_w o ad cB cI d1) H → va_S (md_A o ad) s.heap H locs → lv_has ls 2 [(0, .ref o), (1, .int (nI k))] → W p l e (rmk 0) s m args below meth c H locs 0 0 Q (F0 m 2 ls []) := by
    intro n0
    induction n0 with
    | zero =>
      intro k d1 hkn gf g4 H locs ls hP hS hl
      have hk0 : k = 12 := by omega
      subst hk0
      refine lv_iload_n hx hb dX1_forgetAll_2 rfl (lv_at hl 1 rfl) ?_
      refine lv_bipush (v := (nI 12)) hx hb dX1_forgetAll_3 (by decide) ?_
      refine nv_icmp_ge (tgt := 21) hx hb (by omega) (by omega) dX1_forgetAll_5 (by decide) (fun c5 => ?_) (fun c5 => ?_)
      · exact kR (mFA d) _ _ _ _ (rfl) (md_conv hP (fun k j _ => by
          unfold mFA
          by_cases e : k = 4
          · subst e; rw [va_up_self]; exact g4 j
          · rw [va_up_ne _ _ e, gf k e])) hS dX1_forgetAll_21
      · exact absurd c5 (by omega)
    | succ n0 ih =>
      intro k d1 hkn gf g4 H locs ls hP hS hl
      refine lv_iload_n hx hb dX1_forgetAll_2 rfl (lv_at hl 1 rfl) ?_
      refine lv_bipush (v := (nI 12)) hx hb dX1_forgetAll_3 (by decide) ?_
      refine nv_icmp_ge (tgt := 21) hx hb (by omega) (by omega) dX1_forgetAll_5 (by decide) (fun c5 => ?_) (fun c5 => ?_)
      · exact absurd c5 (by omega)
      · refine lv_aload_n hx hb dX1_forgetAll_8 rfl (lv_at hl 0 rfl) ?_
        refine md_g4 E hP dX1_forgetAll_9 ?_
        refine lv_iload_n hx hb dX1_forgetAll_12 rfl (lv_at hl 1 rfl) ?_
        refine lv_iconst (v := (nI 0)) hx hb dX1_forgetAll_13 (by decide) ?_
        refine md_s4 E hP hS (y := (nI 0)) (by decide) (by omega) dX1_forgetAll_14 (fun d101 H locs ed101 hP hS => ?_)
        refine nv_iinc (lv' := [(1, .int (nI (k + 1))), (0, .ref o)]) hx hb 1 dX1_forgetAll_15 hl rfl (by decide) rfl (fun ls hl => ?_)
        refine lv_goto (tgt := 2) hx hb dX1_forgetAll_18 (by decide) ?_
        have hl : lv_has ls 2 [(0, .ref o), (1, .int (nI (k + 1)))] := lv_sub hl [1, 0] rfl
        exact ih (k + 1) _ (by omega) (fun j hj => by rw [ed101, va_up_ne _ _ hj]; exact gf j hj) (fun q => by
          rw [ed101, va_up_self]
          unfold upd
          rw [g4 q]
          by_cases h1 : q = k
          · rw [if_pos h1, if_pos (by omega)]; rfl
          · rw [if_neg h1]
            by_cases h2 : q < k
            · rw [if_pos h2, if_pos (by omega)]
            · rw [if_neg h2, if_neg (by omega)]) H locs ls hP hS hl
  refine lv_iconst (v := (nI 0)) hx hb dX1_forgetAll_0 (by decide) ?_
  refine lv_istore_n (lv' := [(1, .int (nI 0)), (0, .ref o)]) hx hb dX1_forgetAll_1 rfl hl (by decide) rfl (fun ls hl => ?_)
  have hl : lv_has ls 2 [(0, .ref o), (1, .int (nI 0))] := lv_sub hl [1, 0] rfl
  exact loop 12 0 d rfl (fun _ _ => rfl) (fun q => by rw [if_neg (by omega)]) _ _ ls hP hS hl
set_option maxHeartbeats 4000000 in
set_option maxRecDepth 100000 in
theorem met_md_forgetAll (l : Launch) (D : va_G) (o : Nat) (ad : Nat → Nat) (cB cI : ClassId) (d : MS)  : mdMv l yX1_forgetAll cX1_forgetAll 2 none (rmk 0) D o ad cB cI [] d (fun d' => d' = mFA d) :=
  md_metv (by decide) rfl (Nat.le_of_ble_eq_true rfl) (fun p e s m args below meth c ls Q E hP hl kR => wk_md_forgetAll  E hP hl kR)
set_option maxHeartbeats 4000000 in
set_option maxRecDepth 100000 in
theorem wk_md_clear {p : Program} {l : Launch} {e : Env} {s : State} {m : MethodId} {args : Array Value} {below : List Frame} {meth : Method} {c : Code} {ls : Array Slot} {Q : State → Prop} {D : va_G} {o : Nat} {ad : Nat → Nat} {cB cI : ClassId} {d : MS}  (E : mdE D o ad cB cI p s m args c cX1_clear 1) (hP : va_P D vwCl (md_w o ad cB cI d) s.heap) (hl : lv_has ls 1 [(0, .ref o)]) (kR : mdKv D o ad cB cI p l e (rmk 1) s m args below meth c cX1_clear Q (fun d' => d' = va_up (mFA d) 0 (fun _ => nI 0))) : W p l e (rmk 1) s m args below meth c s.heap [] 0 0 Q (F0 m 0 ls []) := by
  obtain ⟨hx, hb, -⟩ := id E
  have hS : va_S (md_A o ad) s.heap s.heap [] := va_S.rf
  refine lv_aload_n hx hb dX1_clear_0 rfl (lv_at hl 0 rfl) ?_
  refine md_callv (As := []) (rest := []) E hP hS (met_md_forgetAll l D o ad cB cI d) (cwV 0 E.2.2.1 (lw_V q258 q251 q252 q20 q253) rfl rfl rfl (by decide +kernel) ⟨by decide, by decide⟩) rfl hl.1 rfl (Nat.le_of_ble_eq_true rfl) ⟨Nat.zero_le _, Nat.zero_le _⟩ dX1_clear_1 (fun d102 H locs hpd102 hP hS => ?_)
  rw [hpd102] at hP
  refine lv_aload_n hx hb dX1_clear_4 rfl (lv_at hl 0 rfl) ?_
  refine lv_iconst (v := (nI 0)) hx hb dX1_clear_5 (by decide) ?_
  refine md_p0 E hP hS dX1_clear_6 (fun d103 H locs ed103 hP hS => ?_)
  exact kR _ _ _ _ _ (ed103) hP hS dX1_clear_9
set_option maxHeartbeats 4000000 in
set_option maxRecDepth 100000 in
theorem met_md_clear (l : Launch) (D : va_G) (o : Nat) (ad : Nat → Nat) (cB cI : ClassId) (d : MS)  : mdMv l yX1_clear cX1_clear 1 none (rmk 1) D o ad cB cI [] d (fun d' => d' = va_up (mFA d) 0 (fun _ => nI 0)) :=
  md_metv (by decide) rfl (Nat.le_of_ble_eq_true rfl) (fun p e s m args below meth c ls Q E hP hl kR => wk_md_clear  E hP hl kR)
set_option maxHeartbeats 4000000 in
set_option maxRecDepth 100000 in
theorem wk_md_forget {p : Program} {l : Launch} {e : Env} {s : State} {m : MethodId} {args : Array Value} {below : List Frame} {meth : Method} {c : Code} {ls : Array Slot} {Q : State → Prop} {D : va_G} {o : Nat} {ad : Nat → Nat} {cB cI : ClassId} {d : MS} {n K : Nat} {x : Int32} (hM : MW d n K) (E : mdE D o ad cB cI p s m args c cX1_forget 2) (hP : va_P D vwCl (md_w o ad cB cI d) s.heap) (hl : lv_has ls 2 [(0, .ref o), (1, .int x)]) (kR : mdKi D o ad cB cI p l e (rmk 0) s m args below meth c cX1_forget Q (fun r d' => r = cif (hasK K x) 1 0 ∧ d' = mForget d K x)) : W p l e (rmk 0) s m args below meth c s.heap [] 0 0 Q (F0 m 0 ls []) := by
  obtain ⟨hx, hb, -⟩ := id E
  have hS : va_S (md_A o ad) s.heap s.heap [] := va_S.rf
  obtain ⟨hsz, hn16, hMP, hK, hW⟩ := id hM
  refine lv_iload_n hx hb dX1_forget_0 rfl (lv_at hl 1 rfl) ?_
  refine lv_if_lt (tgt := 19) hx hb dX1_forget_1 (by decide) (fun c1 => ?_) (fun c1 => ?_)
  · refine lv_iconst (v := (nI 0)) hx hb dX1_forget_19 (by decide) ?_
    exact kR _ _ _ _ _ _ (⟨(cif_neg (hasK_lt c1)).symm, (cif_neg (hasK_lt c1)).symm⟩) hP hS dX1_forget_20
  · refine lv_iload_n hx hb dX1_forget_4 rfl (lv_at hl 1 rfl) ?_
    refine lv_bipush (v := (nI 12)) hx hb dX1_forget_5 (by decide) ?_
    refine lv_icmp_ge (tgt := 19) hx hb dX1_forget_7 (by decide) (fun c7 => ?_) (fun c7 => ?_)
    · refine lv_iconst (v := (nI 0)) hx hb dX1_forget_19 (by decide) ?_
      exact kR _ _ _ _ _ _ (⟨(cif_neg (hasK_ge c7)).symm, (cif_neg (hasK_ge c7)).symm⟩) hP hS dX1_forget_20
    · obtain ⟨k, hk12, rfl⟩ := in12 c1 c7
      refine lv_aload_n hx hb dX1_forget_10 rfl (lv_at hl 0 rfl) ?_
      refine md_g4 E hP dX1_forget_11 ?_
      refine lv_iload_n hx hb dX1_forget_14 rfl (lv_at hl 1 rfl) ?_
      refine md_l4 E hP (x := (if K.testBit k = true then (1 : Int32) else 0)) (hW k (hk12)) (by omega) dX1_forget_15 ?_
      refine lv_if_ne (tgt := 21) hx hb dX1_forget_16 (by decide) (fun c16 => ?_) (fun c16 => ?_)
      · have c16 : K.testBit k = true := Classical.byContradiction fun h => c16 (by rw [if_neg h])
        refine lv_aload_n hx hb dX1_forget_21 rfl (lv_at hl 0 rfl) ?_
        refine md_g4 E hP dX1_forget_22 ?_
        refine lv_iload_n hx hb dX1_forget_25 rfl (lv_at hl 1 rfl) ?_
        refine lv_iconst (v := (nI 0)) hx hb dX1_forget_26 (by decide) ?_
        refine md_s4 E hP hS (y := (nI 0)) (by decide) (by omega) dX1_forget_27 (fun d104 H locs ed104 hP hS => ?_)
        refine lv_iconst (v := (nI 1)) hx hb dX1_forget_28 (by decide) ?_
        exact kR _ _ _ _ _ _ (⟨(cif_pos (hasK_nI hk12 c16)).symm, by unfold mForget; rw [cif_pos (hasK_nI hk12 c16), nI_clamp (by omega), ed104]; rfl⟩) hP hS dX1_forget_29
      · have c16 : ¬ K.testBit k = true := fun h => by rw [if_pos h] at c16; exact absurd c16 (by decide)
        have hn : ¬ hasK K (nI k) := fun h => c16 ((hasK_iff hk12).mp h)
        refine lv_iconst (v := (nI 0)) hx hb dX1_forget_19 (by decide) ?_
        exact kR _ _ _ _ _ _ (⟨(cif_neg (hn)).symm, (cif_neg (hn)).symm⟩) hP hS dX1_forget_20
set_option maxHeartbeats 4000000 in
set_option maxRecDepth 100000 in
theorem met_md_forget (l : Launch) (D : va_G) (o : Nat) (ad : Nat → Nat) (cB cI : ClassId) (d : MS) {n K : Nat} {x : Int32} (hM : MW d n K) : mdMi l yX1_forget cX1_forget 2 (some .boolean) (rmk 0) D o ad cB cI [.int x] d (fun r d' => r = cif (hasK K x) 1 0 ∧ d' = mForget d K x) :=
  md_meti (by decide) rfl (Nat.le_of_ble_eq_true rfl) (fun r d' h => by rw [h.1]; unfold cif; split <;> rfl) (fun p e s m args below meth c ls Q E hP hl kR => wk_md_forget hM E hP hl kR)
set_option maxHeartbeats 4000000 in
set_option maxRecDepth 100000 in
theorem wk_md_take {p : Program} {l : Launch} {e : Env} {s : State} {m : MethodId} {args : Array Value} {below : List Frame} {meth : Method} {c : Code} {ls : Array Slot} {Q : State → Prop} {D : va_G} {o : Nat} {ad : Nat → Nat} {cB cI : ClassId} {d : MS} {i0 : Nat} (hi0 : i0 < 12) (E : mdE D o ad cB cI p s m args c cX1_take 3) (hP : va_P D vwCl (md_w o ad cB cI d) s.heap) (hl : lv_has ls 3 [(0, .ref o), (1, .int (nI i0))]) (kR : mdKv D o ad cB cI p l e (rmk 0) s m args below meth c cX1_take Q (fun d' => d' = mTake d i0)) : W p l e (rmk 0) s m args below meth c s.heap [] 0 0 Q (F0 m 0 ls []) := by
  obtain ⟨hx, hb, -⟩ := id E
  have hS : va_S (md_A o ad) s.heap s.heap [] := va_S.rf
  have loop2 : ∀ (n0 k : Nat) (d1 : MS), k + n0 = 8 → (∀ j, j ≠ 10 → j ≠ 11 → j ≠ 12 → j ≠ 13 → d1 j = d j) → d1 10 0 = d 6 i0 → d1 11 0 = d 7 i0 → (∀ q, q < 20 → d1 12 q = d 8 (20 * i0 + q)) → (∀ q, q < k → d1 13 q = d 9 (8 * i0 + q)) → ∀ (H : Heap) (locs : List Loc) (ls : Array Slot), va_P D vwCl (md_w o ad cB cI d1) H → va_S (md_A o ad) s.heap H locs → lv_has ls 3 [(0, .ref o), (1, .int (nI i0)), (2, .int (nI k))] → W p l e (rmk 0) s m args below meth c H locs 0 0 Q (F0 m 53 ls []) := by
    intro n0
    induction n0 with
    | zero =>
      intro k d1 hkn gf g10 g11 g12 g13 H locs ls hP hS hl
      have hk0 : k = 8 := by omega
      subst hk0
      refine lv_iload_n hx hb dX1_take_53 rfl (lv_at hl 2 rfl) ?_
      refine lv_bipush (v := (nI 8)) hx hb dX1_take_54 (by decide) ?_
      refine nv_icmp_ge (tgt := 82) hx hb (by omega) (by omega) dX1_take_56 (by decide) (fun c56 => ?_) (fun c56 => ?_)
      · exact kR (mTake d i0) _ _ _ _ (rfl) (md_conv hP (fun k j hj => by
          unfold mTake
          by_cases h10 : k = 10
          · subst h10; rw [if_pos rfl]; rw [show j = 0 from Nat.lt_one_iff.mp hj]; exact g10
          · by_cases h11 : k = 11
            · subst h11; rw [if_neg (by decide), if_pos rfl]; rw [show j = 0 from Nat.lt_one_iff.mp hj]; exact g11
            · by_cases h12 : k = 12
              · subst h12; rw [if_neg (by decide), if_neg (by decide), if_pos rfl]; exact g12 j hj
              · by_cases h13 : k = 13
                · subst h13; rw [if_neg (by decide), if_neg (by decide), if_neg (by decide), if_pos rfl]; exact g13 j hj
                · rw [if_neg h10, if_neg h11, if_neg h12, if_neg h13, gf k h10 h11 h12 h13])) hS dX1_take_82
      · exact absurd c56 (by omega)
    | succ n0 ih =>
      intro k d1 hkn gf g10 g11 g12 g13 H locs ls hP hS hl
      refine lv_iload_n hx hb dX1_take_53 rfl (lv_at hl 2 rfl) ?_
      refine lv_bipush (v := (nI 8)) hx hb dX1_take_54 (by decide) ?_
      refine nv_icmp_ge (tgt := 82) hx hb (by omega) (by omega) dX1_take_56 (by decide) (fun c56 => ?_) (fun c56 => ?_)
      · exact absurd c56 (by omega)
      · refine lv_aload_n hx hb dX1_take_59 rfl (lv_at hl 0 rfl) ?_
        refine md_g13 E hP dX1_take_60 ?_
        refine lv_iload_n hx hb dX1_take_63 rfl (lv_at hl 2 rfl) ?_
        refine lv_aload_n hx hb dX1_take_64 rfl (lv_at hl 0 rfl) ?_
        refine md_g9 E hP dX1_take_65 ?_
        refine lv_bipush (v := (nI 8)) hx hb dX1_take_68 (by decide) ?_
        refine lv_iload_n hx hb dX1_take_70 rfl (lv_at hl 1 rfl) ?_
        refine nv_imul hx hb dX1_take_71 ?_
        refine lv_iload_n hx hb dX1_take_72 rfl (lv_at hl 2 rfl) ?_
        refine nv_iadd hx hb dX1_take_73 ?_
        refine md_l9 E hP (x := (d 9 (8 * i0 + k))) (by rw [gf 9 (by decide) (by decide) (by decide) (by decide)]) (by omega) dX1_take_74 ?_
        refine md_s13 E hP hS (by omega) dX1_take_75 (fun d105 H locs ed105 hP hS => ?_)
        refine nv_iinc (lv' := [(2, .int (nI (k + 1))), (0, .ref o), (1, .int (nI i0))]) hx hb 2 dX1_take_76 hl rfl (by decide) rfl (fun ls hl => ?_)
        refine lv_goto (tgt := 53) hx hb dX1_take_79 (by decide) ?_
        have hl : lv_has ls 3 [(0, .ref o), (1, .int (nI i0)), (2, .int (nI (k + 1)))] := lv_sub hl [1, 2, 0] rfl
        exact ih (k + 1) _ (by omega) (fun j a1 a2 a3 a4 => by rw [ed105, va_up_ne _ _ a4]; exact gf j a1 a2 a3 a4) (by rw [ed105, va_up_ne _ _ (by decide)]; exact g10) (by rw [ed105, va_up_ne _ _ (by decide)]; exact g11) (by rw [ed105, va_up_ne _ _ (by decide)]; exact g12) (fun q hq => by
          rw [ed105, va_up_self]
          unfold upd
          by_cases h1 : q = k
          · rw [if_pos h1, h1]
          · rw [if_neg h1]; exact g13 q (by omega)) H locs ls hP hS hl
  have loop1 : ∀ (n0 k : Nat) (d1 : MS), k + n0 = 20 → (∀ j, j ≠ 10 → j ≠ 11 → j ≠ 12 → j ≠ 13 → d1 j = d j) → d1 10 0 = d 6 i0 → d1 11 0 = d 7 i0 → (∀ q, q < k → d1 12 q = d 8 (20 * i0 + q)) → ∀ (H : Heap) (locs : List Loc) (ls : Array Slot), va_P D vwCl (md_w o ad cB cI d1) H → va_S (md_A o ad) s.heap H locs → lv_has ls 3 [(0, .ref o), (1, .int (nI i0)), (2, .int (nI k))] → W p l e (rmk 0) s m args below meth c H locs 0 0 Q (F0 m 22 ls []) := by
    intro n0
    induction n0 with
    | zero =>
      intro k d1 hkn gf g10 g11 g12 H locs ls hP hS hl
      have hk0 : k = 20 := by omega
      subst hk0
      refine lv_iload_n hx hb dX1_take_22 rfl (lv_at hl 2 rfl) ?_
      refine lv_bipush (v := (nI 20)) hx hb dX1_take_23 (by decide) ?_
      refine nv_icmp_ge (tgt := 51) hx hb (by omega) (by omega) dX1_take_25 (by decide) (fun c25 => ?_) (fun c25 => ?_)
      · refine lv_iconst (v := (nI 0)) hx hb dX1_take_51 (by decide) ?_
        refine lv_istore_n (lv' := [(2, .int (nI 0)), (0, .ref o), (1, .int (nI i0))]) hx hb dX1_take_52 rfl hl (by decide) rfl (fun ls hl => ?_)
        have hl : lv_has ls 3 [(0, .ref o), (1, .int (nI i0)), (2, .int (nI 0))] := lv_sub hl [1, 2, 0] rfl
        exact loop2 8 0 d1 rfl gf g10 g11 g12 (fun q hq => absurd hq (by omega)) H locs ls hP hS hl
      · exact absurd c25 (by omega)
    | succ n0 ih =>
      intro k d1 hkn gf g10 g11 g12 H locs ls hP hS hl
      refine lv_iload_n hx hb dX1_take_22 rfl (lv_at hl 2 rfl) ?_
      refine lv_bipush (v := (nI 20)) hx hb dX1_take_23 (by decide) ?_
      refine nv_icmp_ge (tgt := 51) hx hb (by omega) (by omega) dX1_take_25 (by decide) (fun c25 => ?_) (fun c25 => ?_)
      · exact absurd c25 (by omega)
      · refine lv_aload_n hx hb dX1_take_28 rfl (lv_at hl 0 rfl) ?_
        refine md_g12 E hP dX1_take_29 ?_
        refine lv_iload_n hx hb dX1_take_32 rfl (lv_at hl 2 rfl) ?_
        refine lv_aload_n hx hb dX1_take_33 rfl (lv_at hl 0 rfl) ?_
        refine md_g8 E hP dX1_take_34 ?_
        refine lv_bipush (v := (nI 20)) hx hb dX1_take_37 (by decide) ?_
        refine lv_iload_n hx hb dX1_take_39 rfl (lv_at hl 1 rfl) ?_
        refine nv_imul hx hb dX1_take_40 ?_
        refine lv_iload_n hx hb dX1_take_41 rfl (lv_at hl 2 rfl) ?_
        refine nv_iadd hx hb dX1_take_42 ?_
        refine md_l8 E hP (x := (d 8 (20 * i0 + k))) (by rw [gf 8 (by decide) (by decide) (by decide) (by decide)]) (by omega) dX1_take_43 ?_
        refine md_s12 E hP hS (by omega) dX1_take_44 (fun d106 H locs ed106 hP hS => ?_)
        refine nv_iinc (lv' := [(2, .int (nI (k + 1))), (0, .ref o), (1, .int (nI i0))]) hx hb 2 dX1_take_45 hl rfl (by decide) rfl (fun ls hl => ?_)
        refine lv_goto (tgt := 22) hx hb dX1_take_48 (by decide) ?_
        have hl : lv_has ls 3 [(0, .ref o), (1, .int (nI i0)), (2, .int (nI (k + 1)))] := lv_sub hl [1, 2, 0] rfl
        exact ih (k + 1) _ (by omega) (fun j a1 a2 a3 a4 => by rw [ed106, va_up_ne _ _ a3]; exact gf j a1 a2 a3 a4) (by rw [ed106, va_up_ne _ _ (by decide)]; exact g10) (by rw [ed106, va_up_ne _ _ (by decide)]; exact g11) (fun q hq => by
          rw [ed106, va_up_self]
          unfold upd
          by_cases h1 : q = k
          · rw [if_pos h1, h1]
          · rw [if_neg h1]; exact g12 q (by omega)) H locs ls hP hS hl
  refine lv_aload_n hx hb dX1_take_0 rfl (lv_at hl 0 rfl) ?_
  refine lv_aload_n hx hb dX1_take_1 rfl (lv_at hl 0 rfl) ?_
  refine md_g6 E hP dX1_take_2 ?_
  refine lv_iload_n hx hb dX1_take_5 rfl (lv_at hl 1 rfl) ?_
  refine md_l6 E hP (x := (d 6 i0)) (rfl) (by omega) dX1_take_6 ?_
  refine md_p10 E hP hS dX1_take_7 (fun d107 H locs ed107 hP hS => ?_)
  refine lv_aload_n hx hb dX1_take_10 rfl (lv_at hl 0 rfl) ?_
  refine lv_aload_n hx hb dX1_take_11 rfl (lv_at hl 0 rfl) ?_
  refine md_g7 E hP dX1_take_12 ?_
  refine lv_iload_n hx hb dX1_take_15 rfl (lv_at hl 1 rfl) ?_
  refine md_l7 E hP (x := (d 7 i0)) (by rw [ed107, va_up_ne _ _ (by decide)]) (by omega) dX1_take_16 ?_
  refine md_p11 E hP hS dX1_take_17 (fun d108 H locs ed108 hP hS => ?_)
  refine lv_iconst (v := (nI 0)) hx hb dX1_take_20 (by decide) ?_
  refine lv_istore_n (lv' := [(2, .int (nI 0)), (0, .ref o), (1, .int (nI i0))]) hx hb dX1_take_21 rfl hl (by decide) rfl (fun ls hl => ?_)
  have hl : lv_has ls 3 [(0, .ref o), (1, .int (nI i0)), (2, .int (nI 0))] := lv_sub hl [1, 2, 0] rfl
  exact loop1 20 0 _ rfl (fun j a1 a2 a3 a4 => by rw [ed108, va_up_ne _ _ a2, ed107, va_up_ne _ _ a1]) (by rw [ed108, va_up_ne _ _ (by decide), ed107, va_up_self]) (by rw [ed108, va_up_self]) (fun q hq => absurd hq (by omega)) _ _ ls hP hS hl
set_option maxHeartbeats 4000000 in
set_option maxRecDepth 100000 in
theorem met_md_take (l : Launch) (D : va_G) (o : Nat) (ad : Nat → Nat) (cB cI : ClassId) (d : MS) {i0 : Nat} (hi0 : i0 < 12) : mdMv l yX1_take cX1_take 3 none (rmk 0) D o ad cB cI [.int (nI i0)] d (fun d' => d' = mTake d i0) :=
  md_metv (by decide) rfl (Nat.le_of_ble_eq_true rfl) (fun p e s m args below meth c ls Q E hP hl kR => wk_md_take hi0 E hP hl kR)
set_option maxHeartbeats 4000000 in
set_option maxRecDepth 100000 in
theorem wk_md_emit {p : Program} {l : Launch} {e : Env} {s : State} {m : MethodId} {args : Array Value} {below : List Frame} {meth : Method} {c : Code} {ls : Array Slot} {Q : State → Prop} {D : va_G} {o : Nat} {ad : Nat → Nat} {cB cI : ClassId} {d : MS} {n K : Nat} {op a b : Int32} (hM : MW d n K) (E : mdE D o ad cB cI p s m args c cX1_emit 4) (hP : va_P D vwCl (md_w o ad cB cI d) s.heap) (hl : lv_has ls 4 [(0, .ref o), (1, .int op), (2, .int a), (3, .int b)]) (kR : mdKi D o ad cB cI p l e (rmk 1) s m args below meth c cX1_emit Q (fun r d' => EmR K n d op a b r (fun x _ => d' = x))) : W p l e (rmk 1) s m args below meth c s.heap [] 0 0 Q (F0 m 0 ls []) := by
  obtain ⟨hx, hb, -⟩ := id E
  have hS : va_S (md_A o ad) s.heap s.heap [] := va_S.rf
  obtain ⟨hsz, hn16, hMP, hK, hW⟩ := id hM
  have tail40 : okE op a b → W p l e (rmk 1) s m args below meth c s.heap [] 0 0 Q (F0 m 40 ls []) := by
    intro hok
    refine lv_aload_n hx hb dX1_emit_40 rfl (lv_at hl 0 rfl) ?_
    refine md_g0 E hP dX1_emit_41 ?_
    refine tp (y := (nI n)) (hsz) ?_
    refine lv_bipush (v := (nI 16)) hx hb dX1_emit_44 (by decide) ?_
    refine nv_icmp_lt (tgt := 52) hx hb (by omega) (by omega) dX1_emit_46 (by decide) (fun c46 => ?_) (fun c46 => ?_)
    · refine lv_aload_n hx hb dX1_emit_52 rfl (lv_at hl 0 rfl) ?_
      refine md_calli (As := []) (rest := []) E hP hS (met_md_moments l D o ad cB cI d hM) (cwV 0 E.2.2.1 (lw_V q246 q247 q248 q20 q249) rfl rfl rfl (by decide +kernel) ⟨by decide, by decide⟩) rfl hl.1 rfl (Nat.le_of_ble_eq_true rfl) ⟨Nat.zero_le _, Nat.zero_le _⟩ dX1_emit_53 (fun r110 d109 H locs hpd109 hP hS => ?_)
      obtain ⟨e0, er⟩ := hpd109
      rw [e0] at hP
      refine tp (y := (nI K)) (er) ?_
      refine lv_if_eq (tgt := 61) hx hb dX1_emit_56 (by decide) (fun c56 => ?_) (fun c56 => ?_)
      · have hK0 : K = 0 := Classical.byContradiction (fun z => nI_ne0 (Nat.pos_of_ne_zero z) (by omega) c56)
        refine lv_aload_n hx hb dX1_emit_61 rfl (lv_at hl 0 rfl) ?_
        refine md_g1 E hP dX1_emit_62 ?_
        refine lv_aload_n hx hb dX1_emit_65 rfl (lv_at hl 0 rfl) ?_
        refine md_g0 E hP dX1_emit_66 ?_
        refine tp (y := (nI n)) (hsz) ?_
        refine lv_iload_n hx hb dX1_emit_69 rfl (lv_at hl 1 rfl) ?_
        refine md_s1 E hP hS (by omega) dX1_emit_70 (fun d111 H locs ed111 hP hS => ?_)
        refine lv_aload_n hx hb dX1_emit_71 rfl (lv_at hl 0 rfl) ?_
        refine md_g2 E hP dX1_emit_72 ?_
        refine lv_aload_n hx hb dX1_emit_75 rfl (lv_at hl 0 rfl) ?_
        refine md_g0 E hP dX1_emit_76 ?_
        refine tp (y := (nI n)) (by rw [ed111, va_up_ne _ _ (by decide)]; exact hsz) ?_
        refine lv_iload_n hx hb dX1_emit_79 rfl (lv_at hl 2 rfl) ?_
        refine md_s2 E hP hS (by omega) dX1_emit_80 (fun d112 H locs ed112 hP hS => ?_)
        refine lv_aload_n hx hb dX1_emit_81 rfl (lv_at hl 0 rfl) ?_
        refine md_g3 E hP dX1_emit_82 ?_
        refine lv_aload_n hx hb dX1_emit_85 rfl (lv_at hl 0 rfl) ?_
        refine md_g0 E hP dX1_emit_86 ?_
        refine tp (y := (nI n)) (by rw [ed112, va_up_ne _ _ (by decide), ed111, va_up_ne _ _ (by decide)]; exact hsz) ?_
        refine lv_iload_n hx hb dX1_emit_89 rfl (lv_at hl 3 rfl) ?_
        refine md_s3 E hP hS (by omega) dX1_emit_90 (fun d113 H locs ed113 hP hS => ?_)
        refine lv_aload_n hx hb dX1_emit_91 rfl (lv_at hl 0 rfl) ?_
        refine lv_dup hx hb dX1_emit_92 rfl ?_
        refine md_g0 E hP dX1_emit_93 ?_
        refine tp (y := (nI n)) (by rw [ed113, va_up_ne _ _ (by decide), ed112, va_up_ne _ _ (by decide), ed111, va_up_ne _ _ (by decide)]; exact hsz) ?_
        refine lv_iconst (v := (nI 1)) hx hb dX1_emit_96 (by decide) ?_
        refine nv_iadd hx hb dX1_emit_97 ?_
        refine md_p0 E hP hS dX1_emit_98 (fun d114 H locs ed114 hP hS => ?_)
        refine lv_aload_n hx hb dX1_emit_101 rfl (lv_at hl 0 rfl) ?_
        refine md_g0 E hP dX1_emit_102 ?_
        refine tp (y := (nI (n + 1))) (by rw [ed114, va_up_self]) ?_
        refine lv_iconst (v := (nI 1)) hx hb dX1_emit_105 (by decide) ?_
        refine nv_isub hx hb (by omega) dX1_emit_106 ?_
        exact kR _ _ _ _ _ _ (Or.inr (Or.inr (Or.inr ⟨hok, c46, hK0, rfl, by rw [ed114, ed113, ed112, ed111]; rfl⟩))) hP hS dX1_emit_107
      · refine lv_iconst (v := (-1)) hx hb dX1_emit_59 (by decide) ?_
        exact kR _ _ _ _ _ _ (Or.inr (Or.inr (Or.inl ⟨hok, c46, fun z => c56 (by rw [z]; rfl), rfl, rfl⟩))) hP hS dX1_emit_60
    · refine lv_bipush (v := (-2)) hx hb dX1_emit_49 (by decide) ?_
      exact kR _ _ _ _ _ _ (Or.inr (Or.inl ⟨hok, c46, rfl, rfl⟩)) hP hS dX1_emit_51
  refine lv_iload_n hx hb dX1_emit_0 rfl (lv_at hl 1 rfl) ?_
  refine lv_if_lt (tgt := 38) hx hb dX1_emit_1 (by decide) (fun c1 => ?_) (fun c1 => ?_)
  · refine lv_iconst (v := (-1)) hx hb dX1_emit_38 (by decide) ?_
    exact kR _ _ _ _ _ _ (Or.inl ⟨nok_op (Or.inl c1), rfl, rfl⟩) hP hS dX1_emit_39
  · refine lv_iload_n hx hb dX1_emit_4 rfl (lv_at hl 1 rfl) ?_
    refine lv_bipush (v := (nI 9)) hx hb dX1_emit_5 (by decide) ?_
    refine lv_icmp_gt (tgt := 38) hx hb dX1_emit_7 (by decide) (fun c7 => ?_) (fun c7 => ?_)
    · refine lv_iconst (v := (-1)) hx hb dX1_emit_38 (by decide) ?_
      exact kR _ _ _ _ _ _ (Or.inl ⟨nok_op (Or.inr c7), rfl, rfl⟩) hP hS dX1_emit_39
    · refine lv_iload_n hx hb dX1_emit_10 rfl (lv_at hl 2 rfl) ?_
      refine lv_if_lt (tgt := 38) hx hb dX1_emit_11 (by decide) (fun c11 => ?_) (fun c11 => ?_)
      · refine lv_iconst (v := (-1)) hx hb dX1_emit_38 (by decide) ?_
        exact kR _ _ _ _ _ _ (Or.inl ⟨nok_a (Or.inl c11), rfl, rfl⟩) hP hS dX1_emit_39
      · refine lv_iload_n hx hb dX1_emit_14 rfl (lv_at hl 2 rfl) ?_
        refine lv_iconst (v := (nI 3)) hx hb dX1_emit_15 (by decide) ?_
        refine lv_icmp_gt (tgt := 38) hx hb dX1_emit_16 (by decide) (fun c16 => ?_) (fun c16 => ?_)
        · refine lv_iconst (v := (-1)) hx hb dX1_emit_38 (by decide) ?_
          exact kR _ _ _ _ _ _ (Or.inl ⟨nok_a (Or.inr c16), rfl, rfl⟩) hP hS dX1_emit_39
        · obtain ⟨oo, hoo, eo⟩ := inN 9 (by decide) c1 c7
          obtain ⟨aa, haa, ea⟩ := inN 3 (by decide) c11 c16
          refine lv_iload_n hx hb dX1_emit_19 rfl (lv_at hl 1 rfl) ?_
          refine lv_iconst (v := (nI 1)) hx hb dX1_emit_20 (by decide) ?_
          refine lv_icmp_lt (tgt := 40) hx hb dX1_emit_21 (by decide) (fun c21 => ?_) (fun c21 => ?_)
          · exact tail40 ⟨oo, aa, by omega, by omega, eo, ea, fun h1 h4 => by rw [eo, nI_ltI (by omega) (by decide)] at c21; omega⟩
          · refine lv_iload_n hx hb dX1_emit_24 rfl (lv_at hl 1 rfl) ?_
            refine lv_iconst (v := (nI 4)) hx hb dX1_emit_25 (by decide) ?_
            refine lv_icmp_gt (tgt := 40) hx hb dX1_emit_26 (by decide) (fun c26 => ?_) (fun c26 => ?_)
            · exact tail40 ⟨oo, aa, by omega, by omega, eo, ea, fun h1 h4 => by rw [eo, nI_ltI (by decide) (by omega)] at c26; omega⟩
            · have hs1 : 1 ≤ oo ∧ oo ≤ 4 := by
                rw [eo, nI_ltI (by omega) (by decide)] at c21
                rw [eo, nI_ltI (by decide) (by omega)] at c26
                omega
              refine lv_iload_n hx hb dX1_emit_29 rfl (lv_at hl 3 rfl) ?_
              refine lv_if_lt (tgt := 38) hx hb dX1_emit_30 (by decide) (fun c30 => ?_) (fun c30 => ?_)
              · refine lv_iconst (v := (-1)) hx hb dX1_emit_38 (by decide) ?_
                exact kR _ _ _ _ _ _ (Or.inl ⟨by rw [eo]; exact nok_b (by omega) hs1.1 hs1.2 (Or.inl c30), rfl, rfl⟩) hP hS dX1_emit_39
              · refine lv_iload_n hx hb dX1_emit_33 rfl (lv_at hl 3 rfl) ?_
                refine lv_iconst (v := (nI 3)) hx hb dX1_emit_34 (by decide) ?_
                refine lv_icmp_le (tgt := 40) hx hb dX1_emit_35 (by decide) (fun c35 => ?_) (fun c35 => ?_)
                · obtain ⟨bb, hbb, eb⟩ := inN 3 (by decide) c30 (Int32.not_lt.mpr c35)
                  exact tail40 ⟨oo, aa, by omega, by omega, eo, ea, fun _ _ => ⟨bb, by omega, eb⟩⟩
                · refine lv_iconst (v := (-1)) hx hb dX1_emit_38 (by decide) ?_
                  exact kR _ _ _ _ _ _ (Or.inl ⟨by rw [eo]; exact nok_b (by omega) hs1.1 hs1.2 (Or.inr (Int32.not_le.mp c35)), rfl, rfl⟩) hP hS dX1_emit_39
set_option maxHeartbeats 4000000 in
set_option maxRecDepth 100000 in
theorem met_md_emit (l : Launch) (D : va_G) (o : Nat) (ad : Nat → Nat) (cB cI : ClassId) (d : MS) {n K : Nat} {op a b : Int32} (hM : MW d n K) : mdMi l yX1_emit cX1_emit 4 (some .int) (rmk 1) D o ad cB cI [.int op, .int a, .int b] d (fun r d' => EmR K n d op a b r (fun x _ => d' = x)) :=
  md_meti (by decide) rfl (Nat.le_of_ble_eq_true rfl) (fun _ _ _ => rfl) (fun p e s m args below meth c ls Q E hP hl kR => wk_md_emit hM E hP hl kR)
set_option maxHeartbeats 4000000 in
set_option maxRecDepth 100000 in
theorem wk_md_kind {p : Program} {l : Launch} {e : Env} {s : State} {m : MethodId} {args : Array Value} {below : List Frame} {meth : Method} {c : Code} {ls : Array Slot} {Q : State → Prop} {D : va_G} {o : Nat} {ad : Nat → Nat} {cB cI : ClassId} {d : MS} {n K : Nat} {x : Int32} (hM : MW d n K) (E : mdE D o ad cB cI p s m args c cX1_kind 2) (hP : va_P D vwCl (md_w o ad cB cI d) s.heap) (hl : lv_has ls 2 [(0, .ref o), (1, .int x)]) (kR : mdKi D o ad cB cI p l e (rmk 1) s m args below meth c cX1_kind Q (fun r d' => d' = d ∧ r = fAt d K 5 x (-1))) : W p l e (rmk 1) s m args below meth c s.heap [] 0 0 Q (F0 m 0 ls []) := by
  obtain ⟨hx, hb, -⟩ := id E
  have hS : va_S (md_A o ad) s.heap s.heap [] := va_S.rf
  refine lv_aload_n hx hb dX1_kind_0 rfl (lv_at hl 0 rfl) ?_
  refine lv_iload_n hx hb dX1_kind_1 rfl (lv_at hl 1 rfl) ?_
  refine md_calli (As := [.int x]) (rest := []) E hP hS (met_md_kept l D o ad cB cI d hM) (cwV 1 E.2.2.1 (lw_V q300 q302 qs17 q20 q303) rfl rfl rfl (by decide +kernel) ⟨by decide, by decide⟩) rfl hl.1 rfl (Nat.le_of_ble_eq_true rfl) ⟨Nat.zero_le _, Nat.zero_le _⟩ dX1_kind_2 (fun r116 d115 H locs hpd115 hP hS => ?_)
  obtain ⟨e0, hh⟩ := hpd115
  rw [e0] at hP
  refine lv_if_eq (tgt := 17) hx hb dX1_kind_5 (by decide) (fun c5 => ?_) (fun c5 => ?_)
  · refine lv_iconst (v := (-1)) hx hb dX1_kind_17 (by decide) ?_
    exact kR _ _ _ _ _ _ (⟨rfl, (fAt_no (hh.eq c5)).symm⟩) hP hS dX1_kind_18
  · obtain ⟨k, hk, rfl, hb1⟩ := hh.ne c5
    refine lv_aload_n hx hb dX1_kind_8 rfl (lv_at hl 0 rfl) ?_
    refine md_g5 E hP dX1_kind_9 ?_
    refine lv_iload_n hx hb dX1_kind_12 rfl (lv_at hl 1 rfl) ?_
    refine md_l5 E hP (x := (d 5 k)) (rfl) (by omega) dX1_kind_13 ?_
    refine lv_goto (tgt := 18) hx hb dX1_kind_14 (by decide) ?_
    exact kR _ _ _ _ _ _ (⟨rfl, (fAt_yes hk hb1).symm⟩) hP hS dX1_kind_18
set_option maxHeartbeats 4000000 in
set_option maxRecDepth 100000 in
theorem met_md_kind (l : Launch) (D : va_G) (o : Nat) (ad : Nat → Nat) (cB cI : ClassId) (d : MS) {n K : Nat} {x : Int32} (hM : MW d n K) : mdMi l yX1_kind cX1_kind 2 (some .int) (rmk 1) D o ad cB cI [.int x] d (fun r d' => d' = d ∧ r = fAt d K 5 x (-1)) :=
  md_meti (by decide) rfl (Nat.le_of_ble_eq_true rfl) (fun _ _ _ => rfl) (fun p e s m args below meth c ls Q E hP hl kR => wk_md_kind hM E hP hl kR)
set_option maxHeartbeats 4000000 in
set_option maxRecDepth 100000 in
theorem wk_md_position {p : Program} {l : Launch} {e : Env} {s : State} {m : MethodId} {args : Array Value} {below : List Frame} {meth : Method} {c : Code} {ls : Array Slot} {Q : State → Prop} {D : va_G} {o : Nat} {ad : Nat → Nat} {cB cI : ClassId} {d : MS} {n K : Nat} {x : Int32} (hM : MW d n K) (E : mdE D o ad cB cI p s m args c cX1_position 2) (hP : va_P D vwCl (md_w o ad cB cI d) s.heap) (hl : lv_has ls 2 [(0, .ref o), (1, .int x)]) (kR : mdKi D o ad cB cI p l e (rmk 1) s m args below meth c cX1_position Q (fun r d' => d' = d ∧ r = fAt d K 6 x 0)) : W p l e (rmk 1) s m args below meth c s.heap [] 0 0 Q (F0 m 0 ls []) := by
  obtain ⟨hx, hb, -⟩ := id E
  have hS : va_S (md_A o ad) s.heap s.heap [] := va_S.rf
  refine lv_aload_n hx hb dX1_position_0 rfl (lv_at hl 0 rfl) ?_
  refine lv_iload_n hx hb dX1_position_1 rfl (lv_at hl 1 rfl) ?_
  refine md_calli (As := [.int x]) (rest := []) E hP hS (met_md_kept l D o ad cB cI d hM) (cwV 1 E.2.2.1 (lw_V q300 q302 qs17 q20 q303) rfl rfl rfl (by decide +kernel) ⟨by decide, by decide⟩) rfl hl.1 rfl (Nat.le_of_ble_eq_true rfl) ⟨Nat.zero_le _, Nat.zero_le _⟩ dX1_position_2 (fun r118 d117 H locs hpd117 hP hS => ?_)
  obtain ⟨e0, hh⟩ := hpd117
  rw [e0] at hP
  refine lv_if_eq (tgt := 17) hx hb dX1_position_5 (by decide) (fun c5 => ?_) (fun c5 => ?_)
  · refine lv_iconst (v := (nI 0)) hx hb dX1_position_17 (by decide) ?_
    exact kR _ _ _ _ _ _ (⟨rfl, (fAt_no (hh.eq c5)).symm⟩) hP hS dX1_position_18
  · obtain ⟨k, hk, rfl, hb1⟩ := hh.ne c5
    refine lv_aload_n hx hb dX1_position_8 rfl (lv_at hl 0 rfl) ?_
    refine md_g6 E hP dX1_position_9 ?_
    refine lv_iload_n hx hb dX1_position_12 rfl (lv_at hl 1 rfl) ?_
    refine md_l6 E hP (x := (d 6 k)) (rfl) (by omega) dX1_position_13 ?_
    refine lv_goto (tgt := 18) hx hb dX1_position_14 (by decide) ?_
    exact kR _ _ _ _ _ _ (⟨rfl, (fAt_yes hk hb1).symm⟩) hP hS dX1_position_18
set_option maxHeartbeats 4000000 in
set_option maxRecDepth 100000 in
theorem met_md_position (l : Launch) (D : va_G) (o : Nat) (ad : Nat → Nat) (cB cI : ClassId) (d : MS) {n K : Nat} {x : Int32} (hM : MW d n K) : mdMi l yX1_position cX1_position 2 (some .int) (rmk 1) D o ad cB cI [.int x] d (fun r d' => d' = d ∧ r = fAt d K 6 x 0) :=
  md_meti (by decide) rfl (Nat.le_of_ble_eq_true rfl) (fun _ _ _ => rfl) (fun p e s m args below meth c ls Q E hP hl kR => wk_md_position hM E hP hl kR)
set_option maxHeartbeats 4000000 in
set_option maxRecDepth 100000 in
theorem wk_md_said {p : Program} {l : Launch} {e : Env} {s : State} {m : MethodId} {args : Array Value} {below : List Frame} {meth : Method} {c : Code} {ls : Array Slot} {Q : State → Prop} {D : va_G} {o : Nat} {ad : Nat → Nat} {cB cI : ClassId} {d : MS} {n K : Nat} {x : Int32} (hM : MW d n K) (E : mdE D o ad cB cI p s m args c cX1_said 2) (hP : va_P D vwCl (md_w o ad cB cI d) s.heap) (hl : lv_has ls 2 [(0, .ref o), (1, .int x)]) (kR : mdKi D o ad cB cI p l e (rmk 1) s m args below meth c cX1_said Q (fun r d' => d' = d ∧ r = fAt d K 7 x 0)) : W p l e (rmk 1) s m args below meth c s.heap [] 0 0 Q (F0 m 0 ls []) := by
  obtain ⟨hx, hb, -⟩ := id E
  have hS : va_S (md_A o ad) s.heap s.heap [] := va_S.rf
  refine lv_aload_n hx hb dX1_said_0 rfl (lv_at hl 0 rfl) ?_
  refine lv_iload_n hx hb dX1_said_1 rfl (lv_at hl 1 rfl) ?_
  refine md_calli (As := [.int x]) (rest := []) E hP hS (met_md_kept l D o ad cB cI d hM) (cwV 1 E.2.2.1 (lw_V q300 q302 qs17 q20 q303) rfl rfl rfl (by decide +kernel) ⟨by decide, by decide⟩) rfl hl.1 rfl (Nat.le_of_ble_eq_true rfl) ⟨Nat.zero_le _, Nat.zero_le _⟩ dX1_said_2 (fun r120 d119 H locs hpd119 hP hS => ?_)
  obtain ⟨e0, hh⟩ := hpd119
  rw [e0] at hP
  refine lv_if_eq (tgt := 17) hx hb dX1_said_5 (by decide) (fun c5 => ?_) (fun c5 => ?_)
  · refine lv_iconst (v := (nI 0)) hx hb dX1_said_17 (by decide) ?_
    exact kR _ _ _ _ _ _ (⟨rfl, (fAt_no (hh.eq c5)).symm⟩) hP hS dX1_said_18
  · obtain ⟨k, hk, rfl, hb1⟩ := hh.ne c5
    refine lv_aload_n hx hb dX1_said_8 rfl (lv_at hl 0 rfl) ?_
    refine md_g7 E hP dX1_said_9 ?_
    refine lv_iload_n hx hb dX1_said_12 rfl (lv_at hl 1 rfl) ?_
    refine md_l7 E hP (x := (d 7 k)) (rfl) (by omega) dX1_said_13 ?_
    refine lv_goto (tgt := 18) hx hb dX1_said_14 (by decide) ?_
    exact kR _ _ _ _ _ _ (⟨rfl, (fAt_yes hk hb1).symm⟩) hP hS dX1_said_18
set_option maxHeartbeats 4000000 in
set_option maxRecDepth 100000 in
theorem met_md_said (l : Launch) (D : va_G) (o : Nat) (ad : Nat → Nat) (cB cI : ClassId) (d : MS) {n K : Nat} {x : Int32} (hM : MW d n K) : mdMi l yX1_said cX1_said 2 (some .int) (rmk 1) D o ad cB cI [.int x] d (fun r d' => d' = d ∧ r = fAt d K 7 x 0) :=
  md_meti (by decide) rfl (Nat.le_of_ble_eq_true rfl) (fun _ _ _ => rfl) (fun p e s m args below meth c ls Q E hP hl kR => wk_md_said hM E hP hl kR)
set_option maxHeartbeats 4000000 in
set_option maxRecDepth 100000 in
theorem wk_md_peek {p : Program} {l : Launch} {e : Env} {s : State} {m : MethodId} {args : Array Value} {below : List Frame} {meth : Method} {c : Code} {ls : Array Slot} {Q : State → Prop} {D : va_G} {o : Nat} {ad : Nat → Nat} {cB cI : ClassId} {d : MS} {n K : Nat} {x i : Int32} (hM : MW d n K) (E : mdE D o ad cB cI p s m args c cX1_peek 3) (hP : va_P D vwCl (md_w o ad cB cI d) s.heap) (hl : lv_has ls 3 [(0, .ref o), (1, .int x), (2, .int i)]) (kR : mdKi D o ad cB cI p l e (rmk 1) s m args below meth c cX1_peek Q (fun r d' => d' = d ∧ PeekR d K x i r)) : W p l e (rmk 1) s m args below meth c s.heap [] 0 0 Q (F0 m 0 ls []) := by
  obtain ⟨hx, hb, -⟩ := id E
  have hS : va_S (md_A o ad) s.heap s.heap [] := va_S.rf
  refine lv_aload_n hx hb dX1_peek_0 rfl (lv_at hl 0 rfl) ?_
  refine lv_iload_n hx hb dX1_peek_1 rfl (lv_at hl 1 rfl) ?_
  refine md_calli (As := [.int x]) (rest := []) E hP hS (met_md_kept l D o ad cB cI d hM) (cwV 1 E.2.2.1 (lw_V q300 q302 qs17 q20 q303) rfl rfl rfl (by decide +kernel) ⟨by decide, by decide⟩) rfl hl.1 rfl (Nat.le_of_ble_eq_true rfl) ⟨Nat.zero_le _, Nat.zero_le _⟩ dX1_peek_2 (fun r122 d121 H locs hpd121 hP hS => ?_)
  obtain ⟨e0, hh⟩ := hpd121
  rw [e0] at hP
  refine lv_if_eq (tgt := 29) hx hb dX1_peek_5 (by decide) (fun c5 => ?_) (fun c5 => ?_)
  · refine lv_iconst (v := (nI 0)) hx hb dX1_peek_29 (by decide) ?_
    exact kR _ _ _ _ _ _ (⟨rfl, Or.inr ⟨Or.inl (hh.eq c5), rfl⟩⟩) hP hS dX1_peek_30
  · obtain ⟨k, hk, rfl, hb1⟩ := hh.ne c5
    refine lv_iload_n hx hb dX1_peek_8 rfl (lv_at hl 2 rfl) ?_
    refine lv_if_lt (tgt := 29) hx hb dX1_peek_9 (by decide) (fun c9 => ?_) (fun c9 => ?_)
    · refine lv_iconst (v := (nI 0)) hx hb dX1_peek_29 (by decide) ?_
      exact kR _ _ _ _ _ _ (⟨rfl, Or.inr ⟨Or.inr (fun j hj z => by subst z; exact neg_nI (by split <;> omega) c9), rfl⟩⟩) hP hS dX1_peek_30
    · refine lv_iload_n hx hb dX1_peek_12 rfl (lv_at hl 2 rfl) ?_
      refine lv_bipush (v := (nI 31)) hx hb dX1_peek_13 (by decide) ?_
      refine lv_icmp_gt (tgt := 29) hx hb dX1_peek_15 (by decide) (fun c15 => ?_) (fun c15 => ?_)
      · refine lv_iconst (v := (nI 0)) hx hb dX1_peek_29 (by decide) ?_
        exact kR _ _ _ _ _ _ (⟨rfl, Or.inr ⟨Or.inr (fun j hj z => by subst z; exact gt_nI (by split <;> omega) (by decide) c15), rfl⟩⟩) hP hS dX1_peek_30
      · obtain ⟨j, hj, rfl⟩ := inN 31 (by decide) c9 c15
        refine lv_iload_n hx hb dX1_peek_18 rfl (lv_at hl 2 rfl) ?_
        refine lv_iconst (v := (nI 3)) hx hb dX1_peek_19 (by decide) ?_
        refine nv_icmp_le (tgt := 31) hx hb (by omega) (by omega) dX1_peek_20 (by decide) (fun c20 => ?_) (fun c20 => ?_)
        · refine lv_aload_n hx hb dX1_peek_31 rfl (lv_at hl 0 rfl) ?_
          refine md_g8 E hP dX1_peek_32 ?_
          refine lv_bipush (v := (nI 20)) hx hb dX1_peek_35 (by decide) ?_
          refine lv_iload_n hx hb dX1_peek_37 rfl (lv_at hl 1 rfl) ?_
          refine nv_imul hx hb dX1_peek_38 ?_
          refine lv_iload_n hx hb dX1_peek_39 rfl (lv_at hl 2 rfl) ?_
          refine lv_iconst (v := (nI 4)) hx hb dX1_peek_40 (by decide) ?_
          refine nv_icmp_ge (tgt := 48) hx hb (by omega) (by omega) dX1_peek_41 (by decide) (fun c41 => ?_) (fun c41 => ?_)
          · exact absurd c41 (by omega)
          · refine lv_iload_n hx hb dX1_peek_44 rfl (lv_at hl 2 rfl) ?_
            refine lv_goto (tgt := 52) hx hb dX1_peek_45 (by decide) ?_
            refine nv_iadd hx hb dX1_peek_52 ?_
            refine md_l8 E hP (x := (d 8 ((20 * k) + j))) (rfl) (by omega) dX1_peek_53 ?_
            exact kR _ _ _ _ _ _ (⟨rfl, Or.inl ⟨k, j, hk, by omega, rfl, hb1, by rw [if_pos (by omega)], rfl⟩⟩) hP hS dX1_peek_54
        · refine lv_iload_n hx hb dX1_peek_23 rfl (lv_at hl 2 rfl) ?_
          refine lv_bipush (v := (nI 16)) hx hb dX1_peek_24 (by decide) ?_
          refine nv_icmp_ge (tgt := 31) hx hb (by omega) (by omega) dX1_peek_26 (by decide) (fun c26 => ?_) (fun c26 => ?_)
          · refine lv_aload_n hx hb dX1_peek_31 rfl (lv_at hl 0 rfl) ?_
            refine md_g8 E hP dX1_peek_32 ?_
            refine lv_bipush (v := (nI 20)) hx hb dX1_peek_35 (by decide) ?_
            refine lv_iload_n hx hb dX1_peek_37 rfl (lv_at hl 1 rfl) ?_
            refine nv_imul hx hb dX1_peek_38 ?_
            refine lv_iload_n hx hb dX1_peek_39 rfl (lv_at hl 2 rfl) ?_
            refine lv_iconst (v := (nI 4)) hx hb dX1_peek_40 (by decide) ?_
            refine nv_icmp_ge (tgt := 48) hx hb (by omega) (by omega) dX1_peek_41 (by decide) (fun c41 => ?_) (fun c41 => ?_)
            · refine lv_iload_n hx hb dX1_peek_48 rfl (lv_at hl 2 rfl) ?_
              refine lv_bipush (v := (nI 12)) hx hb dX1_peek_49 (by decide) ?_
              refine nv_isub hx hb (by omega) dX1_peek_51 ?_
              refine nv_iadd hx hb dX1_peek_52 ?_
              refine md_l8 E hP (x := (d 8 ((20 * k) + (j - 12)))) (rfl) (by omega) dX1_peek_53 ?_
              exact kR _ _ _ _ _ _ (⟨rfl, Or.inl ⟨k, j - 12, hk, by omega, rfl, hb1, by rw [if_neg (by omega)]; congr 1; omega, rfl⟩⟩) hP hS dX1_peek_54
            · exact absurd c41 (by omega)
          · refine lv_iconst (v := (nI 0)) hx hb dX1_peek_29 (by decide) ?_
            exact kR _ _ _ _ _ _ (⟨rfl, Or.inr ⟨Or.inr (fun j2 hj2 z => by rw [nI_eq (by omega) (by split <;> omega)] at z; split at z <;> omega), rfl⟩⟩) hP hS dX1_peek_30
set_option maxHeartbeats 4000000 in
set_option maxRecDepth 100000 in
theorem met_md_peek (l : Launch) (D : va_G) (o : Nat) (ad : Nat → Nat) (cB cI : ClassId) (d : MS) {n K : Nat} {x i : Int32} (hM : MW d n K) : mdMi l yX1_peek cX1_peek 3 (some .int) (rmk 1) D o ad cB cI [.int x, .int i] d (fun r d' => d' = d ∧ PeekR d K x i r) :=
  md_meti (by decide) rfl (Nat.le_of_ble_eq_true rfl) (fun _ _ _ => rfl) (fun p e s m args below meth c ls Q E hP hl kR => wk_md_peek hM E hP hl kR)
set_option maxHeartbeats 4000000 in
set_option maxRecDepth 100000 in
theorem wk_md_lastSaid {p : Program} {l : Launch} {e : Env} {s : State} {m : MethodId} {args : Array Value} {below : List Frame} {meth : Method} {c : Code} {ls : Array Slot} {Q : State → Prop} {D : va_G} {o : Nat} {ad : Nat → Nat} {cB cI : ClassId} {d : MS} {n K : Nat} {x i : Int32} (hM : MW d n K) (E : mdE D o ad cB cI p s m args c cX1_lastSaid 3) (hP : va_P D vwCl (md_w o ad cB cI d) s.heap) (hl : lv_has ls 3 [(0, .ref o), (1, .int x), (2, .int i)]) (kR : mdKi D o ad cB cI p l e (rmk 1) s m args below meth c cX1_lastSaid Q (fun r d' => d' = d ∧ LastR d K x i r)) : W p l e (rmk 1) s m args below meth c s.heap [] 0 0 Q (F0 m 0 ls []) := by
  obtain ⟨hx, hb, -⟩ := id E
  have hS : va_S (md_A o ad) s.heap s.heap [] := va_S.rf
  refine lv_aload_n hx hb dX1_lastSaid_0 rfl (lv_at hl 0 rfl) ?_
  refine lv_iload_n hx hb dX1_lastSaid_1 rfl (lv_at hl 1 rfl) ?_
  refine md_calli (As := [.int x]) (rest := []) E hP hS (met_md_kept l D o ad cB cI d hM) (cwV 1 E.2.2.1 (lw_V q300 q302 qs17 q20 q303) rfl rfl rfl (by decide +kernel) ⟨by decide, by decide⟩) rfl hl.1 rfl (Nat.le_of_ble_eq_true rfl) ⟨Nat.zero_le _, Nat.zero_le _⟩ dX1_lastSaid_2 (fun r124 d123 H locs hpd123 hP hS => ?_)
  obtain ⟨e0, hh⟩ := hpd123
  rw [e0] at hP
  refine lv_if_eq (tgt := 42) hx hb dX1_lastSaid_5 (by decide) (fun c5 => ?_) (fun c5 => ?_)
  · refine lv_iconst (v := (nI 0)) hx hb dX1_lastSaid_42 (by decide) ?_
    exact kR _ _ _ _ _ _ (⟨rfl, Or.inr ⟨Or.inl (hh.eq c5), rfl⟩⟩) hP hS dX1_lastSaid_43
  · obtain ⟨k, hk, rfl, hb1⟩ := hh.ne c5
    refine lv_iload_n hx hb dX1_lastSaid_8 rfl (lv_at hl 2 rfl) ?_
    refine lv_if_lt (tgt := 42) hx hb dX1_lastSaid_9 (by decide) (fun c9 => ?_) (fun c9 => ?_)
    · refine lv_iconst (v := (nI 0)) hx hb dX1_lastSaid_42 (by decide) ?_
      exact kR _ _ _ _ _ _ (⟨rfl, Or.inr ⟨Or.inr (Or.inl (fun j hj z => by subst z; exact neg_nI (by omega) c9)), rfl⟩⟩) hP hS dX1_lastSaid_43
    · refine lv_iload_n hx hb dX1_lastSaid_12 rfl (lv_at hl 2 rfl) ?_
      refine lv_bipush (v := (nI 8)) hx hb dX1_lastSaid_13 (by decide) ?_
      refine lv_icmp_ge (tgt := 42) hx hb dX1_lastSaid_15 (by decide) (fun c15 => ?_) (fun c15 => ?_)
      · refine lv_iconst (v := (nI 0)) hx hb dX1_lastSaid_42 (by decide) ?_
        exact kR _ _ _ _ _ _ (⟨rfl, Or.inr ⟨Or.inr (Or.inl (fun j hj z => by subst z; rw [nI_leI (by decide) (by omega)] at c15; omega)), rfl⟩⟩) hP hS dX1_lastSaid_43
      · refine lv_iload_n hx hb dX1_lastSaid_18 rfl (lv_at hl 2 rfl) ?_
        refine lv_aload_n hx hb dX1_lastSaid_19 rfl (lv_at hl 0 rfl) ?_
        refine md_g7 E hP dX1_lastSaid_20 ?_
        refine lv_iload_n hx hb dX1_lastSaid_23 rfl (lv_at hl 1 rfl) ?_
        refine md_l7 E hP (x := (d 7 k)) (rfl) (by omega) dX1_lastSaid_24 ?_
        refine lv_icmp_ge (tgt := 42) hx hb dX1_lastSaid_25 (by decide) (fun c25 => ?_) (fun c25 => ?_)
        · refine lv_iconst (v := (nI 0)) hx hb dX1_lastSaid_42 (by decide) ?_
          exact kR _ _ _ _ _ _ (⟨rfl, Or.inr ⟨Or.inr (Or.inr ⟨k, hk, rfl, Int32.not_lt.mpr c25⟩), rfl⟩⟩) hP hS dX1_lastSaid_43
        · obtain ⟨j, hj, rfl⟩ : ∃ j, j < 8 ∧ i = nI j := by
            rcases pk_ix i (n := 8) (by decide) with z | z | z
            · exact absurd z c9
            · exact absurd z c15
            · exact z
          refine lv_aload_n hx hb dX1_lastSaid_28 rfl (lv_at hl 0 rfl) ?_
          refine md_g9 E hP dX1_lastSaid_29 ?_
          refine lv_bipush (v := (nI 8)) hx hb dX1_lastSaid_32 (by decide) ?_
          refine lv_iload_n hx hb dX1_lastSaid_34 rfl (lv_at hl 1 rfl) ?_
          refine nv_imul hx hb dX1_lastSaid_35 ?_
          refine lv_iload_n hx hb dX1_lastSaid_36 rfl (lv_at hl 2 rfl) ?_
          refine nv_iadd hx hb dX1_lastSaid_37 ?_
          refine md_l9 E hP (x := (d 9 ((8 * k) + j))) (rfl) (by omega) dX1_lastSaid_38 ?_
          refine lv_goto (tgt := 43) hx hb dX1_lastSaid_39 (by decide) ?_
          exact kR _ _ _ _ _ _ (⟨rfl, Or.inl ⟨k, j, hk, hj, rfl, hb1, rfl, Int32.not_le.mp c25, rfl⟩⟩) hP hS dX1_lastSaid_43
set_option maxHeartbeats 4000000 in
set_option maxRecDepth 100000 in
theorem met_md_lastSaid (l : Launch) (D : va_G) (o : Nat) (ad : Nat → Nat) (cB cI : ClassId) (d : MS) {n K : Nat} {x i : Int32} (hM : MW d n K) : mdMi l yX1_lastSaid cX1_lastSaid 3 (some .int) (rmk 1) D o ad cB cI [.int x, .int i] d (fun r d' => d' = d ∧ LastR d K x i r) :=
  md_meti (by decide) rfl (Nat.le_of_ble_eq_true rfl) (fun _ _ _ => rfl) (fun p e s m args below meth c ls Q E hP hl kR => wk_md_lastSaid hM E hP hl kR)
set_option maxHeartbeats 4000000 in
set_option maxRecDepth 100000 in
theorem wk_md_difference {p : Program} {l : Launch} {e : Env} {s : State} {m : MethodId} {args : Array Value} {below : List Frame} {meth : Method} {c : Code} {ls : Array Slot} {Q : State → Prop} {D : va_G} {o : Nat} {ad : Nat → Nat} {cB cI : ClassId} {d : MS} {n K : Nat} {x y : Int32} (hM : MW d n K) (E : mdE D o ad cB cI p s m args c cX1_difference 6) (hP : va_P D vwCl (md_w o ad cB cI d) s.heap) (hl : lv_has ls 6 [(0, .ref o), (1, .int x), (2, .int y)]) (kR : mdKi D o ad cB cI p l e (rmk 1) s m args below meth c cX1_difference Q (fun r d' => d' = d ∧ DiffR d K x y r)) : W p l e (rmk 1) s m args below meth c s.heap [] 0 0 Q (F0 m 0 ls []) := by
  obtain ⟨hx, hb, -⟩ := id E
  have hS : va_S (md_A o ad) s.heap s.heap [] := va_S.rf
  by_cases hab : hasK K x ∧ hasK K y
  · obtain ⟨⟨a, ha, rfl, hba⟩, ⟨b, hb12, rfl, hbb⟩⟩ := hab
    have loop : ∀ (n0 k : Nat) (z : Int32), k + n0 = 20 → (∀ q, q < 32 → bt z q = (decide (q < 4 ∧ q < k ∨ 16 ≤ q ∧ q - 12 < k) && dbit d a b q)) → ∀ (H : Heap) (locs : List Loc) (ls : Array Slot), va_P D vwCl (md_w o ad cB cI d) H → va_S (md_A o ad) s.heap H locs → lv_has ls 6 [(0, .ref o), (1, .int (nI a)), (2, .int (nI b)), (3, .int z), (4, .int (nI k))] → W p l e (rmk 1) s m args below meth c H locs 0 0 Q (F0 m 5 ls []) := by
      intro n0
      induction n0 with
      | zero =>
        intro k z hkn hz H locs ls hP hS hl
        have hk0 : k = 20 := by omega
        subst hk0
        refine lv_iload hx hb dX1_difference_5 (lv_at hl 4 rfl) ?_
        refine lv_bipush (v := (nI 20)) hx hb dX1_difference_7 (by decide) ?_
        refine nv_icmp_ge (tgt := 90) hx hb (by omega) (by omega) dX1_difference_9 (by decide) (fun c9 => ?_) (fun c9 => ?_)
        · refine lv_iload_n hx hb dX1_difference_90 rfl (lv_at hl 3 rfl) ?_
          exact kR _ _ _ _ _ _ (⟨rfl, Or.inl ⟨a, b, ha, hb12, rfl, rfl, hba, hbb, fun q hq => by
            rw [hz q hq]
            by_cases h1 : q < 4 ∧ q < 20 ∨ 16 ≤ q ∧ q - 12 < 20
            · rw [decide_eq_true h1, Bool.true_and]
            · rw [decide_eq_false h1, Bool.false_and]
              unfold dbit
              rw [if_neg (by omega), if_neg (by omega)]⟩⟩) hP hS dX1_difference_91
        · exact absurd c9 (by omega)
      | succ n0 ih =>
        intro k z hkn hz H locs ls hP hS hl
        refine lv_iload hx hb dX1_difference_5 (lv_at hl 4 rfl) ?_
        refine lv_bipush (v := (nI 20)) hx hb dX1_difference_7 (by decide) ?_
        refine nv_icmp_ge (tgt := 90) hx hb (by omega) (by omega) dX1_difference_9 (by decide) (fun c9 => ?_) (fun c9 => ?_)
        · exact absurd c9 (by omega)
        · refine lv_aload_n hx hb dX1_difference_12 rfl (lv_at hl 0 rfl) ?_
          refine lv_iload_n hx hb dX1_difference_13 rfl (lv_at hl 1 rfl) ?_
          refine md_calli (As := [.int (nI a)]) (rest := []) E hP hS (met_md_kept l D o ad cB cI d hM) (cwV 1 E.2.2.1 (lw_V q300 q302 qs17 q20 q303) rfl rfl rfl (by decide +kernel) ⟨by decide, by decide⟩) rfl hl.1 rfl (Nat.le_of_ble_eq_true rfl) ⟨Nat.zero_le _, Nat.zero_le _⟩ dX1_difference_14 (fun r126 d125 H locs hpd125 hP hS => ?_)
          obtain ⟨e0, hh⟩ := hpd125
          rw [e0] at hP
          refine lv_if_eq (tgt := 90) hx hb dX1_difference_17 (by decide) (fun c17 => ?_) (fun c17 => ?_)
          · exact absurd (hasK_nI ha hba) (hh.eq c17)
          · refine lv_aload_n hx hb dX1_difference_20 rfl (lv_at hl 0 rfl) ?_
            refine lv_iload_n hx hb dX1_difference_21 rfl (lv_at hl 2 rfl) ?_
            refine md_calli (As := [.int (nI b)]) (rest := []) E hP hS (met_md_kept l D o ad cB cI d hM) (cwV 1 E.2.2.1 (lw_V q300 q302 qs17 q20 q303) rfl rfl rfl (by decide +kernel) ⟨by decide, by decide⟩) rfl hl.1 rfl (Nat.le_of_ble_eq_true rfl) ⟨Nat.zero_le _, Nat.zero_le _⟩ dX1_difference_22 (fun r128 d127 H locs hpd127 hP hS => ?_)
            obtain ⟨e0, hh2⟩ := hpd127
            rw [e0] at hP
            refine lv_if_eq (tgt := 90) hx hb dX1_difference_25 (by decide) (fun c25 => ?_) (fun c25 => ?_)
            · exact absurd (hasK_nI hb12 hbb) (hh2.eq c25)
            · refine lv_iload hx hb dX1_difference_28 (lv_at hl 4 rfl) ?_
              refine lv_iconst (v := (nI 4)) hx hb dX1_difference_30 (by decide) ?_
              refine nv_icmp_ge (tgt := 39) hx hb (by omega) (by omega) dX1_difference_31 (by decide) (fun c31 => ?_) (fun c31 => ?_)
              · refine lv_iload hx hb dX1_difference_39 (lv_at hl 4 rfl) ?_
                refine lv_bipush (v := (nI 12)) hx hb dX1_difference_41 (by decide) ?_
                refine nv_iadd hx hb dX1_difference_43 ?_
                refine lv_istore (lv' := [(5, .int (nI (k + 12))), (0, .ref o), (1, .int (nI a)), (2, .int (nI b)), (3, .int z), (4, .int (nI k))]) hx hb dX1_difference_44 hl (by decide) rfl (fun ls hl => ?_)
                refine lv_iload_n hx hb dX1_difference_46 rfl (lv_at hl 4 rfl) ?_
                refine lv_aload_n hx hb dX1_difference_47 rfl (lv_at hl 1 rfl) ?_
                refine md_g8 E hP dX1_difference_48 ?_
                refine lv_bipush (v := (nI 20)) hx hb dX1_difference_51 (by decide) ?_
                refine lv_iload_n hx hb dX1_difference_53 rfl (lv_at hl 2 rfl) ?_
                refine nv_imul hx hb dX1_difference_54 ?_
                refine lv_iload hx hb dX1_difference_55 (lv_at hl 5 rfl) ?_
                refine nv_iadd hx hb dX1_difference_57 ?_
                refine md_l8 E hP (x := (d 8 ((20 * a) + k))) (rfl) (by omega) dX1_difference_58 ?_
                refine lv_aload_n hx hb dX1_difference_59 rfl (lv_at hl 1 rfl) ?_
                refine md_g8 E hP dX1_difference_60 ?_
                refine lv_bipush (v := (nI 20)) hx hb dX1_difference_63 (by decide) ?_
                refine lv_iload_n hx hb dX1_difference_65 rfl (lv_at hl 3 rfl) ?_
                refine nv_imul hx hb dX1_difference_66 ?_
                refine lv_iload hx hb dX1_difference_67 (lv_at hl 5 rfl) ?_
                refine nv_iadd hx hb dX1_difference_69 ?_
                refine md_l8 E hP (x := (d 8 ((20 * b) + k))) (rfl) (by omega) dX1_difference_70 ?_
                refine lv_icmp_eq (tgt := 81) hx hb dX1_difference_71 (by decide) (fun c71 => ?_) (fun c71 => ?_)
                · refine lv_iconst (v := (nI 0)) hx hb dX1_difference_81 (by decide) ?_
                  refine lv_ior hx hb dX1_difference_82 ?_
                  refine lv_istore_n (lv' := [(3, .int (z ||| (nI 0))), (5, .int (nI (k + 12))), (0, .ref o), (1, .int (nI a)), (2, .int (nI b)), (4, .int (nI k))]) hx hb dX1_difference_83 rfl hl (by decide) rfl (fun ls hl => ?_)
                  refine nv_iinc (lv' := [(4, .int (nI (k + 1))), (3, .int (z ||| (nI 0))), (5, .int (nI (k + 12))), (0, .ref o), (1, .int (nI a)), (2, .int (nI b))]) hx hb 5 dX1_difference_84 hl rfl (by decide) rfl (fun ls hl => ?_)
                  refine lv_goto (tgt := 5) hx hb dX1_difference_87 (by decide) ?_
                  have hl : lv_has ls 6 [(0, .ref o), (1, .int (nI a)), (2, .int (nI b)), (3, .int (z ||| (nI 0))), (4, .int (nI (k + 1)))] := lv_sub hl [3, 4, 5, 1, 0] rfl
                  exact ih (k + 1) _ (by omega) (fun q hq => by
                    rw [b_or, show bt (nI 0) q = false from b_0 q, Bool.or_false, hz q hq]
                    by_cases h1 : q = k + 12
                    · have h2 : dbit d a b q = false := by
                        unfold dbit
                        rw [if_neg (by omega), if_pos (by omega), h1, Nat.add_sub_cancel]
                        exact decide_eq_false (fun h => h c71)
                      rw [h2, Bool.and_false, Bool.and_false]
                    · congr 1
                      exact decide_eq_decide.mpr (by omega)) H locs ls hP hS hl
                · refine lv_iconst (v := (nI 1)) hx hb dX1_difference_74 (by decide) ?_
                  refine lv_iload hx hb dX1_difference_75 (lv_at hl 0 rfl) ?_
                  refine lv_ishl hx hb dX1_difference_77 ?_
                  refine lv_goto (tgt := 82) hx hb dX1_difference_78 (by decide) ?_
                  refine lv_ior hx hb dX1_difference_82 ?_
                  refine lv_istore_n (lv' := [(3, .int (z ||| ((nI 1) <<< ((nI (k + 12)) &&& 31)))), (5, .int (nI (k + 12))), (0, .ref o), (1, .int (nI a)), (2, .int (nI b)), (4, .int (nI k))]) hx hb dX1_difference_83 rfl hl (by decide) rfl (fun ls hl => ?_)
                  refine nv_iinc (lv' := [(4, .int (nI (k + 1))), (3, .int (z ||| ((nI 1) <<< ((nI (k + 12)) &&& 31)))), (5, .int (nI (k + 12))), (0, .ref o), (1, .int (nI a)), (2, .int (nI b))]) hx hb 5 dX1_difference_84 hl rfl (by decide) rfl (fun ls hl => ?_)
                  refine lv_goto (tgt := 5) hx hb dX1_difference_87 (by decide) ?_
                  have hl : lv_has ls 6 [(0, .ref o), (1, .int (nI a)), (2, .int (nI b)), (3, .int (z ||| ((nI 1) <<< ((nI (k + 12)) &&& 31)))), (4, .int (nI (k + 1)))] := lv_sub hl [3, 4, 5, 1, 0] rfl
                  exact ih (k + 1) _ (by omega) (fun q hq => by
                    rw [b_or1 z (by omega) hq, hz q hq]
                    by_cases h1 : q = k + 12
                    · have h2 : dbit d a b q = true := by
                        unfold dbit
                        rw [if_neg (by omega), if_pos (by omega), h1, Nat.add_sub_cancel]
                        exact decide_eq_true c71
                      rw [h2, decide_eq_true h1, Bool.or_true, Bool.and_true, decide_eq_true (show q < 4 ∧ q < k + 1 ∨ 16 ≤ q ∧ q - 12 < k + 1 by omega)]
                    · rw [decide_eq_false h1, Bool.or_false]
                      congr 1
                      exact decide_eq_decide.mpr (by omega)) H locs ls hP hS hl
              · refine lv_iload hx hb dX1_difference_34 (lv_at hl 4 rfl) ?_
                refine lv_goto (tgt := 44) hx hb dX1_difference_36 (by decide) ?_
                refine lv_istore (lv' := [(5, .int (nI k)), (0, .ref o), (1, .int (nI a)), (2, .int (nI b)), (3, .int z), (4, .int (nI k))]) hx hb dX1_difference_44 hl (by decide) rfl (fun ls hl => ?_)
                refine lv_iload_n hx hb dX1_difference_46 rfl (lv_at hl 4 rfl) ?_
                refine lv_aload_n hx hb dX1_difference_47 rfl (lv_at hl 1 rfl) ?_
                refine md_g8 E hP dX1_difference_48 ?_
                refine lv_bipush (v := (nI 20)) hx hb dX1_difference_51 (by decide) ?_
                refine lv_iload_n hx hb dX1_difference_53 rfl (lv_at hl 2 rfl) ?_
                refine nv_imul hx hb dX1_difference_54 ?_
                refine lv_iload hx hb dX1_difference_55 (lv_at hl 5 rfl) ?_
                refine nv_iadd hx hb dX1_difference_57 ?_
                refine md_l8 E hP (x := (d 8 ((20 * a) + k))) (rfl) (by omega) dX1_difference_58 ?_
                refine lv_aload_n hx hb dX1_difference_59 rfl (lv_at hl 1 rfl) ?_
                refine md_g8 E hP dX1_difference_60 ?_
                refine lv_bipush (v := (nI 20)) hx hb dX1_difference_63 (by decide) ?_
                refine lv_iload_n hx hb dX1_difference_65 rfl (lv_at hl 3 rfl) ?_
                refine nv_imul hx hb dX1_difference_66 ?_
                refine lv_iload hx hb dX1_difference_67 (lv_at hl 5 rfl) ?_
                refine nv_iadd hx hb dX1_difference_69 ?_
                refine md_l8 E hP (x := (d 8 ((20 * b) + k))) (rfl) (by omega) dX1_difference_70 ?_
                refine lv_icmp_eq (tgt := 81) hx hb dX1_difference_71 (by decide) (fun c71 => ?_) (fun c71 => ?_)
                · refine lv_iconst (v := (nI 0)) hx hb dX1_difference_81 (by decide) ?_
                  refine lv_ior hx hb dX1_difference_82 ?_
                  refine lv_istore_n (lv' := [(3, .int (z ||| (nI 0))), (5, .int (nI k)), (0, .ref o), (1, .int (nI a)), (2, .int (nI b)), (4, .int (nI k))]) hx hb dX1_difference_83 rfl hl (by decide) rfl (fun ls hl => ?_)
                  refine nv_iinc (lv' := [(4, .int (nI (k + 1))), (3, .int (z ||| (nI 0))), (5, .int (nI k)), (0, .ref o), (1, .int (nI a)), (2, .int (nI b))]) hx hb 5 dX1_difference_84 hl rfl (by decide) rfl (fun ls hl => ?_)
                  refine lv_goto (tgt := 5) hx hb dX1_difference_87 (by decide) ?_
                  have hl : lv_has ls 6 [(0, .ref o), (1, .int (nI a)), (2, .int (nI b)), (3, .int (z ||| (nI 0))), (4, .int (nI (k + 1)))] := lv_sub hl [3, 4, 5, 1, 0] rfl
                  exact ih (k + 1) _ (by omega) (fun q hq => by
                    rw [b_or, show bt (nI 0) q = false from b_0 q, Bool.or_false, hz q hq]
                    by_cases h1 : q = k
                    · have h2 : dbit d a b q = false := by
                        unfold dbit
                        rw [if_pos (by omega), h1]
                        exact decide_eq_false (fun h => h c71)
                      rw [h2, Bool.and_false, Bool.and_false]
                    · congr 1
                      exact decide_eq_decide.mpr (by omega)) H locs ls hP hS hl
                · refine lv_iconst (v := (nI 1)) hx hb dX1_difference_74 (by decide) ?_
                  refine lv_iload hx hb dX1_difference_75 (lv_at hl 0 rfl) ?_
                  refine lv_ishl hx hb dX1_difference_77 ?_
                  refine lv_goto (tgt := 82) hx hb dX1_difference_78 (by decide) ?_
                  refine lv_ior hx hb dX1_difference_82 ?_
                  refine lv_istore_n (lv' := [(3, .int (z ||| ((nI 1) <<< ((nI k) &&& 31)))), (5, .int (nI k)), (0, .ref o), (1, .int (nI a)), (2, .int (nI b)), (4, .int (nI k))]) hx hb dX1_difference_83 rfl hl (by decide) rfl (fun ls hl => ?_)
                  refine nv_iinc (lv' := [(4, .int (nI (k + 1))), (3, .int (z ||| ((nI 1) <<< ((nI k) &&& 31)))), (5, .int (nI k)), (0, .ref o), (1, .int (nI a)), (2, .int (nI b))]) hx hb 5 dX1_difference_84 hl rfl (by decide) rfl (fun ls hl => ?_)
                  refine lv_goto (tgt := 5) hx hb dX1_difference_87 (by decide) ?_
                  have hl : lv_has ls 6 [(0, .ref o), (1, .int (nI a)), (2, .int (nI b)), (3, .int (z ||| ((nI 1) <<< ((nI k) &&& 31)))), (4, .int (nI (k + 1)))] := lv_sub hl [3, 4, 5, 1, 0] rfl
                  exact ih (k + 1) _ (by omega) (fun q hq => by
                    rw [b_or1 z (by omega) hq, hz q hq]
                    by_cases h1 : q = k
                    · have h2 : dbit d a b q = true := by
                        unfold dbit
                        rw [if_pos (by omega), h1]
                        exact decide_eq_true c71
                      rw [h2, decide_eq_true h1, Bool.or_true, Bool.and_true, decide_eq_true (show q < 4 ∧ q < k + 1 ∨ 16 ≤ q ∧ q - 12 < k + 1 by omega)]
                    · rw [decide_eq_false h1, Bool.or_false]
                      congr 1
                      exact decide_eq_decide.mpr (by omega)) H locs ls hP hS hl
    refine lv_iconst (v := (nI 0)) hx hb dX1_difference_0 (by decide) ?_
    refine lv_istore_n (lv' := [(3, .int (nI 0)), (0, .ref o), (1, .int (nI a)), (2, .int (nI b))]) hx hb dX1_difference_1 rfl hl (by decide) rfl (fun ls hl => ?_)
    refine lv_iconst (v := (nI 0)) hx hb dX1_difference_2 (by decide) ?_
    refine lv_istore (lv' := [(4, .int (nI 0)), (3, .int (nI 0)), (0, .ref o), (1, .int (nI a)), (2, .int (nI b))]) hx hb dX1_difference_3 hl (by decide) rfl (fun ls hl => ?_)
    have hl : lv_has ls 6 [(0, .ref o), (1, .int (nI a)), (2, .int (nI b)), (3, .int (nI 0)), (4, .int (nI 0))] := lv_sub hl [2, 3, 4, 1, 0] rfl
    exact loop 20 0 _ rfl (fun q hq => by rw [decide_eq_false (show ¬ (q < 4 ∧ q < 0 ∨ 16 ≤ q ∧ q - 12 < 0) by omega), Bool.false_and]; exact b_0 q) _ _ ls hP hS hl
  · refine lv_iconst (v := (nI 0)) hx hb dX1_difference_0 (by decide) ?_
    refine lv_istore_n (lv' := [(3, .int (nI 0)), (0, .ref o), (1, .int x), (2, .int y)]) hx hb dX1_difference_1 rfl hl (by decide) rfl (fun ls hl => ?_)
    refine lv_iconst (v := (nI 0)) hx hb dX1_difference_2 (by decide) ?_
    refine lv_istore (lv' := [(4, .int (nI 0)), (3, .int (nI 0)), (0, .ref o), (1, .int x), (2, .int y)]) hx hb dX1_difference_3 hl (by decide) rfl (fun ls hl => ?_)
    refine lv_iload hx hb dX1_difference_5 (lv_at hl 0 rfl) ?_
    refine lv_bipush (v := (nI 20)) hx hb dX1_difference_7 (by decide) ?_
    refine nv_icmp_ge (tgt := 90) hx hb (by omega) (by omega) dX1_difference_9 (by decide) (fun c9 => ?_) (fun c9 => ?_)
    · exact absurd c9 (by omega)
    · refine lv_aload_n hx hb dX1_difference_12 rfl (lv_at hl 2 rfl) ?_
      refine lv_iload_n hx hb dX1_difference_13 rfl (lv_at hl 3 rfl) ?_
      refine md_calli (As := [.int x]) (rest := []) E hP hS (met_md_kept l D o ad cB cI d hM) (cwV 1 E.2.2.1 (lw_V q300 q302 qs17 q20 q303) rfl rfl rfl (by decide +kernel) ⟨by decide, by decide⟩) rfl hl.1 rfl (Nat.le_of_ble_eq_true rfl) ⟨Nat.zero_le _, Nat.zero_le _⟩ dX1_difference_14 (fun r130 d129 H locs hpd129 hP hS => ?_)
      obtain ⟨e0, hh⟩ := hpd129
      rw [e0] at hP
      refine lv_if_eq (tgt := 90) hx hb dX1_difference_17 (by decide) (fun c17 => ?_) (fun c17 => ?_)
      · refine lv_iload_n hx hb dX1_difference_90 rfl (lv_at hl 1 rfl) ?_
        exact kR _ _ _ _ _ _ (⟨rfl, Or.inr ⟨hab, rfl⟩⟩) hP hS dX1_difference_91
      · refine lv_aload_n hx hb dX1_difference_20 rfl (lv_at hl 2 rfl) ?_
        refine lv_iload_n hx hb dX1_difference_21 rfl (lv_at hl 4 rfl) ?_
        refine md_calli (As := [.int y]) (rest := []) E hP hS (met_md_kept l D o ad cB cI d hM) (cwV 1 E.2.2.1 (lw_V q300 q302 qs17 q20 q303) rfl rfl rfl (by decide +kernel) ⟨by decide, by decide⟩) rfl hl.1 rfl (Nat.le_of_ble_eq_true rfl) ⟨Nat.zero_le _, Nat.zero_le _⟩ dX1_difference_22 (fun r132 d131 H locs hpd131 hP hS => ?_)
        obtain ⟨e0, hh2⟩ := hpd131
        rw [e0] at hP
        refine lv_if_eq (tgt := 90) hx hb dX1_difference_25 (by decide) (fun c25 => ?_) (fun c25 => ?_)
        · refine lv_iload_n hx hb dX1_difference_90 rfl (lv_at hl 1 rfl) ?_
          exact kR _ _ _ _ _ _ (⟨rfl, Or.inr ⟨hab, rfl⟩⟩) hP hS dX1_difference_91
        · exact absurd ⟨hh.ne c17, hh2.ne c25⟩ hab
set_option maxHeartbeats 4000000 in
set_option maxRecDepth 100000 in
theorem met_md_difference (l : Launch) (D : va_G) (o : Nat) (ad : Nat → Nat) (cB cI : ClassId) (d : MS) {n K : Nat} {x y : Int32} (hM : MW d n K) : mdMi l yX1_difference cX1_difference 6 (some .int) (rmk 1) D o ad cB cI [.int x, .int y] d (fun r d' => d' = d ∧ DiffR d K x y r) :=
  md_meti (by decide) rfl (Nat.le_of_ble_eq_true rfl) (fun _ _ _ => rfl) (fun p e s m args below meth c ls Q E hP hl kR => wk_md_difference hM E hP hl kR)
end
section
/-! ReplayDeskModel: carryOut, stretch, start, answer, goOn -/
set_option maxHeartbeats 4000000 in
set_option maxRecDepth 100000 in
theorem wk_md_carryOut {p : Program} {l : Launch} {e : Env} {s : State} {m : MethodId} {args : Array Value} {below : List Frame} {meth : Method} {c : Code} {ls : Array Slot} {Q : State → Prop} {D : va_G} {o : Nat} {ad : Nat → Nat} {cB cI : ClassId} {d : MS} {oo a : Nat} {b : Int32} (ho : oo < 8) (ha : a < 4) (E : mdE D o ad cB cI p s m args c cX1_carryOut 6) (hP : va_P D vwCl (md_w o ad cB cI d) s.heap) (hl : lv_has ls 6 [(0, .ref o), (1, .int (nI oo)), (2, .int (nI a)), (3, .int b)]) (kR : mdKv D o ad cB cI p l e (rmk 0) s m args below meth c cX1_carryOut Q (fun d' => d' = mCarry d oo a b)) : W p l e (rmk 0) s m args below meth c s.heap [] 0 0 Q (F0 m 0 ls []) := by
  obtain ⟨hx, hb, -⟩ := id E
  have hS : va_S (md_A o ad) s.heap s.heap [] := va_S.rf
  refine lv_aload_n hx hb dX1_carryOut_0 rfl (lv_at hl 0 rfl) ?_
  refine md_g10 E hP dX1_carryOut_1 ?_
  refine lv_iconst (v := (nI 1)) hx hb dX1_carryOut_4 (by decide) ?_
  refine lv_iadd hx hb dX1_carryOut_5 ?_
  refine tp (y := (d 10 0 + 1)) (rfl) ?_
  refine lv_istore (lv' := [(4, .int (d 10 0 + 1)), (0, .ref o), (1, .int (nI oo)), (2, .int (nI a)), (3, .int b)]) hx hb dX1_carryOut_6 hl (by decide) rfl (fun ls hl => ?_)
  refine lv_iload_n hx hb dX1_carryOut_8 rfl (lv_at hl 2 rfl) ?_
  refine lv_if_ne (tgt := 22) hx hb dX1_carryOut_9 (by decide) (fun c9 => ?_) (fun c9 => ?_)
  · have c9 : ¬ oo = 0 := fun z => c9 (by rw [z]; rfl)
    refine lv_iload_n hx hb dX1_carryOut_22 rfl (lv_at hl 2 rfl) ?_
    refine lv_iconst (v := (nI 1)) hx hb dX1_carryOut_23 (by decide) ?_
    refine nv_icmp_ne (tgt := 51) hx hb (by omega) (by omega) dX1_carryOut_24 (by decide) (fun c24 => ?_) (fun c24 => ?_)
    · refine lv_iload_n hx hb dX1_carryOut_51 rfl (lv_at hl 2 rfl) ?_
      refine lv_iconst (v := (nI 2)) hx hb dX1_carryOut_52 (by decide) ?_
      refine nv_icmp_ne (tgt := 80) hx hb (by omega) (by omega) dX1_carryOut_53 (by decide) (fun c53 => ?_) (fun c53 => ?_)
      · refine lv_iload_n hx hb dX1_carryOut_80 rfl (lv_at hl 2 rfl) ?_
        refine lv_iconst (v := (nI 3)) hx hb dX1_carryOut_81 (by decide) ?_
        refine nv_icmp_ne (tgt := 112) hx hb (by omega) (by omega) dX1_carryOut_82 (by decide) (fun c82 => ?_) (fun c82 => ?_)
        · refine lv_iload_n hx hb dX1_carryOut_112 rfl (lv_at hl 2 rfl) ?_
          refine lv_iconst (v := (nI 4)) hx hb dX1_carryOut_113 (by decide) ?_
          refine nv_icmp_ne (tgt := 144) hx hb (by omega) (by omega) dX1_carryOut_114 (by decide) (fun c114 => ?_) (fun c114 => ?_)
          · refine lv_iload_n hx hb dX1_carryOut_144 rfl (lv_at hl 2 rfl) ?_
            refine lv_iconst (v := (nI 5)) hx hb dX1_carryOut_145 (by decide) ?_
            refine nv_icmp_ne (tgt := 169) hx hb (by omega) (by omega) dX1_carryOut_146 (by decide) (fun c146 => ?_) (fun c146 => ?_)
            · refine lv_iload_n hx hb dX1_carryOut_169 rfl (lv_at hl 2 rfl) ?_
              refine lv_bipush (v := (nI 6)) hx hb dX1_carryOut_170 (by decide) ?_
              refine nv_icmp_ne (tgt := 181) hx hb (by omega) (by omega) dX1_carryOut_172 (by decide) (fun c172 => ?_) (fun c172 => ?_)
              · refine lv_iload_n hx hb dX1_carryOut_181 rfl (lv_at hl 2 rfl) ?_
                refine lv_bipush (v := (nI 7)) hx hb dX1_carryOut_182 (by decide) ?_
                refine nv_icmp_ne (tgt := 240) hx hb (by omega) (by omega) dX1_carryOut_184 (by decide) (fun c184 => ?_) (fun c184 => ?_)
                · exact absurd ho (by omega)
                · subst c184
                  have loop : ∀ (k : Nat) (d1 : MS), k < 8 → (∀ q, q ≠ 13 → d1 q = d q) → (∀ q, q < 8 → d1 13 q = if k < q then d 13 (q - 1) else d 13 q) → ∀ (H : Heap) (locs : List Loc) (ls : Array Slot), va_P D vwCl (md_w o ad cB cI d1) H → va_S (md_A o ad) s.heap H locs → lv_has ls 6 [(0, .ref o), (1, .int (nI 7)), (2, .int (nI a)), (3, .int b), (4, .int (d 10 0 + 1)), (5, .int (nI k))] → W p l e (rmk 0) s m args below meth c H locs 0 0 Q (F0 m 191 ls []) := by
                    intro k
                    induction k with
                    | zero =>
                      intro d1 hk hf h13 H locs ls hP hS hl
                      refine lv_iload hx hb dX1_carryOut_191 (lv_at hl 5 rfl) ?_
                      refine lv_if_le (tgt := 218) hx hb dX1_carryOut_193 (by decide) (fun c193 => ?_) (fun c193 => ?_)
                      · refine lv_aload_n hx hb dX1_carryOut_218 rfl (lv_at hl 0 rfl) ?_
                        refine md_g13 E hP dX1_carryOut_219 ?_
                        refine lv_iconst (v := (nI 0)) hx hb dX1_carryOut_222 (by decide) ?_
                        refine lv_aload_n hx hb dX1_carryOut_223 rfl (lv_at hl 0 rfl) ?_
                        refine md_g12 E hP dX1_carryOut_224 ?_
                        refine lv_iload_n hx hb dX1_carryOut_227 rfl (lv_at hl 2 rfl) ?_
                        refine md_l12 E hP (x := (d 12 a)) (by rw [hf 12 (by decide)]) (by omega) dX1_carryOut_228 ?_
                        refine md_s13 E hP hS (by omega) dX1_carryOut_229 (fun d101 H locs ed101 hP hS => ?_)
                        refine lv_aload_n hx hb dX1_carryOut_230 rfl (lv_at hl 0 rfl) ?_
                        refine lv_dup hx hb dX1_carryOut_231 rfl ?_
                        refine md_g11 E hP dX1_carryOut_232 ?_
                        refine tp (y := (d 11 0)) (by rw [ed101, va_up_ne _ _ (by decide), hf 11 (by decide)]) ?_
                        refine lv_iconst (v := (nI 1)) hx hb dX1_carryOut_235 (by decide) ?_
                        refine lv_iadd hx hb dX1_carryOut_236 ?_
                        refine md_p11 E hP hS dX1_carryOut_237 (fun d102 H locs ed102 hP hS => ?_)
                        refine lv_aload_n hx hb dX1_carryOut_240 rfl (lv_at hl 0 rfl) ?_
                        refine lv_iload hx hb dX1_carryOut_241 (lv_at hl 4 rfl) ?_
                        refine md_p10 E hP hS dX1_carryOut_243 (fun d103 H locs ed103 hP hS => ?_)
                        exact kR (mCarry d 7 a b) _ _ _ _ (rfl) (md_conv hP (fun k j hj => by
                          rw [mCarry_7, ed103]
                          unfold mpos mSay
                          by_cases h10 : k = 10
                          · subst h10; rw [va_up_self, va_up_self]
                          · rw [va_up_ne _ _ h10, va_up_ne _ _ h10, ed102]
                            by_cases h11 : k = 11
                            · subst h11; rw [va_up_self, va_up_self]; rfl
                            · rw [va_up_ne _ _ h11, va_up_ne _ _ h11, ed101]
                              by_cases h13' : k = 13
                              · subst h13'
                                rw [va_up_self, va_up_self]
                                have hj8 : j < 8 := hj
                                unfold upd
                                by_cases hj0 : j = 0
                                · rw [if_pos hj0, if_pos hj0]
                                · rw [if_neg hj0, if_neg hj0, h13 j hj8, if_pos (by omega)]
                              · rw [va_up_ne _ _ h13', va_up_ne _ _ h13', hf k h13'])) hS dX1_carryOut_246
                      · exact absurd (by decide) c193
                    | succ k ih =>
                      intro d1 hk hf h13 H locs ls hP hS hl
                      refine lv_iload hx hb dX1_carryOut_191 (lv_at hl 5 rfl) ?_
                      refine lv_if_le (tgt := 218) hx hb dX1_carryOut_193 (by decide) (fun c193 => ?_) (fun c193 => ?_)
                      · exact absurd c193 (nI_nle (by omega) (by omega))
                      · refine lv_aload_n hx hb dX1_carryOut_196 rfl (lv_at hl 0 rfl) ?_
                        refine md_g13 E hP dX1_carryOut_197 ?_
                        refine lv_iload hx hb dX1_carryOut_200 (lv_at hl 5 rfl) ?_
                        refine lv_aload_n hx hb dX1_carryOut_202 rfl (lv_at hl 0 rfl) ?_
                        refine md_g13 E hP dX1_carryOut_203 ?_
                        refine lv_iload hx hb dX1_carryOut_206 (lv_at hl 5 rfl) ?_
                        refine lv_iconst (v := (nI 1)) hx hb dX1_carryOut_208 (by decide) ?_
                        refine nv_isub hx hb (by omega) dX1_carryOut_209 ?_
                        refine md_l13 E hP (x := (d 13 k)) (by rw [Nat.add_sub_cancel, h13 k (by omega), if_neg (by omega)]) (by omega) dX1_carryOut_210 ?_
                        refine md_s13 E hP hS (by omega) dX1_carryOut_211 (fun d104 H locs ed104 hP hS => ?_)
                        refine nv_idec (lv' := [(5, .int (nI k)), (0, .ref o), (1, .int (nI 7)), (2, .int (nI a)), (3, .int b), (4, .int (d 10 0 + 1))]) hx hb 5 dX1_carryOut_212 hl rfl (by decide) rfl (fun ls hl => ?_)
                        refine lv_goto (tgt := 191) hx hb dX1_carryOut_215 (by decide) ?_
                        have hl : lv_has ls 6 [(0, .ref o), (1, .int (nI 7)), (2, .int (nI a)), (3, .int b), (4, .int (d 10 0 + 1)), (5, .int (nI k))] := lv_sub hl [1, 2, 3, 4, 5, 0] rfl
                        refine ih _ (by omega) (fun q hq => by rw [ed104, va_up_ne _ _ hq]; exact hf q hq) (fun q hq => ?_) H locs ls hP hS hl
                        rw [ed104, va_up_self]
                        unfold upd
                        by_cases h1 : q = k + 1
                        · rw [if_pos h1, if_pos (by omega), h1]; rfl
                        · rw [if_neg h1, h13 q hq]
                          by_cases h2 : k + 1 < q
                          · rw [if_pos h2, if_pos (by omega)]
                          · rw [if_neg h2, if_neg (by omega)]
                  refine lv_bipush (v := (nI 7)) hx hb dX1_carryOut_187 (by decide) ?_
                  refine lv_istore (lv' := [(5, .int (nI 7)), (4, .int (d 10 0 + 1)), (0, .ref o), (1, .int (nI 7)), (2, .int (nI a)), (3, .int b)]) hx hb dX1_carryOut_189 hl (by decide) rfl (fun ls hl => ?_)
                  have hl : lv_has ls 6 [(0, .ref o), (1, .int (nI 7)), (2, .int (nI a)), (3, .int b), (4, .int (d 10 0 + 1)), (5, .int (nI 7))] := lv_sub hl [2, 3, 4, 5, 1, 0] rfl
                  exact loop 7 d (by decide) (fun _ _ => rfl) (fun q hq => by rw [if_neg (by omega)]) _ _ ls hP hS hl
              · subst c172
                refine lv_iload_n hx hb dX1_carryOut_175 rfl (lv_at hl 4 rfl) ?_
                refine lv_istore (lv' := [(4, .int b), (0, .ref o), (1, .int (nI 6)), (2, .int (nI a)), (3, .int b)]) hx hb dX1_carryOut_176 hl (by decide) rfl (fun ls hl => ?_)
                refine lv_goto (tgt := 240) hx hb dX1_carryOut_178 (by decide) ?_
                refine lv_aload_n hx hb dX1_carryOut_240 rfl (lv_at hl 1 rfl) ?_
                refine lv_iload hx hb dX1_carryOut_241 (lv_at hl 0 rfl) ?_
                refine md_p10 E hP hS dX1_carryOut_243 (fun d105 H locs ed105 hP hS => ?_)
                exact kR _ _ _ _ _ (by rw [ed105, mCarry_6]; rfl) hP hS dX1_carryOut_246
            · subst c146
              refine lv_aload_n hx hb dX1_carryOut_149 rfl (lv_at hl 1 rfl) ?_
              refine md_g12 E hP dX1_carryOut_150 ?_
              refine lv_iload_n hx hb dX1_carryOut_153 rfl (lv_at hl 3 rfl) ?_
              refine md_l12 E hP (x := (d 12 a)) (rfl) (by omega) dX1_carryOut_154 ?_
              refine lv_if_ne (tgt := 162) hx hb dX1_carryOut_155 (by decide) (fun c155 => ?_) (fun c155 => ?_)
              · refine lv_iload hx hb dX1_carryOut_162 (lv_at hl 0 rfl) ?_
                refine lv_istore (lv' := [(4, .int (d 10 0 + 1)), (0, .ref o), (1, .int (nI 5)), (2, .int (nI a)), (3, .int b)]) hx hb dX1_carryOut_164 hl (by decide) rfl (fun ls hl => ?_)
                refine lv_goto (tgt := 240) hx hb dX1_carryOut_166 (by decide) ?_
                refine lv_aload_n hx hb dX1_carryOut_240 rfl (lv_at hl 1 rfl) ?_
                refine lv_iload hx hb dX1_carryOut_241 (lv_at hl 0 rfl) ?_
                refine md_p10 E hP hS dX1_carryOut_243 (fun d106 H locs ed106 hP hS => ?_)
                exact kR _ _ _ _ _ (by rw [ed106, mCarry_5n c155]; rfl) hP hS dX1_carryOut_246
              · refine lv_iload_n hx hb dX1_carryOut_158 rfl (lv_at hl 4 rfl) ?_
                refine lv_goto (tgt := 164) hx hb dX1_carryOut_159 (by decide) ?_
                refine lv_istore (lv' := [(4, .int b), (0, .ref o), (1, .int (nI 5)), (2, .int (nI a)), (3, .int b)]) hx hb dX1_carryOut_164 hl (by decide) rfl (fun ls hl => ?_)
                refine lv_goto (tgt := 240) hx hb dX1_carryOut_166 (by decide) ?_
                refine lv_aload_n hx hb dX1_carryOut_240 rfl (lv_at hl 1 rfl) ?_
                refine lv_iload hx hb dX1_carryOut_241 (lv_at hl 0 rfl) ?_
                refine md_p10 E hP hS dX1_carryOut_243 (fun d107 H locs ed107 hP hS => ?_)
                exact kR _ _ _ _ _ (by rw [ed107, mCarry_5z c155]; rfl) hP hS dX1_carryOut_246
          · subst c114
            have h4 := lo4_lt b
            have h16 := lo16_lt (d 12 (lo4 b))
            refine lv_aload_n hx hb dX1_carryOut_117 rfl (lv_at hl 1 rfl) ?_
            refine md_g12 E hP dX1_carryOut_118 ?_
            refine lv_iconst (v := (nI 4)) hx hb dX1_carryOut_121 (by decide) ?_
            refine lv_aload_n hx hb dX1_carryOut_122 rfl (lv_at hl 1 rfl) ?_
            refine md_g12 E hP dX1_carryOut_123 ?_
            refine lv_iload_n hx hb dX1_carryOut_126 rfl (lv_at hl 4 rfl) ?_
            refine lv_iconst (v := (nI 3)) hx hb dX1_carryOut_127 (by decide) ?_
            refine rv_iand3 hx hb dX1_carryOut_128 ?_
            refine md_l12 E hP (x := (d 12 (lo4 b))) (rfl) (by omega) dX1_carryOut_129 ?_
            refine lv_bipush (v := (nI 15)) hx hb dX1_carryOut_130 (by decide) ?_
            refine rv_iand15 hx hb dX1_carryOut_132 ?_
            refine nv_iadd hx hb dX1_carryOut_133 ?_
            refine lv_aload_n hx hb dX1_carryOut_134 rfl (lv_at hl 1 rfl) ?_
            refine md_g12 E hP dX1_carryOut_135 ?_
            refine lv_iload_n hx hb dX1_carryOut_138 rfl (lv_at hl 3 rfl) ?_
            refine md_l12 E hP (x := (d 12 a)) (rfl) (by omega) dX1_carryOut_139 ?_
            refine md_s12 E hP hS (by omega) dX1_carryOut_140 (fun d108 H locs ed108 hP hS => ?_)
            refine lv_goto (tgt := 240) hx hb dX1_carryOut_141 (by decide) ?_
            refine lv_aload_n hx hb dX1_carryOut_240 rfl (lv_at hl 1 rfl) ?_
            refine lv_iload hx hb dX1_carryOut_241 (lv_at hl 0 rfl) ?_
            refine md_p10 E hP hS dX1_carryOut_243 (fun d109 H locs ed109 hP hS => ?_)
            exact kR _ _ _ _ _ (by rw [ed109, ed108]; rfl) hP hS dX1_carryOut_246
        · subst c82
          have h4 := lo4_lt b
          have h16 := lo16_lt (d 12 (lo4 b))
          refine lv_aload_n hx hb dX1_carryOut_85 rfl (lv_at hl 1 rfl) ?_
          refine md_g12 E hP dX1_carryOut_86 ?_
          refine lv_iload_n hx hb dX1_carryOut_89 rfl (lv_at hl 3 rfl) ?_
          refine lv_aload_n hx hb dX1_carryOut_90 rfl (lv_at hl 1 rfl) ?_
          refine md_g12 E hP dX1_carryOut_91 ?_
          refine lv_iconst (v := (nI 4)) hx hb dX1_carryOut_94 (by decide) ?_
          refine lv_aload_n hx hb dX1_carryOut_95 rfl (lv_at hl 1 rfl) ?_
          refine md_g12 E hP dX1_carryOut_96 ?_
          refine lv_iload_n hx hb dX1_carryOut_99 rfl (lv_at hl 4 rfl) ?_
          refine lv_iconst (v := (nI 3)) hx hb dX1_carryOut_100 (by decide) ?_
          refine rv_iand3 hx hb dX1_carryOut_101 ?_
          refine md_l12 E hP (x := (d 12 (lo4 b))) (rfl) (by omega) dX1_carryOut_102 ?_
          refine lv_bipush (v := (nI 15)) hx hb dX1_carryOut_103 (by decide) ?_
          refine rv_iand15 hx hb dX1_carryOut_105 ?_
          refine nv_iadd hx hb dX1_carryOut_106 ?_
          refine md_l12 E hP (x := (d 12 (4 + (lo16 (d 12 (lo4 b)))))) (rfl) (by omega) dX1_carryOut_107 ?_
          refine md_s12 E hP hS (by omega) dX1_carryOut_108 (fun d110 H locs ed110 hP hS => ?_)
          refine lv_goto (tgt := 240) hx hb dX1_carryOut_109 (by decide) ?_
          refine lv_aload_n hx hb dX1_carryOut_240 rfl (lv_at hl 1 rfl) ?_
          refine lv_iload hx hb dX1_carryOut_241 (lv_at hl 0 rfl) ?_
          refine md_p10 E hP hS dX1_carryOut_243 (fun d111 H locs ed111 hP hS => ?_)
          exact kR _ _ _ _ _ (by rw [ed111, ed110]; rfl) hP hS dX1_carryOut_246
      · subst c53
        have h4 := lo4_lt b
        have h16 := lo16_lt (d 12 (lo4 b))
        refine lv_aload_n hx hb dX1_carryOut_56 rfl (lv_at hl 1 rfl) ?_
        refine md_g12 E hP dX1_carryOut_57 ?_
        refine lv_iload_n hx hb dX1_carryOut_60 rfl (lv_at hl 3 rfl) ?_
        refine lv_aload_n hx hb dX1_carryOut_61 rfl (lv_at hl 1 rfl) ?_
        refine md_g12 E hP dX1_carryOut_62 ?_
        refine lv_iload_n hx hb dX1_carryOut_65 rfl (lv_at hl 3 rfl) ?_
        refine md_l12 E hP (x := (d 12 a)) (rfl) (by omega) dX1_carryOut_66 ?_
        refine lv_aload_n hx hb dX1_carryOut_67 rfl (lv_at hl 1 rfl) ?_
        refine md_g12 E hP dX1_carryOut_68 ?_
        refine lv_iload_n hx hb dX1_carryOut_71 rfl (lv_at hl 4 rfl) ?_
        refine lv_iconst (v := (nI 3)) hx hb dX1_carryOut_72 (by decide) ?_
        refine rv_iand3 hx hb dX1_carryOut_73 ?_
        refine md_l12 E hP (x := (d 12 (lo4 b))) (rfl) (by omega) dX1_carryOut_74 ?_
        refine lv_isub hx hb dX1_carryOut_75 ?_
        refine md_s12 E hP hS (by omega) dX1_carryOut_76 (fun d112 H locs ed112 hP hS => ?_)
        refine lv_goto (tgt := 240) hx hb dX1_carryOut_77 (by decide) ?_
        refine lv_aload_n hx hb dX1_carryOut_240 rfl (lv_at hl 1 rfl) ?_
        refine lv_iload hx hb dX1_carryOut_241 (lv_at hl 0 rfl) ?_
        refine md_p10 E hP hS dX1_carryOut_243 (fun d113 H locs ed113 hP hS => ?_)
        exact kR _ _ _ _ _ (by rw [ed113, ed112]; rfl) hP hS dX1_carryOut_246
    · subst c24
      have h4 := lo4_lt b
      have h16 := lo16_lt (d 12 (lo4 b))
      refine lv_aload_n hx hb dX1_carryOut_27 rfl (lv_at hl 1 rfl) ?_
      refine md_g12 E hP dX1_carryOut_28 ?_
      refine lv_iload_n hx hb dX1_carryOut_31 rfl (lv_at hl 3 rfl) ?_
      refine lv_aload_n hx hb dX1_carryOut_32 rfl (lv_at hl 1 rfl) ?_
      refine md_g12 E hP dX1_carryOut_33 ?_
      refine lv_iload_n hx hb dX1_carryOut_36 rfl (lv_at hl 3 rfl) ?_
      refine md_l12 E hP (x := (d 12 a)) (rfl) (by omega) dX1_carryOut_37 ?_
      refine lv_aload_n hx hb dX1_carryOut_38 rfl (lv_at hl 1 rfl) ?_
      refine md_g12 E hP dX1_carryOut_39 ?_
      refine lv_iload_n hx hb dX1_carryOut_42 rfl (lv_at hl 4 rfl) ?_
      refine lv_iconst (v := (nI 3)) hx hb dX1_carryOut_43 (by decide) ?_
      refine rv_iand3 hx hb dX1_carryOut_44 ?_
      refine md_l12 E hP (x := (d 12 (lo4 b))) (rfl) (by omega) dX1_carryOut_45 ?_
      refine lv_iadd hx hb dX1_carryOut_46 ?_
      refine md_s12 E hP hS (by omega) dX1_carryOut_47 (fun d114 H locs ed114 hP hS => ?_)
      refine lv_goto (tgt := 240) hx hb dX1_carryOut_48 (by decide) ?_
      refine lv_aload_n hx hb dX1_carryOut_240 rfl (lv_at hl 1 rfl) ?_
      refine lv_iload hx hb dX1_carryOut_241 (lv_at hl 0 rfl) ?_
      refine md_p10 E hP hS dX1_carryOut_243 (fun d115 H locs ed115 hP hS => ?_)
      exact kR _ _ _ _ _ (by rw [ed115, ed114]; rfl) hP hS dX1_carryOut_246
  · have c9 : oo = 0 := Classical.byContradiction (fun z => nI_ne0 (Nat.pos_of_ne_zero z) (by omega) c9)
    subst c9
    have h4 := lo4_lt b
    have h16 := lo16_lt (d 12 (lo4 b))
    refine lv_aload_n hx hb dX1_carryOut_12 rfl (lv_at hl 1 rfl) ?_
    refine md_g12 E hP dX1_carryOut_13 ?_
    refine lv_iload_n hx hb dX1_carryOut_16 rfl (lv_at hl 3 rfl) ?_
    refine lv_iload_n hx hb dX1_carryOut_17 rfl (lv_at hl 4 rfl) ?_
    refine md_s12 E hP hS (by omega) dX1_carryOut_18 (fun d116 H locs ed116 hP hS => ?_)
    refine lv_goto (tgt := 240) hx hb dX1_carryOut_19 (by decide) ?_
    refine lv_aload_n hx hb dX1_carryOut_240 rfl (lv_at hl 1 rfl) ?_
    refine lv_iload hx hb dX1_carryOut_241 (lv_at hl 0 rfl) ?_
    refine md_p10 E hP hS dX1_carryOut_243 (fun d117 H locs ed117 hP hS => ?_)
    exact kR _ _ _ _ _ (by rw [ed117, ed116]; rfl) hP hS dX1_carryOut_246
set_option maxHeartbeats 4000000 in
set_option maxRecDepth 100000 in
theorem met_md_carryOut (l : Launch) (D : va_G) (o : Nat) (ad : Nat → Nat) (cB cI : ClassId) (d : MS) {oo a : Nat} {b : Int32} (ho : oo < 8) (ha : a < 4) : mdMv l yX1_carryOut cX1_carryOut 6 none (rmk 0) D o ad cB cI [.int (nI oo), .int (nI a), .int b] d (fun d' => d' = mCarry d oo a b) :=
  md_metv (by decide) rfl (Nat.le_of_ble_eq_true rfl) (fun p e s m args below meth c ls Q E hP hl kR => wk_md_carryOut ho ha E hP hl kR)
set_option maxHeartbeats 4000000 in
set_option maxRecDepth 100000 in
theorem wk_md_stretch {p : Program} {l : Launch} {e : Env} {s : State} {m : MethodId} {args : Array Value} {below : List Frame} {meth : Method} {c : Code} {ls : Array Slot} {Q : State → Prop} {D : va_G} {o : Nat} {ad : Nat → Nat} {cB cI : ClassId} {d : MS} {n K i0 : Nat} (hM : MW d n K) (hi0 : i0 < 12) (E : mdE D o ad cB cI p s m args c cX1_stretch 5) (hP : va_P D vwCl (md_w o ad cB cI d) s.heap) (hl : lv_has ls 5 [(0, .ref o), (1, .int (nI i0))]) (kR : mdKv D o ad cB cI p l e (rmk 1) s m args below meth c cX1_stretch Q (fun d' => d' = mGo d n i0)) : W p l e (rmk 1) s m args below meth c s.heap [] 0 0 Q (F0 m 0 ls []) := by
  obtain ⟨hx, hb, -⟩ := id E
  have hS : va_S (md_A o ad) s.heap s.heap [] := va_S.rf
  obtain ⟨hsz, hn16, hMP, hK, hW⟩ := id hM
  have fin142 : ∀ (d0 : MS) (kd : Int32), mRun n 60 d = (kd, d0) → ∀ (H : Heap) (locs : List Loc) (ls : Array Slot), va_P D vwCl (md_w o ad cB cI d0) H → va_S (md_A o ad) s.heap H locs → lv_has ls 5 [(0, .ref o), (1, .int (nI i0)), (2, .int kd)] → W p l e (rmk 1) s m args below meth c H locs 0 0 Q (F0 m 142 ls []) := by
    intro d0 kd hrun H locs ls hP hS hl
    have loopB : ∀ (n0 k : Nat) (d1 : MS), k + n0 = 8 → (∀ j, j ≠ 4 → j ≠ 5 → j ≠ 6 → j ≠ 7 → j ≠ 8 → j ≠ 9 → d1 j = d0 j) → d1 4 = upd (d0 4) i0 1 → d1 5 = upd (d0 5) i0 kd → d1 6 = upd (d0 6) i0 (d0 10 0) → d1 7 = upd (d0 7) i0 (d0 11 0) → (∀ q, d1 8 q = if 20 * i0 ≤ q ∧ q < 20 * i0 + 20 then d0 12 (q - 20 * i0) else d0 8 q) → (∀ q, d1 9 q = if 8 * i0 ≤ q ∧ q < 8 * i0 + k then d0 13 (q - 8 * i0) else d0 9 q) → ∀ (H : Heap) (locs : List Loc) (ls : Array Slot), va_P D vwCl (md_w o ad cB cI d1) H → va_S (md_A o ad) s.heap H locs → lv_has ls 5 [(0, .ref o), (1, .int (nI i0)), (2, .int kd), (4, .int (nI k))] → W p l e (rmk 1) s m args below meth c H locs 0 0 Q (F0 m 214 ls []) := by
      intro n0
      induction n0 with
      | zero =>
        intro k d1 hkn gf g4 g5 g6 g7 g8 g9 H locs ls hP hS hl
        have hk0 : k = 8 := by omega
        subst hk0
        refine lv_iload hx hb dX1_stretch_214 (lv_at hl 3 rfl) ?_
        refine lv_bipush (v := (nI 8)) hx hb dX1_stretch_216 (by decide) ?_
        refine nv_icmp_ge (tgt := 246) hx hb (by omega) (by omega) dX1_stretch_218 (by decide) (fun c218 => ?_) (fun c218 => ?_)
        · have eq : mGo d n i0 = mKeep d0 i0 kd := by unfold mGo; rw [hrun]
          exact kR (mGo d n i0) _ _ _ _ (rfl) (md_conv hP (fun k j _ => by
            rw [eq]
            unfold mKeep
            by_cases h4 : k = 4
            · subst h4; rw [if_pos rfl, g4]
            · by_cases h5 : k = 5
              · subst h5; rw [if_neg (by decide), if_pos rfl, g5]
              · by_cases h6 : k = 6
                · subst h6; rw [if_neg (by decide), if_neg (by decide), if_pos rfl, g6]
                · by_cases h7 : k = 7
                  · subst h7; rw [if_neg (by decide), if_neg (by decide), if_neg (by decide), if_pos rfl, g7]
                  · by_cases h8 : k = 8
                    · subst h8; rw [if_neg (by decide), if_neg (by decide), if_neg (by decide), if_neg (by decide), if_pos rfl]; exact g8 j
                    · by_cases h9 : k = 9
                      · subst h9; rw [if_neg (by decide), if_neg (by decide), if_neg (by decide), if_neg (by decide), if_neg (by decide), if_pos rfl]; exact g9 j
                      · rw [if_neg h4, if_neg h5, if_neg h6, if_neg h7, if_neg h8, if_neg h9, gf k h4 h5 h6 h7 h8 h9])) hS dX1_stretch_246
        · exact absurd c218 (by omega)
      | succ n0 ih =>
        intro k d1 hkn gf g4 g5 g6 g7 g8 g9 H locs ls hP hS hl
        refine lv_iload hx hb dX1_stretch_214 (lv_at hl 3 rfl) ?_
        refine lv_bipush (v := (nI 8)) hx hb dX1_stretch_216 (by decide) ?_
        refine nv_icmp_ge (tgt := 246) hx hb (by omega) (by omega) dX1_stretch_218 (by decide) (fun c218 => ?_) (fun c218 => ?_)
        · exact absurd c218 (by omega)
        · refine lv_aload_n hx hb dX1_stretch_221 rfl (lv_at hl 0 rfl) ?_
          refine md_g9 E hP dX1_stretch_222 ?_
          refine lv_bipush (v := (nI 8)) hx hb dX1_stretch_225 (by decide) ?_
          refine lv_iload_n hx hb dX1_stretch_227 rfl (lv_at hl 1 rfl) ?_
          refine nv_imul hx hb dX1_stretch_228 ?_
          refine lv_iload hx hb dX1_stretch_229 (lv_at hl 3 rfl) ?_
          refine nv_iadd hx hb dX1_stretch_231 ?_
          refine lv_aload_n hx hb dX1_stretch_232 rfl (lv_at hl 0 rfl) ?_
          refine md_g13 E hP dX1_stretch_233 ?_
          refine lv_iload hx hb dX1_stretch_236 (lv_at hl 3 rfl) ?_
          refine md_l13 E hP (x := (d0 13 k)) (by rw [gf 13 (by decide) (by decide) (by decide) (by decide) (by decide) (by decide)]) (by omega) dX1_stretch_238 ?_
          refine md_s9 E hP hS (by omega) dX1_stretch_239 (fun d118 H locs ed118 hP hS => ?_)
          refine nv_iinc (lv' := [(4, .int (nI (k + 1))), (0, .ref o), (1, .int (nI i0)), (2, .int kd)]) hx hb 3 dX1_stretch_240 hl rfl (by decide) rfl (fun ls hl => ?_)
          refine lv_goto (tgt := 214) hx hb dX1_stretch_243 (by decide) ?_
          have hl : lv_has ls 5 [(0, .ref o), (1, .int (nI i0)), (2, .int kd), (4, .int (nI (k + 1)))] := lv_sub hl [1, 2, 3, 0] rfl
          exact ih (k + 1) _ (by omega) (fun j a1 a2 a3 a4 a5 a6 => by rw [ed118, va_up_ne _ _ a6]; exact gf j a1 a2 a3 a4 a5 a6) (by rw [ed118, va_up_ne _ _ (by decide)]; exact g4) (by rw [ed118, va_up_ne _ _ (by decide)]; exact g5) (by rw [ed118, va_up_ne _ _ (by decide)]; exact g6) (by rw [ed118, va_up_ne _ _ (by decide)]; exact g7) (by rw [ed118, va_up_ne _ _ (by decide)]; exact g8) (fun q => by
            rw [ed118, va_up_self]
            unfold upd
            rw [g9 q]
            by_cases h1 : q = 8 * i0 + k
            · rw [if_pos h1, if_pos ⟨by omega, by omega⟩]; congr 1; omega
            · rw [if_neg h1]
              by_cases h2 : 8 * i0 ≤ q ∧ q < 8 * i0 + k
              · rw [if_pos h2, if_pos ⟨by omega, by omega⟩]
              · rw [if_neg h2, if_neg (by omega)]) H locs ls hP hS hl
    have loopA : ∀ (n0 k : Nat) (d1 : MS), k + n0 = 20 → (∀ j, j ≠ 4 → j ≠ 5 → j ≠ 6 → j ≠ 7 → j ≠ 8 → j ≠ 9 → d1 j = d0 j) → d1 4 = upd (d0 4) i0 1 → d1 5 = upd (d0 5) i0 kd → d1 6 = upd (d0 6) i0 (d0 10 0) → d1 7 = upd (d0 7) i0 (d0 11 0) → (∀ q, d1 8 q = if 20 * i0 ≤ q ∧ q < 20 * i0 + k then d0 12 (q - 20 * i0) else d0 8 q) → d1 9 = d0 9 → ∀ (H : Heap) (locs : List Loc) (ls : Array Slot), va_P D vwCl (md_w o ad cB cI d1) H → va_S (md_A o ad) s.heap H locs → lv_has ls 5 [(0, .ref o), (1, .int (nI i0)), (2, .int kd), (4, .int (nI k))] → W p l e (rmk 1) s m args below meth c H locs 0 0 Q (F0 m 179 ls []) := by
      intro n0
      induction n0 with
      | zero =>
        intro k d1 hkn gf g4 g5 g6 g7 g8 g9 H locs ls hP hS hl
        have hk0 : k = 20 := by omega
        subst hk0
        refine lv_iload hx hb dX1_stretch_179 (lv_at hl 3 rfl) ?_
        refine lv_bipush (v := (nI 20)) hx hb dX1_stretch_181 (by decide) ?_
        refine nv_icmp_ge (tgt := 211) hx hb (by omega) (by omega) dX1_stretch_183 (by decide) (fun c183 => ?_) (fun c183 => ?_)
        · refine lv_iconst (v := (nI 0)) hx hb dX1_stretch_211 (by decide) ?_
          refine lv_istore (lv' := [(4, .int (nI 0)), (0, .ref o), (1, .int (nI i0)), (2, .int kd)]) hx hb dX1_stretch_212 hl (by decide) rfl (fun ls hl => ?_)
          have hl : lv_has ls 5 [(0, .ref o), (1, .int (nI i0)), (2, .int kd), (4, .int (nI 0))] := lv_sub hl [1, 2, 3, 0] rfl
          exact loopB 8 0 d1 rfl gf g4 g5 g6 g7 g8 (fun q => by rw [if_neg (by omega), g9]) H locs ls hP hS hl
        · exact absurd c183 (by omega)
      | succ n0 ih =>
        intro k d1 hkn gf g4 g5 g6 g7 g8 g9 H locs ls hP hS hl
        refine lv_iload hx hb dX1_stretch_179 (lv_at hl 3 rfl) ?_
        refine lv_bipush (v := (nI 20)) hx hb dX1_stretch_181 (by decide) ?_
        refine nv_icmp_ge (tgt := 211) hx hb (by omega) (by omega) dX1_stretch_183 (by decide) (fun c183 => ?_) (fun c183 => ?_)
        · exact absurd c183 (by omega)
        · refine lv_aload_n hx hb dX1_stretch_186 rfl (lv_at hl 0 rfl) ?_
          refine md_g8 E hP dX1_stretch_187 ?_
          refine lv_bipush (v := (nI 20)) hx hb dX1_stretch_190 (by decide) ?_
          refine lv_iload_n hx hb dX1_stretch_192 rfl (lv_at hl 1 rfl) ?_
          refine nv_imul hx hb dX1_stretch_193 ?_
          refine lv_iload hx hb dX1_stretch_194 (lv_at hl 3 rfl) ?_
          refine nv_iadd hx hb dX1_stretch_196 ?_
          refine lv_aload_n hx hb dX1_stretch_197 rfl (lv_at hl 0 rfl) ?_
          refine md_g12 E hP dX1_stretch_198 ?_
          refine lv_iload hx hb dX1_stretch_201 (lv_at hl 3 rfl) ?_
          refine md_l12 E hP (x := (d0 12 k)) (by rw [gf 12 (by decide) (by decide) (by decide) (by decide) (by decide) (by decide)]) (by omega) dX1_stretch_203 ?_
          refine md_s8 E hP hS (by omega) dX1_stretch_204 (fun d119 H locs ed119 hP hS => ?_)
          refine nv_iinc (lv' := [(4, .int (nI (k + 1))), (0, .ref o), (1, .int (nI i0)), (2, .int kd)]) hx hb 3 dX1_stretch_205 hl rfl (by decide) rfl (fun ls hl => ?_)
          refine lv_goto (tgt := 179) hx hb dX1_stretch_208 (by decide) ?_
          have hl : lv_has ls 5 [(0, .ref o), (1, .int (nI i0)), (2, .int kd), (4, .int (nI (k + 1)))] := lv_sub hl [1, 2, 3, 0] rfl
          exact ih (k + 1) _ (by omega) (fun j a1 a2 a3 a4 a5 a6 => by rw [ed119, va_up_ne _ _ a5]; exact gf j a1 a2 a3 a4 a5 a6) (by rw [ed119, va_up_ne _ _ (by decide)]; exact g4) (by rw [ed119, va_up_ne _ _ (by decide)]; exact g5) (by rw [ed119, va_up_ne _ _ (by decide)]; exact g6) (by rw [ed119, va_up_ne _ _ (by decide)]; exact g7) (fun q => by
            rw [ed119, va_up_self]
            unfold upd
            rw [g8 q]
            by_cases h1 : q = 20 * i0 + k
            · rw [if_pos h1, if_pos ⟨by omega, by omega⟩]; congr 1; omega
            · rw [if_neg h1]
              by_cases h2 : 20 * i0 ≤ q ∧ q < 20 * i0 + k
              · rw [if_pos h2, if_pos ⟨by omega, by omega⟩]
              · rw [if_neg h2, if_neg (by omega)]) (by rw [ed119, va_up_ne _ _ (by decide)]; exact g9) H locs ls hP hS hl
    refine lv_aload_n hx hb dX1_stretch_142 rfl (lv_at hl 0 rfl) ?_
    refine md_g4 E hP dX1_stretch_143 ?_
    refine lv_iload_n hx hb dX1_stretch_146 rfl (lv_at hl 1 rfl) ?_
    refine lv_iconst (v := (nI 1)) hx hb dX1_stretch_147 (by decide) ?_
    refine md_s4 E hP hS (y := (nI 1)) (by decide) (by omega) dX1_stretch_148 (fun d120 H locs ed120 hP hS => ?_)
    refine lv_aload_n hx hb dX1_stretch_149 rfl (lv_at hl 0 rfl) ?_
    refine md_g5 E hP dX1_stretch_150 ?_
    refine lv_iload_n hx hb dX1_stretch_153 rfl (lv_at hl 1 rfl) ?_
    refine lv_iload_n hx hb dX1_stretch_154 rfl (lv_at hl 2 rfl) ?_
    refine md_s5 E hP hS (by omega) dX1_stretch_155 (fun d121 H locs ed121 hP hS => ?_)
    refine lv_aload_n hx hb dX1_stretch_156 rfl (lv_at hl 0 rfl) ?_
    refine md_g6 E hP dX1_stretch_157 ?_
    refine lv_iload_n hx hb dX1_stretch_160 rfl (lv_at hl 1 rfl) ?_
    refine lv_aload_n hx hb dX1_stretch_161 rfl (lv_at hl 0 rfl) ?_
    refine md_g10 E hP dX1_stretch_162 ?_
    refine tp (y := (d0 10 0)) (by rw [ed121, va_up_ne _ _ (by decide), ed120, va_up_ne _ _ (by decide)]) ?_
    refine md_s6 E hP hS (by omega) dX1_stretch_165 (fun d122 H locs ed122 hP hS => ?_)
    refine lv_aload_n hx hb dX1_stretch_166 rfl (lv_at hl 0 rfl) ?_
    refine md_g7 E hP dX1_stretch_167 ?_
    refine lv_iload_n hx hb dX1_stretch_170 rfl (lv_at hl 1 rfl) ?_
    refine lv_aload_n hx hb dX1_stretch_171 rfl (lv_at hl 0 rfl) ?_
    refine md_g11 E hP dX1_stretch_172 ?_
    refine tp (y := (d0 11 0)) (by rw [ed122, va_up_ne _ _ (by decide), ed121, va_up_ne _ _ (by decide), ed120, va_up_ne _ _ (by decide)]) ?_
    refine md_s7 E hP hS (by omega) dX1_stretch_175 (fun d123 H locs ed123 hP hS => ?_)
    refine lv_iconst (v := (nI 0)) hx hb dX1_stretch_176 (by decide) ?_
    refine lv_istore (lv' := [(4, .int (nI 0)), (0, .ref o), (1, .int (nI i0)), (2, .int kd)]) hx hb dX1_stretch_177 hl (by decide) rfl (fun ls hl => ?_)
    have hl : lv_has ls 5 [(0, .ref o), (1, .int (nI i0)), (2, .int kd), (4, .int (nI 0))] := lv_sub hl [1, 2, 3, 0] rfl
    exact loopA 20 0 _ rfl (fun j a1 a2 a3 a4 a5 a6 => by rw [ed123, va_up_ne _ _ a4, ed122, va_up_ne _ _ a3, ed121, va_up_ne _ _ a2, ed120, va_up_ne _ _ a1]) (by rw [ed123, va_up_ne _ _ (by decide), ed122, va_up_ne _ _ (by decide), ed121, va_up_ne _ _ (by decide), ed120, va_up_self]; rfl) (by rw [ed123, va_up_ne _ _ (by decide), ed122, va_up_ne _ _ (by decide), ed121, va_up_self, ed120, va_up_ne _ _ (by decide)]) (by rw [ed123, va_up_ne _ _ (by decide), ed122, va_up_self, ed121, va_up_ne _ _ (by decide), ed120, va_up_ne _ _ (by decide)]) (by rw [ed123, va_up_self, ed122, va_up_ne _ _ (by decide), ed121, va_up_ne _ _ (by decide), ed120, va_up_ne _ _ (by decide)]) (fun q => by rw [if_neg (by omega), ed123, va_up_ne _ _ (by decide), ed122, va_up_ne _ _ (by decide), ed121, va_up_ne _ _ (by decide), ed120, va_up_ne _ _ (by decide)]) (by rw [ed123, va_up_ne _ _ (by decide), ed122, va_up_ne _ _ (by decide), ed121, va_up_ne _ _ (by decide), ed120, va_up_ne _ _ (by decide)]) H locs ls hP hS hl
  have out136 : ∀ (d0 : MS) (kd : Int32) (k : Nat), k ≤ 60 → mRun n 60 d = (kd, d0) → ∀ (H : Heap) (locs : List Loc) (ls : Array Slot), va_P D vwCl (md_w o ad cB cI d0) H → va_S (md_A o ad) s.heap H locs → lv_has ls 5 [(0, .ref o), (1, .int (nI i0)), (2, .int kd), (3, .int (nI 0)), (4, .int (nI k))] → W p l e (rmk 1) s m args below meth c H locs 0 0 Q (F0 m 136 ls []) := by
    intro d0 kd k hk hrun H locs ls hP hS hl
    refine nv_iinc (lv' := [(4, .int (nI (k + 1))), (0, .ref o), (1, .int (nI i0)), (2, .int kd), (3, .int (nI 0))]) hx hb 4 dX1_stretch_136 hl rfl (by decide) rfl (fun ls hl => ?_)
    refine lv_goto (tgt := 7) hx hb dX1_stretch_139 (by decide) ?_
    refine lv_iload hx hb dX1_stretch_7 (lv_at hl 0 rfl) ?_
    refine lv_bipush (v := (nI 60)) hx hb dX1_stretch_9 (by decide) ?_
    refine nv_icmp_gt (tgt := 142) hx hb (by omega) (by omega) dX1_stretch_11 (by decide) (fun c11 => ?_) (fun c11 => ?_)
    · have hl : lv_has ls 5 [(0, .ref o), (1, .int (nI i0)), (2, .int kd)] := lv_sub hl [1, 2, 3] rfl
      exact fin142 d0 kd hrun H locs ls hP hS hl
    · refine lv_iload_n hx hb dX1_stretch_14 rfl (lv_at hl 4 rfl) ?_
      refine lv_if_eq (tgt := 142) hx hb dX1_stretch_15 (by decide) (fun c15 => ?_) (fun c15 => ?_)
      · have hl : lv_has ls 5 [(0, .ref o), (1, .int (nI i0)), (2, .int kd)] := lv_sub hl [1, 2, 3] rfl
        exact fin142 d0 kd hrun H locs ls hP hS hl
      · exact absurd rfl c15
  have loop : ∀ (f k : Nat) (d1 : MS), k + f = 60 → mRun n 60 d = mRun n f d1 → (∀ j, j < 10 → d1 j = d j) → ∀ (H : Heap) (locs : List Loc) (ls : Array Slot), va_P D vwCl (md_w o ad cB cI d1) H → va_S (md_A o ad) s.heap H locs → lv_has ls 5 [(0, .ref o), (1, .int (nI i0)), (2, .int (nI 3)), (3, .int (nI 1)), (4, .int (nI k))] → W p l e (rmk 1) s m args below meth c H locs 0 0 Q (F0 m 7 ls []) := by
    intro f
    induction f with
    | zero =>
      intro k d1 hk hm gf H locs ls hP hS hl
      refine lv_iload hx hb dX1_stretch_7 (lv_at hl 4 rfl) ?_
      refine lv_bipush (v := (nI 60)) hx hb dX1_stretch_9 (by decide) ?_
      refine nv_icmp_gt (tgt := 142) hx hb (by omega) (by omega) dX1_stretch_11 (by decide) (fun c11 => ?_) (fun c11 => ?_)
      · exact absurd c11 (by omega)
      · refine lv_iload_n hx hb dX1_stretch_14 rfl (lv_at hl 3 rfl) ?_
        refine lv_if_eq (tgt := 142) hx hb dX1_stretch_15 (by decide) (fun c15 => ?_) (fun c15 => ?_)
        · exact absurd c15 (by decide)
        · refine lv_aload_n hx hb dX1_stretch_18 rfl (lv_at hl 0 rfl) ?_
          refine md_g10 E hP dX1_stretch_19 ?_
          refine lv_if_lt (tgt := 36) hx hb dX1_stretch_22 (by decide) (fun c22 => ?_) (fun c22 => ?_)
          · refine lv_iconst (v := (nI 0)) hx hb dX1_stretch_36 (by decide) ?_
            refine lv_istore_n (lv' := [(2, .int (nI 0)), (0, .ref o), (1, .int (nI i0)), (3, .int (nI 1)), (4, .int (nI k))]) hx hb dX1_stretch_37 rfl hl (by decide) rfl (fun ls hl => ?_)
            refine lv_iconst (v := (nI 0)) hx hb dX1_stretch_38 (by decide) ?_
            refine lv_istore_n (lv' := [(3, .int (nI 0)), (2, .int (nI 0)), (0, .ref o), (1, .int (nI i0)), (4, .int (nI k))]) hx hb dX1_stretch_39 rfl hl (by decide) rfl (fun ls hl => ?_)
            refine lv_goto (tgt := 136) hx hb dX1_stretch_40 (by decide) ?_
            have hl : lv_has ls 5 [(0, .ref o), (1, .int (nI i0)), (2, .int (nI 0)), (3, .int (nI 0)), (4, .int (nI k))] := lv_sub hl [2, 3, 1, 0, 4] rfl
            exact out136 d1 (nI 0) k (by omega) (by rw [hm, mRun_out (Or.inl c22)]) H locs ls hP hS hl
          · refine lv_aload_n hx hb dX1_stretch_25 rfl (lv_at hl 0 rfl) ?_
            refine md_g10 E hP dX1_stretch_26 ?_
            refine lv_aload_n hx hb dX1_stretch_29 rfl (lv_at hl 0 rfl) ?_
            refine md_g0 E hP dX1_stretch_30 ?_
            refine tp (y := (nI n)) (by rw [gf 0 (by decide)]; exact hsz) ?_
            refine lv_icmp_lt (tgt := 43) hx hb dX1_stretch_33 (by decide) (fun c33 => ?_) (fun c33 => ?_)
            · obtain ⟨q, hqn, hq⟩ : ∃ q, q < n ∧ d1 10 0 = nI q := by
                rcases pk_ix (d1 10 0) (n := n) (by omega) with z | z | z
                · exact absurd z c22
                · exact absurd c33 (Int32.not_lt.mpr z)
                · exact z
              obtain ⟨oo, a, ho10, ha4, ho, ha, -⟩ := hMP q hqn
              rw [← gf 1 (by decide)] at ho
              rw [← gf 2 (by decide)] at ha
              refine lv_aload_n hx hb dX1_stretch_43 rfl (lv_at hl 0 rfl) ?_
              refine md_g1 E hP dX1_stretch_44 ?_
              refine lv_aload_n hx hb dX1_stretch_47 rfl (lv_at hl 0 rfl) ?_
              refine md_g10 E hP dX1_stretch_48 ?_
              refine tp (y := (nI q)) (hq) ?_
              refine md_l1 E hP (x := (nI oo)) (ho) (by omega) dX1_stretch_51 ?_
              refine lv_bipush (v := (nI 9)) hx hb dX1_stretch_52 (by decide) ?_
              refine nv_icmp_eq (tgt := 71) hx hb (by omega) (by omega) dX1_stretch_54 (by decide) (fun c54 => ?_) (fun c54 => ?_)
              · subst c54
                refine lv_aload_n hx hb dX1_stretch_71 rfl (lv_at hl 0 rfl) ?_
                refine md_g1 E hP dX1_stretch_72 ?_
                refine lv_aload_n hx hb dX1_stretch_75 rfl (lv_at hl 0 rfl) ?_
                refine md_g10 E hP dX1_stretch_76 ?_
                refine tp (y := (nI q)) (hq) ?_
                refine md_l1 E hP (x := (nI 9)) (ho) (by omega) dX1_stretch_79 ?_
                refine lv_bipush (v := (nI 9)) hx hb dX1_stretch_80 (by decide) ?_
                refine nv_icmp_ne (tgt := 89) hx hb (by omega) (by omega) dX1_stretch_82 (by decide) (fun c82 => ?_) (fun c82 => ?_)
                · exact absurd rfl c82
                · refine lv_iconst (v := (nI 1)) hx hb dX1_stretch_85 (by decide) ?_
                  refine lv_goto (tgt := 90) hx hb dX1_stretch_86 (by decide) ?_
                  refine lv_istore_n (lv' := [(2, .int (nI 1)), (0, .ref o), (1, .int (nI i0)), (3, .int (nI 1)), (4, .int (nI k))]) hx hb dX1_stretch_90 rfl hl (by decide) rfl (fun ls hl => ?_)
                  refine lv_iconst (v := (nI 0)) hx hb dX1_stretch_91 (by decide) ?_
                  refine lv_istore_n (lv' := [(3, .int (nI 0)), (2, .int (nI 1)), (0, .ref o), (1, .int (nI i0)), (4, .int (nI k))]) hx hb dX1_stretch_92 rfl hl (by decide) rfl (fun ls hl => ?_)
                  refine lv_goto (tgt := 136) hx hb dX1_stretch_93 (by decide) ?_
                  have hl : lv_has ls 5 [(0, .ref o), (1, .int (nI i0)), (2, .int (nI 1)), (3, .int (nI 0)), (4, .int (nI k))] := lv_sub hl [2, 3, 1, 0, 4] rfl
                  exact out136 d1 (nI 1) k (by omega) (by rw [hm, mRun_9 hq hqn hn16 ho]) H locs ls hP hS hl
              · refine lv_aload_n hx hb dX1_stretch_57 rfl (lv_at hl 0 rfl) ?_
                refine md_g1 E hP dX1_stretch_58 ?_
                refine lv_aload_n hx hb dX1_stretch_61 rfl (lv_at hl 0 rfl) ?_
                refine md_g10 E hP dX1_stretch_62 ?_
                refine tp (y := (nI q)) (hq) ?_
                refine md_l1 E hP (x := (nI oo)) (ho) (by omega) dX1_stretch_65 ?_
                refine lv_bipush (v := (nI 8)) hx hb dX1_stretch_66 (by decide) ?_
                refine nv_icmp_ne (tgt := 96) hx hb (by omega) (by omega) dX1_stretch_68 (by decide) (fun c68 => ?_) (fun c68 => ?_)
                · refine lv_iload hx hb dX1_stretch_96 (lv_at hl 4 rfl) ?_
                  refine lv_bipush (v := (nI 60)) hx hb dX1_stretch_98 (by decide) ?_
                  refine nv_icmp_ge (tgt := 136) hx hb (by omega) (by omega) dX1_stretch_100 (by decide) (fun c100 => ?_) (fun c100 => ?_)
                  · refine nv_iinc (lv' := [(4, .int (nI (k + 1))), (0, .ref o), (1, .int (nI i0)), (2, .int (nI 3)), (3, .int (nI 1))]) hx hb 4 dX1_stretch_136 hl rfl (by decide) rfl (fun ls hl => ?_)
                    refine lv_goto (tgt := 7) hx hb dX1_stretch_139 (by decide) ?_
                    refine lv_iload hx hb dX1_stretch_7 (lv_at hl 0 rfl) ?_
                    refine lv_bipush (v := (nI 60)) hx hb dX1_stretch_9 (by decide) ?_
                    refine nv_icmp_gt (tgt := 142) hx hb (by omega) (by omega) dX1_stretch_11 (by decide) (fun c11b => ?_) (fun c11b => ?_)
                    · have hl : lv_has ls 5 [(0, .ref o), (1, .int (nI i0)), (2, .int (nI 3))] := lv_sub hl [1, 2, 3] rfl
                      exact fin142 d1 (nI 3) (by rw [hm, mRun_t hq hqn hn16 ho ho10 c54 c68]) H locs ls hP hS hl
                    · exact absurd c11b (by omega)
                  · exact absurd c100 (by omega)
                · subst c68
                  refine lv_aload_n hx hb dX1_stretch_71 rfl (lv_at hl 0 rfl) ?_
                  refine md_g1 E hP dX1_stretch_72 ?_
                  refine lv_aload_n hx hb dX1_stretch_75 rfl (lv_at hl 0 rfl) ?_
                  refine md_g10 E hP dX1_stretch_76 ?_
                  refine tp (y := (nI q)) (hq) ?_
                  refine md_l1 E hP (x := (nI 8)) (ho) (by omega) dX1_stretch_79 ?_
                  refine lv_bipush (v := (nI 9)) hx hb dX1_stretch_80 (by decide) ?_
                  refine nv_icmp_ne (tgt := 89) hx hb (by omega) (by omega) dX1_stretch_82 (by decide) (fun c82 => ?_) (fun c82 => ?_)
                  · refine lv_iconst (v := (nI 2)) hx hb dX1_stretch_89 (by decide) ?_
                    refine lv_istore_n (lv' := [(2, .int (nI 2)), (0, .ref o), (1, .int (nI i0)), (3, .int (nI 1)), (4, .int (nI k))]) hx hb dX1_stretch_90 rfl hl (by decide) rfl (fun ls hl => ?_)
                    refine lv_iconst (v := (nI 0)) hx hb dX1_stretch_91 (by decide) ?_
                    refine lv_istore_n (lv' := [(3, .int (nI 0)), (2, .int (nI 2)), (0, .ref o), (1, .int (nI i0)), (4, .int (nI k))]) hx hb dX1_stretch_92 rfl hl (by decide) rfl (fun ls hl => ?_)
                    refine lv_goto (tgt := 136) hx hb dX1_stretch_93 (by decide) ?_
                    have hl : lv_has ls 5 [(0, .ref o), (1, .int (nI i0)), (2, .int (nI 2)), (3, .int (nI 0)), (4, .int (nI k))] := lv_sub hl [2, 3, 1, 0, 4] rfl
                    exact out136 d1 (nI 2) k (by omega) (by rw [hm, mRun_8 hq hqn hn16 ho]) H locs ls hP hS hl
                  · exact absurd c82 (by decide)
            · refine lv_iconst (v := (nI 0)) hx hb dX1_stretch_36 (by decide) ?_
              refine lv_istore_n (lv' := [(2, .int (nI 0)), (0, .ref o), (1, .int (nI i0)), (3, .int (nI 1)), (4, .int (nI k))]) hx hb dX1_stretch_37 rfl hl (by decide) rfl (fun ls hl => ?_)
              refine lv_iconst (v := (nI 0)) hx hb dX1_stretch_38 (by decide) ?_
              refine lv_istore_n (lv' := [(3, .int (nI 0)), (2, .int (nI 0)), (0, .ref o), (1, .int (nI i0)), (4, .int (nI k))]) hx hb dX1_stretch_39 rfl hl (by decide) rfl (fun ls hl => ?_)
              refine lv_goto (tgt := 136) hx hb dX1_stretch_40 (by decide) ?_
              have hl : lv_has ls 5 [(0, .ref o), (1, .int (nI i0)), (2, .int (nI 0)), (3, .int (nI 0)), (4, .int (nI k))] := lv_sub hl [2, 3, 1, 0, 4] rfl
              exact out136 d1 (nI 0) k (by omega) (by rw [hm, mRun_out (Or.inr (Int32.not_lt.mp c33))]) H locs ls hP hS hl
    | succ f ih =>
      intro k d1 hk hm gf H locs ls hP hS hl
      refine lv_iload hx hb dX1_stretch_7 (lv_at hl 4 rfl) ?_
      refine lv_bipush (v := (nI 60)) hx hb dX1_stretch_9 (by decide) ?_
      refine nv_icmp_gt (tgt := 142) hx hb (by omega) (by omega) dX1_stretch_11 (by decide) (fun c11 => ?_) (fun c11 => ?_)
      · exact absurd c11 (by omega)
      · refine lv_iload_n hx hb dX1_stretch_14 rfl (lv_at hl 3 rfl) ?_
        refine lv_if_eq (tgt := 142) hx hb dX1_stretch_15 (by decide) (fun c15 => ?_) (fun c15 => ?_)
        · exact absurd c15 (by decide)
        · refine lv_aload_n hx hb dX1_stretch_18 rfl (lv_at hl 0 rfl) ?_
          refine md_g10 E hP dX1_stretch_19 ?_
          refine lv_if_lt (tgt := 36) hx hb dX1_stretch_22 (by decide) (fun c22 => ?_) (fun c22 => ?_)
          · refine lv_iconst (v := (nI 0)) hx hb dX1_stretch_36 (by decide) ?_
            refine lv_istore_n (lv' := [(2, .int (nI 0)), (0, .ref o), (1, .int (nI i0)), (3, .int (nI 1)), (4, .int (nI k))]) hx hb dX1_stretch_37 rfl hl (by decide) rfl (fun ls hl => ?_)
            refine lv_iconst (v := (nI 0)) hx hb dX1_stretch_38 (by decide) ?_
            refine lv_istore_n (lv' := [(3, .int (nI 0)), (2, .int (nI 0)), (0, .ref o), (1, .int (nI i0)), (4, .int (nI k))]) hx hb dX1_stretch_39 rfl hl (by decide) rfl (fun ls hl => ?_)
            refine lv_goto (tgt := 136) hx hb dX1_stretch_40 (by decide) ?_
            have hl : lv_has ls 5 [(0, .ref o), (1, .int (nI i0)), (2, .int (nI 0)), (3, .int (nI 0)), (4, .int (nI k))] := lv_sub hl [2, 3, 1, 0, 4] rfl
            exact out136 d1 (nI 0) k (by omega) (by rw [hm, mRun_out (Or.inl c22)]) H locs ls hP hS hl
          · refine lv_aload_n hx hb dX1_stretch_25 rfl (lv_at hl 0 rfl) ?_
            refine md_g10 E hP dX1_stretch_26 ?_
            refine lv_aload_n hx hb dX1_stretch_29 rfl (lv_at hl 0 rfl) ?_
            refine md_g0 E hP dX1_stretch_30 ?_
            refine tp (y := (nI n)) (by rw [gf 0 (by decide)]; exact hsz) ?_
            refine lv_icmp_lt (tgt := 43) hx hb dX1_stretch_33 (by decide) (fun c33 => ?_) (fun c33 => ?_)
            · obtain ⟨q, hqn, hq⟩ : ∃ q, q < n ∧ d1 10 0 = nI q := by
                rcases pk_ix (d1 10 0) (n := n) (by omega) with z | z | z
                · exact absurd z c22
                · exact absurd c33 (Int32.not_lt.mpr z)
                · exact z
              obtain ⟨oo, a, ho10, ha4, ho, ha, -⟩ := hMP q hqn
              rw [← gf 1 (by decide)] at ho
              rw [← gf 2 (by decide)] at ha
              refine lv_aload_n hx hb dX1_stretch_43 rfl (lv_at hl 0 rfl) ?_
              refine md_g1 E hP dX1_stretch_44 ?_
              refine lv_aload_n hx hb dX1_stretch_47 rfl (lv_at hl 0 rfl) ?_
              refine md_g10 E hP dX1_stretch_48 ?_
              refine tp (y := (nI q)) (hq) ?_
              refine md_l1 E hP (x := (nI oo)) (ho) (by omega) dX1_stretch_51 ?_
              refine lv_bipush (v := (nI 9)) hx hb dX1_stretch_52 (by decide) ?_
              refine nv_icmp_eq (tgt := 71) hx hb (by omega) (by omega) dX1_stretch_54 (by decide) (fun c54 => ?_) (fun c54 => ?_)
              · subst c54
                refine lv_aload_n hx hb dX1_stretch_71 rfl (lv_at hl 0 rfl) ?_
                refine md_g1 E hP dX1_stretch_72 ?_
                refine lv_aload_n hx hb dX1_stretch_75 rfl (lv_at hl 0 rfl) ?_
                refine md_g10 E hP dX1_stretch_76 ?_
                refine tp (y := (nI q)) (hq) ?_
                refine md_l1 E hP (x := (nI 9)) (ho) (by omega) dX1_stretch_79 ?_
                refine lv_bipush (v := (nI 9)) hx hb dX1_stretch_80 (by decide) ?_
                refine nv_icmp_ne (tgt := 89) hx hb (by omega) (by omega) dX1_stretch_82 (by decide) (fun c82 => ?_) (fun c82 => ?_)
                · exact absurd rfl c82
                · refine lv_iconst (v := (nI 1)) hx hb dX1_stretch_85 (by decide) ?_
                  refine lv_goto (tgt := 90) hx hb dX1_stretch_86 (by decide) ?_
                  refine lv_istore_n (lv' := [(2, .int (nI 1)), (0, .ref o), (1, .int (nI i0)), (3, .int (nI 1)), (4, .int (nI k))]) hx hb dX1_stretch_90 rfl hl (by decide) rfl (fun ls hl => ?_)
                  refine lv_iconst (v := (nI 0)) hx hb dX1_stretch_91 (by decide) ?_
                  refine lv_istore_n (lv' := [(3, .int (nI 0)), (2, .int (nI 1)), (0, .ref o), (1, .int (nI i0)), (4, .int (nI k))]) hx hb dX1_stretch_92 rfl hl (by decide) rfl (fun ls hl => ?_)
                  refine lv_goto (tgt := 136) hx hb dX1_stretch_93 (by decide) ?_
                  have hl : lv_has ls 5 [(0, .ref o), (1, .int (nI i0)), (2, .int (nI 1)), (3, .int (nI 0)), (4, .int (nI k))] := lv_sub hl [2, 3, 1, 0, 4] rfl
                  exact out136 d1 (nI 1) k (by omega) (by rw [hm, mRun_9 hq hqn hn16 ho]) H locs ls hP hS hl
              · refine lv_aload_n hx hb dX1_stretch_57 rfl (lv_at hl 0 rfl) ?_
                refine md_g1 E hP dX1_stretch_58 ?_
                refine lv_aload_n hx hb dX1_stretch_61 rfl (lv_at hl 0 rfl) ?_
                refine md_g10 E hP dX1_stretch_62 ?_
                refine tp (y := (nI q)) (hq) ?_
                refine md_l1 E hP (x := (nI oo)) (ho) (by omega) dX1_stretch_65 ?_
                refine lv_bipush (v := (nI 8)) hx hb dX1_stretch_66 (by decide) ?_
                refine nv_icmp_ne (tgt := 96) hx hb (by omega) (by omega) dX1_stretch_68 (by decide) (fun c68 => ?_) (fun c68 => ?_)
                · refine lv_iload hx hb dX1_stretch_96 (lv_at hl 4 rfl) ?_
                  refine lv_bipush (v := (nI 60)) hx hb dX1_stretch_98 (by decide) ?_
                  refine nv_icmp_ge (tgt := 136) hx hb (by omega) (by omega) dX1_stretch_100 (by decide) (fun c100 => ?_) (fun c100 => ?_)
                  · exact absurd c100 (by omega)
                  · refine lv_aload_n hx hb dX1_stretch_103 rfl (lv_at hl 0 rfl) ?_
                    refine lv_aload_n hx hb dX1_stretch_104 rfl (lv_at hl 0 rfl) ?_
                    refine md_g1 E hP dX1_stretch_105 ?_
                    refine lv_aload_n hx hb dX1_stretch_108 rfl (lv_at hl 0 rfl) ?_
                    refine md_g10 E hP dX1_stretch_109 ?_
                    refine tp (y := (nI q)) (hq) ?_
                    refine md_l1 E hP (x := (nI oo)) (ho) (by omega) dX1_stretch_112 ?_
                    refine lv_aload_n hx hb dX1_stretch_113 rfl (lv_at hl 0 rfl) ?_
                    refine md_g2 E hP dX1_stretch_114 ?_
                    refine lv_aload_n hx hb dX1_stretch_117 rfl (lv_at hl 0 rfl) ?_
                    refine md_g10 E hP dX1_stretch_118 ?_
                    refine tp (y := (nI q)) (hq) ?_
                    refine md_l2 E hP (x := (nI a)) (ha) (by omega) dX1_stretch_121 ?_
                    refine lv_iconst (v := (nI 3)) hx hb dX1_stretch_122 (by decide) ?_
                    refine nv_iand3 hx hb (by omega) dX1_stretch_123 ?_
                    refine tp (y := (nI a)) (by rw [Nat.mod_eq_of_lt ha4]) ?_
                    refine lv_aload_n hx hb dX1_stretch_124 rfl (lv_at hl 0 rfl) ?_
                    refine md_g3 E hP dX1_stretch_125 ?_
                    refine lv_aload_n hx hb dX1_stretch_128 rfl (lv_at hl 0 rfl) ?_
                    refine md_g10 E hP dX1_stretch_129 ?_
                    refine tp (y := (nI q)) (hq) ?_
                    refine md_l3 E hP (x := (d1 3 q)) (rfl) (by omega) dX1_stretch_132 ?_
                    refine md_callv (As := [.int (nI oo), .int (nI a), .int (d1 3 q)]) (rest := []) E hP hS (met_md_carryOut l D o ad cB cI d1 (by omega) ha4) (cwV 3 E.2.2.1 (lw_V q271 q273 qs14 q20 q274) rfl rfl rfl (by decide +kernel) ⟨by decide, by decide⟩) rfl hl.1 rfl (Nat.le_of_ble_eq_true rfl) ⟨Nat.zero_le _, Nat.zero_le _⟩ dX1_stretch_133 (fun d124 H locs hpd124 hP hS => ?_)
                    rw [hpd124] at hP
                    refine nv_iinc (lv' := [(4, .int (nI (k + 1))), (0, .ref o), (1, .int (nI i0)), (2, .int (nI 3)), (3, .int (nI 1))]) hx hb 4 dX1_stretch_136 hl rfl (by decide) rfl (fun ls hl => ?_)
                    refine lv_goto (tgt := 7) hx hb dX1_stretch_139 (by decide) ?_
                    have hl : lv_has ls 5 [(0, .ref o), (1, .int (nI i0)), (2, .int (nI 3)), (3, .int (nI 1)), (4, .int (nI (k + 1)))] := lv_sub hl [1, 2, 3, 4, 0] rfl
                    exact ih (k + 1) _ (by omega) (by rw [hm, mRun_s hq hqn hn16 ho ho10 c54 c68 ha ha4]) (fun j hj => by rw [mCarry_lt hj]; exact gf j hj) H locs ls hP hS hl
                · subst c68
                  refine lv_aload_n hx hb dX1_stretch_71 rfl (lv_at hl 0 rfl) ?_
                  refine md_g1 E hP dX1_stretch_72 ?_
                  refine lv_aload_n hx hb dX1_stretch_75 rfl (lv_at hl 0 rfl) ?_
                  refine md_g10 E hP dX1_stretch_76 ?_
                  refine tp (y := (nI q)) (hq) ?_
                  refine md_l1 E hP (x := (nI 8)) (ho) (by omega) dX1_stretch_79 ?_
                  refine lv_bipush (v := (nI 9)) hx hb dX1_stretch_80 (by decide) ?_
                  refine nv_icmp_ne (tgt := 89) hx hb (by omega) (by omega) dX1_stretch_82 (by decide) (fun c82 => ?_) (fun c82 => ?_)
                  · refine lv_iconst (v := (nI 2)) hx hb dX1_stretch_89 (by decide) ?_
                    refine lv_istore_n (lv' := [(2, .int (nI 2)), (0, .ref o), (1, .int (nI i0)), (3, .int (nI 1)), (4, .int (nI k))]) hx hb dX1_stretch_90 rfl hl (by decide) rfl (fun ls hl => ?_)
                    refine lv_iconst (v := (nI 0)) hx hb dX1_stretch_91 (by decide) ?_
                    refine lv_istore_n (lv' := [(3, .int (nI 0)), (2, .int (nI 2)), (0, .ref o), (1, .int (nI i0)), (4, .int (nI k))]) hx hb dX1_stretch_92 rfl hl (by decide) rfl (fun ls hl => ?_)
                    refine lv_goto (tgt := 136) hx hb dX1_stretch_93 (by decide) ?_
                    have hl : lv_has ls 5 [(0, .ref o), (1, .int (nI i0)), (2, .int (nI 2)), (3, .int (nI 0)), (4, .int (nI k))] := lv_sub hl [2, 3, 1, 0, 4] rfl
                    exact out136 d1 (nI 2) k (by omega) (by rw [hm, mRun_8 hq hqn hn16 ho]) H locs ls hP hS hl
                  · exact absurd c82 (by decide)
            · refine lv_iconst (v := (nI 0)) hx hb dX1_stretch_36 (by decide) ?_
              refine lv_istore_n (lv' := [(2, .int (nI 0)), (0, .ref o), (1, .int (nI i0)), (3, .int (nI 1)), (4, .int (nI k))]) hx hb dX1_stretch_37 rfl hl (by decide) rfl (fun ls hl => ?_)
              refine lv_iconst (v := (nI 0)) hx hb dX1_stretch_38 (by decide) ?_
              refine lv_istore_n (lv' := [(3, .int (nI 0)), (2, .int (nI 0)), (0, .ref o), (1, .int (nI i0)), (4, .int (nI k))]) hx hb dX1_stretch_39 rfl hl (by decide) rfl (fun ls hl => ?_)
              refine lv_goto (tgt := 136) hx hb dX1_stretch_40 (by decide) ?_
              have hl : lv_has ls 5 [(0, .ref o), (1, .int (nI i0)), (2, .int (nI 0)), (3, .int (nI 0)), (4, .int (nI k))] := lv_sub hl [2, 3, 1, 0, 4] rfl
              exact out136 d1 (nI 0) k (by omega) (by rw [hm, mRun_out (Or.inr (Int32.not_lt.mp c33))]) H locs ls hP hS hl
  refine lv_iconst (v := (nI 3)) hx hb dX1_stretch_0 (by decide) ?_
  refine lv_istore_n (lv' := [(2, .int (nI 3)), (0, .ref o), (1, .int (nI i0))]) hx hb dX1_stretch_1 rfl hl (by decide) rfl (fun ls hl => ?_)
  refine lv_iconst (v := (nI 1)) hx hb dX1_stretch_2 (by decide) ?_
  refine lv_istore_n (lv' := [(3, .int (nI 1)), (2, .int (nI 3)), (0, .ref o), (1, .int (nI i0))]) hx hb dX1_stretch_3 rfl hl (by decide) rfl (fun ls hl => ?_)
  refine lv_iconst (v := (nI 0)) hx hb dX1_stretch_4 (by decide) ?_
  refine lv_istore (lv' := [(4, .int (nI 0)), (3, .int (nI 1)), (2, .int (nI 3)), (0, .ref o), (1, .int (nI i0))]) hx hb dX1_stretch_5 hl (by decide) rfl (fun ls hl => ?_)
  have hl : lv_has ls 5 [(0, .ref o), (1, .int (nI i0)), (2, .int (nI 3)), (3, .int (nI 1)), (4, .int (nI 0))] := lv_sub hl [3, 4, 2, 1, 0] rfl
  exact loop 60 0 d rfl rfl (fun _ _ => rfl) _ _ ls hP hS hl
set_option maxHeartbeats 4000000 in
set_option maxRecDepth 100000 in
theorem met_md_stretch (l : Launch) (D : va_G) (o : Nat) (ad : Nat → Nat) (cB cI : ClassId) (d : MS) {n K i0 : Nat} (hM : MW d n K) (hi0 : i0 < 12) : mdMv l yX1_stretch cX1_stretch 5 none (rmk 1) D o ad cB cI [.int (nI i0)] d (fun d' => d' = mGo d n i0) :=
  md_metv (by decide) rfl (Nat.le_of_ble_eq_true rfl) (fun p e s m args below meth c ls Q E hP hl kR => wk_md_stretch hM hi0 E hP hl kR)
set_option maxHeartbeats 4000000 in
set_option maxRecDepth 100000 in
theorem wk_md_start {p : Program} {l : Launch} {e : Env} {s : State} {m : MethodId} {args : Array Value} {below : List Frame} {meth : Method} {c : Code} {ls : Array Slot} {Q : State → Prop} {D : va_G} {o : Nat} {ad : Nat → Nat} {cB cI : ClassId} {d : MS} {n K : Nat} (hM : MW d n K) (E : mdE D o ad cB cI p s m args c cX1_start 3) (hP : va_P D vwCl (md_w o ad cB cI d) s.heap) (hl : lv_has ls 3 [(0, .ref o)]) (kR : mdKi D o ad cB cI p l e (rmk 2) s m args below meth c cX1_start Q (fun r d' => GoR K n d (mZero d) r (fun x _ => d' = x))) : W p l e (rmk 2) s m args below meth c s.heap [] 0 0 Q (F0 m 0 ls []) := by
  obtain ⟨hx, hb, -⟩ := id E
  have hS : va_S (md_A o ad) s.heap s.heap [] := va_S.rf
  refine lv_aload_n hx hb dX1_start_0 rfl (lv_at hl 0 rfl) ?_
  refine md_calli (As := []) (rest := []) E hP hS (met_md_room l D o ad cB cI d hM) (cwV 0 E.2.2.1 (lw_V q263 q265 qs12 q20 q266) rfl rfl rfl (by decide +kernel) ⟨by decide, by decide⟩) rfl hl.1 rfl (Nat.le_of_ble_eq_true rfl) ⟨Nat.zero_le _, Nat.zero_le _⟩ dX1_start_1 (fun r126 d125 H locs hpd125 hP hS => ?_)
  obtain ⟨e0, er⟩ := hpd125
  rw [e0] at hP
  refine lv_istore_n (lv' := [(1, .int r126), (0, .ref o)]) hx hb dX1_start_4 rfl hl (by decide) rfl (fun ls hl => ?_)
  cases hrm : rm_ K.testBit 12 0 with
  | none =>
    rw [hrm] at er
    subst er
    refine lv_iload_n hx hb dX1_start_5 rfl (lv_at hl 0 rfl) ?_
    refine lv_if_ge (tgt := 12) hx hb dX1_start_6 (by decide) (fun c6 => ?_) (fun c6 => ?_)
    · exact absurd c6 (by decide)
    · refine lv_bipush (v := (-2)) hx hb dX1_start_9 (by decide) ?_
      exact kR _ _ _ _ _ _ (Or.inl ⟨hrm, rfl, rfl⟩) hP hS dX1_start_11
  | some i0 =>
    rw [hrm] at er
    subst er
    obtain ⟨-, hi0, hbit⟩ := rm_some 12 0 i0 hrm
    have hi0 : i0 < 12 := by omega
    have hl : lv_has ls 3 [(1, .int (nI i0)), (0, .ref o)] := hl
    refine lv_iload_n hx hb dX1_start_5 rfl (lv_at hl 0 rfl) ?_
    refine lv_if_ge (tgt := 12) hx hb dX1_start_6 (by decide) (fun c6 => ?_) (fun c6 => ?_)
    · have loop : ∀ (n0 k : Nat) (d1 : MS), k + n0 = 20 → (∀ j, j ≠ 10 → j ≠ 11 → j ≠ 12 → j ≠ 13 → d1 j = d j) → d1 10 0 = 0 → d1 11 0 = 0 → (∀ q, q < k → d1 12 q = 0) → (∀ q, q < 8 → q < k → d1 13 q = 0) → ∀ (H : Heap) (locs : List Loc) (ls : Array Slot), va_P D vwCl (md_w o ad cB cI d1) H → va_S (md_A o ad) s.heap H locs → lv_has ls 3 [(0, .ref o), (1, .int (nI i0)), (2, .int (nI k))] → W p l e (rmk 2) s m args below meth c H locs 0 0 Q (F0 m 24 ls []) := by
        intro n0
        induction n0 with
        | zero =>
          intro k d1 hkn gf g10 g11 g12 g13 H locs ls hP hS hl
          have hk0 : k = 20 := by omega
          subst hk0
          refine lv_iload_n hx hb dX1_start_24 rfl (lv_at hl 2 rfl) ?_
          refine lv_bipush (v := (nI 20)) hx hb dX1_start_25 (by decide) ?_
          refine nv_icmp_ge (tgt := 53) hx hb (by omega) (by omega) dX1_start_27 (by decide) (fun c27 => ?_) (fun c27 => ?_)
          · have hP := md_conv (d' := mZero d) hP (fun k j hj => by
              unfold mZero
              by_cases h10 : k = 10
              · subst h10; rw [if_pos rfl, show j = 0 from Nat.lt_one_iff.mp hj]; exact g10
              · by_cases h11 : k = 11
                · subst h11; rw [if_neg (by decide), if_pos rfl, show j = 0 from Nat.lt_one_iff.mp hj]; exact g11
                · by_cases h12 : k = 12
                  · subst h12; rw [if_neg (by decide), if_neg (by decide), if_pos rfl]; exact g12 j hj
                  · by_cases h13 : k = 13
                    · subst h13
                      have hj8 : j < 8 := hj
                      rw [if_neg (by decide), if_neg (by decide), if_neg (by decide), if_pos rfl]; exact g13 j hj8 (by omega)
                    · rw [if_neg h10, if_neg h11, if_neg h12, if_neg h13, gf k h10 h11 h12 h13])
            have hM2 : MW (mZero d) n K := MW_frame hM (fun j hj => by unfold mZero; rw [if_neg (by omega), if_neg (by omega), if_neg (by omega), if_neg (by omega)])
            refine lv_aload_n hx hb dX1_start_53 rfl (lv_at hl 0 rfl) ?_
            refine lv_iload_n hx hb dX1_start_54 rfl (lv_at hl 1 rfl) ?_
            refine md_callv (As := [.int (nI i0)]) (rest := []) E hP hS (met_md_stretch l D o ad cB cI (mZero d) hM2 hi0) (cwV 1 E.2.2.1 (lw_V q267 q269 qs13 q20 q270) rfl rfl rfl (by decide +kernel) ⟨by decide, by decide⟩) rfl hl.1 rfl (Nat.le_of_ble_eq_true rfl) ⟨Nat.zero_le _, Nat.zero_le _⟩ dX1_start_55 (fun d127 H locs hpd127 hP hS => ?_)
            refine lv_iload_n hx hb dX1_start_58 rfl (lv_at hl 1 rfl) ?_
            exact kR _ _ _ _ _ _ (Or.inr ⟨i0, hi0, hrm, rfl, hpd127⟩) hP hS dX1_start_59
          · exact absurd c27 (by omega)
        | succ n0 ih =>
          intro k d1 hkn gf g10 g11 g12 g13 H locs ls hP hS hl
          refine lv_iload_n hx hb dX1_start_24 rfl (lv_at hl 2 rfl) ?_
          refine lv_bipush (v := (nI 20)) hx hb dX1_start_25 (by decide) ?_
          refine nv_icmp_ge (tgt := 53) hx hb (by omega) (by omega) dX1_start_27 (by decide) (fun c27 => ?_) (fun c27 => ?_)
          · exact absurd c27 (by omega)
          · refine lv_aload_n hx hb dX1_start_30 rfl (lv_at hl 0 rfl) ?_
            refine md_g12 E hP dX1_start_31 ?_
            refine lv_iload_n hx hb dX1_start_34 rfl (lv_at hl 2 rfl) ?_
            refine lv_iconst (v := (nI 0)) hx hb dX1_start_35 (by decide) ?_
            refine md_s12 E hP hS (by omega) dX1_start_36 (fun d128 H locs ed128 hP hS => ?_)
            refine lv_aload_n hx hb dX1_start_37 rfl (lv_at hl 0 rfl) ?_
            refine md_g13 E hP dX1_start_38 ?_
            refine lv_iload_n hx hb dX1_start_41 rfl (lv_at hl 2 rfl) ?_
            refine lv_bipush (v := (nI 7)) hx hb dX1_start_42 (by decide) ?_
            refine nv_iand7 hx hb (by omega) dX1_start_44 ?_
            refine lv_iconst (v := (nI 0)) hx hb dX1_start_45 (by decide) ?_
            refine md_s13 E hP hS (by omega) dX1_start_46 (fun d129 H locs ed129 hP hS => ?_)
            refine nv_iinc (lv' := [(2, .int (nI (k + 1))), (0, .ref o), (1, .int (nI i0))]) hx hb 2 dX1_start_47 hl rfl (by decide) rfl (fun ls hl => ?_)
            refine lv_goto (tgt := 24) hx hb dX1_start_50 (by decide) ?_
            have hl : lv_has ls 3 [(0, .ref o), (1, .int (nI i0)), (2, .int (nI (k + 1)))] := lv_sub hl [1, 2, 0] rfl
            exact ih (k + 1) _ (by omega) (fun j a1 a2 a3 a4 => by rw [ed129, va_up_ne _ _ a4, ed128, va_up_ne _ _ a3]; exact gf j a1 a2 a3 a4) (by rw [ed129, va_up_ne _ _ (by decide), ed128, va_up_ne _ _ (by decide)]; exact g10) (by rw [ed129, va_up_ne _ _ (by decide), ed128, va_up_ne _ _ (by decide)]; exact g11) (fun q hq => by
              rw [ed129, va_up_ne _ _ (by decide), ed128, va_up_self]
              unfold upd
              by_cases h1 : q = k
              · rw [if_pos h1]; rfl
              · rw [if_neg h1]; exact g12 q (by omega)) (fun q hq hqk => by
              rw [ed129, va_up_self]
              unfold upd
              by_cases h1 : q = k % 8
              · rw [if_pos h1]; rfl
              · rw [if_neg h1, ed128, va_up_ne _ _ (by decide)]; exact g13 q hq (by omega)) H locs ls hP hS hl
      refine lv_aload_n hx hb dX1_start_12 rfl (lv_at hl 1 rfl) ?_
      refine lv_iconst (v := (nI 0)) hx hb dX1_start_13 (by decide) ?_
      refine md_p10 E hP hS dX1_start_14 (fun d130 H locs ed130 hP hS => ?_)
      refine lv_aload_n hx hb dX1_start_17 rfl (lv_at hl 1 rfl) ?_
      refine lv_iconst (v := (nI 0)) hx hb dX1_start_18 (by decide) ?_
      refine md_p11 E hP hS dX1_start_19 (fun d131 H locs ed131 hP hS => ?_)
      refine lv_iconst (v := (nI 0)) hx hb dX1_start_22 (by decide) ?_
      refine lv_istore_n (lv' := [(2, .int (nI 0)), (1, .int (nI i0)), (0, .ref o)]) hx hb dX1_start_23 rfl hl (by decide) rfl (fun ls hl => ?_)
      have hl : lv_has ls 3 [(0, .ref o), (1, .int (nI i0)), (2, .int (nI 0))] := lv_sub hl [2, 1, 0] rfl
      exact loop 20 0 _ rfl (fun j a1 a2 a3 a4 => by rw [ed131, va_up_ne _ _ a2, ed130, va_up_ne _ _ a1]) (by rw [ed131, va_up_ne _ _ (by decide), ed130, va_up_self]; rfl) (by rw [ed131, va_up_self]; rfl) (fun q hq => absurd hq (by omega)) (fun q _ hq => absurd hq (by omega)) _ _ ls hP hS hl
    · exact absurd (nI_pos' (by omega)) c6
set_option maxHeartbeats 4000000 in
set_option maxRecDepth 100000 in
theorem met_md_start (l : Launch) (D : va_G) (o : Nat) (ad : Nat → Nat) (cB cI : ClassId) (d : MS) {n K : Nat} (hM : MW d n K) : mdMi l yX1_start cX1_start 3 (some .int) (rmk 2) D o ad cB cI [] d (fun r d' => GoR K n d (mZero d) r (fun x _ => d' = x)) :=
  md_meti (by decide) rfl (Nat.le_of_ble_eq_true rfl) (fun _ _ _ => rfl) (fun p e s m args below meth c ls Q E hP hl kR => wk_md_start hM E hP hl kR)
set_option maxHeartbeats 4000000 in
set_option maxRecDepth 100000 in
theorem wk_md_answer {p : Program} {l : Launch} {e : Env} {s : State} {m : MethodId} {args : Array Value} {below : List Frame} {meth : Method} {c : Code} {ls : Array Slot} {Q : State → Prop} {D : va_G} {o : Nat} {ad : Nat → Nat} {cB cI : ClassId} {d : MS} {n K : Nat} {x v : Int32} (hM : MW d n K) (E : mdE D o ad cB cI p s m args c cX1_answer 4) (hP : va_P D vwCl (md_w o ad cB cI d) s.heap) (hl : lv_has ls 4 [(0, .ref o), (1, .int x), (2, .int v)]) (kR : mdKi D o ad cB cI p l e (rmk 2) s m args below meth c cX1_answer Q (fun r d' => AsR K n d x (nI 2) (fun k => mAns (mTake d k) v) r (fun x _ => d' = x))) : W p l e (rmk 2) s m args below meth c s.heap [] 0 0 Q (F0 m 0 ls []) := by
  obtain ⟨hx, hb, -⟩ := id E
  have hS : va_S (md_A o ad) s.heap s.heap [] := va_S.rf
  refine lv_aload_n hx hb dX1_answer_0 rfl (lv_at hl 0 rfl) ?_
  refine lv_iload_n hx hb dX1_answer_1 rfl (lv_at hl 1 rfl) ?_
  refine lv_iconst (v := (nI 2)) hx hb dX1_answer_2 (by decide) ?_
  refine md_calli (As := [.int x, .int (nI 2)]) (rest := []) E hP hS (met_md_is l D o ad cB cI d hM) (cwV 2 E.2.2.1 (lw_V q279 q281 qs15 q20 q282) rfl rfl rfl (by decide +kernel) ⟨by decide, by decide⟩) rfl hl.1 rfl (Nat.le_of_ble_eq_true rfl) ⟨Nat.zero_le _, Nat.zero_le _⟩ dX1_answer_3 (fun r133 d132 H locs hpd132 hP hS => ?_)
  obtain ⟨e0, hh⟩ := hpd132
  rw [e0] at hP
  refine lv_if_ne (tgt := 11) hx hb dX1_answer_6 (by decide) (fun c6 => ?_) (fun c6 => ?_)
  · obtain ⟨j0, hj0, rfl, hjb, ekd⟩ := hh.ne c6
    refine lv_aload_n hx hb dX1_answer_11 rfl (lv_at hl 0 rfl) ?_
    refine md_calli (As := []) (rest := []) E hP hS (met_md_room l D o ad cB cI d hM) (cwV 0 E.2.2.1 (lw_V q263 q265 qs12 q20 q266) rfl rfl rfl (by decide +kernel) ⟨by decide, by decide⟩) rfl hl.1 rfl (Nat.le_of_ble_eq_true rfl) ⟨Nat.zero_le _, Nat.zero_le _⟩ dX1_answer_12 (fun r135 d134 H locs hpd134 hP hS => ?_)
    obtain ⟨e0, er⟩ := hpd134
    rw [e0] at hP
    refine lv_istore_n (lv' := [(3, .int r135), (0, .ref o), (1, .int (nI j0)), (2, .int v)]) hx hb dX1_answer_15 rfl hl (by decide) rfl (fun ls hl => ?_)
    cases hrm : rm_ K.testBit 12 0 with
    | none =>
      rw [hrm] at er
      subst er
      refine lv_iload_n hx hb dX1_answer_16 rfl (lv_at hl 0 rfl) ?_
      refine lv_if_ge (tgt := 23) hx hb dX1_answer_17 (by decide) (fun c17 => ?_) (fun c17 => ?_)
      · exact absurd c17 (by decide)
      · refine lv_bipush (v := (-2)) hx hb dX1_answer_20 (by decide) ?_
        exact kR _ _ _ _ _ _ (Or.inr ⟨j0, hj0, rfl, hjb, ekd, Or.inl ⟨hrm, rfl, rfl⟩⟩) hP hS dX1_answer_22
    | some i0 =>
      rw [hrm] at er
      subst er
      obtain ⟨-, hi0, hbit⟩ := rm_some 12 0 i0 hrm
      have hi0 : i0 < 12 := by omega
      have hl : lv_has ls 4 [(3, .int (nI i0)), (0, .ref o), (1, .int (nI j0)), (2, .int v)] := hl
      refine lv_iload_n hx hb dX1_answer_16 rfl (lv_at hl 0 rfl) ?_
      refine lv_if_ge (tgt := 23) hx hb dX1_answer_17 (by decide) (fun c17 => ?_) (fun c17 => ?_)
      · have hM2 : MW (mAns (mTake d j0) v) n K := MW_frame hM (fun j hj => by unfold mAns mpos; rw [va_up_ne _ _ (by omega), va_up_ne _ _ (by omega)]; unfold mTake; rw [if_neg (by omega), if_neg (by omega), if_neg (by omega), if_neg (by omega)])
        have h16 := lo16_lt (mTake d j0 10 0)
        have h4 := lo4_lt (mTake d j0 2 (lo16 (mTake d j0 10 0)))
        refine lv_aload_n hx hb dX1_answer_23 rfl (lv_at hl 1 rfl) ?_
        refine lv_iload_n hx hb dX1_answer_24 rfl (lv_at hl 2 rfl) ?_
        refine md_callv (As := [.int (nI j0)]) (rest := []) E hP hS (met_md_take l D o ad cB cI d hj0) (cwV 1 E.2.2.1 (lw_V q283 q285 qs16 q20 q286) rfl rfl rfl (by decide +kernel) ⟨by decide, by decide⟩) rfl hl.1 rfl (Nat.le_of_ble_eq_true rfl) ⟨Nat.zero_le _, Nat.zero_le _⟩ dX1_answer_25 (fun d136 H locs hpd136 hP hS => ?_)
        rw [hpd136] at hP
        refine lv_aload_n hx hb dX1_answer_28 rfl (lv_at hl 1 rfl) ?_
        refine md_g12 E hP dX1_answer_29 ?_
        refine lv_aload_n hx hb dX1_answer_32 rfl (lv_at hl 1 rfl) ?_
        refine md_g2 E hP dX1_answer_33 ?_
        refine lv_aload_n hx hb dX1_answer_36 rfl (lv_at hl 1 rfl) ?_
        refine md_g10 E hP dX1_answer_37 ?_
        refine lv_bipush (v := (nI 15)) hx hb dX1_answer_40 (by decide) ?_
        refine rv_iand15 hx hb dX1_answer_42 ?_
        refine md_l2 E hP (x := ((mTake d j0) 2 (lo16 ((mTake d j0) 10 0)))) (rfl) (by omega) dX1_answer_43 ?_
        refine lv_iconst (v := (nI 3)) hx hb dX1_answer_44 (by decide) ?_
        refine rv_iand3 hx hb dX1_answer_45 ?_
        refine lv_iload_n hx hb dX1_answer_46 rfl (lv_at hl 3 rfl) ?_
        refine md_s12 E hP hS (by omega) dX1_answer_47 (fun d137 H locs ed137 hP hS => ?_)
        refine lv_aload_n hx hb dX1_answer_48 rfl (lv_at hl 1 rfl) ?_
        refine lv_dup hx hb dX1_answer_49 rfl ?_
        refine md_g10 E hP dX1_answer_50 ?_
        refine tp (y := (mTake d j0 10 0)) (by rw [ed137, va_up_ne _ _ (by decide)]) ?_
        refine lv_iconst (v := (nI 1)) hx hb dX1_answer_53 (by decide) ?_
        refine lv_iadd hx hb dX1_answer_54 ?_
        refine tp (y := (mTake d j0 10 0 + 1)) (rfl) ?_
        refine md_p10 E hP hS dX1_answer_55 (fun d138 H locs ed138 hP hS => ?_)
        have ee : d138 = mAns (mTake d j0) v := by rw [ed138, ed137]; rfl
        rw [ee] at hP
        refine lv_aload_n hx hb dX1_answer_58 rfl (lv_at hl 1 rfl) ?_
        refine lv_iload_n hx hb dX1_answer_59 rfl (lv_at hl 0 rfl) ?_
        refine md_callv (As := [.int (nI i0)]) (rest := []) E hP hS (met_md_stretch l D o ad cB cI (mAns (mTake d j0) v) hM2 hi0) (cwV 1 E.2.2.1 (lw_V q267 q269 qs13 q20 q270) rfl rfl rfl (by decide +kernel) ⟨by decide, by decide⟩) rfl hl.1 rfl (Nat.le_of_ble_eq_true rfl) ⟨Nat.zero_le _, Nat.zero_le _⟩ dX1_answer_60 (fun d139 H locs hpd139 hP hS => ?_)
        refine lv_iload_n hx hb dX1_answer_63 rfl (lv_at hl 0 rfl) ?_
        exact kR _ _ _ _ _ _ (Or.inr ⟨j0, hj0, rfl, hjb, ekd, Or.inr ⟨i0, hi0, hrm, rfl, hpd139⟩⟩) hP hS dX1_answer_64
      · exact absurd (nI_pos' (by omega)) c17
  · refine lv_iconst (v := (-1)) hx hb dX1_answer_9 (by decide) ?_
    exact kR _ _ _ _ _ _ (Or.inl ⟨hh.eq c6, rfl, rfl⟩) hP hS dX1_answer_10
set_option maxHeartbeats 4000000 in
set_option maxRecDepth 100000 in
theorem met_md_answer (l : Launch) (D : va_G) (o : Nat) (ad : Nat → Nat) (cB cI : ClassId) (d : MS) {n K : Nat} {x v : Int32} (hM : MW d n K) : mdMi l yX1_answer cX1_answer 4 (some .int) (rmk 2) D o ad cB cI [.int x, .int v] d (fun r d' => AsR K n d x (nI 2) (fun k => mAns (mTake d k) v) r (fun x _ => d' = x)) :=
  md_meti (by decide) rfl (Nat.le_of_ble_eq_true rfl) (fun _ _ _ => rfl) (fun p e s m args below meth c ls Q E hP hl kR => wk_md_answer hM E hP hl kR)
set_option maxHeartbeats 4000000 in
set_option maxRecDepth 100000 in
theorem wk_md_goOn {p : Program} {l : Launch} {e : Env} {s : State} {m : MethodId} {args : Array Value} {below : List Frame} {meth : Method} {c : Code} {ls : Array Slot} {Q : State → Prop} {D : va_G} {o : Nat} {ad : Nat → Nat} {cB cI : ClassId} {d : MS} {n K : Nat} {x : Int32} (hM : MW d n K) (E : mdE D o ad cB cI p s m args c cX1_goOn 3) (hP : va_P D vwCl (md_w o ad cB cI d) s.heap) (hl : lv_has ls 3 [(0, .ref o), (1, .int x)]) (kR : mdKi D o ad cB cI p l e (rmk 2) s m args below meth c cX1_goOn Q (fun r d' => AsR K n d x (nI 3) (fun k => mTake d k) r (fun x _ => d' = x))) : W p l e (rmk 2) s m args below meth c s.heap [] 0 0 Q (F0 m 0 ls []) := by
  obtain ⟨hx, hb, -⟩ := id E
  have hS : va_S (md_A o ad) s.heap s.heap [] := va_S.rf
  refine lv_aload_n hx hb dX1_goOn_0 rfl (lv_at hl 0 rfl) ?_
  refine lv_iload_n hx hb dX1_goOn_1 rfl (lv_at hl 1 rfl) ?_
  refine lv_iconst (v := (nI 3)) hx hb dX1_goOn_2 (by decide) ?_
  refine md_calli (As := [.int x, .int (nI 3)]) (rest := []) E hP hS (met_md_is l D o ad cB cI d hM) (cwV 2 E.2.2.1 (lw_V q279 q281 qs15 q20 q282) rfl rfl rfl (by decide +kernel) ⟨by decide, by decide⟩) rfl hl.1 rfl (Nat.le_of_ble_eq_true rfl) ⟨Nat.zero_le _, Nat.zero_le _⟩ dX1_goOn_3 (fun r141 d140 H locs hpd140 hP hS => ?_)
  obtain ⟨e0, hh⟩ := hpd140
  rw [e0] at hP
  refine lv_if_ne (tgt := 11) hx hb dX1_goOn_6 (by decide) (fun c6 => ?_) (fun c6 => ?_)
  · obtain ⟨j0, hj0, rfl, hjb, ekd⟩ := hh.ne c6
    refine lv_aload_n hx hb dX1_goOn_11 rfl (lv_at hl 0 rfl) ?_
    refine md_calli (As := []) (rest := []) E hP hS (met_md_room l D o ad cB cI d hM) (cwV 0 E.2.2.1 (lw_V q263 q265 qs12 q20 q266) rfl rfl rfl (by decide +kernel) ⟨by decide, by decide⟩) rfl hl.1 rfl (Nat.le_of_ble_eq_true rfl) ⟨Nat.zero_le _, Nat.zero_le _⟩ dX1_goOn_12 (fun r143 d142 H locs hpd142 hP hS => ?_)
    obtain ⟨e0, er⟩ := hpd142
    rw [e0] at hP
    refine lv_istore_n (lv' := [(2, .int r143), (0, .ref o), (1, .int (nI j0))]) hx hb dX1_goOn_15 rfl hl (by decide) rfl (fun ls hl => ?_)
    cases hrm : rm_ K.testBit 12 0 with
    | none =>
      rw [hrm] at er
      subst er
      refine lv_iload_n hx hb dX1_goOn_16 rfl (lv_at hl 0 rfl) ?_
      refine lv_if_ge (tgt := 23) hx hb dX1_goOn_17 (by decide) (fun c17 => ?_) (fun c17 => ?_)
      · exact absurd c17 (by decide)
      · refine lv_bipush (v := (-2)) hx hb dX1_goOn_20 (by decide) ?_
        exact kR _ _ _ _ _ _ (Or.inr ⟨j0, hj0, rfl, hjb, ekd, Or.inl ⟨hrm, rfl, rfl⟩⟩) hP hS dX1_goOn_22
    | some i0 =>
      rw [hrm] at er
      subst er
      obtain ⟨-, hi0, hbit⟩ := rm_some 12 0 i0 hrm
      have hi0 : i0 < 12 := by omega
      have hl : lv_has ls 3 [(2, .int (nI i0)), (0, .ref o), (1, .int (nI j0))] := hl
      refine lv_iload_n hx hb dX1_goOn_16 rfl (lv_at hl 0 rfl) ?_
      refine lv_if_ge (tgt := 23) hx hb dX1_goOn_17 (by decide) (fun c17 => ?_) (fun c17 => ?_)
      · have hM2 : MW (mTake d j0) n K := MW_frame hM (fun j hj => by unfold mTake; rw [if_neg (by omega), if_neg (by omega), if_neg (by omega), if_neg (by omega)])
        refine lv_aload_n hx hb dX1_goOn_23 rfl (lv_at hl 1 rfl) ?_
        refine lv_iload_n hx hb dX1_goOn_24 rfl (lv_at hl 2 rfl) ?_
        refine md_callv (As := [.int (nI j0)]) (rest := []) E hP hS (met_md_take l D o ad cB cI d hj0) (cwV 1 E.2.2.1 (lw_V q283 q285 qs16 q20 q286) rfl rfl rfl (by decide +kernel) ⟨by decide, by decide⟩) rfl hl.1 rfl (Nat.le_of_ble_eq_true rfl) ⟨Nat.zero_le _, Nat.zero_le _⟩ dX1_goOn_25 (fun d144 H locs hpd144 hP hS => ?_)
        rw [hpd144] at hP
        refine lv_aload_n hx hb dX1_goOn_28 rfl (lv_at hl 1 rfl) ?_
        refine lv_iload_n hx hb dX1_goOn_29 rfl (lv_at hl 0 rfl) ?_
        refine md_callv (As := [.int (nI i0)]) (rest := []) E hP hS (met_md_stretch l D o ad cB cI (mTake d j0) hM2 hi0) (cwV 1 E.2.2.1 (lw_V q267 q269 qs13 q20 q270) rfl rfl rfl (by decide +kernel) ⟨by decide, by decide⟩) rfl hl.1 rfl (Nat.le_of_ble_eq_true rfl) ⟨Nat.zero_le _, Nat.zero_le _⟩ dX1_goOn_30 (fun d145 H locs hpd145 hP hS => ?_)
        refine lv_iload_n hx hb dX1_goOn_33 rfl (lv_at hl 0 rfl) ?_
        exact kR _ _ _ _ _ _ (Or.inr ⟨j0, hj0, rfl, hjb, ekd, Or.inr ⟨i0, hi0, hrm, rfl, hpd145⟩⟩) hP hS dX1_goOn_34
      · exact absurd (nI_pos' (by omega)) c17
  · refine lv_iconst (v := (-1)) hx hb dX1_goOn_9 (by decide) ?_
    exact kR _ _ _ _ _ _ (Or.inl ⟨hh.eq c6, rfl, rfl⟩) hP hS dX1_goOn_10
set_option maxHeartbeats 4000000 in
set_option maxRecDepth 100000 in
theorem met_md_goOn (l : Launch) (D : va_G) (o : Nat) (ad : Nat → Nat) (cB cI : ClassId) (d : MS) {n K : Nat} {x : Int32} (hM : MW d n K) : mdMi l yX1_goOn cX1_goOn 3 (some .int) (rmk 2) D o ad cB cI [.int x] d (fun r d' => AsR K n d x (nI 3) (fun k => mTake d k) r (fun x _ => d' = x)) :=
  md_meti (by decide) rfl (Nat.le_of_ble_eq_true rfl) (fun _ _ _ => rfl) (fun p e s m args below meth c ls Q E hP hl kR => wk_md_goOn hM E hP hl kR)
end
section
/-! constructors -/
theorem arr_known {args : Array Value} {s : State} {ty : FieldType} (h : (Cond.arrayClass ty).before args s = true) : ∃ cA : ClassId, ArrOfT s cA ty ∧ s.vm.findClass ("[" ++ ty.toString) = some cA := by
  obtain ⟨cA, kA, comp, h1, h2, h3⟩ := Cond.arrayClass_spec h
  exact ⟨cA, fun n z => ⟨fun k h => (by cases h), kA, h2, comp, h3⟩, h1⟩
section NU
variable {p : Program} {l : Launch} {e : Env} {R : Room} {s : State} {m : MethodId} {args : Array Value} {below : List Frame} {meth : Method} {c : Code} {H : Heap} {locs : List Loc} {cells slots : Nat} {Q : State → Prop}
variable {cc : ByteArray} {pc : Nat} {ls : Array Slot} {rest : List Value} {D : va_G} {cl : List vw_C} {A : Nat → Prop} {tys : List (ClassId × FieldType)} {ws : va_W} {H0 : Heap}
theorem va_newU (hexec : p.tables.exec = Jvm.exec) (hb : c.code = cc) {atype : ArrayType} (harr : (Cond.arrayClass (newarray.typeOf atype)).before args s = true) {ty : FieldType} (hty : newarray.typeOf atype = ty) (hK : va_K D cl tys s) (hP : va_P D cl ws H) (hD : va_D A ws) (hS : va_S A H0 H locs) (hA : ∀ q, H0.size ≤ q → A q)
    {n : Int32} {N' : Nat} {a0 : vp_A} (ha : ∀ cA : ClassId, vp_cell cA a0 = arrV cA N' (fun _ => defaultValue ty)) (hn : ¬ n < 0) (hN : n.toNatClampNeg = N') (hbytes : N' * componentBytes ty ≤ 536870912) (hcells : cells + 1 ≤ R.cells) (hslots : slots + N' ≤ R.slots) (hdg : decode cc pc = .ok (.newarray atype, 2)) {cT : ClassId} (t0 : Nat) (ht : tys[t0]? = some (cT, ty)) (hpr : ∀ cA, va_RA s cA ty → s.vm.findClass ("[" ++ ty.toString) = some cA)
    (kk : ∀ (q : Nat) (H1 : Heap), va_P D cl (ws ++ [(q, .inl (cT, a0))]) H1 → va_D A (ws ++ [(q, .inl (cT, a0))]) → va_S A H0 H1 locs → W p l e R s m args below meth c H1 locs (cells + 1) (slots + N') Q (F0 m (pc + 2) ls (.ref q :: rest))) : W p l e R s m args below meth c H locs cells slots Q (F0 m pc ls (.int n :: rest)) :=
  va_newa hexec hb harr hty hK hP hD hS hA ha hn hN hbytes hcells hslots hdg (fun q cA H1 hK' hP' hD' hS' => by
    have e1 := hpr cA (hK'.2 tys.length (cA, ty) (by simp)).2
    have e2 := hpr cT (hK.2 t0 _ ht).2
    have e : cA = cT := Option.some.inj (e1.symm.trans e2)
    subst e
    exact kk q H1 hP' hD' hS')
end NU
abbrev dk_fs0 : List Value := [.null, .null, .null, .int 0, .null, .null, .int 0, .null, .null, .null, .null, .null, .null, .int 0, .null, .null, .int 0, .null]
abbrev dk_rm0 : Room := ({ frames := 1, cells := 14, slots := 572, locals := 12 })
set_option maxHeartbeats 4000000 in
set_option maxRecDepth 100000 in
theorem met_dk_init (l : Launch) (D : va_G) (o sz : Nat) (cB cI : ClassId) : Met l yX0_init (ws_ yX0_init cX0_init 1 none) dk_rm0 (va_Pc [.ref o] (fun U => U.heap.size = sz ∧ va_P D vwCl [(o, .inr (0, dk_fs0))] U.heap ∧ va_K D vwCl (dk_ty cB cI) U ∧ va_D (fun _ => True) [(o, .inr (0, dk_fs0))])) (va_Qv (fun _ : Nat → Nat => True) (fun ad t => va_P D vwCl (dk_w o ad cB cI (fun _ _ => 0)) t.heap ∧ va_D (va_A [(o, .inr (0, dk_fs0))] sz) (dk_w o ad cB cI (fun _ _ => 0))) (va_A [(o, .inr (0, dk_fs0))] sz)) 14 572 (va_A [(o, .inr (0, dk_fs0))] sz) := by
  refine Met.ofW (cc := cX0_init) (maxL := 1) (ret := none) (by decide) rfl ?_
  intro p e s m args below meth c s₁ B hml hv
  obtain ⟨rfl, hsz, hP, hK, hD0⟩ := hv
  have hx := B.exec
  have hb := B.bytes
  have hr := B.returns
  have hts := atoms_spec (ws := ws_ yX0_init cX0_init 1 none) B.pre
  have hts : ∀ w ∈ lw_all, w.before _ s = true := fun w h => hts w (List.mem_cons_of_mem _ h)
  have hown : s.vm.findClass RX0 = some m.cls := findClass_of_methodNamed B.named
  have hlocks := B.notSynchronized
  have hin : meth.name = "<init>" := (name_of_methodNamed B.named B.method).1
  subst hsz
  have hD := hD0.self (sz := s.heap.size)
  generalize hAe : va_A [(o, .inr (0, dk_fs0))] s.heap.size = A at hD ⊢
  have hA : ∀ q : Nat, s.heap.size ≤ q → A q := fun q h => by rw [← hAe]; exact Or.inr h
  have hS : va_S A s.heap s.heap [] := va_S.rf
  have hl := lv_entry ([.ref o]) (n := 1) (Nat.le_of_ble_eq_true rfl)
  rw [lg_entry_eq]
  generalize (lg_sl ([.ref o]) ++ List.replicate (1 - (lg_sl ([.ref o])).length) Slot.unset).toArray = ls at hl ⊢
  have hl : lv_has ls 1 [(0, .ref o)] := hl
  refine lv_aload_n hx hb dX0_init_0 rfl (lv_at hl 0 rfl) ?_
  refine W.objInit hx hb hown (hts _ q26) (hts _ q27) (hts _ q28) rfl (by rw [hml]; exact hl.1) rfl dX0_init_1 (Nat.le_of_ble_eq_true rfl) (Nat.le_of_ble_eq_true rfl) ?_
  refine W.eq (g2 := F0 m 4 ls []) rfl ?_
  refine lv_aload_n hx hb dX0_init_4 rfl (lv_at hl 0 rfl) ?_
  refine lv_bipush (v := nI 16) hx hb dX0_init_5 (by decide) ?_
  refine va_newU (atype := .byte) (N' := 16) (a0 := (16, .inl (fun _ => 0))) (ty := .byte) hx hb (hts _ q84) rfl hK hP hD hS hA (fun _ => rfl) (by decide) (by decide) (by decide) (Nat.le_of_ble_eq_true rfl) (Nat.le_of_ble_eq_true rfl) dX0_init_7 0 rfl (fun _ h => h) (fun q_0 H hP hD hS => ?_)
  refine va_putF (D := D) (ci := 0) (v := .ref q_0) (ty := .array .byte) (C := RX0) (T := TX0) (N := 18) hx hb hts in_X0 tyX0 tyX0_ok nmX0 hown hK hP hD hS 0 rfl rfl 0 (by decide) (hts _ q29) (fun _ h9 => h9) rfl hin rfl (by decide +kernel) rfl rfl (Nat.le_of_ble_eq_true rfl) dX0_init_9 (fun H locs hP hD hS => ?_)
  have hP : va_P D vwCl [(o, .inr (0, [.ref q_0, .null, .null, .int 0, .null, .null, .int 0, .null, .null, .null, .null, .null, .null, .int 0, .null, .null, .int 0, .null])), (q_0, .inl (cB, 16, .inl (fun _ => 0)))] H := hP
  have hD : va_D A [(o, .inr (0, [.ref q_0, .null, .null, .int 0, .null, .null, .int 0, .null, .null, .null, .null, .null, .null, .int 0, .null, .null, .int 0, .null])), (q_0, .inl (cB, 16, .inl (fun _ => 0)))] := hD
  refine lv_aload_n hx hb dX0_init_12 rfl (lv_at hl 0 rfl) ?_
  refine lv_bipush (v := nI 16) hx hb dX0_init_13 (by decide) ?_
  refine va_newU (atype := .byte) (N' := 16) (a0 := (16, .inl (fun _ => 0))) (ty := .byte) hx hb (hts _ q84) rfl hK hP hD hS hA (fun _ => rfl) (by decide) (by decide) (by decide) (Nat.le_of_ble_eq_true rfl) (Nat.le_of_ble_eq_true rfl) dX0_init_15 0 rfl (fun _ h => h) (fun q_1 H hP hD hS => ?_)
  refine va_putF (D := D) (ci := 0) (v := .ref q_1) (ty := .array .byte) (C := RX0) (T := TX0) (N := 18) hx hb hts in_X0 tyX0 tyX0_ok nmX0 hown hK hP hD hS 0 rfl rfl 1 (by decide) (hts _ q30) (fun _ h9 => h9) rfl hin rfl (by decide +kernel) rfl rfl (Nat.le_of_ble_eq_true rfl) dX0_init_17 (fun H locs hP hD hS => ?_)
  have hP : va_P D vwCl [(o, .inr (0, [.ref q_0, .ref q_1, .null, .int 0, .null, .null, .int 0, .null, .null, .null, .null, .null, .null, .int 0, .null, .null, .int 0, .null])), (q_0, .inl (cB, 16, .inl (fun _ => 0))), (q_1, .inl (cB, 16, .inl (fun _ => 0)))] H := hP
  have hD : va_D A [(o, .inr (0, [.ref q_0, .ref q_1, .null, .int 0, .null, .null, .int 0, .null, .null, .null, .null, .null, .null, .int 0, .null, .null, .int 0, .null])), (q_0, .inl (cB, 16, .inl (fun _ => 0))), (q_1, .inl (cB, 16, .inl (fun _ => 0)))] := hD
  refine lv_aload_n hx hb dX0_init_20 rfl (lv_at hl 0 rfl) ?_
  refine lv_bipush (v := nI 16) hx hb dX0_init_21 (by decide) ?_
  refine va_newU (atype := .int) (N' := 16) (a0 := (16, .inl (fun _ => 0))) (ty := .int) hx hb (hts _ q85) rfl hK hP hD hS hA (fun _ => rfl) (by decide) (by decide) (by decide) (Nat.le_of_ble_eq_true rfl) (Nat.le_of_ble_eq_true rfl) dX0_init_23 1 rfl (fun _ h => h) (fun q_2 H hP hD hS => ?_)
  refine va_putF (D := D) (ci := 0) (v := .ref q_2) (ty := .array .int) (C := RX0) (T := TX0) (N := 18) hx hb hts in_X0 tyX0 tyX0_ok nmX0 hown hK hP hD hS 0 rfl rfl 2 (by decide) (hts _ q31) (fun _ h9 => h9) rfl hin rfl (by decide +kernel) rfl rfl (Nat.le_of_ble_eq_true rfl) dX0_init_25 (fun H locs hP hD hS => ?_)
  have hP : va_P D vwCl [(o, .inr (0, [.ref q_0, .ref q_1, .ref q_2, .int 0, .null, .null, .int 0, .null, .null, .null, .null, .null, .null, .int 0, .null, .null, .int 0, .null])), (q_0, .inl (cB, 16, .inl (fun _ => 0))), (q_1, .inl (cB, 16, .inl (fun _ => 0))), (q_2, .inl (cI, 16, .inl (fun _ => 0)))] H := hP
  have hD : va_D A [(o, .inr (0, [.ref q_0, .ref q_1, .ref q_2, .int 0, .null, .null, .int 0, .null, .null, .null, .null, .null, .null, .int 0, .null, .null, .int 0, .null])), (q_0, .inl (cB, 16, .inl (fun _ => 0))), (q_1, .inl (cB, 16, .inl (fun _ => 0))), (q_2, .inl (cI, 16, .inl (fun _ => 0)))] := hD
  refine lv_aload_n hx hb dX0_init_28 rfl (lv_at hl 0 rfl) ?_
  refine lv_sipush (v := nI 224) hx hb dX0_init_29 (by decide) ?_
  refine va_newU (atype := .int) (N' := 224) (a0 := (224, .inl (fun _ => 0))) (ty := .int) hx hb (hts _ q85) rfl hK hP hD hS hA (fun _ => rfl) (by decide) (by decide) (by decide) (Nat.le_of_ble_eq_true rfl) (Nat.le_of_ble_eq_true rfl) dX0_init_32 1 rfl (fun _ h => h) (fun q_4 H hP hD hS => ?_)
  refine va_putF (D := D) (ci := 0) (v := .ref q_4) (ty := .array .int) (C := RX0) (T := TX0) (N := 18) hx hb hts in_X0 tyX0 tyX0_ok nmX0 hown hK hP hD hS 0 rfl rfl 4 (by decide) (hts _ q33) (fun _ h9 => h9) rfl hin rfl (by decide +kernel) rfl rfl (Nat.le_of_ble_eq_true rfl) dX0_init_34 (fun H locs hP hD hS => ?_)
  have hP : va_P D vwCl [(o, .inr (0, [.ref q_0, .ref q_1, .ref q_2, .int 0, .ref q_4, .null, .int 0, .null, .null, .null, .null, .null, .null, .int 0, .null, .null, .int 0, .null])), (q_0, .inl (cB, 16, .inl (fun _ => 0))), (q_1, .inl (cB, 16, .inl (fun _ => 0))), (q_2, .inl (cI, 16, .inl (fun _ => 0))), (q_4, .inl (cI, 224, .inl (fun _ => 0)))] H := hP
  have hD : va_D A [(o, .inr (0, [.ref q_0, .ref q_1, .ref q_2, .int 0, .ref q_4, .null, .int 0, .null, .null, .null, .null, .null, .null, .int 0, .null, .null, .int 0, .null])), (q_0, .inl (cB, 16, .inl (fun _ => 0))), (q_1, .inl (cB, 16, .inl (fun _ => 0))), (q_2, .inl (cI, 16, .inl (fun _ => 0))), (q_4, .inl (cI, 224, .inl (fun _ => 0)))] := hD
  refine lv_aload_n hx hb dX0_init_37 rfl (lv_at hl 0 rfl) ?_
  refine lv_bipush (v := nI 56) hx hb dX0_init_38 (by decide) ?_
  refine va_newU (atype := .byte) (N' := 56) (a0 := (56, .inl (fun _ => 0))) (ty := .byte) hx hb (hts _ q84) rfl hK hP hD hS hA (fun _ => rfl) (by decide) (by decide) (by decide) (Nat.le_of_ble_eq_true rfl) (Nat.le_of_ble_eq_true rfl) dX0_init_40 0 rfl (fun _ h => h) (fun q_5 H hP hD hS => ?_)
  refine va_putF (D := D) (ci := 0) (v := .ref q_5) (ty := .array .byte) (C := RX0) (T := TX0) (N := 18) hx hb hts in_X0 tyX0 tyX0_ok nmX0 hown hK hP hD hS 0 rfl rfl 5 (by decide) (hts _ q34) (fun _ h9 => h9) rfl hin rfl (by decide +kernel) rfl rfl (Nat.le_of_ble_eq_true rfl) dX0_init_42 (fun H locs hP hD hS => ?_)
  have hP : va_P D vwCl [(o, .inr (0, [.ref q_0, .ref q_1, .ref q_2, .int 0, .ref q_4, .ref q_5, .int 0, .null, .null, .null, .null, .null, .null, .int 0, .null, .null, .int 0, .null])), (q_0, .inl (cB, 16, .inl (fun _ => 0))), (q_1, .inl (cB, 16, .inl (fun _ => 0))), (q_2, .inl (cI, 16, .inl (fun _ => 0))), (q_4, .inl (cI, 224, .inl (fun _ => 0))), (q_5, .inl (cB, 56, .inl (fun _ => 0)))] H := hP
  have hD : va_D A [(o, .inr (0, [.ref q_0, .ref q_1, .ref q_2, .int 0, .ref q_4, .ref q_5, .int 0, .null, .null, .null, .null, .null, .null, .int 0, .null, .null, .int 0, .null])), (q_0, .inl (cB, 16, .inl (fun _ => 0))), (q_1, .inl (cB, 16, .inl (fun _ => 0))), (q_2, .inl (cI, 16, .inl (fun _ => 0))), (q_4, .inl (cI, 224, .inl (fun _ => 0))), (q_5, .inl (cB, 56, .inl (fun _ => 0)))] := hD
  refine lv_aload_n hx hb dX0_init_45 rfl (lv_at hl 0 rfl) ?_
  refine lv_bipush (v := nI 12) hx hb dX0_init_46 (by decide) ?_
  refine va_newU (atype := .byte) (N' := 12) (a0 := (12, .inl (fun _ => 0))) (ty := .byte) hx hb (hts _ q84) rfl hK hP hD hS hA (fun _ => rfl) (by decide) (by decide) (by decide) (Nat.le_of_ble_eq_true rfl) (Nat.le_of_ble_eq_true rfl) dX0_init_48 0 rfl (fun _ h => h) (fun q_7 H hP hD hS => ?_)
  refine va_putF (D := D) (ci := 0) (v := .ref q_7) (ty := .array .byte) (C := RX0) (T := TX0) (N := 18) hx hb hts in_X0 tyX0 tyX0_ok nmX0 hown hK hP hD hS 0 rfl rfl 7 (by decide) (hts _ q36) (fun _ h9 => h9) rfl hin rfl (by decide +kernel) rfl rfl (Nat.le_of_ble_eq_true rfl) dX0_init_50 (fun H locs hP hD hS => ?_)
  have hP : va_P D vwCl [(o, .inr (0, [.ref q_0, .ref q_1, .ref q_2, .int 0, .ref q_4, .ref q_5, .int 0, .ref q_7, .null, .null, .null, .null, .null, .int 0, .null, .null, .int 0, .null])), (q_0, .inl (cB, 16, .inl (fun _ => 0))), (q_1, .inl (cB, 16, .inl (fun _ => 0))), (q_2, .inl (cI, 16, .inl (fun _ => 0))), (q_4, .inl (cI, 224, .inl (fun _ => 0))), (q_5, .inl (cB, 56, .inl (fun _ => 0))), (q_7, .inl (cB, 12, .inl (fun _ => 0)))] H := hP
  have hD : va_D A [(o, .inr (0, [.ref q_0, .ref q_1, .ref q_2, .int 0, .ref q_4, .ref q_5, .int 0, .ref q_7, .null, .null, .null, .null, .null, .int 0, .null, .null, .int 0, .null])), (q_0, .inl (cB, 16, .inl (fun _ => 0))), (q_1, .inl (cB, 16, .inl (fun _ => 0))), (q_2, .inl (cI, 16, .inl (fun _ => 0))), (q_4, .inl (cI, 224, .inl (fun _ => 0))), (q_5, .inl (cB, 56, .inl (fun _ => 0))), (q_7, .inl (cB, 12, .inl (fun _ => 0)))] := hD
  refine lv_aload_n hx hb dX0_init_53 rfl (lv_at hl 0 rfl) ?_
  refine lv_bipush (v := nI 12) hx hb dX0_init_54 (by decide) ?_
  refine va_newU (atype := .int) (N' := 12) (a0 := (12, .inl (fun _ => 0))) (ty := .int) hx hb (hts _ q85) rfl hK hP hD hS hA (fun _ => rfl) (by decide) (by decide) (by decide) (Nat.le_of_ble_eq_true rfl) (Nat.le_of_ble_eq_true rfl) dX0_init_56 1 rfl (fun _ h => h) (fun q_8 H hP hD hS => ?_)
  refine va_putF (D := D) (ci := 0) (v := .ref q_8) (ty := .array .int) (C := RX0) (T := TX0) (N := 18) hx hb hts in_X0 tyX0 tyX0_ok nmX0 hown hK hP hD hS 0 rfl rfl 8 (by decide) (hts _ q37) (fun _ h9 => h9) rfl hin rfl (by decide +kernel) rfl rfl (Nat.le_of_ble_eq_true rfl) dX0_init_58 (fun H locs hP hD hS => ?_)
  have hP : va_P D vwCl [(o, .inr (0, [.ref q_0, .ref q_1, .ref q_2, .int 0, .ref q_4, .ref q_5, .int 0, .ref q_7, .ref q_8, .null, .null, .null, .null, .int 0, .null, .null, .int 0, .null])), (q_0, .inl (cB, 16, .inl (fun _ => 0))), (q_1, .inl (cB, 16, .inl (fun _ => 0))), (q_2, .inl (cI, 16, .inl (fun _ => 0))), (q_4, .inl (cI, 224, .inl (fun _ => 0))), (q_5, .inl (cB, 56, .inl (fun _ => 0))), (q_7, .inl (cB, 12, .inl (fun _ => 0))), (q_8, .inl (cI, 12, .inl (fun _ => 0)))] H := hP
  have hD : va_D A [(o, .inr (0, [.ref q_0, .ref q_1, .ref q_2, .int 0, .ref q_4, .ref q_5, .int 0, .ref q_7, .ref q_8, .null, .null, .null, .null, .int 0, .null, .null, .int 0, .null])), (q_0, .inl (cB, 16, .inl (fun _ => 0))), (q_1, .inl (cB, 16, .inl (fun _ => 0))), (q_2, .inl (cI, 16, .inl (fun _ => 0))), (q_4, .inl (cI, 224, .inl (fun _ => 0))), (q_5, .inl (cB, 56, .inl (fun _ => 0))), (q_7, .inl (cB, 12, .inl (fun _ => 0))), (q_8, .inl (cI, 12, .inl (fun _ => 0)))] := hD
  refine lv_aload_n hx hb dX0_init_61 rfl (lv_at hl 0 rfl) ?_
  refine lv_bipush (v := nI 48) hx hb dX0_init_62 (by decide) ?_
  refine va_newU (atype := .int) (N' := 48) (a0 := (48, .inl (fun _ => 0))) (ty := .int) hx hb (hts _ q85) rfl hK hP hD hS hA (fun _ => rfl) (by decide) (by decide) (by decide) (Nat.le_of_ble_eq_true rfl) (Nat.le_of_ble_eq_true rfl) dX0_init_64 1 rfl (fun _ h => h) (fun q_9 H hP hD hS => ?_)
  refine va_putF (D := D) (ci := 0) (v := .ref q_9) (ty := .array .int) (C := RX0) (T := TX0) (N := 18) hx hb hts in_X0 tyX0 tyX0_ok nmX0 hown hK hP hD hS 0 rfl rfl 9 (by decide) (hts _ q38) (fun _ h9 => h9) rfl hin rfl (by decide +kernel) rfl rfl (Nat.le_of_ble_eq_true rfl) dX0_init_66 (fun H locs hP hD hS => ?_)
  have hP : va_P D vwCl [(o, .inr (0, [.ref q_0, .ref q_1, .ref q_2, .int 0, .ref q_4, .ref q_5, .int 0, .ref q_7, .ref q_8, .ref q_9, .null, .null, .null, .int 0, .null, .null, .int 0, .null])), (q_0, .inl (cB, 16, .inl (fun _ => 0))), (q_1, .inl (cB, 16, .inl (fun _ => 0))), (q_2, .inl (cI, 16, .inl (fun _ => 0))), (q_4, .inl (cI, 224, .inl (fun _ => 0))), (q_5, .inl (cB, 56, .inl (fun _ => 0))), (q_7, .inl (cB, 12, .inl (fun _ => 0))), (q_8, .inl (cI, 12, .inl (fun _ => 0))), (q_9, .inl (cI, 48, .inl (fun _ => 0)))] H := hP
  have hD : va_D A [(o, .inr (0, [.ref q_0, .ref q_1, .ref q_2, .int 0, .ref q_4, .ref q_5, .int 0, .ref q_7, .ref q_8, .ref q_9, .null, .null, .null, .int 0, .null, .null, .int 0, .null])), (q_0, .inl (cB, 16, .inl (fun _ => 0))), (q_1, .inl (cB, 16, .inl (fun _ => 0))), (q_2, .inl (cI, 16, .inl (fun _ => 0))), (q_4, .inl (cI, 224, .inl (fun _ => 0))), (q_5, .inl (cB, 56, .inl (fun _ => 0))), (q_7, .inl (cB, 12, .inl (fun _ => 0))), (q_8, .inl (cI, 12, .inl (fun _ => 0))), (q_9, .inl (cI, 48, .inl (fun _ => 0)))] := hD
  refine lv_aload_n hx hb dX0_init_69 rfl (lv_at hl 0 rfl) ?_
  refine lv_bipush (v := nI 48) hx hb dX0_init_70 (by decide) ?_
  refine va_newU (atype := .byte) (N' := 48) (a0 := (48, .inl (fun _ => 0))) (ty := .byte) hx hb (hts _ q84) rfl hK hP hD hS hA (fun _ => rfl) (by decide) (by decide) (by decide) (Nat.le_of_ble_eq_true rfl) (Nat.le_of_ble_eq_true rfl) dX0_init_72 0 rfl (fun _ h => h) (fun q_10 H hP hD hS => ?_)
  refine va_putF (D := D) (ci := 0) (v := .ref q_10) (ty := .array .byte) (C := RX0) (T := TX0) (N := 18) hx hb hts in_X0 tyX0 tyX0_ok nmX0 hown hK hP hD hS 0 rfl rfl 10 (by decide) (hts _ q39) (fun _ h9 => h9) rfl hin rfl (by decide +kernel) rfl rfl (Nat.le_of_ble_eq_true rfl) dX0_init_74 (fun H locs hP hD hS => ?_)
  have hP : va_P D vwCl [(o, .inr (0, [.ref q_0, .ref q_1, .ref q_2, .int 0, .ref q_4, .ref q_5, .int 0, .ref q_7, .ref q_8, .ref q_9, .ref q_10, .null, .null, .int 0, .null, .null, .int 0, .null])), (q_0, .inl (cB, 16, .inl (fun _ => 0))), (q_1, .inl (cB, 16, .inl (fun _ => 0))), (q_2, .inl (cI, 16, .inl (fun _ => 0))), (q_4, .inl (cI, 224, .inl (fun _ => 0))), (q_5, .inl (cB, 56, .inl (fun _ => 0))), (q_7, .inl (cB, 12, .inl (fun _ => 0))), (q_8, .inl (cI, 12, .inl (fun _ => 0))), (q_9, .inl (cI, 48, .inl (fun _ => 0))), (q_10, .inl (cB, 48, .inl (fun _ => 0)))] H := hP
  have hD : va_D A [(o, .inr (0, [.ref q_0, .ref q_1, .ref q_2, .int 0, .ref q_4, .ref q_5, .int 0, .ref q_7, .ref q_8, .ref q_9, .ref q_10, .null, .null, .int 0, .null, .null, .int 0, .null])), (q_0, .inl (cB, 16, .inl (fun _ => 0))), (q_1, .inl (cB, 16, .inl (fun _ => 0))), (q_2, .inl (cI, 16, .inl (fun _ => 0))), (q_4, .inl (cI, 224, .inl (fun _ => 0))), (q_5, .inl (cB, 56, .inl (fun _ => 0))), (q_7, .inl (cB, 12, .inl (fun _ => 0))), (q_8, .inl (cI, 12, .inl (fun _ => 0))), (q_9, .inl (cI, 48, .inl (fun _ => 0))), (q_10, .inl (cB, 48, .inl (fun _ => 0)))] := hD
  refine lv_aload_n hx hb dX0_init_77 rfl (lv_at hl 0 rfl) ?_
  refine lv_bipush (v := nI 12) hx hb dX0_init_78 (by decide) ?_
  refine va_newU (atype := .int) (N' := 12) (a0 := (12, .inl (fun _ => 0))) (ty := .int) hx hb (hts _ q85) rfl hK hP hD hS hA (fun _ => rfl) (by decide) (by decide) (by decide) (Nat.le_of_ble_eq_true rfl) (Nat.le_of_ble_eq_true rfl) dX0_init_80 1 rfl (fun _ h => h) (fun q_11 H hP hD hS => ?_)
  refine va_putF (D := D) (ci := 0) (v := .ref q_11) (ty := .array .int) (C := RX0) (T := TX0) (N := 18) hx hb hts in_X0 tyX0 tyX0_ok nmX0 hown hK hP hD hS 0 rfl rfl 11 (by decide) (hts _ q40) (fun _ h9 => h9) rfl hin rfl (by decide +kernel) rfl rfl (Nat.le_of_ble_eq_true rfl) dX0_init_82 (fun H locs hP hD hS => ?_)
  have hP : va_P D vwCl [(o, .inr (0, [.ref q_0, .ref q_1, .ref q_2, .int 0, .ref q_4, .ref q_5, .int 0, .ref q_7, .ref q_8, .ref q_9, .ref q_10, .ref q_11, .null, .int 0, .null, .null, .int 0, .null])), (q_0, .inl (cB, 16, .inl (fun _ => 0))), (q_1, .inl (cB, 16, .inl (fun _ => 0))), (q_2, .inl (cI, 16, .inl (fun _ => 0))), (q_4, .inl (cI, 224, .inl (fun _ => 0))), (q_5, .inl (cB, 56, .inl (fun _ => 0))), (q_7, .inl (cB, 12, .inl (fun _ => 0))), (q_8, .inl (cI, 12, .inl (fun _ => 0))), (q_9, .inl (cI, 48, .inl (fun _ => 0))), (q_10, .inl (cB, 48, .inl (fun _ => 0))), (q_11, .inl (cI, 12, .inl (fun _ => 0)))] H := hP
  have hD : va_D A [(o, .inr (0, [.ref q_0, .ref q_1, .ref q_2, .int 0, .ref q_4, .ref q_5, .int 0, .ref q_7, .ref q_8, .ref q_9, .ref q_10, .ref q_11, .null, .int 0, .null, .null, .int 0, .null])), (q_0, .inl (cB, 16, .inl (fun _ => 0))), (q_1, .inl (cB, 16, .inl (fun _ => 0))), (q_2, .inl (cI, 16, .inl (fun _ => 0))), (q_4, .inl (cI, 224, .inl (fun _ => 0))), (q_5, .inl (cB, 56, .inl (fun _ => 0))), (q_7, .inl (cB, 12, .inl (fun _ => 0))), (q_8, .inl (cI, 12, .inl (fun _ => 0))), (q_9, .inl (cI, 48, .inl (fun _ => 0))), (q_10, .inl (cB, 48, .inl (fun _ => 0))), (q_11, .inl (cI, 12, .inl (fun _ => 0)))] := hD
  refine lv_aload_n hx hb dX0_init_85 rfl (lv_at hl 0 rfl) ?_
  refine lv_bipush (v := nI 96) hx hb dX0_init_86 (by decide) ?_
  refine va_newU (atype := .int) (N' := 96) (a0 := (96, .inl (fun _ => 0))) (ty := .int) hx hb (hts _ q85) rfl hK hP hD hS hA (fun _ => rfl) (by decide) (by decide) (by decide) (Nat.le_of_ble_eq_true rfl) (Nat.le_of_ble_eq_true rfl) dX0_init_88 1 rfl (fun _ h => h) (fun q_12 H hP hD hS => ?_)
  refine va_putF (D := D) (ci := 0) (v := .ref q_12) (ty := .array .int) (C := RX0) (T := TX0) (N := 18) hx hb hts in_X0 tyX0 tyX0_ok nmX0 hown hK hP hD hS 0 rfl rfl 12 (by decide) (hts _ q41) (fun _ h9 => h9) rfl hin rfl (by decide +kernel) rfl rfl (Nat.le_of_ble_eq_true rfl) dX0_init_90 (fun H locs hP hD hS => ?_)
  have hP : va_P D vwCl [(o, .inr (0, [.ref q_0, .ref q_1, .ref q_2, .int 0, .ref q_4, .ref q_5, .int 0, .ref q_7, .ref q_8, .ref q_9, .ref q_10, .ref q_11, .ref q_12, .int 0, .null, .null, .int 0, .null])), (q_0, .inl (cB, 16, .inl (fun _ => 0))), (q_1, .inl (cB, 16, .inl (fun _ => 0))), (q_2, .inl (cI, 16, .inl (fun _ => 0))), (q_4, .inl (cI, 224, .inl (fun _ => 0))), (q_5, .inl (cB, 56, .inl (fun _ => 0))), (q_7, .inl (cB, 12, .inl (fun _ => 0))), (q_8, .inl (cI, 12, .inl (fun _ => 0))), (q_9, .inl (cI, 48, .inl (fun _ => 0))), (q_10, .inl (cB, 48, .inl (fun _ => 0))), (q_11, .inl (cI, 12, .inl (fun _ => 0))), (q_12, .inl (cI, 96, .inl (fun _ => 0)))] H := hP
  have hD : va_D A [(o, .inr (0, [.ref q_0, .ref q_1, .ref q_2, .int 0, .ref q_4, .ref q_5, .int 0, .ref q_7, .ref q_8, .ref q_9, .ref q_10, .ref q_11, .ref q_12, .int 0, .null, .null, .int 0, .null])), (q_0, .inl (cB, 16, .inl (fun _ => 0))), (q_1, .inl (cB, 16, .inl (fun _ => 0))), (q_2, .inl (cI, 16, .inl (fun _ => 0))), (q_4, .inl (cI, 224, .inl (fun _ => 0))), (q_5, .inl (cB, 56, .inl (fun _ => 0))), (q_7, .inl (cB, 12, .inl (fun _ => 0))), (q_8, .inl (cI, 12, .inl (fun _ => 0))), (q_9, .inl (cI, 48, .inl (fun _ => 0))), (q_10, .inl (cB, 48, .inl (fun _ => 0))), (q_11, .inl (cI, 12, .inl (fun _ => 0))), (q_12, .inl (cI, 96, .inl (fun _ => 0)))] := hD
  refine lv_aload_n hx hb dX0_init_93 rfl (lv_at hl 0 rfl) ?_
  refine lv_iconst (v := nI 4) hx hb dX0_init_94 (by decide) ?_
  refine va_newU (atype := .int) (N' := 4) (a0 := (4, .inl (fun _ => 0))) (ty := .int) hx hb (hts _ q85) rfl hK hP hD hS hA (fun _ => rfl) (by decide) (by decide) (by decide) (Nat.le_of_ble_eq_true rfl) (Nat.le_of_ble_eq_true rfl) dX0_init_95 1 rfl (fun _ h => h) (fun q_14 H hP hD hS => ?_)
  refine va_putF (D := D) (ci := 0) (v := .ref q_14) (ty := .array .int) (C := RX0) (T := TX0) (N := 18) hx hb hts in_X0 tyX0 tyX0_ok nmX0 hown hK hP hD hS 0 rfl rfl 14 (by decide) (hts _ q43) (fun _ h9 => h9) rfl hin rfl (by decide +kernel) rfl rfl (Nat.le_of_ble_eq_true rfl) dX0_init_97 (fun H locs hP hD hS => ?_)
  have hP : va_P D vwCl [(o, .inr (0, [.ref q_0, .ref q_1, .ref q_2, .int 0, .ref q_4, .ref q_5, .int 0, .ref q_7, .ref q_8, .ref q_9, .ref q_10, .ref q_11, .ref q_12, .int 0, .ref q_14, .null, .int 0, .null])), (q_0, .inl (cB, 16, .inl (fun _ => 0))), (q_1, .inl (cB, 16, .inl (fun _ => 0))), (q_2, .inl (cI, 16, .inl (fun _ => 0))), (q_4, .inl (cI, 224, .inl (fun _ => 0))), (q_5, .inl (cB, 56, .inl (fun _ => 0))), (q_7, .inl (cB, 12, .inl (fun _ => 0))), (q_8, .inl (cI, 12, .inl (fun _ => 0))), (q_9, .inl (cI, 48, .inl (fun _ => 0))), (q_10, .inl (cB, 48, .inl (fun _ => 0))), (q_11, .inl (cI, 12, .inl (fun _ => 0))), (q_12, .inl (cI, 96, .inl (fun _ => 0))), (q_14, .inl (cI, 4, .inl (fun _ => 0)))] H := hP
  have hD : va_D A [(o, .inr (0, [.ref q_0, .ref q_1, .ref q_2, .int 0, .ref q_4, .ref q_5, .int 0, .ref q_7, .ref q_8, .ref q_9, .ref q_10, .ref q_11, .ref q_12, .int 0, .ref q_14, .null, .int 0, .null])), (q_0, .inl (cB, 16, .inl (fun _ => 0))), (q_1, .inl (cB, 16, .inl (fun _ => 0))), (q_2, .inl (cI, 16, .inl (fun _ => 0))), (q_4, .inl (cI, 224, .inl (fun _ => 0))), (q_5, .inl (cB, 56, .inl (fun _ => 0))), (q_7, .inl (cB, 12, .inl (fun _ => 0))), (q_8, .inl (cI, 12, .inl (fun _ => 0))), (q_9, .inl (cI, 48, .inl (fun _ => 0))), (q_10, .inl (cB, 48, .inl (fun _ => 0))), (q_11, .inl (cI, 12, .inl (fun _ => 0))), (q_12, .inl (cI, 96, .inl (fun _ => 0))), (q_14, .inl (cI, 4, .inl (fun _ => 0)))] := hD
  refine lv_aload_n hx hb dX0_init_100 rfl (lv_at hl 0 rfl) ?_
  refine lv_iconst (v := nI 4) hx hb dX0_init_101 (by decide) ?_
  refine va_newU (atype := .byte) (N' := 4) (a0 := (4, .inl (fun _ => 0))) (ty := .byte) hx hb (hts _ q84) rfl hK hP hD hS hA (fun _ => rfl) (by decide) (by decide) (by decide) (Nat.le_of_ble_eq_true rfl) (Nat.le_of_ble_eq_true rfl) dX0_init_102 0 rfl (fun _ h => h) (fun q_15 H hP hD hS => ?_)
  refine va_putF (D := D) (ci := 0) (v := .ref q_15) (ty := .array .byte) (C := RX0) (T := TX0) (N := 18) hx hb hts in_X0 tyX0 tyX0_ok nmX0 hown hK hP hD hS 0 rfl rfl 15 (by decide) (hts _ q44) (fun _ h9 => h9) rfl hin rfl (by decide +kernel) rfl rfl (Nat.le_of_ble_eq_true rfl) dX0_init_104 (fun H locs hP hD hS => ?_)
  have hP : va_P D vwCl [(o, .inr (0, [.ref q_0, .ref q_1, .ref q_2, .int 0, .ref q_4, .ref q_5, .int 0, .ref q_7, .ref q_8, .ref q_9, .ref q_10, .ref q_11, .ref q_12, .int 0, .ref q_14, .ref q_15, .int 0, .null])), (q_0, .inl (cB, 16, .inl (fun _ => 0))), (q_1, .inl (cB, 16, .inl (fun _ => 0))), (q_2, .inl (cI, 16, .inl (fun _ => 0))), (q_4, .inl (cI, 224, .inl (fun _ => 0))), (q_5, .inl (cB, 56, .inl (fun _ => 0))), (q_7, .inl (cB, 12, .inl (fun _ => 0))), (q_8, .inl (cI, 12, .inl (fun _ => 0))), (q_9, .inl (cI, 48, .inl (fun _ => 0))), (q_10, .inl (cB, 48, .inl (fun _ => 0))), (q_11, .inl (cI, 12, .inl (fun _ => 0))), (q_12, .inl (cI, 96, .inl (fun _ => 0))), (q_14, .inl (cI, 4, .inl (fun _ => 0))), (q_15, .inl (cB, 4, .inl (fun _ => 0)))] H := hP
  have hD : va_D A [(o, .inr (0, [.ref q_0, .ref q_1, .ref q_2, .int 0, .ref q_4, .ref q_5, .int 0, .ref q_7, .ref q_8, .ref q_9, .ref q_10, .ref q_11, .ref q_12, .int 0, .ref q_14, .ref q_15, .int 0, .null])), (q_0, .inl (cB, 16, .inl (fun _ => 0))), (q_1, .inl (cB, 16, .inl (fun _ => 0))), (q_2, .inl (cI, 16, .inl (fun _ => 0))), (q_4, .inl (cI, 224, .inl (fun _ => 0))), (q_5, .inl (cB, 56, .inl (fun _ => 0))), (q_7, .inl (cB, 12, .inl (fun _ => 0))), (q_8, .inl (cI, 12, .inl (fun _ => 0))), (q_9, .inl (cI, 48, .inl (fun _ => 0))), (q_10, .inl (cB, 48, .inl (fun _ => 0))), (q_11, .inl (cI, 12, .inl (fun _ => 0))), (q_12, .inl (cI, 96, .inl (fun _ => 0))), (q_14, .inl (cI, 4, .inl (fun _ => 0))), (q_15, .inl (cB, 4, .inl (fun _ => 0)))] := hD
  refine lv_aload_n hx hb dX0_init_107 rfl (lv_at hl 0 rfl) ?_
  refine lv_bipush (v := nI 8) hx hb dX0_init_108 (by decide) ?_
  refine va_newU (atype := .int) (N' := 8) (a0 := (8, .inl (fun _ => 0))) (ty := .int) hx hb (hts _ q85) rfl hK hP hD hS hA (fun _ => rfl) (by decide) (by decide) (by decide) (Nat.le_of_ble_eq_true rfl) (Nat.le_of_ble_eq_true rfl) dX0_init_110 1 rfl (fun _ h => h) (fun q_17 H hP hD hS => ?_)
  refine va_putF (D := D) (ci := 0) (v := .ref q_17) (ty := .array .int) (C := RX0) (T := TX0) (N := 18) hx hb hts in_X0 tyX0 tyX0_ok nmX0 hown hK hP hD hS 0 rfl rfl 17 (by decide) (hts _ q46) (fun _ h9 => h9) rfl hin rfl (by decide +kernel) rfl rfl (Nat.le_of_ble_eq_true rfl) dX0_init_112 (fun H locs hP hD hS => ?_)
  have hP : va_P D vwCl [(o, .inr (0, [.ref q_0, .ref q_1, .ref q_2, .int 0, .ref q_4, .ref q_5, .int 0, .ref q_7, .ref q_8, .ref q_9, .ref q_10, .ref q_11, .ref q_12, .int 0, .ref q_14, .ref q_15, .int 0, .ref q_17])), (q_0, .inl (cB, 16, .inl (fun _ => 0))), (q_1, .inl (cB, 16, .inl (fun _ => 0))), (q_2, .inl (cI, 16, .inl (fun _ => 0))), (q_4, .inl (cI, 224, .inl (fun _ => 0))), (q_5, .inl (cB, 56, .inl (fun _ => 0))), (q_7, .inl (cB, 12, .inl (fun _ => 0))), (q_8, .inl (cI, 12, .inl (fun _ => 0))), (q_9, .inl (cI, 48, .inl (fun _ => 0))), (q_10, .inl (cB, 48, .inl (fun _ => 0))), (q_11, .inl (cI, 12, .inl (fun _ => 0))), (q_12, .inl (cI, 96, .inl (fun _ => 0))), (q_14, .inl (cI, 4, .inl (fun _ => 0))), (q_15, .inl (cB, 4, .inl (fun _ => 0))), (q_17, .inl (cI, 8, .inl (fun _ => 0)))] H := hP
  have hD : va_D A [(o, .inr (0, [.ref q_0, .ref q_1, .ref q_2, .int 0, .ref q_4, .ref q_5, .int 0, .ref q_7, .ref q_8, .ref q_9, .ref q_10, .ref q_11, .ref q_12, .int 0, .ref q_14, .ref q_15, .int 0, .ref q_17])), (q_0, .inl (cB, 16, .inl (fun _ => 0))), (q_1, .inl (cB, 16, .inl (fun _ => 0))), (q_2, .inl (cI, 16, .inl (fun _ => 0))), (q_4, .inl (cI, 224, .inl (fun _ => 0))), (q_5, .inl (cB, 56, .inl (fun _ => 0))), (q_7, .inl (cB, 12, .inl (fun _ => 0))), (q_8, .inl (cI, 12, .inl (fun _ => 0))), (q_9, .inl (cI, 48, .inl (fun _ => 0))), (q_10, .inl (cB, 48, .inl (fun _ => 0))), (q_11, .inl (cI, 12, .inl (fun _ => 0))), (q_12, .inl (cI, 96, .inl (fun _ => 0))), (q_14, .inl (cI, 4, .inl (fun _ => 0))), (q_15, .inl (cB, 4, .inl (fun _ => 0))), (q_17, .inl (cI, 8, .inl (fun _ => 0)))] := hD
  refine W.widen (k := 14) (n := 572) (Nat.le_of_ble_eq_true rfl) (Nat.le_of_ble_eq_true rfl) ?_
  exact W.vret hx hb hr (fun t ht hW => ⟨⟨(fun k => match k with | 0 => q_0 | 1 => q_1 | 2 => q_2 | 4 => q_4 | 5 => q_5 | 7 => q_7 | 8 => q_8 | 9 => q_9 | 10 => q_10 | 11 => q_11 | 12 => q_12 | 14 => q_14 | 15 => q_15 | 17 => q_17 | _ => 0), rfl, trivial, by rw [ht]; exact hP, hD⟩, hS.F ht⟩) hS.2.2 dX0_init_115
abbrev md_fs0 : List Value := [.int 0, .null, .null, .null, .null, .null, .null, .null, .null, .null, .int 0, .int 0, .null, .null]
abbrev md_rm0 : Room := ({ frames := 1, cells := 11, slots := 460, locals := 12 })
set_option maxHeartbeats 4000000 in
set_option maxRecDepth 100000 in
theorem met_md_init (l : Launch) (D : va_G) (o sz : Nat) (cB cI : ClassId) : Met l yX1_init (ws_ yX1_init cX1_init 1 none) md_rm0 (va_Pc [.ref o] (fun U => U.heap.size = sz ∧ va_P D vwCl [(o, .inr (1, md_fs0))] U.heap ∧ va_K D vwCl (md_ty cB cI) U ∧ va_D (fun _ => True) [(o, .inr (1, md_fs0))])) (va_Qv (fun _ : Nat → Nat => True) (fun ad t => va_P D vwCl (md_w o ad cB cI (fun _ _ => 0)) t.heap ∧ va_D (va_A [(o, .inr (1, md_fs0))] sz) (md_w o ad cB cI (fun _ _ => 0))) (va_A [(o, .inr (1, md_fs0))] sz)) 11 460 (va_A [(o, .inr (1, md_fs0))] sz) := by
  refine Met.ofW (cc := cX1_init) (maxL := 1) (ret := none) (by decide) rfl ?_
  intro p e s m args below meth c s₁ B hml hv
  obtain ⟨rfl, hsz, hP, hK, hD0⟩ := hv
  have hx := B.exec
  have hb := B.bytes
  have hr := B.returns
  have hts := atoms_spec (ws := ws_ yX1_init cX1_init 1 none) B.pre
  have hts : ∀ w ∈ lw_all, w.before _ s = true := fun w h => hts w (List.mem_cons_of_mem _ h)
  have hown : s.vm.findClass RX1 = some m.cls := findClass_of_methodNamed B.named
  have hlocks := B.notSynchronized
  have hin : meth.name = "<init>" := (name_of_methodNamed B.named B.method).1
  subst hsz
  have hD := hD0.self (sz := s.heap.size)
  generalize hAe : va_A [(o, .inr (1, md_fs0))] s.heap.size = A at hD ⊢
  have hA : ∀ q : Nat, s.heap.size ≤ q → A q := fun q h => by rw [← hAe]; exact Or.inr h
  have hS : va_S A s.heap s.heap [] := va_S.rf
  have hl := lv_entry ([.ref o]) (n := 1) (Nat.le_of_ble_eq_true rfl)
  rw [lg_entry_eq]
  generalize (lg_sl ([.ref o]) ++ List.replicate (1 - (lg_sl ([.ref o])).length) Slot.unset).toArray = ls at hl ⊢
  have hl : lv_has ls 1 [(0, .ref o)] := hl
  refine lv_aload_n hx hb dX1_init_0 rfl (lv_at hl 0 rfl) ?_
  refine W.objInit hx hb hown (hts _ q197) (hts _ q27) (hts _ q28) rfl (by rw [hml]; exact hl.1) rfl dX1_init_1 (Nat.le_of_ble_eq_true rfl) (Nat.le_of_ble_eq_true rfl) ?_
  refine W.eq (g2 := F0 m 4 ls []) rfl ?_
  refine lv_aload_n hx hb dX1_init_4 rfl (lv_at hl 0 rfl) ?_
  refine lv_bipush (v := nI 16) hx hb dX1_init_5 (by decide) ?_
  refine va_newU (atype := .int) (N' := 16) (a0 := (16, .inl (fun _ => 0))) (ty := .int) hx hb (hts _ q85) rfl hK hP hD hS hA (fun _ => rfl) (by decide) (by decide) (by decide) (Nat.le_of_ble_eq_true rfl) (Nat.le_of_ble_eq_true rfl) dX1_init_7 1 rfl (fun _ h => h) (fun q_1 H hP hD hS => ?_)
  refine va_put (D := D) (ci := 1) (v := .ref q_1) (ty := .array .int) (C := RX1) (T := TX1) (N := 14) hx hb hts in_X1 tyX1 tyX1_ok nmX1 hown hK hP hD hS 0 rfl rfl 1 (by decide) (hts _ q199) (fun _ h9 => h9) rfl (by decide +kernel) rfl rfl (Nat.le_of_ble_eq_true rfl) dX1_init_9 (fun H locs hP hD hS => ?_)
  have hP : va_P D vwCl [(o, .inr (1, [.int 0, .ref q_1, .null, .null, .null, .null, .null, .null, .null, .null, .int 0, .int 0, .null, .null])), (q_1, .inl (cI, 16, .inl (fun _ => 0)))] H := hP
  have hD : va_D A [(o, .inr (1, [.int 0, .ref q_1, .null, .null, .null, .null, .null, .null, .null, .null, .int 0, .int 0, .null, .null])), (q_1, .inl (cI, 16, .inl (fun _ => 0)))] := hD
  refine lv_aload_n hx hb dX1_init_12 rfl (lv_at hl 0 rfl) ?_
  refine lv_bipush (v := nI 16) hx hb dX1_init_13 (by decide) ?_
  refine va_newU (atype := .int) (N' := 16) (a0 := (16, .inl (fun _ => 0))) (ty := .int) hx hb (hts _ q85) rfl hK hP hD hS hA (fun _ => rfl) (by decide) (by decide) (by decide) (Nat.le_of_ble_eq_true rfl) (Nat.le_of_ble_eq_true rfl) dX1_init_15 1 rfl (fun _ h => h) (fun q_2 H hP hD hS => ?_)
  refine va_put (D := D) (ci := 1) (v := .ref q_2) (ty := .array .int) (C := RX1) (T := TX1) (N := 14) hx hb hts in_X1 tyX1 tyX1_ok nmX1 hown hK hP hD hS 0 rfl rfl 2 (by decide) (hts _ q200) (fun _ h9 => h9) rfl (by decide +kernel) rfl rfl (Nat.le_of_ble_eq_true rfl) dX1_init_17 (fun H locs hP hD hS => ?_)
  have hP : va_P D vwCl [(o, .inr (1, [.int 0, .ref q_1, .ref q_2, .null, .null, .null, .null, .null, .null, .null, .int 0, .int 0, .null, .null])), (q_1, .inl (cI, 16, .inl (fun _ => 0))), (q_2, .inl (cI, 16, .inl (fun _ => 0)))] H := hP
  have hD : va_D A [(o, .inr (1, [.int 0, .ref q_1, .ref q_2, .null, .null, .null, .null, .null, .null, .null, .int 0, .int 0, .null, .null])), (q_1, .inl (cI, 16, .inl (fun _ => 0))), (q_2, .inl (cI, 16, .inl (fun _ => 0)))] := hD
  refine lv_aload_n hx hb dX1_init_20 rfl (lv_at hl 0 rfl) ?_
  refine lv_bipush (v := nI 16) hx hb dX1_init_21 (by decide) ?_
  refine va_newU (atype := .int) (N' := 16) (a0 := (16, .inl (fun _ => 0))) (ty := .int) hx hb (hts _ q85) rfl hK hP hD hS hA (fun _ => rfl) (by decide) (by decide) (by decide) (Nat.le_of_ble_eq_true rfl) (Nat.le_of_ble_eq_true rfl) dX1_init_23 1 rfl (fun _ h => h) (fun q_3 H hP hD hS => ?_)
  refine va_put (D := D) (ci := 1) (v := .ref q_3) (ty := .array .int) (C := RX1) (T := TX1) (N := 14) hx hb hts in_X1 tyX1 tyX1_ok nmX1 hown hK hP hD hS 0 rfl rfl 3 (by decide) (hts _ q201) (fun _ h9 => h9) rfl (by decide +kernel) rfl rfl (Nat.le_of_ble_eq_true rfl) dX1_init_25 (fun H locs hP hD hS => ?_)
  have hP : va_P D vwCl [(o, .inr (1, [.int 0, .ref q_1, .ref q_2, .ref q_3, .null, .null, .null, .null, .null, .null, .int 0, .int 0, .null, .null])), (q_1, .inl (cI, 16, .inl (fun _ => 0))), (q_2, .inl (cI, 16, .inl (fun _ => 0))), (q_3, .inl (cI, 16, .inl (fun _ => 0)))] H := hP
  have hD : va_D A [(o, .inr (1, [.int 0, .ref q_1, .ref q_2, .ref q_3, .null, .null, .null, .null, .null, .null, .int 0, .int 0, .null, .null])), (q_1, .inl (cI, 16, .inl (fun _ => 0))), (q_2, .inl (cI, 16, .inl (fun _ => 0))), (q_3, .inl (cI, 16, .inl (fun _ => 0)))] := hD
  refine lv_aload_n hx hb dX1_init_28 rfl (lv_at hl 0 rfl) ?_
  refine lv_bipush (v := nI 12) hx hb dX1_init_29 (by decide) ?_
  refine va_newU (atype := .boolean) (N' := 12) (a0 := (12, .inl (fun _ => 0))) (ty := .boolean) hx hb (hts _ q241) rfl hK hP hD hS hA (fun _ => rfl) (by decide) (by decide) (by decide) (Nat.le_of_ble_eq_true rfl) (Nat.le_of_ble_eq_true rfl) dX1_init_31 0 rfl (fun _ h => h) (fun q_4 H hP hD hS => ?_)
  refine va_put (D := D) (ci := 1) (v := .ref q_4) (ty := .array .boolean) (C := RX1) (T := TX1) (N := 14) hx hb hts in_X1 tyX1 tyX1_ok nmX1 hown hK hP hD hS 0 rfl rfl 4 (by decide) (hts _ q202) (fun _ h9 => h9) rfl (by decide +kernel) rfl rfl (Nat.le_of_ble_eq_true rfl) dX1_init_33 (fun H locs hP hD hS => ?_)
  have hP : va_P D vwCl [(o, .inr (1, [.int 0, .ref q_1, .ref q_2, .ref q_3, .ref q_4, .null, .null, .null, .null, .null, .int 0, .int 0, .null, .null])), (q_1, .inl (cI, 16, .inl (fun _ => 0))), (q_2, .inl (cI, 16, .inl (fun _ => 0))), (q_3, .inl (cI, 16, .inl (fun _ => 0))), (q_4, .inl (cB, 12, .inl (fun _ => 0)))] H := hP
  have hD : va_D A [(o, .inr (1, [.int 0, .ref q_1, .ref q_2, .ref q_3, .ref q_4, .null, .null, .null, .null, .null, .int 0, .int 0, .null, .null])), (q_1, .inl (cI, 16, .inl (fun _ => 0))), (q_2, .inl (cI, 16, .inl (fun _ => 0))), (q_3, .inl (cI, 16, .inl (fun _ => 0))), (q_4, .inl (cB, 12, .inl (fun _ => 0)))] := hD
  refine lv_aload_n hx hb dX1_init_36 rfl (lv_at hl 0 rfl) ?_
  refine lv_bipush (v := nI 12) hx hb dX1_init_37 (by decide) ?_
  refine va_newU (atype := .int) (N' := 12) (a0 := (12, .inl (fun _ => 0))) (ty := .int) hx hb (hts _ q85) rfl hK hP hD hS hA (fun _ => rfl) (by decide) (by decide) (by decide) (Nat.le_of_ble_eq_true rfl) (Nat.le_of_ble_eq_true rfl) dX1_init_39 1 rfl (fun _ h => h) (fun q_5 H hP hD hS => ?_)
  refine va_put (D := D) (ci := 1) (v := .ref q_5) (ty := .array .int) (C := RX1) (T := TX1) (N := 14) hx hb hts in_X1 tyX1 tyX1_ok nmX1 hown hK hP hD hS 0 rfl rfl 5 (by decide) (hts _ q203) (fun _ h9 => h9) rfl (by decide +kernel) rfl rfl (Nat.le_of_ble_eq_true rfl) dX1_init_41 (fun H locs hP hD hS => ?_)
  have hP : va_P D vwCl [(o, .inr (1, [.int 0, .ref q_1, .ref q_2, .ref q_3, .ref q_4, .ref q_5, .null, .null, .null, .null, .int 0, .int 0, .null, .null])), (q_1, .inl (cI, 16, .inl (fun _ => 0))), (q_2, .inl (cI, 16, .inl (fun _ => 0))), (q_3, .inl (cI, 16, .inl (fun _ => 0))), (q_4, .inl (cB, 12, .inl (fun _ => 0))), (q_5, .inl (cI, 12, .inl (fun _ => 0)))] H := hP
  have hD : va_D A [(o, .inr (1, [.int 0, .ref q_1, .ref q_2, .ref q_3, .ref q_4, .ref q_5, .null, .null, .null, .null, .int 0, .int 0, .null, .null])), (q_1, .inl (cI, 16, .inl (fun _ => 0))), (q_2, .inl (cI, 16, .inl (fun _ => 0))), (q_3, .inl (cI, 16, .inl (fun _ => 0))), (q_4, .inl (cB, 12, .inl (fun _ => 0))), (q_5, .inl (cI, 12, .inl (fun _ => 0)))] := hD
  refine lv_aload_n hx hb dX1_init_44 rfl (lv_at hl 0 rfl) ?_
  refine lv_bipush (v := nI 12) hx hb dX1_init_45 (by decide) ?_
  refine va_newU (atype := .int) (N' := 12) (a0 := (12, .inl (fun _ => 0))) (ty := .int) hx hb (hts _ q85) rfl hK hP hD hS hA (fun _ => rfl) (by decide) (by decide) (by decide) (Nat.le_of_ble_eq_true rfl) (Nat.le_of_ble_eq_true rfl) dX1_init_47 1 rfl (fun _ h => h) (fun q_6 H hP hD hS => ?_)
  refine va_put (D := D) (ci := 1) (v := .ref q_6) (ty := .array .int) (C := RX1) (T := TX1) (N := 14) hx hb hts in_X1 tyX1 tyX1_ok nmX1 hown hK hP hD hS 0 rfl rfl 6 (by decide) (hts _ q204) (fun _ h9 => h9) rfl (by decide +kernel) rfl rfl (Nat.le_of_ble_eq_true rfl) dX1_init_49 (fun H locs hP hD hS => ?_)
  have hP : va_P D vwCl [(o, .inr (1, [.int 0, .ref q_1, .ref q_2, .ref q_3, .ref q_4, .ref q_5, .ref q_6, .null, .null, .null, .int 0, .int 0, .null, .null])), (q_1, .inl (cI, 16, .inl (fun _ => 0))), (q_2, .inl (cI, 16, .inl (fun _ => 0))), (q_3, .inl (cI, 16, .inl (fun _ => 0))), (q_4, .inl (cB, 12, .inl (fun _ => 0))), (q_5, .inl (cI, 12, .inl (fun _ => 0))), (q_6, .inl (cI, 12, .inl (fun _ => 0)))] H := hP
  have hD : va_D A [(o, .inr (1, [.int 0, .ref q_1, .ref q_2, .ref q_3, .ref q_4, .ref q_5, .ref q_6, .null, .null, .null, .int 0, .int 0, .null, .null])), (q_1, .inl (cI, 16, .inl (fun _ => 0))), (q_2, .inl (cI, 16, .inl (fun _ => 0))), (q_3, .inl (cI, 16, .inl (fun _ => 0))), (q_4, .inl (cB, 12, .inl (fun _ => 0))), (q_5, .inl (cI, 12, .inl (fun _ => 0))), (q_6, .inl (cI, 12, .inl (fun _ => 0)))] := hD
  refine lv_aload_n hx hb dX1_init_52 rfl (lv_at hl 0 rfl) ?_
  refine lv_bipush (v := nI 12) hx hb dX1_init_53 (by decide) ?_
  refine va_newU (atype := .int) (N' := 12) (a0 := (12, .inl (fun _ => 0))) (ty := .int) hx hb (hts _ q85) rfl hK hP hD hS hA (fun _ => rfl) (by decide) (by decide) (by decide) (Nat.le_of_ble_eq_true rfl) (Nat.le_of_ble_eq_true rfl) dX1_init_55 1 rfl (fun _ h => h) (fun q_7 H hP hD hS => ?_)
  refine va_put (D := D) (ci := 1) (v := .ref q_7) (ty := .array .int) (C := RX1) (T := TX1) (N := 14) hx hb hts in_X1 tyX1 tyX1_ok nmX1 hown hK hP hD hS 0 rfl rfl 7 (by decide) (hts _ q205) (fun _ h9 => h9) rfl (by decide +kernel) rfl rfl (Nat.le_of_ble_eq_true rfl) dX1_init_57 (fun H locs hP hD hS => ?_)
  have hP : va_P D vwCl [(o, .inr (1, [.int 0, .ref q_1, .ref q_2, .ref q_3, .ref q_4, .ref q_5, .ref q_6, .ref q_7, .null, .null, .int 0, .int 0, .null, .null])), (q_1, .inl (cI, 16, .inl (fun _ => 0))), (q_2, .inl (cI, 16, .inl (fun _ => 0))), (q_3, .inl (cI, 16, .inl (fun _ => 0))), (q_4, .inl (cB, 12, .inl (fun _ => 0))), (q_5, .inl (cI, 12, .inl (fun _ => 0))), (q_6, .inl (cI, 12, .inl (fun _ => 0))), (q_7, .inl (cI, 12, .inl (fun _ => 0)))] H := hP
  have hD : va_D A [(o, .inr (1, [.int 0, .ref q_1, .ref q_2, .ref q_3, .ref q_4, .ref q_5, .ref q_6, .ref q_7, .null, .null, .int 0, .int 0, .null, .null])), (q_1, .inl (cI, 16, .inl (fun _ => 0))), (q_2, .inl (cI, 16, .inl (fun _ => 0))), (q_3, .inl (cI, 16, .inl (fun _ => 0))), (q_4, .inl (cB, 12, .inl (fun _ => 0))), (q_5, .inl (cI, 12, .inl (fun _ => 0))), (q_6, .inl (cI, 12, .inl (fun _ => 0))), (q_7, .inl (cI, 12, .inl (fun _ => 0)))] := hD
  refine lv_aload_n hx hb dX1_init_60 rfl (lv_at hl 0 rfl) ?_
  refine lv_sipush (v := nI 240) hx hb dX1_init_61 (by decide) ?_
  refine va_newU (atype := .int) (N' := 240) (a0 := (240, .inl (fun _ => 0))) (ty := .int) hx hb (hts _ q85) rfl hK hP hD hS hA (fun _ => rfl) (by decide) (by decide) (by decide) (Nat.le_of_ble_eq_true rfl) (Nat.le_of_ble_eq_true rfl) dX1_init_64 1 rfl (fun _ h => h) (fun q_8 H hP hD hS => ?_)
  refine va_put (D := D) (ci := 1) (v := .ref q_8) (ty := .array .int) (C := RX1) (T := TX1) (N := 14) hx hb hts in_X1 tyX1 tyX1_ok nmX1 hown hK hP hD hS 0 rfl rfl 8 (by decide) (hts _ q206) (fun _ h9 => h9) rfl (by decide +kernel) rfl rfl (Nat.le_of_ble_eq_true rfl) dX1_init_66 (fun H locs hP hD hS => ?_)
  have hP : va_P D vwCl [(o, .inr (1, [.int 0, .ref q_1, .ref q_2, .ref q_3, .ref q_4, .ref q_5, .ref q_6, .ref q_7, .ref q_8, .null, .int 0, .int 0, .null, .null])), (q_1, .inl (cI, 16, .inl (fun _ => 0))), (q_2, .inl (cI, 16, .inl (fun _ => 0))), (q_3, .inl (cI, 16, .inl (fun _ => 0))), (q_4, .inl (cB, 12, .inl (fun _ => 0))), (q_5, .inl (cI, 12, .inl (fun _ => 0))), (q_6, .inl (cI, 12, .inl (fun _ => 0))), (q_7, .inl (cI, 12, .inl (fun _ => 0))), (q_8, .inl (cI, 240, .inl (fun _ => 0)))] H := hP
  have hD : va_D A [(o, .inr (1, [.int 0, .ref q_1, .ref q_2, .ref q_3, .ref q_4, .ref q_5, .ref q_6, .ref q_7, .ref q_8, .null, .int 0, .int 0, .null, .null])), (q_1, .inl (cI, 16, .inl (fun _ => 0))), (q_2, .inl (cI, 16, .inl (fun _ => 0))), (q_3, .inl (cI, 16, .inl (fun _ => 0))), (q_4, .inl (cB, 12, .inl (fun _ => 0))), (q_5, .inl (cI, 12, .inl (fun _ => 0))), (q_6, .inl (cI, 12, .inl (fun _ => 0))), (q_7, .inl (cI, 12, .inl (fun _ => 0))), (q_8, .inl (cI, 240, .inl (fun _ => 0)))] := hD
  refine lv_aload_n hx hb dX1_init_69 rfl (lv_at hl 0 rfl) ?_
  refine lv_bipush (v := nI 96) hx hb dX1_init_70 (by decide) ?_
  refine va_newU (atype := .int) (N' := 96) (a0 := (96, .inl (fun _ => 0))) (ty := .int) hx hb (hts _ q85) rfl hK hP hD hS hA (fun _ => rfl) (by decide) (by decide) (by decide) (Nat.le_of_ble_eq_true rfl) (Nat.le_of_ble_eq_true rfl) dX1_init_72 1 rfl (fun _ h => h) (fun q_9 H hP hD hS => ?_)
  refine va_put (D := D) (ci := 1) (v := .ref q_9) (ty := .array .int) (C := RX1) (T := TX1) (N := 14) hx hb hts in_X1 tyX1 tyX1_ok nmX1 hown hK hP hD hS 0 rfl rfl 9 (by decide) (hts _ q207) (fun _ h9 => h9) rfl (by decide +kernel) rfl rfl (Nat.le_of_ble_eq_true rfl) dX1_init_74 (fun H locs hP hD hS => ?_)
  have hP : va_P D vwCl [(o, .inr (1, [.int 0, .ref q_1, .ref q_2, .ref q_3, .ref q_4, .ref q_5, .ref q_6, .ref q_7, .ref q_8, .ref q_9, .int 0, .int 0, .null, .null])), (q_1, .inl (cI, 16, .inl (fun _ => 0))), (q_2, .inl (cI, 16, .inl (fun _ => 0))), (q_3, .inl (cI, 16, .inl (fun _ => 0))), (q_4, .inl (cB, 12, .inl (fun _ => 0))), (q_5, .inl (cI, 12, .inl (fun _ => 0))), (q_6, .inl (cI, 12, .inl (fun _ => 0))), (q_7, .inl (cI, 12, .inl (fun _ => 0))), (q_8, .inl (cI, 240, .inl (fun _ => 0))), (q_9, .inl (cI, 96, .inl (fun _ => 0)))] H := hP
  have hD : va_D A [(o, .inr (1, [.int 0, .ref q_1, .ref q_2, .ref q_3, .ref q_4, .ref q_5, .ref q_6, .ref q_7, .ref q_8, .ref q_9, .int 0, .int 0, .null, .null])), (q_1, .inl (cI, 16, .inl (fun _ => 0))), (q_2, .inl (cI, 16, .inl (fun _ => 0))), (q_3, .inl (cI, 16, .inl (fun _ => 0))), (q_4, .inl (cB, 12, .inl (fun _ => 0))), (q_5, .inl (cI, 12, .inl (fun _ => 0))), (q_6, .inl (cI, 12, .inl (fun _ => 0))), (q_7, .inl (cI, 12, .inl (fun _ => 0))), (q_8, .inl (cI, 240, .inl (fun _ => 0))), (q_9, .inl (cI, 96, .inl (fun _ => 0)))] := hD
  refine lv_aload_n hx hb dX1_init_77 rfl (lv_at hl 0 rfl) ?_
  refine lv_bipush (v := nI 20) hx hb dX1_init_78 (by decide) ?_
  refine va_newU (atype := .int) (N' := 20) (a0 := (20, .inl (fun _ => 0))) (ty := .int) hx hb (hts _ q85) rfl hK hP hD hS hA (fun _ => rfl) (by decide) (by decide) (by decide) (Nat.le_of_ble_eq_true rfl) (Nat.le_of_ble_eq_true rfl) dX1_init_80 1 rfl (fun _ h => h) (fun q_12 H hP hD hS => ?_)
  refine va_put (D := D) (ci := 1) (v := .ref q_12) (ty := .array .int) (C := RX1) (T := TX1) (N := 14) hx hb hts in_X1 tyX1 tyX1_ok nmX1 hown hK hP hD hS 0 rfl rfl 12 (by decide) (hts _ q210) (fun _ h9 => h9) rfl (by decide +kernel) rfl rfl (Nat.le_of_ble_eq_true rfl) dX1_init_82 (fun H locs hP hD hS => ?_)
  have hP : va_P D vwCl [(o, .inr (1, [.int 0, .ref q_1, .ref q_2, .ref q_3, .ref q_4, .ref q_5, .ref q_6, .ref q_7, .ref q_8, .ref q_9, .int 0, .int 0, .ref q_12, .null])), (q_1, .inl (cI, 16, .inl (fun _ => 0))), (q_2, .inl (cI, 16, .inl (fun _ => 0))), (q_3, .inl (cI, 16, .inl (fun _ => 0))), (q_4, .inl (cB, 12, .inl (fun _ => 0))), (q_5, .inl (cI, 12, .inl (fun _ => 0))), (q_6, .inl (cI, 12, .inl (fun _ => 0))), (q_7, .inl (cI, 12, .inl (fun _ => 0))), (q_8, .inl (cI, 240, .inl (fun _ => 0))), (q_9, .inl (cI, 96, .inl (fun _ => 0))), (q_12, .inl (cI, 20, .inl (fun _ => 0)))] H := hP
  have hD : va_D A [(o, .inr (1, [.int 0, .ref q_1, .ref q_2, .ref q_3, .ref q_4, .ref q_5, .ref q_6, .ref q_7, .ref q_8, .ref q_9, .int 0, .int 0, .ref q_12, .null])), (q_1, .inl (cI, 16, .inl (fun _ => 0))), (q_2, .inl (cI, 16, .inl (fun _ => 0))), (q_3, .inl (cI, 16, .inl (fun _ => 0))), (q_4, .inl (cB, 12, .inl (fun _ => 0))), (q_5, .inl (cI, 12, .inl (fun _ => 0))), (q_6, .inl (cI, 12, .inl (fun _ => 0))), (q_7, .inl (cI, 12, .inl (fun _ => 0))), (q_8, .inl (cI, 240, .inl (fun _ => 0))), (q_9, .inl (cI, 96, .inl (fun _ => 0))), (q_12, .inl (cI, 20, .inl (fun _ => 0)))] := hD
  refine lv_aload_n hx hb dX1_init_85 rfl (lv_at hl 0 rfl) ?_
  refine lv_bipush (v := nI 8) hx hb dX1_init_86 (by decide) ?_
  refine va_newU (atype := .int) (N' := 8) (a0 := (8, .inl (fun _ => 0))) (ty := .int) hx hb (hts _ q85) rfl hK hP hD hS hA (fun _ => rfl) (by decide) (by decide) (by decide) (Nat.le_of_ble_eq_true rfl) (Nat.le_of_ble_eq_true rfl) dX1_init_88 1 rfl (fun _ h => h) (fun q_13 H hP hD hS => ?_)
  refine va_put (D := D) (ci := 1) (v := .ref q_13) (ty := .array .int) (C := RX1) (T := TX1) (N := 14) hx hb hts in_X1 tyX1 tyX1_ok nmX1 hown hK hP hD hS 0 rfl rfl 13 (by decide) (hts _ q211) (fun _ h9 => h9) rfl (by decide +kernel) rfl rfl (Nat.le_of_ble_eq_true rfl) dX1_init_90 (fun H locs hP hD hS => ?_)
  have hP : va_P D vwCl [(o, .inr (1, [.int 0, .ref q_1, .ref q_2, .ref q_3, .ref q_4, .ref q_5, .ref q_6, .ref q_7, .ref q_8, .ref q_9, .int 0, .int 0, .ref q_12, .ref q_13])), (q_1, .inl (cI, 16, .inl (fun _ => 0))), (q_2, .inl (cI, 16, .inl (fun _ => 0))), (q_3, .inl (cI, 16, .inl (fun _ => 0))), (q_4, .inl (cB, 12, .inl (fun _ => 0))), (q_5, .inl (cI, 12, .inl (fun _ => 0))), (q_6, .inl (cI, 12, .inl (fun _ => 0))), (q_7, .inl (cI, 12, .inl (fun _ => 0))), (q_8, .inl (cI, 240, .inl (fun _ => 0))), (q_9, .inl (cI, 96, .inl (fun _ => 0))), (q_12, .inl (cI, 20, .inl (fun _ => 0))), (q_13, .inl (cI, 8, .inl (fun _ => 0)))] H := hP
  have hD : va_D A [(o, .inr (1, [.int 0, .ref q_1, .ref q_2, .ref q_3, .ref q_4, .ref q_5, .ref q_6, .ref q_7, .ref q_8, .ref q_9, .int 0, .int 0, .ref q_12, .ref q_13])), (q_1, .inl (cI, 16, .inl (fun _ => 0))), (q_2, .inl (cI, 16, .inl (fun _ => 0))), (q_3, .inl (cI, 16, .inl (fun _ => 0))), (q_4, .inl (cB, 12, .inl (fun _ => 0))), (q_5, .inl (cI, 12, .inl (fun _ => 0))), (q_6, .inl (cI, 12, .inl (fun _ => 0))), (q_7, .inl (cI, 12, .inl (fun _ => 0))), (q_8, .inl (cI, 240, .inl (fun _ => 0))), (q_9, .inl (cI, 96, .inl (fun _ => 0))), (q_12, .inl (cI, 20, .inl (fun _ => 0))), (q_13, .inl (cI, 8, .inl (fun _ => 0)))] := hD
  refine W.widen (k := 11) (n := 460) (Nat.le_of_ble_eq_true rfl) (Nat.le_of_ble_eq_true rfl) ?_
  exact W.vret hx hb hr (fun t ht hW => ⟨⟨(fun k => match k with | 1 => q_1 | 2 => q_2 | 3 => q_3 | 4 => q_4 | 5 => q_5 | 6 => q_6 | 7 => q_7 | 8 => q_8 | 9 => q_9 | 12 => q_12 | 13 => q_13 | _ => 0), rfl, trivial, by rw [ht]; exact hP, hD⟩, hS.F ht⟩) hS.2.2 dX1_init_93
end
section
/-! the law: what both answer, calls from it -/
theorem GoR_join {K n : Nat} {md mdX d' md' : MS} {r r' : Int32} (h : GoR K n md mdX r (fun x K' => RB d' x n K')) (h' : GoR K n md mdX r' (fun x _ => md' = x)) : r = r' ∧ ∃ n' K', RB d' md' n' K' := by
  rcases h with ⟨a1, a2, a3⟩ | ⟨m, _, a1, a2, a3⟩ <;> rcases h' with ⟨b1, b2, b3⟩ | ⟨m', _, b1, b2, b3⟩
  · exact ⟨a2.trans b2.symm, n, K, by rw [b3]; exact a3⟩
  · rw [a1] at b1; cases b1
  · rw [a1] at b1; cases b1
  · rw [a1] at b1
    cases b1
    exact ⟨a2.trans b2.symm, n, _, by rw [b3]; exact a3⟩
theorem AsR_join {K n : Nat} {md d' md' : MS} {x kd r r' : Int32} {f : Nat → MS} (h : AsR K n md x kd f r (fun x K' => RB d' x n K')) (h' : AsR K n md x kd f r' (fun x _ => md' = x)) : r = r' ∧ ∃ n' K', RB d' md' n' K' := by
  rcases h with ⟨a1, a2, a3⟩ | ⟨k, k1, k2, k3, k4, a⟩ <;> rcases h' with ⟨b1, b2, b3⟩ | ⟨k', k1', k2', k3', k4', b⟩
  · exact ⟨a2.trans b2.symm, n, K, by rw [b3]; exact a3⟩
  · exact absurd ⟨k', k1', k2', k3', k4'⟩ a1
  · exact absurd ⟨k, k1, k2, k3, k4⟩ b1
  · rw [k2, nI_eq (by omega) (by omega)] at k2'
    subst k2'
    exact GoR_join a b
theorem EmR_join {K n : Nat} {md d' md' : MS} {op a b r r' : Int32} (h : EmR K n md op a b r (fun x n' => RB d' x n' K)) (h' : EmR K n md op a b r' (fun x _ => md' = x)) : r = r' ∧ ∃ n' K', RB d' md' n' K' := by
  rcases h with ⟨a1, a2, a3⟩ | ⟨a1, a2, a3, a4⟩ | ⟨a1, a2, a3, a4, a5⟩ | ⟨a1, a2, a3, a4, a5⟩ <;> rcases h' with ⟨b1, b2, b3⟩ | ⟨b1, b2, b3, b4⟩ | ⟨b1, b2, b3, b4, b5⟩ | ⟨b1, b2, b3, b4, b5⟩
  · exact ⟨a2.trans b2.symm, n, K, by rw [b3]; exact a3⟩
  · exact absurd b1 a1
  · exact absurd b1 a1
  · exact absurd b1 a1
  · exact absurd a1 b1
  · exact ⟨a3.trans b3.symm, n, K, by rw [b4]; exact a4⟩
  · omega
  · omega
  · exact absurd a1 b1
  · omega
  · exact ⟨a4.trans b4.symm, n, K, by rw [b5]; exact a5⟩
  · exact absurd b3 a3
  · exact absurd a1 b1
  · omega
  · exact absurd a3 b3
  · exact ⟨a4.trans b4.symm, n + 1, K, by rw [b5]; exact a5⟩
theorem PeekR_det {md : MS} {K : Nat} {x i r r' : Int32} (h : PeekR md K x i r) (h' : PeekR md K x i r') : r = r' := by
  rcases h with ⟨k, j, a1, a2, a3, a4, a5, a6⟩ | ⟨a1, a2⟩ <;> rcases h' with ⟨k', j', b1, b2, b3, b4, b5, b6⟩ | ⟨b1, b2⟩
  · rw [a3, nI_eq (by omega) (by omega)] at b3
    subst b3
    rw [a5, nI_eq (by split <;> omega) (by split <;> omega)] at b5
    have hj : j = j' := by split at b5 <;> split at b5 <;> omega
    subst hj
    rw [a6, b6]
  · rcases b1 with b1 | b1
    · exact absurd ⟨k, a1, a3, a4⟩ b1
    · exact absurd a5 (b1 j a2)
  · rcases a1 with a1 | a1
    · exact absurd ⟨k', b1, b3, b4⟩ a1
    · exact absurd b5 (a1 j' b2)
  · rw [a2, b2]
theorem LastR_det {md : MS} {K : Nat} {x i r r' : Int32} (h : LastR md K x i r) (h' : LastR md K x i r') : r = r' := by
  rcases h with ⟨k, j, a1, a2, a3, a4, a5, a6, a7⟩ | ⟨a1, a2⟩ <;> rcases h' with ⟨k', j', b1, b2, b3, b4, b5, b6, b7⟩ | ⟨b1, b2⟩
  · rw [a3, nI_eq (by omega) (by omega)] at b3
    subst b3
    rw [a5, nI_eq (by omega) (by omega)] at b5
    subst b5
    rw [a7, b7]
  · rcases b1 with b1 | b1 | ⟨k', c1, c2, c3⟩
    · exact absurd ⟨k, a1, a3, a4⟩ b1
    · exact absurd a5 (b1 j a2)
    · rw [a3, nI_eq (by omega) (by omega)] at c2
      subst c2
      exact absurd a6 c3
  · rcases a1 with a1 | a1 | ⟨k, c1, c2, c3⟩
    · exact absurd ⟨k', b1, b3, b4⟩ a1
    · exact absurd b5 (a1 j' b2)
    · rw [b3, nI_eq (by omega) (by omega)] at c2
      subst c2
      exact absurd b6 c3
  · rw [a2, b2]
theorem DiffR_det {md : MS} {K : Nat} {x y r r' : Int32} (h : DiffR md K x y r) (h' : DiffR md K x y r') : r = r' := by
  rcases h with ⟨a, b, a1, a2, a3, a4, a5, a6, a7⟩ | ⟨a1, a2⟩ <;> rcases h' with ⟨a', b', b1, b2, b3, b4, b5, b6, b7⟩ | ⟨b1, b2⟩
  · rw [a3, nI_eq (by omega) (by omega)] at b3
    rw [a4, nI_eq (by omega) (by omega)] at b4
    subst b3
    subst b4
    exact b_ext (fun q hq => (a7 q hq).trans (b7 q hq).symm)
  · exact absurd ⟨⟨a, a1, a3, a5⟩, ⟨b, a2, a4, a6⟩⟩ b1
  · exact absurd ⟨⟨a', b1, b3, b5⟩, ⟨b', b2, b4, b6⟩⟩ a1
  · rw [a2, b2]
theorem RB_MW {d md : MS} {n K : Nat} (h : RB d md n K) : MW md n K := by
  obtain ⟨kp, hC, -⟩ := h
  exact hC.1
theorem RB_0 : RB (fun _ _ => 0) (fun _ _ => 0) 0 0 := by
  refine ⟨fun _ => 0, ⟨⟨rfl, by decide, fun j hj => absurd hj (by omega), by decide, fun m _ => by rw [Nat.zero_testBit]; rfl⟩, ⟨rfl, fun j hj => absurd hj (by omega)⟩, rfl, fun m _ hb => by rw [Nat.zero_testBit] at hb; exact absurd hb (by decide)⟩, fun p hp => ?_⟩
  have h0 : ∀ M, cs 0 (fun _ => 0) p M = 0 := by
    intro M
    induction M with
    | zero => rfl
    | succ M ih => simp only [cs]; rw [ih, Nat.zero_testBit]; rfl
  rw [h0]
  rfl
theorem vD_apart {A : Nat → Prop} {w1 w2 : va_W} (h : va_D A (w1 ++ w2)) {q : Nat} (h1 : q ∈ w1.map (·.1)) (h2 : q ∈ w2.map (·.1)) : False := by
  obtain ⟨p1, m1, e1⟩ := List.mem_map.mp h1
  obtain ⟨p2, m2, e2⟩ := List.mem_map.mp h2
  obtain ⟨i, hi⟩ := List.getElem?_of_mem m1
  obtain ⟨j, hj⟩ := List.getElem?_of_mem m2
  have hl : i < w1.length := (List.getElem?_eq_some_iff.mp hi).1
  have g1 : (w1 ++ w2)[i]? = some p1 := by rw [List.getElem?_append_left hl]; exact hi
  have g2 : (w1 ++ w2)[w1.length + j]? = some p2 := by rw [List.getElem?_append_right (by omega), Nat.add_sub_cancel_left]; exact hj
  have := h.1 i (w1.length + j) p1 p2 g1 g2 (e1.trans e2.symm)
  omega
theorem vD_left {A : Nat → Prop} {w1 w2 : va_W} (h : va_D A (w1 ++ w2)) : va_D A w1 := by
  refine ⟨fun i j p q hi hj e => ?_, fun k q hk => ?_⟩
  · have li : i < w1.length := (List.getElem?_eq_some_iff.mp hi).1
    have lj : j < w1.length := (List.getElem?_eq_some_iff.mp hj).1
    exact h.1 i j p q (by rw [List.getElem?_append_left li]; exact hi) (by rw [List.getElem?_append_left lj]; exact hj) e
  · have lk : k < w1.length := (List.getElem?_eq_some_iff.mp hk).1
    exact h.2 k q (by rw [List.getElem?_append_left lk]; exact hk)
theorem vD_right {A : Nat → Prop} {w1 w2 : va_W} (h : va_D A (w1 ++ w2)) : va_D A w2 := by
  have key : ∀ (k : Nat) (q : Nat × va_E), w2[k]? = some q → (w1 ++ w2)[w1.length + k]? = some q := fun k q hk => by
    rw [List.getElem?_append_right (by omega), Nat.add_sub_cancel_left]; exact hk
  refine ⟨fun i j p q hi hj e => ?_, fun k q hk => h.2 _ q (key k q hk)⟩
  have := h.1 _ _ p q (key i p hi) (key j q hj) e
  omega
theorem vP_left {D : va_G} {cl : List vw_C} {w1 w2 : va_W} {H : Heap} (h : va_P D cl (w1 ++ w2) H) : va_P D cl w1 H := fun k q hk => by
  have lk : k < w1.length := (List.getElem?_eq_some_iff.mp hk).1
  exact h k q (by rw [List.getElem?_append_left lk]; exact hk)
theorem vP_right {D : va_G} {cl : List vw_C} {w1 w2 : va_W} {H : Heap} (h : va_P D cl (w1 ++ w2) H) : va_P D cl w2 H := fun k q hk => h (w1.length + k) q (by rw [List.getElem?_append_right (by omega), Nat.add_sub_cancel_left]; exact hk)
theorem vD_mem {A : Nat → Prop} {ws : va_W} (h : va_D A ws) {q : Nat} (hq : q ∈ ws.map (·.1)) : A q := by
  obtain ⟨p, hp, e⟩ := List.mem_map.mp hq
  obtain ⟨i, hi⟩ := List.getElem?_of_mem hp
  rw [← e]
  exact h.2 i p hi
def R_law : String := "ReplayDeskLaw"
def LI (D : va_G) (o1 : Nat) (ad1 : Nat → Nat) (cB : ClassId) (o2 : Nat) (ad2 : Nat → Nat) (cZ cI : ClassId) (d md : MS) (H : Heap) : Prop := va_P D vwCl (dk_w o1 ad1 cB cI d) H ∧ va_P D vwCl (md_w o2 ad2 cZ cI md) H
def LE (D : va_G) (o1 : Nat) (ad1 : Nat → Nat) (cB : ClassId) (o2 : Nat) (ad2 : Nat → Nat) (cZ cI : ClassId) (p : Program) (s : State) (m : MethodId) (args : Array Value) (c : Code) (A : Nat → Prop) : Prop :=
  (p.tables.exec = Jvm.exec ∧ c.code = cL_law ∧ c.maxLocals = 4 ∧ s.vm.findClass R_law = some m.cls ∧ ∀ w ∈ lw_all, w.before args s = true) ∧ va_K D vwCl (dk_ty cB cI) s ∧ va_K D vwCl (md_ty cZ cI) s ∧ (∀ d, va_D (dk_A o1 ad1) (dk_w o1 ad1 cB cI d)) ∧ (∀ d, va_D (md_A o2 ad2) (md_w o2 ad2 cZ cI d)) ∧ (∀ q, dk_A o1 ad1 q → A q) ∧ (∀ q, md_A o2 ad2 q → A q) ∧ (∀ q, dk_A o1 ad1 q → md_A o2 ad2 q → False)
section LCALL
variable {p : Program} {l : Launch} {e : Env} {R : Room} {s : State} {m : MethodId} {args : Array Value} {below : List Frame} {meth : Method} {c : Code} {H : Heap} {locs : List Loc} {cells slots : Nat} {Q : State → Prop}
variable {pc : Nat} {ls : Array Slot} {rest : List Value} {D : va_G} {o1 o2 : Nat} {ad1 ad2 : Nat → Nat} {cB cZ cI : ClassId} {d md : MS} {H0 : Heap} {A : Nat → Prop}
variable {y : MethodName} {bytes : ByteArray} {nLy n index : Nat} {ret : Option FieldType} {rm : Room} {As st0 : List Value}
theorem lw_dki {post : Int32 → MS → Prop} (E : LE D o1 ad1 cB o2 ad2 cZ cI p s m args c A) (hI : LI D o1 ad1 cB o2 ad2 cZ cI d md H) (hS : va_S A H0 H locs) (hM : dkMi l y bytes nLy ret rm D o1 ad1 cB cI As d post) (cw : CallW R s args R_law RX0 index y bytes nLy ret (ws_ y bytes nLy ret) rm 0 0 n) (hn : As.length = n) (hsz : ls.size = 4) (hst : st0 = As.reverse ++ .ref o1 :: rest) (hrm : (rest.map fun v => v.category).sum ≤ 8) (hf : cells ≤ R.cells ∧ slots ≤ R.slots) (hdg : decode cL_law pc = .ok (.invokevirtual index, 3))
    (k : ∀ (r : Int32) (d1 : MS) (H1 : Heap) (locs1 : List Loc), post r d1 → LI D o1 ad1 cB o2 ad2 cZ cI d1 md H1 → va_S A H0 H1 locs1 → W p l e R s m args below meth c H1 locs1 cells slots Q (F0 m (pc + 3) ls (.int r :: rest))) : W p l e R s m args below meth c H locs cells slots Q (F0 m pc ls st0) :=
  va_calli (va_runV (As := As) (rest := rest) ⟨E.1.1, E.1.2.1, E.1.2.2.1, E.1.2.2.2.1, E.1.2.2.2.2⟩ hM cw ⟨dk_blind, va_recv E.2.1 hI.1 (ci := 0) (q0 := 0) rfl rfl, fun U hU hW => ⟨rfl, by rw [hU]; exact hI.1, va_K.moved hW.alike E.2.1, (E.2.2.2.1 d).weaken (fun _ _ _ _ => trivial)⟩⟩ rfl hn hsz hst (lv_room (m := m) (pc := pc) (ls := ls) (rest := st0) hrm) hdg ⟨hf.1, hf.2⟩) hS (fun q _ h => E.2.2.2.2.2.1 q h) (fun q h => E.2.2.2.2.2.1 q h) (fun r u t H1 locs1 ht hvm hp hB hz1 hk1 hS1 => k r u H1 locs1 hp ⟨by rw [← ht]; exact hB, hI.2.kept (fun j q hj => hk1 q.1 (hI.2 j q hj).lt (fun z => E.2.2.2.2.2.2.2 q.1 z ((E.2.2.2.2.1 md).2 j q hj)))⟩ hS1)
theorem lw_dkv {post : MS → Prop} (E : LE D o1 ad1 cB o2 ad2 cZ cI p s m args c A) (hI : LI D o1 ad1 cB o2 ad2 cZ cI d md H) (hS : va_S A H0 H locs) (hM : dkMv l y bytes nLy ret rm D o1 ad1 cB cI As d post) (cw : CallW R s args R_law RX0 index y bytes nLy ret (ws_ y bytes nLy ret) rm 0 0 n) (hn : As.length = n) (hsz : ls.size = 4) (hst : st0 = As.reverse ++ .ref o1 :: rest) (hrm : (rest.map fun v => v.category).sum ≤ 8) (hf : cells ≤ R.cells ∧ slots ≤ R.slots) (hdg : decode cL_law pc = .ok (.invokevirtual index, 3))
    (k : ∀ (d1 : MS) (H1 : Heap) (locs1 : List Loc), post d1 → LI D o1 ad1 cB o2 ad2 cZ cI d1 md H1 → va_S A H0 H1 locs1 → W p l e R s m args below meth c H1 locs1 cells slots Q (F0 m (pc + 3) ls rest)) : W p l e R s m args below meth c H locs cells slots Q (F0 m pc ls st0) :=
  va_callv (va_runV (As := As) (rest := rest) ⟨E.1.1, E.1.2.1, E.1.2.2.1, E.1.2.2.2.1, E.1.2.2.2.2⟩ hM cw ⟨dk_blind, va_recv E.2.1 hI.1 (ci := 0) (q0 := 0) rfl rfl, fun U hU hW => ⟨rfl, by rw [hU]; exact hI.1, va_K.moved hW.alike E.2.1, (E.2.2.2.1 d).weaken (fun _ _ _ _ => trivial)⟩⟩ rfl hn hsz hst (lv_room (m := m) (pc := pc) (ls := ls) (rest := st0) hrm) hdg ⟨hf.1, hf.2⟩) hS (fun q _ h => E.2.2.2.2.2.1 q h) (fun q h => E.2.2.2.2.2.1 q h) (fun u t H1 locs1 ht hvm hp hB hz1 hk1 hS1 => k u H1 locs1 hp ⟨by rw [← ht]; exact hB, hI.2.kept (fun j q hj => hk1 q.1 (hI.2 j q hj).lt (fun z => E.2.2.2.2.2.2.2 q.1 z ((E.2.2.2.2.1 md).2 j q hj)))⟩ hS1)
theorem lw_mdi {post : Int32 → MS → Prop} (E : LE D o1 ad1 cB o2 ad2 cZ cI p s m args c A) (hI : LI D o1 ad1 cB o2 ad2 cZ cI d md H) (hS : va_S A H0 H locs) (hM : mdMi l y bytes nLy ret rm D o2 ad2 cZ cI As md post) (cw : CallW R s args R_law RX1 index y bytes nLy ret (ws_ y bytes nLy ret) rm 0 0 n) (hn : As.length = n) (hsz : ls.size = 4) (hst : st0 = As.reverse ++ .ref o2 :: rest) (hrm : (rest.map fun v => v.category).sum ≤ 8) (hf : cells ≤ R.cells ∧ slots ≤ R.slots) (hdg : decode cL_law pc = .ok (.invokevirtual index, 3))
    (k : ∀ (r : Int32) (d1 : MS) (H1 : Heap) (locs1 : List Loc), post r d1 → LI D o1 ad1 cB o2 ad2 cZ cI d d1 H1 → va_S A H0 H1 locs1 → W p l e R s m args below meth c H1 locs1 cells slots Q (F0 m (pc + 3) ls (.int r :: rest))) : W p l e R s m args below meth c H locs cells slots Q (F0 m pc ls st0) :=
  va_calli (va_runV (As := As) (rest := rest) ⟨E.1.1, E.1.2.1, E.1.2.2.1, E.1.2.2.2.1, E.1.2.2.2.2⟩ hM cw ⟨md_blind, va_recv E.2.2.1 hI.2 (ci := 1) (q0 := 0) rfl rfl, fun U hU hW => ⟨rfl, by rw [hU]; exact hI.2, va_K.moved hW.alike E.2.2.1, (E.2.2.2.2.1 md).weaken (fun _ _ _ _ => trivial)⟩⟩ rfl hn hsz hst (lv_room (m := m) (pc := pc) (ls := ls) (rest := st0) hrm) hdg ⟨hf.1, hf.2⟩) hS (fun q _ h => E.2.2.2.2.2.2.1 q h) (fun q h => E.2.2.2.2.2.2.1 q h) (fun r u t H1 locs1 ht hvm hp hB hz1 hk1 hS1 => k r u H1 locs1 hp ⟨hI.1.kept (fun j q hj => hk1 q.1 (hI.1 j q hj).lt (fun z => E.2.2.2.2.2.2.2 q.1 ((E.2.2.2.1 d).2 j q hj) z)), by rw [← ht]; exact hB⟩ hS1)
theorem lw_mdv {post : MS → Prop} (E : LE D o1 ad1 cB o2 ad2 cZ cI p s m args c A) (hI : LI D o1 ad1 cB o2 ad2 cZ cI d md H) (hS : va_S A H0 H locs) (hM : mdMv l y bytes nLy ret rm D o2 ad2 cZ cI As md post) (cw : CallW R s args R_law RX1 index y bytes nLy ret (ws_ y bytes nLy ret) rm 0 0 n) (hn : As.length = n) (hsz : ls.size = 4) (hst : st0 = As.reverse ++ .ref o2 :: rest) (hrm : (rest.map fun v => v.category).sum ≤ 8) (hf : cells ≤ R.cells ∧ slots ≤ R.slots) (hdg : decode cL_law pc = .ok (.invokevirtual index, 3))
    (k : ∀ (d1 : MS) (H1 : Heap) (locs1 : List Loc), post d1 → LI D o1 ad1 cB o2 ad2 cZ cI d d1 H1 → va_S A H0 H1 locs1 → W p l e R s m args below meth c H1 locs1 cells slots Q (F0 m (pc + 3) ls rest)) : W p l e R s m args below meth c H locs cells slots Q (F0 m pc ls st0) :=
  va_callv (va_runV (As := As) (rest := rest) ⟨E.1.1, E.1.2.1, E.1.2.2.1, E.1.2.2.2.1, E.1.2.2.2.2⟩ hM cw ⟨md_blind, va_recv E.2.2.1 hI.2 (ci := 1) (q0 := 0) rfl rfl, fun U hU hW => ⟨rfl, by rw [hU]; exact hI.2, va_K.moved hW.alike E.2.2.1, (E.2.2.2.2.1 md).weaken (fun _ _ _ _ => trivial)⟩⟩ rfl hn hsz hst (lv_room (m := m) (pc := pc) (ls := ls) (rest := st0) hrm) hdg ⟨hf.1, hf.2⟩) hS (fun q _ h => E.2.2.2.2.2.2.1 q h) (fun q h => E.2.2.2.2.2.2.1 q h) (fun u t H1 locs1 ht hvm hp hB hz1 hk1 hS1 => k u H1 locs1 hp ⟨hI.1.kept (fun j q hj => hk1 q.1 (hI.1 j q hj).lt (fun z => E.2.2.2.2.2.2.2 q.1 ((E.2.2.2.1 d).2 j q hj) z)), by rw [← ht]; exact hB⟩ hS1)
theorem lw_ald {b L j : Nat} {xs : Nat → Int32} (hx : p.tables.exec = Jvm.exec) (hb : c.code = cL_law) (hX : va_X b L xs s H0) (hbl : b < H0.size) (hbA : ¬ A b) (hS : va_S A H0 H locs) (hL : L ≤ 256) (hj : j < L) (hdg : decode cL_law pc = .ok (.iaload, 1)) (k : W p l e R s m args below meth c H locs cells slots Q (F0 m (pc + 1) ls (.int (xs j) :: rest))) : W p l e R s m args below meth c H locs cells slots Q (F0 m pc ls (.int (nI j) :: .ref b :: rest)) :=
  va_sld hx hb hX hbl hbA hS (vp_in_nI hj (by omega)) hdg (by rw [nI_clamp (by omega)]; exact k)
end LCALL
theorem law_gt {i L : Nat} (hi : i ≤ 300) (hL : L ≤ 256) : nI L - nI 4 < nI i ↔ L < i + 4 := by
  rw [Int32.lt_iff_toInt_lt, pk_sub_toInt (by omega) (by decide), nI_toInt (by omega)]
  omega
end
section
/-! THE CLAIM OUT OF ONE WALK OF THE LAW'S BODY. Your part is whole_start (and what it stands on); all else here is the same for every law, but numbers. -/
def lw_P (b : Addr) (xs : List Int32) (args : Array Value) (s : State) : Prop := args = #[.ref b] ∧ s.IntsAt b xs ∧ xs.length ≤ 256 ∧ (Jvm.Cond.and given_1 narrow_1).before args s = true
def lw_Q (_ : Array Value) (s : State) (o : Outcome) (t : State) : Prop := o = .returned (some (.int 1)) ∧ Framed s o t [] 600000 7290000
def lw_Z (below : List Frame) (a : Array Value) (s : State) : State → Prop := fun t => ∃ o, t.status = .running ∧ Ended t below o ∧ lw_Q a s o t
/-- the law's own end, with 1 on the stack, nothing written that was there before, its room as the claim has it -/
theorem lw_ret {p : Program} {l : Launch} {e : Env} {s : State} {m : MethodId} {below : List Frame} {meth : Method} {c : Code} {b : Nat} (hx : p.tables.exec = Jvm.exec) (hb : c.code = code) (hr : meth.sig.returnType = ret) (hlocks : meth.locks = false) {pc : Nat} {H : Heap} {ls : Array Slot} (hdg : decode code pc = .ok (.ireturn, 1)) : W p l e room_1 s m #[Value.ref b] below meth c H [] 600000 7290000 (lw_Z below #[Value.ref b] s) (F0 m pc ls [.int 1]) := by
  intro T hT X
  obtain ⟨fs, hret, hrun, hended, hW, hframe⟩ := X.leave (v := some (.int 1)) (hlocks := hlocks) (fun h => by rw [hr] at h; cases h)
  have hmeth' : T.vm.method? m = some meth := X.method'
  refine ⟨T.setFrames fs, ?_, .returned (some (.int 1)), hrun, hended, rfl, ⟨_, rfl⟩, hW, hframe⟩
  jvm_step X.here [X.here.top, hx, hb, hdg, hmeth', hr, ret, narrow_b1]
  (try refine ⟨rfl, ?_⟩); (try refine ⟨rfl, ?_⟩)
  first | (intro acts; rw [hret _ acts rfl rfl rfl]) | rw [hret _ _ rfl rfl rfl]
  exact Steps.refl _
/-- what holds at the law's entry: the machine, the code, the tables' words (any of lw_tbl by 'hts w (by decide +kernel)'), the script of L ints xs at the cell b, what the Statement gives of the start (any of its parts by flat_of_before) -/
def lw_At (p : Program) (s : State) (m : MethodId) (meth : Method) (c : Code) (b L : Nat) (xs : Nat → Int32) : Prop :=
  p.tables.exec = Jvm.exec ∧ c.code = code ∧ meth.sig.returnType = ret ∧ c.maxLocals = 4 ∧ s.vm.findClass R_law = some m.cls ∧ (∀ w ∈ lw_tbl, w.before #[Value.ref b] s = true) ∧ va_X b L xs s s.heap ∧ b < s.heap.size ∧ meth.locks = false ∧ (Jvm.Cond.and given_1 narrow_1).before #[Value.ref b] s = true
set_option maxHeartbeats 4000000 in
set_option maxRecDepth 100000 in
/-- the law's loop at its head -/
theorem law_loop {p : Program} {l : Launch} {e : Env} {s : State} {m : MethodId} {below : List Frame} {meth : Method} {c : Code} {D : va_G} {o1 o2 : Nat} {ad1 ad2 : Nat → Nat} {cB cZ cI : ClassId} {b L : Nat} {xs : Nat → Int32} (hL : L ≤ 256) (hr : meth.sig.returnType = ret) (hlocks : meth.locks = false) (E : LE D o1 ad1 cB o2 ad2 cZ cI p s m #[Value.ref b] c (fun q => s.heap.size ≤ q)) (hX : va_X b L xs s s.heap) (hbl : b < s.heap.size) : ∀ (f i : Nat) (d md : MS) (n K : Nat), i ≤ L → L + 1 ≤ i + f → RB d md n K → ∀ (H : Heap) (locs : List Loc) (ls : Array Slot), LI D o1 ad1 cB o2 ad2 cZ cI d md H → va_S (fun q => s.heap.size ≤ q) s.heap H locs → lv_has ls 4 [(0, .ref b), (1, .ref o1), (2, .ref o2), (3, .int (nI i))] → W p l e room_1 s m #[Value.ref b] below meth c H locs 600000 7290000 (lw_Z below #[Value.ref b] s) (F0 m 18 ls []) := by
  have hx := E.1.1
  have hb := E.1.2.1
  have hbA : ¬ s.heap.size ≤ b := Nat.not_le.mpr hbl
  intro f
  induction f with
  | zero =>
    intro i d md n K h1 h2
    exact absurd h2 (by omega)
  | succ f ih =>
    intro i d md n K hi hf hR H locs ls hI hS hl
    have hM := RB_MW hR
    refine lv_iload_n hx hb dL_law_18 rfl (lv_at hl 3 rfl) ?_
    refine lv_aload_n hx hb dL_law_19 rfl (lv_at hl 0 rfl) ?_
    refine va_slen hx hb hX hbl hbA hS dL_law_20 ?_
    refine lv_iconst (v := nI 4) hx hb dL_law_21 (by decide) ?_
    refine lv_isub hx hb dL_law_22 ?_
    refine lv_icmp_gt (tgt := 448) hx hb dL_law_23 (by decide) (fun c23 => ?_) (fun c23 => ?_)
    · refine lv_iconst (v := 1) hx hb dL_law_448 (by decide) ?_
      refine va_forget (fun q hq => hS.2.2 q hq) ?_
      exact lw_ret hx hb hr hlocks dL_law_449
    · have hi4 : i + 4 ≤ L := Nat.not_lt.mp (fun z => c23 ((law_gt (by omega) hL).mpr z))
      have next : ∀ (d md : MS) (n K : Nat) (H : Heap) (locs : List Loc) (ls : Array Slot), RB d md n K → LI D o1 ad1 cB o2 ad2 cZ cI d md H → va_S (fun q => s.heap.size ≤ q) s.heap H locs → lv_has ls 4 [(0, .ref b), (1, .ref o1), (2, .ref o2), (3, .int (nI i))] → W p l e room_1 s m #[Value.ref b] below meth c H locs 600000 7290000 (lw_Z below #[Value.ref b] s) (F0 m 442 ls []) := by
        intro d md n K H locs ls hR hI hS hl
        refine lv_iinc (v := nI (i + 4)) (lv' := [(3, .int (nI (i + 4))), (0, .ref b), (1, .ref o1), (2, .ref o2)]) hx hb dL_law_442 hl (k := 3) rfl (nI_add i 4) (by decide) rfl (fun ls hl => ?_)
        refine lv_goto (tgt := 18) hx hb dL_law_445 (by decide) ?_
        exact ih (i + 4) d md n K hi4 (by omega) hR H locs ls hI hS (lv_sub hl [1, 2, 3, 0] rfl)
      refine lv_aload_n hx hb dL_law_26 rfl (lv_at hl 0 rfl) ?_
      refine lv_iload_n hx hb dL_law_27 rfl (lv_at hl 3 rfl) ?_
      refine lw_ald hx hb hX hbl hbA hS hL (by omega) dL_law_28 ?_
      refine lv_bipush (v := nI 15) hx hb dL_law_29 (by decide) ?_
      refine rv_iand15 hx hb dL_law_31 ?_
      have hv := lo16_lt (xs i)
      generalize lo16 (xs i) = v at hv ⊢
      rcases (show v = 0 ∨ v = 1 ∨ v = 2 ∨ v = 3 ∨ v = 4 ∨ v = 5 ∨ v = 6 ∨ v = 7 ∨ v = 8 ∨ v = 9 ∨ v = 10 ∨ v = 11 ∨ v = 12 ∨ v = 13 ∨ v = 14 ∨ v = 15 by omega) with rfl | rfl | rfl | rfl | rfl | rfl | rfl | rfl | rfl | rfl | rfl | rfl | rfl | rfl | rfl | rfl
      · refine lv_tableIn (off := 72) (tgt := 104) hx hb dL_law_32 (by decide) (by decide) rfl (by decide) ?_
        refine lv_aload_n hx hb dL_law_104 rfl (lv_at hl 1 rfl) ?_
        refine lv_aload_n hx hb dL_law_105 rfl (lv_at hl 0 rfl) ?_
        refine lv_iload_n hx hb dL_law_106 rfl (lv_at hl 3 rfl) ?_
        refine lv_iconst (v := nI 1) hx hb dL_law_107 (by decide) ?_
        refine nv_iadd hx hb dL_law_108 ?_
        refine lw_ald hx hb hX hbl hbA hS hL (by omega) dL_law_109 ?_
        refine lv_aload_n hx hb dL_law_110 rfl (lv_at hl 0 rfl) ?_
        refine lv_iload_n hx hb dL_law_111 rfl (lv_at hl 3 rfl) ?_
        refine lv_iconst (v := nI 2) hx hb dL_law_112 (by decide) ?_
        refine nv_iadd hx hb dL_law_113 ?_
        refine lw_ald hx hb hX hbl hbA hS hL (by omega) dL_law_114 ?_
        refine lv_aload_n hx hb dL_law_115 rfl (lv_at hl 0 rfl) ?_
        refine lv_iload_n hx hb dL_law_116 rfl (lv_at hl 3 rfl) ?_
        refine lv_iconst (v := nI 3) hx hb dL_law_117 (by decide) ?_
        refine nv_iadd hx hb dL_law_118 ?_
        refine lw_ald hx hb hX hbl hbA hS hL (by omega) dL_law_119 ?_
        refine lw_dki (As := [.int (xs (i + 1)), .int (xs (i + 2)), .int (xs (i + 3))]) (rest := []) E hI hS (met_dk_emit l D o1 ad1 cB cI d hR) (cwV 3 E.1.2.2.2.2 (lw_V q86 q87 q88 q19 q89) rfl rfl rfl (by decide +kernel) ⟨by decide, by decide⟩) rfl hl.1 rfl (Nat.le_of_ble_eq_true rfl) ⟨Nat.le_refl _, Nat.le_refl _⟩ dL_law_120 (fun r1 d1 H locs hp1 hI hS => ?_)
        refine lv_aload_n hx hb dL_law_123 rfl (lv_at hl 2 rfl) ?_
        refine lv_aload_n hx hb dL_law_124 rfl (lv_at hl 0 rfl) ?_
        refine lv_iload_n hx hb dL_law_125 rfl (lv_at hl 3 rfl) ?_
        refine lv_iconst (v := nI 1) hx hb dL_law_126 (by decide) ?_
        refine nv_iadd hx hb dL_law_127 ?_
        refine lw_ald hx hb hX hbl hbA hS hL (by omega) dL_law_128 ?_
        refine lv_aload_n hx hb dL_law_129 rfl (lv_at hl 0 rfl) ?_
        refine lv_iload_n hx hb dL_law_130 rfl (lv_at hl 3 rfl) ?_
        refine lv_iconst (v := nI 2) hx hb dL_law_131 (by decide) ?_
        refine nv_iadd hx hb dL_law_132 ?_
        refine lw_ald hx hb hX hbl hbA hS hL (by omega) dL_law_133 ?_
        refine lv_aload_n hx hb dL_law_134 rfl (lv_at hl 0 rfl) ?_
        refine lv_iload_n hx hb dL_law_135 rfl (lv_at hl 3 rfl) ?_
        refine lv_iconst (v := nI 3) hx hb dL_law_136 (by decide) ?_
        refine nv_iadd hx hb dL_law_137 ?_
        refine lw_ald hx hb hX hbl hbA hS hL (by omega) dL_law_138 ?_
        refine lw_mdi (As := [.int (xs (i + 1)), .int (xs (i + 2)), .int (xs (i + 3))]) (rest := [.int r1]) E hI hS (met_md_emit l D o2 ad2 cZ cI md hM) (cwV 3 E.1.2.2.2.2 (lw_V q242 q243 q244 q20 q245) rfl rfl rfl (by decide +kernel) ⟨by decide, by decide⟩) rfl hl.1 rfl (Nat.le_of_ble_eq_true rfl) ⟨Nat.le_refl _, Nat.le_refl _⟩ dL_law_139 (fun r2 md1 H locs hp2 hI hS => ?_)
        have hj : r1 = r2 ∧ ∃ n' K', RB d1 md1 n' K' := EmR_join hp1 hp2
        refine lv_icmp_eq (tgt := 442) hx hb dL_law_142 (by decide) (fun _ => ?_) (fun c9 => ?_)
        · obtain ⟨-, n', K', hR'⟩ := hj
          exact next d1 md1 n' K' H locs ls hR' hI hS hl
        · exact absurd hj.1 c9
      · refine lv_tableIn (off := 115) (tgt := 147) hx hb dL_law_32 (by decide) (by decide) rfl (by decide) ?_
        refine lv_aload_n hx hb dL_law_147 rfl (lv_at hl 1 rfl) ?_
        refine lw_dkv (As := []) (rest := []) E hI hS (met_dk_forgetAll l D o1 ad1 cB cI d hR) (cwV 0 E.1.2.2.2.2 (lw_V q90 q91 q92 q19 q93) rfl rfl rfl (by decide +kernel) ⟨by decide, by decide⟩) rfl hl.1 rfl (Nat.le_of_ble_eq_true rfl) ⟨Nat.le_refl _, Nat.le_refl _⟩ dL_law_148 (fun d1 H locs hp1 hI hS => ?_)
        refine lv_aload_n hx hb dL_law_151 rfl (lv_at hl 2 rfl) ?_
        refine lw_mdv (As := []) (rest := []) E hI hS (met_md_forgetAll l D o2 ad2 cZ cI md) (cwV 0 E.1.2.2.2.2 (lw_V q250 q251 q252 q20 q253) rfl rfl rfl (by decide +kernel) ⟨by decide, by decide⟩) rfl hl.1 rfl (Nat.le_of_ble_eq_true rfl) ⟨Nat.le_refl _, Nat.le_refl _⟩ dL_law_152 (fun md1 H locs hp2 hI hS => ?_)
        refine lv_goto (tgt := 442) hx hb dL_law_155 (by decide) ?_
        obtain ⟨n', K', hR'⟩ : ∃ n' K', RB d1 md1 n' K' := ⟨n, 0, by rw [hp2]; exact hp1⟩
        exact next d1 md1 n' K' H locs ls hR' hI hS hl
      · refine lv_tableIn (off := 126) (tgt := 158) hx hb dL_law_32 (by decide) (by decide) rfl (by decide) ?_
        refine lv_aload_n hx hb dL_law_158 rfl (lv_at hl 1 rfl) ?_
        refine lw_dkv (As := []) (rest := []) E hI hS (met_dk_clear l D o1 ad1 cB cI d hR) (cwV 0 E.1.2.2.2.2 (lw_V q102 q103 q104 q19 q105) rfl rfl rfl (by decide +kernel) ⟨by decide, by decide⟩) rfl hl.1 rfl (Nat.le_of_ble_eq_true rfl) ⟨Nat.le_refl _, Nat.le_refl _⟩ dL_law_159 (fun d1 H locs hp1 hI hS => ?_)
        refine lv_aload_n hx hb dL_law_162 rfl (lv_at hl 2 rfl) ?_
        refine lw_mdv (As := []) (rest := []) E hI hS (met_md_clear l D o2 ad2 cZ cI md) (cwV 0 E.1.2.2.2.2 (lw_V q254 q255 q256 q20 q257) rfl rfl rfl (by decide +kernel) ⟨by decide, by decide⟩) rfl hl.1 rfl (Nat.le_of_ble_eq_true rfl) ⟨Nat.le_refl _, Nat.le_refl _⟩ dL_law_163 (fun md1 H locs hp2 hI hS => ?_)
        refine lv_goto (tgt := 442) hx hb dL_law_166 (by decide) ?_
        obtain ⟨n', K', hR'⟩ : ∃ n' K', RB d1 md1 n' K' := ⟨0, 0, by rw [hp2]; exact hp1⟩
        exact next d1 md1 n' K' H locs ls hR' hI hS hl
      · refine lv_tableIn (off := 137) (tgt := 169) hx hb dL_law_32 (by decide) (by decide) rfl (by decide) ?_
        refine lv_aload_n hx hb dL_law_169 rfl (lv_at hl 1 rfl) ?_
        refine lw_dki (As := []) (rest := []) E hI hS (met_dk_start l D o1 ad1 cB cI d hR) (cwV 0 E.1.2.2.2.2 (lw_V q107 q108 q109 q19 q110) rfl rfl rfl (by decide +kernel) ⟨by decide, by decide⟩) rfl hl.1 rfl (Nat.le_of_ble_eq_true rfl) ⟨Nat.le_refl _, Nat.le_refl _⟩ dL_law_170 (fun r1 d1 H locs hp1 hI hS => ?_)
        refine lv_aload_n hx hb dL_law_173 rfl (lv_at hl 2 rfl) ?_
        refine lw_mdi (As := []) (rest := [.int r1]) E hI hS (met_md_start l D o2 ad2 cZ cI md hM) (cwV 0 E.1.2.2.2.2 (lw_V q259 q260 q261 q20 q262) rfl rfl rfl (by decide +kernel) ⟨by decide, by decide⟩) rfl hl.1 rfl (Nat.le_of_ble_eq_true rfl) ⟨Nat.le_refl _, Nat.le_refl _⟩ dL_law_174 (fun r2 md1 H locs hp2 hI hS => ?_)
        have hj : r1 = r2 ∧ ∃ n' K', RB d1 md1 n' K' := GoR_join hp1 hp2
        refine lv_icmp_eq (tgt := 442) hx hb dL_law_177 (by decide) (fun _ => ?_) (fun c9 => ?_)
        · obtain ⟨-, n', K', hR'⟩ := hj
          exact next d1 md1 n' K' H locs ls hR' hI hS hl
        · exact absurd hj.1 c9
      · refine lv_tableIn (off := 150) (tgt := 182) hx hb dL_law_32 (by decide) (by decide) rfl (by decide) ?_
        refine lv_aload_n hx hb dL_law_182 rfl (lv_at hl 1 rfl) ?_
        refine lv_aload_n hx hb dL_law_183 rfl (lv_at hl 0 rfl) ?_
        refine lv_iload_n hx hb dL_law_184 rfl (lv_at hl 3 rfl) ?_
        refine lv_iconst (v := nI 1) hx hb dL_law_185 (by decide) ?_
        refine nv_iadd hx hb dL_law_186 ?_
        refine lw_ald hx hb hX hbl hbA hS hL (by omega) dL_law_187 ?_
        refine lv_aload_n hx hb dL_law_188 rfl (lv_at hl 0 rfl) ?_
        refine lv_iload_n hx hb dL_law_189 rfl (lv_at hl 3 rfl) ?_
        refine lv_iconst (v := nI 2) hx hb dL_law_190 (by decide) ?_
        refine nv_iadd hx hb dL_law_191 ?_
        refine lw_ald hx hb hX hbl hbA hS hL (by omega) dL_law_192 ?_
        refine lw_dki (As := [.int (xs (i + 1)), .int (xs (i + 2))]) (rest := []) E hI hS (met_dk_answer l D o1 ad1 cB cI d hR) (cwV 2 E.1.2.2.2.2 (lw_V q147 q148 q149 q19 q150) rfl rfl rfl (by decide +kernel) ⟨by decide, by decide⟩) rfl hl.1 rfl (Nat.le_of_ble_eq_true rfl) ⟨Nat.le_refl _, Nat.le_refl _⟩ dL_law_193 (fun r1 d1 H locs hp1 hI hS => ?_)
        refine lv_aload_n hx hb dL_law_196 rfl (lv_at hl 2 rfl) ?_
        refine lv_aload_n hx hb dL_law_197 rfl (lv_at hl 0 rfl) ?_
        refine lv_iload_n hx hb dL_law_198 rfl (lv_at hl 3 rfl) ?_
        refine lv_iconst (v := nI 1) hx hb dL_law_199 (by decide) ?_
        refine nv_iadd hx hb dL_law_200 ?_
        refine lw_ald hx hb hX hbl hbA hS hL (by omega) dL_law_201 ?_
        refine lv_aload_n hx hb dL_law_202 rfl (lv_at hl 0 rfl) ?_
        refine lv_iload_n hx hb dL_law_203 rfl (lv_at hl 3 rfl) ?_
        refine lv_iconst (v := nI 2) hx hb dL_law_204 (by decide) ?_
        refine nv_iadd hx hb dL_law_205 ?_
        refine lw_ald hx hb hX hbl hbA hS hL (by omega) dL_law_206 ?_
        refine lw_mdi (As := [.int (xs (i + 1)), .int (xs (i + 2))]) (rest := [.int r1]) E hI hS (met_md_answer l D o2 ad2 cZ cI md hM) (cwV 2 E.1.2.2.2.2 (lw_V q275 q276 q277 q20 q278) rfl rfl rfl (by decide +kernel) ⟨by decide, by decide⟩) rfl hl.1 rfl (Nat.le_of_ble_eq_true rfl) ⟨Nat.le_refl _, Nat.le_refl _⟩ dL_law_207 (fun r2 md1 H locs hp2 hI hS => ?_)
        have hj : r1 = r2 ∧ ∃ n' K', RB d1 md1 n' K' := AsR_join hp1 hp2
        refine lv_icmp_eq (tgt := 442) hx hb dL_law_210 (by decide) (fun _ => ?_) (fun c9 => ?_)
        · obtain ⟨-, n', K', hR'⟩ := hj
          exact next d1 md1 n' K' H locs ls hR' hI hS hl
        · exact absurd hj.1 c9
      · refine lv_tableIn (off := 183) (tgt := 215) hx hb dL_law_32 (by decide) (by decide) rfl (by decide) ?_
        refine lv_aload_n hx hb dL_law_215 rfl (lv_at hl 1 rfl) ?_
        refine lv_aload_n hx hb dL_law_216 rfl (lv_at hl 0 rfl) ?_
        refine lv_iload_n hx hb dL_law_217 rfl (lv_at hl 3 rfl) ?_
        refine lv_iconst (v := nI 1) hx hb dL_law_218 (by decide) ?_
        refine nv_iadd hx hb dL_law_219 ?_
        refine lw_ald hx hb hX hbl hbA hS hL (by omega) dL_law_220 ?_
        refine lw_dki (As := [.int (xs (i + 1))]) (rest := []) E hI hS (met_dk_goOn l D o1 ad1 cB cI d hR) (cwV 1 E.1.2.2.2.2 (lw_V q155 q156 q157 q19 q158) rfl rfl rfl (by decide +kernel) ⟨by decide, by decide⟩) rfl hl.1 rfl (Nat.le_of_ble_eq_true rfl) ⟨Nat.le_refl _, Nat.le_refl _⟩ dL_law_221 (fun r1 d1 H locs hp1 hI hS => ?_)
        refine lv_aload_n hx hb dL_law_224 rfl (lv_at hl 2 rfl) ?_
        refine lv_aload_n hx hb dL_law_225 rfl (lv_at hl 0 rfl) ?_
        refine lv_iload_n hx hb dL_law_226 rfl (lv_at hl 3 rfl) ?_
        refine lv_iconst (v := nI 1) hx hb dL_law_227 (by decide) ?_
        refine nv_iadd hx hb dL_law_228 ?_
        refine lw_ald hx hb hX hbl hbA hS hL (by omega) dL_law_229 ?_
        refine lw_mdi (As := [.int (xs (i + 1))]) (rest := [.int r1]) E hI hS (met_md_goOn l D o2 ad2 cZ cI md hM) (cwV 1 E.1.2.2.2.2 (lw_V q287 q288 q289 q20 q290) rfl rfl rfl (by decide +kernel) ⟨by decide, by decide⟩) rfl hl.1 rfl (Nat.le_of_ble_eq_true rfl) ⟨Nat.le_refl _, Nat.le_refl _⟩ dL_law_230 (fun r2 md1 H locs hp2 hI hS => ?_)
        have hj : r1 = r2 ∧ ∃ n' K', RB d1 md1 n' K' := AsR_join hp1 hp2
        refine lv_icmp_eq (tgt := 442) hx hb dL_law_233 (by decide) (fun _ => ?_) (fun c9 => ?_)
        · obtain ⟨-, n', K', hR'⟩ := hj
          exact next d1 md1 n' K' H locs ls hR' hI hS hl
        · exact absurd hj.1 c9
      · refine lv_tableIn (off := 206) (tgt := 238) hx hb dL_law_32 (by decide) (by decide) rfl (by decide) ?_
        refine lv_aload_n hx hb dL_law_238 rfl (lv_at hl 1 rfl) ?_
        refine lv_aload_n hx hb dL_law_239 rfl (lv_at hl 0 rfl) ?_
        refine lv_iload_n hx hb dL_law_240 rfl (lv_at hl 3 rfl) ?_
        refine lv_iconst (v := nI 1) hx hb dL_law_241 (by decide) ?_
        refine nv_iadd hx hb dL_law_242 ?_
        refine lw_ald hx hb hX hbl hbA hS hL (by omega) dL_law_243 ?_
        refine lw_dki (As := [.int (xs (i + 1))]) (rest := []) E hI hS (met_dk_forget l D o1 ad1 cB cI d hR) (cwV 1 E.1.2.2.2.2 (lw_V q159 q95 q96 q19 q97) rfl rfl rfl (by decide +kernel) ⟨by decide, by decide⟩) rfl hl.1 rfl (Nat.le_of_ble_eq_true rfl) ⟨Nat.le_refl _, Nat.le_refl _⟩ dL_law_244 (fun r1 d1 H locs hp1 hI hS => ?_)
        refine lv_aload_n hx hb dL_law_247 rfl (lv_at hl 2 rfl) ?_
        refine lv_aload_n hx hb dL_law_248 rfl (lv_at hl 0 rfl) ?_
        refine lv_iload_n hx hb dL_law_249 rfl (lv_at hl 3 rfl) ?_
        refine lv_iconst (v := nI 1) hx hb dL_law_250 (by decide) ?_
        refine nv_iadd hx hb dL_law_251 ?_
        refine lw_ald hx hb hX hbl hbA hS hL (by omega) dL_law_252 ?_
        refine lw_mdi (As := [.int (xs (i + 1))]) (rest := [.int r1]) E hI hS (met_md_forget l D o2 ad2 cZ cI md hM) (cwV 1 E.1.2.2.2.2 (lw_V q291 q292 q293 q20 q294) rfl rfl rfl (by decide +kernel) ⟨by decide, by decide⟩) rfl hl.1 rfl (Nat.le_of_ble_eq_true rfl) ⟨Nat.le_refl _, Nat.le_refl _⟩ dL_law_253 (fun r2 md1 H locs hp2 hI hS => ?_)
        have hj : r1 = r2 ∧ ∃ n' K', RB d1 md1 n' K' := ⟨hp1.1.trans hp2.1.symm, n, _, by rw [hp2.2]; exact hp1.2⟩
        refine lv_icmp_eq (tgt := 442) hx hb dL_law_256 (by decide) (fun _ => ?_) (fun c9 => ?_)
        · obtain ⟨-, n', K', hR'⟩ := hj
          exact next d1 md1 n' K' H locs ls hR' hI hS hl
        · exact absurd hj.1 c9
      · refine lv_tableIn (off := 229) (tgt := 261) hx hb dL_law_32 (by decide) (by decide) rfl (by decide) ?_
        refine lv_aload_n hx hb dL_law_261 rfl (lv_at hl 1 rfl) ?_
        refine lw_dki (As := []) (rest := []) E hI hS (met_dk_moments l D o1 ad1 cB cI d hR) (cwV 0 E.1.2.2.2.2 (lw_V q160 q161 q162 q19 q163) rfl rfl rfl (by decide +kernel) ⟨by decide, by decide⟩) rfl hl.1 rfl (Nat.le_of_ble_eq_true rfl) ⟨Nat.le_refl _, Nat.le_refl _⟩ dL_law_262 (fun r1 d1 H locs hp1 hI hS => ?_)
        refine lv_aload_n hx hb dL_law_265 rfl (lv_at hl 2 rfl) ?_
        refine lw_mdi (As := []) (rest := [.int r1]) E hI hS (met_md_moments l D o2 ad2 cZ cI md hM) (cwV 0 E.1.2.2.2.2 (lw_V q295 q247 q248 q20 q249) rfl rfl rfl (by decide +kernel) ⟨by decide, by decide⟩) rfl hl.1 rfl (Nat.le_of_ble_eq_true rfl) ⟨Nat.le_refl _, Nat.le_refl _⟩ dL_law_266 (fun r2 md1 H locs hp2 hI hS => ?_)
        have hj : r1 = r2 ∧ ∃ n' K', RB d1 md1 n' K' := ⟨hp1.2.trans hp2.2.symm, n, K, by rw [hp1.1, hp2.1]; exact hR⟩
        refine lv_icmp_eq (tgt := 442) hx hb dL_law_269 (by decide) (fun _ => ?_) (fun c9 => ?_)
        · obtain ⟨-, n', K', hR'⟩ := hj
          exact next d1 md1 n' K' H locs ls hR' hI hS hl
        · exact absurd hj.1 c9
      · refine lv_tableIn (off := 242) (tgt := 274) hx hb dL_law_32 (by decide) (by decide) rfl (by decide) ?_
        refine lv_aload_n hx hb dL_law_274 rfl (lv_at hl 1 rfl) ?_
        refine lv_aload_n hx hb dL_law_275 rfl (lv_at hl 0 rfl) ?_
        refine lv_iload_n hx hb dL_law_276 rfl (lv_at hl 3 rfl) ?_
        refine lv_iconst (v := nI 1) hx hb dL_law_277 (by decide) ?_
        refine nv_iadd hx hb dL_law_278 ?_
        refine lw_ald hx hb hX hbl hbA hS hL (by omega) dL_law_279 ?_
        refine lw_dki (As := [.int (xs (i + 1))]) (rest := []) E hI hS (met_dk_kind l D o1 ad1 cB cI d hR) (cwV 1 E.1.2.2.2.2 (lw_V q164 q165 q166 q19 q167) rfl rfl rfl (by decide +kernel) ⟨by decide, by decide⟩) rfl hl.1 rfl (Nat.le_of_ble_eq_true rfl) ⟨Nat.le_refl _, Nat.le_refl _⟩ dL_law_280 (fun r1 d1 H locs hp1 hI hS => ?_)
        refine lv_aload_n hx hb dL_law_283 rfl (lv_at hl 2 rfl) ?_
        refine lv_aload_n hx hb dL_law_284 rfl (lv_at hl 0 rfl) ?_
        refine lv_iload_n hx hb dL_law_285 rfl (lv_at hl 3 rfl) ?_
        refine lv_iconst (v := nI 1) hx hb dL_law_286 (by decide) ?_
        refine nv_iadd hx hb dL_law_287 ?_
        refine lw_ald hx hb hX hbl hbA hS hL (by omega) dL_law_288 ?_
        refine lw_mdi (As := [.int (xs (i + 1))]) (rest := [.int r1]) E hI hS (met_md_kind l D o2 ad2 cZ cI md hM) (cwV 1 E.1.2.2.2.2 (lw_V q296 q297 q298 q20 q299) rfl rfl rfl (by decide +kernel) ⟨by decide, by decide⟩) rfl hl.1 rfl (Nat.le_of_ble_eq_true rfl) ⟨Nat.le_refl _, Nat.le_refl _⟩ dL_law_289 (fun r2 md1 H locs hp2 hI hS => ?_)
        have hj : r1 = r2 ∧ ∃ n' K', RB d1 md1 n' K' := ⟨hp1.2.trans hp2.2.symm, n, K, by rw [hp1.1, hp2.1]; exact hR⟩
        refine lv_icmp_eq (tgt := 442) hx hb dL_law_292 (by decide) (fun _ => ?_) (fun c9 => ?_)
        · obtain ⟨-, n', K', hR'⟩ := hj
          exact next d1 md1 n' K' H locs ls hR' hI hS hl
        · exact absurd hj.1 c9
      · refine lv_tableIn (off := 265) (tgt := 297) hx hb dL_law_32 (by decide) (by decide) rfl (by decide) ?_
        refine lv_aload_n hx hb dL_law_297 rfl (lv_at hl 1 rfl) ?_
        refine lv_aload_n hx hb dL_law_298 rfl (lv_at hl 0 rfl) ?_
        refine lv_iload_n hx hb dL_law_299 rfl (lv_at hl 3 rfl) ?_
        refine lv_iconst (v := nI 1) hx hb dL_law_300 (by decide) ?_
        refine nv_iadd hx hb dL_law_301 ?_
        refine lw_ald hx hb hX hbl hbA hS hL (by omega) dL_law_302 ?_
        refine lw_dki (As := [.int (xs (i + 1))]) (rest := []) E hI hS (met_dk_position l D o1 ad1 cB cI d hR) (cwV 1 E.1.2.2.2.2 (lw_V q168 q169 q170 q19 q171) rfl rfl rfl (by decide +kernel) ⟨by decide, by decide⟩) rfl hl.1 rfl (Nat.le_of_ble_eq_true rfl) ⟨Nat.le_refl _, Nat.le_refl _⟩ dL_law_303 (fun r1 d1 H locs hp1 hI hS => ?_)
        refine lv_aload_n hx hb dL_law_306 rfl (lv_at hl 2 rfl) ?_
        refine lv_aload_n hx hb dL_law_307 rfl (lv_at hl 0 rfl) ?_
        refine lv_iload_n hx hb dL_law_308 rfl (lv_at hl 3 rfl) ?_
        refine lv_iconst (v := nI 1) hx hb dL_law_309 (by decide) ?_
        refine nv_iadd hx hb dL_law_310 ?_
        refine lw_ald hx hb hX hbl hbA hS hL (by omega) dL_law_311 ?_
        refine lw_mdi (As := [.int (xs (i + 1))]) (rest := [.int r1]) E hI hS (met_md_position l D o2 ad2 cZ cI md hM) (cwV 1 E.1.2.2.2.2 (lw_V q304 q305 q306 q20 q307) rfl rfl rfl (by decide +kernel) ⟨by decide, by decide⟩) rfl hl.1 rfl (Nat.le_of_ble_eq_true rfl) ⟨Nat.le_refl _, Nat.le_refl _⟩ dL_law_312 (fun r2 md1 H locs hp2 hI hS => ?_)
        have hj : r1 = r2 ∧ ∃ n' K', RB d1 md1 n' K' := ⟨hp1.2.trans hp2.2.symm, n, K, by rw [hp1.1, hp2.1]; exact hR⟩
        refine lv_icmp_eq (tgt := 442) hx hb dL_law_315 (by decide) (fun _ => ?_) (fun c9 => ?_)
        · obtain ⟨-, n', K', hR'⟩ := hj
          exact next d1 md1 n' K' H locs ls hR' hI hS hl
        · exact absurd hj.1 c9
      · refine lv_tableIn (off := 288) (tgt := 320) hx hb dL_law_32 (by decide) (by decide) rfl (by decide) ?_
        refine lv_aload_n hx hb dL_law_320 rfl (lv_at hl 1 rfl) ?_
        refine lv_aload_n hx hb dL_law_321 rfl (lv_at hl 0 rfl) ?_
        refine lv_iload_n hx hb dL_law_322 rfl (lv_at hl 3 rfl) ?_
        refine lv_iconst (v := nI 1) hx hb dL_law_323 (by decide) ?_
        refine nv_iadd hx hb dL_law_324 ?_
        refine lw_ald hx hb hX hbl hbA hS hL (by omega) dL_law_325 ?_
        refine lv_aload_n hx hb dL_law_326 rfl (lv_at hl 0 rfl) ?_
        refine lv_iload_n hx hb dL_law_327 rfl (lv_at hl 3 rfl) ?_
        refine lv_iconst (v := nI 2) hx hb dL_law_328 (by decide) ?_
        refine nv_iadd hx hb dL_law_329 ?_
        refine lw_ald hx hb hX hbl hbA hS hL (by omega) dL_law_330 ?_
        refine lw_dki (As := [.int (xs (i + 1)), .int (xs (i + 2))]) (rest := []) E hI hS (met_dk_peek l D o1 ad1 cB cI d hR) (cwV 2 E.1.2.2.2.2 (lw_V q172 q173 q174 q19 q175) rfl rfl rfl (by decide +kernel) ⟨by decide, by decide⟩) rfl hl.1 rfl (Nat.le_of_ble_eq_true rfl) ⟨Nat.le_refl _, Nat.le_refl _⟩ dL_law_331 (fun r1 d1 H locs hp1 hI hS => ?_)
        refine lv_aload_n hx hb dL_law_334 rfl (lv_at hl 2 rfl) ?_
        refine lv_aload_n hx hb dL_law_335 rfl (lv_at hl 0 rfl) ?_
        refine lv_iload_n hx hb dL_law_336 rfl (lv_at hl 3 rfl) ?_
        refine lv_iconst (v := nI 1) hx hb dL_law_337 (by decide) ?_
        refine nv_iadd hx hb dL_law_338 ?_
        refine lw_ald hx hb hX hbl hbA hS hL (by omega) dL_law_339 ?_
        refine lv_aload_n hx hb dL_law_340 rfl (lv_at hl 0 rfl) ?_
        refine lv_iload_n hx hb dL_law_341 rfl (lv_at hl 3 rfl) ?_
        refine lv_iconst (v := nI 2) hx hb dL_law_342 (by decide) ?_
        refine nv_iadd hx hb dL_law_343 ?_
        refine lw_ald hx hb hX hbl hbA hS hL (by omega) dL_law_344 ?_
        refine lw_mdi (As := [.int (xs (i + 1)), .int (xs (i + 2))]) (rest := [.int r1]) E hI hS (met_md_peek l D o2 ad2 cZ cI md hM) (cwV 2 E.1.2.2.2.2 (lw_V q308 q309 q310 q20 q311) rfl rfl rfl (by decide +kernel) ⟨by decide, by decide⟩) rfl hl.1 rfl (Nat.le_of_ble_eq_true rfl) ⟨Nat.le_refl _, Nat.le_refl _⟩ dL_law_345 (fun r2 md1 H locs hp2 hI hS => ?_)
        have hj : r1 = r2 ∧ ∃ n' K', RB d1 md1 n' K' := ⟨PeekR_det hp1.2 hp2.2, n, K, by rw [hp1.1, hp2.1]; exact hR⟩
        refine lv_icmp_eq (tgt := 442) hx hb dL_law_348 (by decide) (fun _ => ?_) (fun c9 => ?_)
        · obtain ⟨-, n', K', hR'⟩ := hj
          exact next d1 md1 n' K' H locs ls hR' hI hS hl
        · exact absurd hj.1 c9
      · refine lv_tableIn (off := 321) (tgt := 353) hx hb dL_law_32 (by decide) (by decide) rfl (by decide) ?_
        refine lv_aload_n hx hb dL_law_353 rfl (lv_at hl 1 rfl) ?_
        refine lv_aload_n hx hb dL_law_354 rfl (lv_at hl 0 rfl) ?_
        refine lv_iload_n hx hb dL_law_355 rfl (lv_at hl 3 rfl) ?_
        refine lv_iconst (v := nI 1) hx hb dL_law_356 (by decide) ?_
        refine nv_iadd hx hb dL_law_357 ?_
        refine lw_ald hx hb hX hbl hbA hS hL (by omega) dL_law_358 ?_
        refine lw_dki (As := [.int (xs (i + 1))]) (rest := []) E hI hS (met_dk_said l D o1 ad1 cB cI d hR) (cwV 1 E.1.2.2.2.2 (lw_V q176 q177 q178 q19 q179) rfl rfl rfl (by decide +kernel) ⟨by decide, by decide⟩) rfl hl.1 rfl (Nat.le_of_ble_eq_true rfl) ⟨Nat.le_refl _, Nat.le_refl _⟩ dL_law_359 (fun r1 d1 H locs hp1 hI hS => ?_)
        refine lv_aload_n hx hb dL_law_362 rfl (lv_at hl 2 rfl) ?_
        refine lv_aload_n hx hb dL_law_363 rfl (lv_at hl 0 rfl) ?_
        refine lv_iload_n hx hb dL_law_364 rfl (lv_at hl 3 rfl) ?_
        refine lv_iconst (v := nI 1) hx hb dL_law_365 (by decide) ?_
        refine nv_iadd hx hb dL_law_366 ?_
        refine lw_ald hx hb hX hbl hbA hS hL (by omega) dL_law_367 ?_
        refine lw_mdi (As := [.int (xs (i + 1))]) (rest := [.int r1]) E hI hS (met_md_said l D o2 ad2 cZ cI md hM) (cwV 1 E.1.2.2.2.2 (lw_V q312 q313 q314 q20 q315) rfl rfl rfl (by decide +kernel) ⟨by decide, by decide⟩) rfl hl.1 rfl (Nat.le_of_ble_eq_true rfl) ⟨Nat.le_refl _, Nat.le_refl _⟩ dL_law_368 (fun r2 md1 H locs hp2 hI hS => ?_)
        have hj : r1 = r2 ∧ ∃ n' K', RB d1 md1 n' K' := ⟨hp1.2.trans hp2.2.symm, n, K, by rw [hp1.1, hp2.1]; exact hR⟩
        refine lv_icmp_eq (tgt := 442) hx hb dL_law_371 (by decide) (fun _ => ?_) (fun c9 => ?_)
        · obtain ⟨-, n', K', hR'⟩ := hj
          exact next d1 md1 n' K' H locs ls hR' hI hS hl
        · exact absurd hj.1 c9
      · refine lv_tableIn (off := 344) (tgt := 376) hx hb dL_law_32 (by decide) (by decide) rfl (by decide) ?_
        refine lv_aload_n hx hb dL_law_376 rfl (lv_at hl 1 rfl) ?_
        refine lv_aload_n hx hb dL_law_377 rfl (lv_at hl 0 rfl) ?_
        refine lv_iload_n hx hb dL_law_378 rfl (lv_at hl 3 rfl) ?_
        refine lv_iconst (v := nI 1) hx hb dL_law_379 (by decide) ?_
        refine nv_iadd hx hb dL_law_380 ?_
        refine lw_ald hx hb hX hbl hbA hS hL (by omega) dL_law_381 ?_
        refine lv_aload_n hx hb dL_law_382 rfl (lv_at hl 0 rfl) ?_
        refine lv_iload_n hx hb dL_law_383 rfl (lv_at hl 3 rfl) ?_
        refine lv_iconst (v := nI 2) hx hb dL_law_384 (by decide) ?_
        refine nv_iadd hx hb dL_law_385 ?_
        refine lw_ald hx hb hX hbl hbA hS hL (by omega) dL_law_386 ?_
        refine lw_dki (As := [.int (xs (i + 1)), .int (xs (i + 2))]) (rest := []) E hI hS (met_dk_lastSaid l D o1 ad1 cB cI d hR) (cwV 2 E.1.2.2.2.2 (lw_V q180 q181 q182 q19 q183) rfl rfl rfl (by decide +kernel) ⟨by decide, by decide⟩) rfl hl.1 rfl (Nat.le_of_ble_eq_true rfl) ⟨Nat.le_refl _, Nat.le_refl _⟩ dL_law_387 (fun r1 d1 H locs hp1 hI hS => ?_)
        refine lv_aload_n hx hb dL_law_390 rfl (lv_at hl 2 rfl) ?_
        refine lv_aload_n hx hb dL_law_391 rfl (lv_at hl 0 rfl) ?_
        refine lv_iload_n hx hb dL_law_392 rfl (lv_at hl 3 rfl) ?_
        refine lv_iconst (v := nI 1) hx hb dL_law_393 (by decide) ?_
        refine nv_iadd hx hb dL_law_394 ?_
        refine lw_ald hx hb hX hbl hbA hS hL (by omega) dL_law_395 ?_
        refine lv_aload_n hx hb dL_law_396 rfl (lv_at hl 0 rfl) ?_
        refine lv_iload_n hx hb dL_law_397 rfl (lv_at hl 3 rfl) ?_
        refine lv_iconst (v := nI 2) hx hb dL_law_398 (by decide) ?_
        refine nv_iadd hx hb dL_law_399 ?_
        refine lw_ald hx hb hX hbl hbA hS hL (by omega) dL_law_400 ?_
        refine lw_mdi (As := [.int (xs (i + 1)), .int (xs (i + 2))]) (rest := [.int r1]) E hI hS (met_md_lastSaid l D o2 ad2 cZ cI md hM) (cwV 2 E.1.2.2.2.2 (lw_V q316 q317 q318 q20 q319) rfl rfl rfl (by decide +kernel) ⟨by decide, by decide⟩) rfl hl.1 rfl (Nat.le_of_ble_eq_true rfl) ⟨Nat.le_refl _, Nat.le_refl _⟩ dL_law_401 (fun r2 md1 H locs hp2 hI hS => ?_)
        have hj : r1 = r2 ∧ ∃ n' K', RB d1 md1 n' K' := ⟨LastR_det hp1.2 hp2.2, n, K, by rw [hp1.1, hp2.1]; exact hR⟩
        refine lv_icmp_eq (tgt := 442) hx hb dL_law_404 (by decide) (fun _ => ?_) (fun c9 => ?_)
        · obtain ⟨-, n', K', hR'⟩ := hj
          exact next d1 md1 n' K' H locs ls hR' hI hS hl
        · exact absurd hj.1 c9
      · refine lv_tableIn (off := 377) (tgt := 409) hx hb dL_law_32 (by decide) (by decide) rfl (by decide) ?_
        refine lv_aload_n hx hb dL_law_409 rfl (lv_at hl 1 rfl) ?_
        refine lv_aload_n hx hb dL_law_410 rfl (lv_at hl 0 rfl) ?_
        refine lv_iload_n hx hb dL_law_411 rfl (lv_at hl 3 rfl) ?_
        refine lv_iconst (v := nI 1) hx hb dL_law_412 (by decide) ?_
        refine nv_iadd hx hb dL_law_413 ?_
        refine lw_ald hx hb hX hbl hbA hS hL (by omega) dL_law_414 ?_
        refine lv_aload_n hx hb dL_law_415 rfl (lv_at hl 0 rfl) ?_
        refine lv_iload_n hx hb dL_law_416 rfl (lv_at hl 3 rfl) ?_
        refine lv_iconst (v := nI 2) hx hb dL_law_417 (by decide) ?_
        refine nv_iadd hx hb dL_law_418 ?_
        refine lw_ald hx hb hX hbl hbA hS hL (by omega) dL_law_419 ?_
        refine lw_dki (As := [.int (xs (i + 1)), .int (xs (i + 2))]) (rest := []) E hI hS (met_dk_difference l D o1 ad1 cB cI d hR) (cwV 2 E.1.2.2.2.2 (lw_V q184 q185 q186 q19 q187) rfl rfl rfl (by decide +kernel) ⟨by decide, by decide⟩) rfl hl.1 rfl (Nat.le_of_ble_eq_true rfl) ⟨Nat.le_refl _, Nat.le_refl _⟩ dL_law_420 (fun r1 d1 H locs hp1 hI hS => ?_)
        refine lv_aload_n hx hb dL_law_423 rfl (lv_at hl 2 rfl) ?_
        refine lv_aload_n hx hb dL_law_424 rfl (lv_at hl 0 rfl) ?_
        refine lv_iload_n hx hb dL_law_425 rfl (lv_at hl 3 rfl) ?_
        refine lv_iconst (v := nI 1) hx hb dL_law_426 (by decide) ?_
        refine nv_iadd hx hb dL_law_427 ?_
        refine lw_ald hx hb hX hbl hbA hS hL (by omega) dL_law_428 ?_
        refine lv_aload_n hx hb dL_law_429 rfl (lv_at hl 0 rfl) ?_
        refine lv_iload_n hx hb dL_law_430 rfl (lv_at hl 3 rfl) ?_
        refine lv_iconst (v := nI 2) hx hb dL_law_431 (by decide) ?_
        refine nv_iadd hx hb dL_law_432 ?_
        refine lw_ald hx hb hX hbl hbA hS hL (by omega) dL_law_433 ?_
        refine lw_mdi (As := [.int (xs (i + 1)), .int (xs (i + 2))]) (rest := [.int r1]) E hI hS (met_md_difference l D o2 ad2 cZ cI md hM) (cwV 2 E.1.2.2.2.2 (lw_V q320 q321 q322 q20 q323) rfl rfl rfl (by decide +kernel) ⟨by decide, by decide⟩) rfl hl.1 rfl (Nat.le_of_ble_eq_true rfl) ⟨Nat.le_refl _, Nat.le_refl _⟩ dL_law_434 (fun r2 md1 H locs hp2 hI hS => ?_)
        have hj : r1 = r2 ∧ ∃ n' K', RB d1 md1 n' K' := ⟨DiffR_det hp1.2 hp2.2, n, K, by rw [hp1.1, hp2.1]; exact hR⟩
        refine lv_icmp_eq (tgt := 442) hx hb dL_law_437 (by decide) (fun _ => ?_) (fun c9 => ?_)
        · obtain ⟨-, n', K', hR'⟩ := hj
          exact next d1 md1 n' K' H locs ls hR' hI hS hl
        · exact absurd hj.1 c9
      · refine lv_tableOut (tgt := 442) hx hb dL_law_32 (by decide) (by decide) ?_
        exact next d md n K H locs ls hR hI hS hl
      · refine lv_tableOut (tgt := 442) hx hb dL_law_32 (by decide) (by decide) ?_
        exact next d md n K H locs ls hR hI hS hl
theorem classes_known {s0 : State} {b0 : Addr} (ht0 : ∀ w ∈ lw_tbl, w.before #[Value.ref b0] s0 = true) : ∃ (dC : Nat → ClassId) (dI : Nat → Nat → Nat), ∀ (k : Nat) (q : vw_C), vwCl[k]? = some q → u_Kn s0 q.1 q.2.1 q.2.2 (dC k) (dI k) := by
  obtain ⟨c0_, iS0, hKn0⟩ := u_known (C := RX0) (T := TX0) (N := 18) (n := 18) ht0 (fun w h => lw_all_tbl (in_X0 w h)) (ht0 _ (lw_all_tbl q22))
  obtain ⟨c1_, iS1, hKn1⟩ := u_known (C := RX1) (T := TX1) (N := 14) (n := 14) ht0 (fun w h => lw_all_tbl (in_X1 w h)) (ht0 _ (lw_all_tbl q193))
  refine ⟨fun k => if k = 0 then c0_ else c1_, fun k => if k = 0 then iS0 else iS1, ?_⟩
  intro k q hq
  match k, hq with
  | 0, hq => cases hq; exact hKn0
  | 1, hq => cases hq; exact hKn1
  | k + 2, hq => simp [vwCl] at hq
set_option maxHeartbeats 4000000 in
set_option maxRecDepth 100000 in
theorem whole_start {p : Program} {e : Env} {s : State} {m : MethodId} {below : List Frame} {meth : Method} {c : Code} (l : Launch) {b L : Nat} {xs : Nat → Int32} (hL : L ≤ 256) (C0 : lw_At p s m meth c b L xs) : W p l e room_1 s m #[Value.ref b] below meth c s.heap [] 0 0 (lw_Z below #[Value.ref b] s) (entryFrame m ([Value.ref b] : List Value).toArray 4) := by
  obtain ⟨hx, hb, hr, hml, hown, hts0, hX, hbl, hlocks, hgv⟩ := C0
  have hts : ∀ w ∈ lw_all, w.before #[Value.ref b] s = true := fun w h => hts0 w (lw_all_tbl h)
  obtain ⟨dC, dI, hKc⟩ := classes_known hts0
  obtain ⟨cB, aB, fB⟩ := arr_known (hts _ q84)
  obtain ⟨cI, aI, fI⟩ := arr_known (hts _ q85)
  obtain ⟨cZ, aZ, fZ⟩ := arr_known (hts _ q241)
  have hK : va_K (dC, dI) vwCl (dk_ty cB cI) s := ⟨hKc, fun k q hk => by
    match k, hk with
    | 0, hk => cases hk; exact ⟨aB, fB⟩
    | 1, hk => cases hk; exact ⟨aI, fI⟩
    | k + 2, hk => simp at hk⟩
  have hK2 : va_K (dC, dI) vwCl (md_ty cZ cI) s := ⟨hKc, fun k q hk => by
    match k, hk with
    | 0, hk => cases hk; exact ⟨aZ, fZ⟩
    | 1, hk => cases hk; exact ⟨aI, fI⟩
    | k + 2, hk => simp at hk⟩
  have hA : ∀ q : Nat, s.heap.size ≤ q → (fun q : Nat => s.heap.size ≤ q) q := fun q h => h
  have hS : va_S (fun q : Nat => s.heap.size ≤ q) s.heap s.heap [] := va_S.rf
  have hP : va_P (dC, dI) vwCl [] s.heap := fun k q hk => by simp at hk
  have hD : va_D (fun q : Nat => s.heap.size ≤ q) [] := ⟨fun i j p q hi => by simp at hi, fun k q hk => by simp at hk⟩
  have hl := lv_entry ([Value.ref b]) (n := 4) (Nat.le_of_ble_eq_true rfl)
  rw [lg_entry_eq]
  generalize (lg_sl ([Value.ref b]) ++ List.replicate (4 - (lg_sl ([Value.ref b])).length) Slot.unset).toArray = ls at hl ⊢
  have hl : lv_has ls 4 [(0, .ref b)] := hl
  refine va_new (D := (dC, dI)) (ci := 0) (fs := dk_fs0) (C := RX0) (T := TX0) (N := 18) hx hb hts in_X0 tyX0 tyX0_ok hown (hts _ q21) (hts _ q22) (hts _ q19) hK hP hD hS hA rfl (fun j hj => by rcases (show j = 0 ∨ j = 1 ∨ j = 2 ∨ j = 3 ∨ j = 4 ∨ j = 5 ∨ j = 6 ∨ j = 7 ∨ j = 8 ∨ j = 9 ∨ j = 10 ∨ j = 11 ∨ j = 12 ∨ j = 13 ∨ j = 14 ∨ j = 15 ∨ j = 16 ∨ j = 17 by omega) with rfl | rfl | rfl | rfl | rfl | rfl | rfl | rfl | rfl | rfl | rfl | rfl | rfl | rfl | rfl | rfl | rfl | rfl <;> rfl) (Nat.le_of_ble_eq_true rfl) (Nat.le_of_ble_eq_true rfl) dL_law_0 (fun o1 H hP hD hS => ?_)
  have hP : va_P (dC, dI) vwCl [(o1, .inr (0, dk_fs0))] H := hP
  have hD : va_D (fun q : Nat => s.heap.size ≤ q) [(o1, .inr (0, dk_fs0))] := hD
  refine lv_dup hx hb dL_law_3 rfl ?_
  have hFc := va_free (wc := [(o1, .inr (0, dk_fs0))]) hD hS hA [0] rfl
  refine va_callv (va_runI (As := []) (rest := [.ref o1]) ⟨hx, hb, hml, hown, hts⟩ (met_dk_init l (dC, dI) o1 H.size cB cI) (cwI 0 hts (lw_meth q25) rfl rfl rfl (hts _ q19) (hts _ q23) (hts _ q24) rfl (by decide +kernel) ⟨Nat.le_of_ble_eq_true rfl, Nat.le_of_ble_eq_true rfl⟩) ⟨fun a U g mk q => by obtain ⟨q0, q1, qP, qK, qD⟩ := q; exact ⟨q0, q1, qP, va_K.moved (u := U) (U := U.calling g mk a) (Vm.Alike.refl U.vm) qK, qD⟩, fun U hU hW => ⟨rfl, by rw [hU], by rw [hU]; exact hP, va_K.moved hW.alike hK, hD.weaken (fun _ _ _ _ => trivial)⟩⟩ rfl rfl hl.1 rfl (lv_room (Nat.le_of_ble_eq_true rfl)) dL_law_4 ⟨Nat.le_of_ble_eq_true rfl, Nat.le_of_ble_eq_true rfl⟩) hS (fun q _ h => hFc q h) hFc (fun ad1 t H1 locs ht hvm hw1 hB hz1 hk1 hS => ?_)
  obtain ⟨hP1, hD1⟩ := hB
  rw [ht] at hP1
  have hD : va_D (fun q : Nat => s.heap.size ≤ q) (dk_w o1 ad1 cB cI (fun _ _ => 0)) := hD1.weaken (fun k q _ h => hFc q.1 h)
  have hP := hP1
  refine lv_astore_n (lv' := [(1, .ref o1), (0, .ref b)]) hx hb dL_law_7 rfl hl (by decide) rfl (fun ls hl => ?_)
  refine va_new (D := (dC, dI)) (ci := 1) (fs := md_fs0) (C := RX1) (T := TX1) (N := 14) hx hb hts in_X1 tyX1 tyX1_ok hown (hts _ q192) (hts _ q193) (hts _ q20) hK2 hP hD hS hA rfl (fun j hj => by rcases (show j = 0 ∨ j = 1 ∨ j = 2 ∨ j = 3 ∨ j = 4 ∨ j = 5 ∨ j = 6 ∨ j = 7 ∨ j = 8 ∨ j = 9 ∨ j = 10 ∨ j = 11 ∨ j = 12 ∨ j = 13 by omega) with rfl | rfl | rfl | rfl | rfl | rfl | rfl | rfl | rfl | rfl | rfl | rfl | rfl | rfl <;> rfl) (Nat.le_of_ble_eq_true rfl) (Nat.le_of_ble_eq_true rfl) dL_law_8 (fun o2 H hP hD hS => ?_)
  refine lv_dup hx hb dL_law_11 rfl ?_
  have hPc := vP_right hP
  have hDc := vD_right hD
  have hFc := va_free (wc := [(o2, .inr (1, md_fs0))]) hD hS hA [15] rfl
  refine va_callv (va_runI (As := []) (rest := [.ref o2]) ⟨hx, hb, hml, hown, hts⟩ (met_md_init l (dC, dI) o2 H.size cZ cI) (cwI 0 hts (lw_meth q196) rfl rfl rfl (hts _ q20) (hts _ q194) (hts _ q195) rfl (by decide +kernel) ⟨Nat.le_of_ble_eq_true rfl, Nat.le_of_ble_eq_true rfl⟩) ⟨fun a U g mk q => by obtain ⟨q0, q1, qP, qK, qD⟩ := q; exact ⟨q0, q1, qP, va_K.moved (u := U) (U := U.calling g mk a) (Vm.Alike.refl U.vm) qK, qD⟩, fun U hU hW => ⟨rfl, by rw [hU], by rw [hU]; exact hPc, va_K.moved hW.alike hK2, hDc.weaken (fun _ _ _ _ => trivial)⟩⟩ rfl rfl hl.1 rfl (lv_room (Nat.le_of_ble_eq_true rfl)) dL_law_12 ⟨Nat.le_of_ble_eq_true rfl, Nat.le_of_ble_eq_true rfl⟩) hS (fun q _ h => hFc q h) hFc (fun ad2 t H1 locs ht hvm hw2 hB hz1 hk1 hS => ?_)
  obtain ⟨hP1, hD1⟩ := hB
  rw [ht] at hP1
  obtain ⟨hP, hD⟩ := va_join (wr := dk_w o1 ad1 cB cI (fun _ _ => 0)) (w1 := md_w o2 ad2 cZ cI (fun _ _ => 0)) hP hD [15] [0, 1, 2, 3, 4, 5, 6, 7, 8, 9, 10, 11, 12, 13, 14] rfl rfl (by decide) (by decide) hk1 hFc hP1 hD1
  refine lv_astore_n (lv' := [(2, .ref o2), (1, .ref o1), (0, .ref b)]) hx hb dL_law_15 rfl hl (by decide) rfl (fun ls hl => ?_)
  refine lv_iconst (v := nI 0) hx hb dL_law_16 (by decide) ?_
  refine lv_istore_n (lv' := [(3, .int (nI 0)), (2, .ref o2), (1, .ref o1), (0, .ref b)]) hx hb dL_law_17 rfl hl (by decide) rfl (fun ls hl => ?_)
  refine W.widen (k := 600000) (n := 7290000) (Nat.le_of_ble_eq_true rfl) (Nat.le_of_ble_eq_true rfl) ?_
  have E : LE (dC, dI) o1 ad1 cB o2 ad2 cZ cI p s m #[Value.ref b] c (fun q => s.heap.size ≤ q) := ⟨⟨hx, hb, hml, hown, hts⟩, hK, hK2, dk_D o1 ad1 cB cI (vD_left hD), md_D o2 ad2 cZ cI (vD_right hD), fun q hq => vD_mem (vD_left hD) hq, fun q hq => vD_mem (vD_right hD) hq, fun q h1 h2 => vD_apart hD h1 h2⟩
  exact law_loop hL hr hlocks E hX hbl (L + 1) 0 _ _ 0 0 (Nat.zero_le _) (by omega) RB_0 _ _ ls ⟨vP_left hP, vP_right hP⟩ hS (lv_sub hl [3, 2, 1, 0] rfl)
set_option maxHeartbeats 4000000 in
theorem lw_walk (l : Launch) (b : Addr) (xs : List Int32) : MetFree l x (headSpec (Jvm.Cond.code x code maxLocals ret :: tables_1) room_1) (lw_P b xs) (fun _ _ _ _ _ => True) lw_Q := by
  refine MetFree.of_bodyS (code := code) (maxLocals := maxLocals) (ret := ret) (by decide) ?_ ?_
  · intro args s m h hn
    obtain ⟨meth, c, h1, h2, h3, h4, h5, h6, -, -⟩ := Cond.code_spec hn (atoms_spec (ws := Jvm.Cond.code x code maxLocals ret :: tables_1) h _ List.mem_cons_self)
    exact ⟨meth, c, h1, h2, h3, h4, h5, h6⟩
  · intro p e s m args below meth c s₁ B hml0 hP _
    obtain ⟨rfl, hx, hbd, hgv⟩ := hP
    obtain ⟨scr, harrAt, hlist, hof, hsmall⟩ := hx
    obtain ⟨hcb, hkn, -, -⟩ := State.arrayAt?_spec harrAt
    have hown : s.vm.findClass R_law = some m.cls := findClass_of_methodNamed B.named
    have hts0 : ∀ c ∈ (Jvm.Cond.code x code maxLocals ret :: tables_1), c.before #[Value.ref b] s = true := atoms_spec (ws := Jvm.Cond.code x code maxLocals ret :: tables_1) B.pre
    have hts : ∀ w ∈ lw_tbl, w.before #[Value.ref b] s = true := k2_hts_sels lw_privs (fun w hw => hts0 w (List.mem_cons_of_mem _ hw)) lw_privs_ok
    have hml : c.maxLocals = 4 := B.maxLocals_eq (hts0 _ List.mem_cons_self)
    have X₀ : Stand p l e room_1 s m #[Value.ref b] below meth c s₁ [] 0 0 := Stand.of_body B
    have hh0 : s₁.heap = s.heap := by rw [B.state]; rfl
    have hsz : scr.slots.size = xs.length := by rw [← Array.length_toList, hlist, List.length_map]
    have hval : ∀ j : Nat, j < xs.length → scr.slots[j]? = some (.int (xs.getD j 0)) := fun j hj => by
      rw [← Array.getElem?_toList, hlist]
      simp [hj]
    have hbl : b < s.heap.size := (Array.getElem?_eq_some_iff.mp hcb).1
    have hX : va_X b xs.length (fun j => xs.getD j 0) s s.heap := ⟨scr, hcb, hof, hkn, hsz, hval⟩
    have K : W p l e room_1 s m #[Value.ref b] below meth c s₁.heap [] 0 0 (lw_Z below #[Value.ref b] s) (entryFrame m ([Value.ref b] : List Value).toArray 4) := by
      rw [hh0]
      exact whole_start l hbd ⟨B.exec, B.bytes, B.returns, hml, hown, hts, hX, hbl, B.notSynchronized, hgv⟩
    obtain ⟨t, a1, o, b1, b2, b3⟩ := K s₁ rfl X₀
    exact ⟨t, o, a1, b1, b2, b3⟩
theorem lw_pre_spec {args : Array Value} {s : State} (h : (Jvm.Cond.and given_1 narrow_1).before args s = true) (hr : rest_1_c.before args s = true) : ∃ (b : Addr) (xs : List Int32), lw_P b xs args s := by
  have hs := flat_of_before _ h
  have hq := flat_of_before _ hr
  have hc : (Cond.count 1).before args s = true := hs _ (by decide +kernel)
  have harr : (Cond.arrayOf (.arg 0) .int).before args s = true := hs _ (by decide +kernel)
  have hle : (Cond.le (.length (.arg 0)) (.int 256)).before args s = true := hs _ (by decide +kernel)
  have hlen : (Cond.isInt (.length (.arg 0))).before args s = true := hq _ (by decide +kernel)
  have hall : (Cond.all (.arg 0) (.isInt (.elem (.arg 0) (.index 0)))).before args s = true := hq _ (by decide +kernel)
  obtain ⟨b, xs, hb, hx⟩ := State.ints_of_pre rfl harr hlen hall
  have hsm : xs.length < 2 ^ 31 := hx.choose_spec.2.2.2
  have hev : (Term.length (.arg 0)).eval args s none [] s = some (.int xs.length.toInt32) := hx.length_eval hb
  have hv := Cond.le_ints hev (show (Term.int 256).eval args s none [] s = some (.int 256) from rfl)
  have hd : xs.length.toInt32 ≤ 256 := by
    simpa [Cond.before, Cond.holds, hv] using hle
  have hN : xs.length ≤ 256 := (Int32.ofNat_le_ofNat hsm (by decide)).mp (show Int32.ofNat xs.length ≤ Int32.ofNat 256 from hd)
  exact ⟨b, xs, Cond.one_arg hc (show args[0]? = some (.ref b) from hb), hx, hN, h⟩
theorem lw_comes (l : Launch) : Comes l x (Jvm.Cond.code x code maxLocals ret :: tables_1) room_1 (fun tb e args s => Calls_1 tb e args s ∧ rest_1 tb e args s ∧ Pre_1 tb e args s)
    (fun _ _ args s o t => lw_Q args s o t) := by
  intro p e ha hc hk s m args below hf hfit hheap happ hpre
  obtain ⟨b, xs, hP⟩ := lw_pre_spec hpre.2.2 hpre.2.1
  obtain ⟨k, o, h1, h2, h3, hQ⟩ := lw_walk l b xs p e ha hc hk s m args below hf ((Spec.applies_iff_loose hf).mp happ).1 hP trivial
  exact ⟨k, o, h1, h2, h3, hQ⟩
theorem lw_frame {s t : State} {o : Outcome} {args : Array Value} (h : Framed s o t [] 600000 7290000) :
    Framed s o t (fieldLocs frame_1_writes args s ++ arrayLocs frame_1_arrays args s ++ staticLocs frame_1_statics s) 600000 7290000 := h
theorem lw_limb (L : Cond) (hL : ∀ (args : Array Value) (s t : State), L.after args s (.returned (some (.int 1))) t = true) :
    ArmFor flags0 classFile x code maxLocals ret World_1 tables_1 room_1 Calls_1 rest_1 Pre_1
      (fun tb e a s o t => postC L tb e a s o t ∧ Framed s o t (fieldLocs frame_1_writes a s ++ arrayLocs frame_1_arrays a s ++ staticLocs frame_1_statics s) 600000 7290000) := by
  intro l _ _ _ p e ha hc hk s m args below hf hfit hheap happ hpre
  obtain ⟨k, o, h1, h2, h3, rfl, hF⟩ := lw_comes l p e ha hc hk s m args below hf hfit hheap happ hpre
  exact ⟨k, _, h1, h2, h3, hL args s _, lw_frame hF⟩
theorem i_vc : Claimed_1_1 ∧ Claimed_1_2 := ⟨lw_limb limb_1_1 (fun args s t => by simp [limb_1_1, Cond.after, Cond.holds, Cond.value]), lw_limb limb_1_2 (fun args s t => Cond.after_iff.mpr (by
  first | (rw [show limb_1_2 = Cond.eq .result (.int 1) from rfl, Cond.eq_ints (x := 1) (y := 1) rfl rfl]; simp; done) | (simp [limb_1_2, Cond.value, Term.eval]; done)))⟩
end
