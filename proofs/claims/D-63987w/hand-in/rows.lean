section
-- ===== PART A: goes FIRST, ahead of the names: the tables' words, and 'selects' of the private methods out of them =====
/-- a private method of a class that the tables say can be made, by its rows of tables_1 -/
def lw_okq (q : MethodName × Nat) : Prop := (q.1.cls ≠ "java/lang/invoke/MethodHandle" ∧ q.1.cls ≠ "java/lang/invoke/VarHandle") ∧ Cond.instantiable q.1.cls q.2 ∈ tables_1 ∧ Cond.privateMethod q.1 ∈ tables_1 ∧ Cond.instanceMethod q.1 ∈ tables_1
set_option maxRecDepth 100000
theorem lw_t1 {w : Cond} (h : w ∈ tables_1_1) : w ∈ tables_1 := List.mem_append_left _ h
theorem lw_t2 {w : Cond} (h : w ∈ tables_1_2) : w ∈ tables_1 := List.mem_append_right _ h
theorem lw_p0 : lw_okq (⟨"PrivacyLattice", "countLeftOut", "(I)I"⟩, 10) := ⟨⟨by decide +kernel, by decide +kernel⟩, lw_t1 (List.mem_of_getElem? (i := 4) rfl), lw_t1 (List.mem_of_getElem? (i := 64) rfl), lw_t1 (List.mem_of_getElem? (i := 65) rfl)⟩
theorem lw_p1 : lw_okq (⟨"PrivacyLattice", "sortRows", "(I)V"⟩, 10) := ⟨⟨by decide +kernel, by decide +kernel⟩, lw_t1 (List.mem_of_getElem? (i := 4) rfl), lw_t1 (List.mem_of_getElem? (i := 68) rfl), lw_t1 (List.mem_of_getElem? (i := 69) rfl)⟩
theorem lw_p2 : lw_okq (⟨"PrivacyLattice", "keyOf", "(II)I"⟩, 10) := ⟨⟨by decide +kernel, by decide +kernel⟩, lw_t1 (List.mem_of_getElem? (i := 4) rfl), lw_t1 (List.mem_of_getElem? (i := 72) rfl), lw_t1 (List.mem_of_getElem? (i := 73) rfl)⟩
theorem lw_p3 : lw_okq (⟨"PrivacyLattice", "groupEnd", "(I)I"⟩, 10) := ⟨⟨by decide +kernel, by decide +kernel⟩, lw_t1 (List.mem_of_getElem? (i := 4) rfl), lw_t1 (List.mem_of_getElem? (i := 79) rfl), lw_t1 (List.mem_of_getElem? (i := 80) rfl)⟩
theorem lw_p4 : lw_okq (⟨"PrivacyLattice", "secretKinds", "(II)I"⟩, 10) := ⟨⟨by decide +kernel, by decide +kernel⟩, lw_t1 (List.mem_of_getElem? (i := 4) rfl), lw_t1 (List.mem_of_getElem? (i := 83) rfl), lw_t1 (List.mem_of_getElem? (i := 84) rfl)⟩
theorem lw_p5 : lw_okq (⟨"PrivacyLattice", "prepare", "()V"⟩, 10) := ⟨⟨by decide +kernel, by decide +kernel⟩, lw_t1 (List.mem_of_getElem? (i := 4) rfl), lw_t1 (List.mem_of_getElem? (i := 91) rfl), lw_t1 (List.mem_of_getElem? (i := 92) rfl)⟩
theorem lw_p6 : lw_okq (⟨"PrivacyLattice", "judgeSum", "(I)V"⟩, 10) := ⟨⟨by decide +kernel, by decide +kernel⟩, lw_t1 (List.mem_of_getElem? (i := 4) rfl), lw_t1 (List.mem_of_getElem? (i := 95) rfl), lw_t1 (List.mem_of_getElem? (i := 96) rfl)⟩
theorem lw_p7 : lw_okq (⟨"PrivacyLattice", "judge", "(I)V"⟩, 10) := ⟨⟨by decide +kernel, by decide +kernel⟩, lw_t1 (List.mem_of_getElem? (i := 4) rfl), lw_t1 (List.mem_of_getElem? (i := 102) rfl), lw_t1 (List.mem_of_getElem? (i := 103) rfl)⟩
theorem lw_p8 : lw_okq (⟨"PrivacyLattice", "isFinest", "(I)Z"⟩, 10) := ⟨⟨by decide +kernel, by decide +kernel⟩, lw_t1 (List.mem_of_getElem? (i := 4) rfl), lw_t1 (List.mem_of_getElem? (i := 117) rfl), lw_t1 (List.mem_of_getElem? (i := 118) rfl)⟩
theorem lw_p9 : lw_okq (⟨"PrivacyLatticeModel", "isSetting", "(I)Z"⟩, 7) := ⟨⟨by decide +kernel, by decide +kernel⟩, lw_t1 (List.mem_of_getElem? (i := 137) rfl), lw_t1 (List.mem_of_getElem? (i := 182) rfl), lw_t1 (List.mem_of_getElem? (i := 183) rfl)⟩
theorem lw_p10 : lw_okq (⟨"PrivacyLatticeModel", "hidden", "(II)Z"⟩, 7) := ⟨⟨by decide +kernel, by decide +kernel⟩, lw_t1 (List.mem_of_getElem? (i := 137) rfl), lw_t1 (List.mem_of_getElem? (i := 186) rfl), lw_t1 (List.mem_of_getElem? (i := 187) rfl)⟩
theorem lw_p11 : lw_okq (⟨"PrivacyLatticeModel", "alike", "(III)Z"⟩, 7) := ⟨⟨by decide +kernel, by decide +kernel⟩, lw_t1 (List.mem_of_getElem? (i := 137) rfl), lw_t1 (List.mem_of_getElem? (i := 190) rfl), lw_t1 (List.mem_of_getElem? (i := 191) rfl)⟩
theorem lw_p12 : lw_okq (⟨"PrivacyLatticeModel", "level", "(II)I"⟩, 7) := ⟨⟨by decide +kernel, by decide +kernel⟩, lw_t1 (List.mem_of_getElem? (i := 137) rfl), lw_t1 (List.mem_of_getElem? (i := 194) rfl), lw_t1 (List.mem_of_getElem? (i := 195) rfl)⟩
theorem lw_p13 : lw_okq (⟨"PrivacyLatticeModel", "judge", "()V"⟩, 7) := ⟨⟨by decide +kernel, by decide +kernel⟩, lw_t1 (List.mem_of_getElem? (i := 137) rfl), lw_t1 (List.mem_of_getElem? (i := 207) rfl), lw_t1 (List.mem_of_getElem? (i := 208) rfl)⟩
theorem lw_p14 : lw_okq (⟨"PrivacyLatticeModel", "isFinest", "(I)Z"⟩, 7) := ⟨⟨by decide +kernel, by decide +kernel⟩, lw_t1 (List.mem_of_getElem? (i := 137) rfl), lw_t1 (List.mem_of_getElem? (i := 216) rfl), lw_t1 (List.mem_of_getElem? (i := 217) rfl)⟩
theorem lw_p15 : lw_okq (⟨"PrivacyLatticeModel", "coarser", "(II)Z"⟩, 7) := ⟨⟨by decide +kernel, by decide +kernel⟩, lw_t1 (List.mem_of_getElem? (i := 137) rfl), lw_t1 (List.mem_of_getElem? (i := 220) rfl), lw_t1 (List.mem_of_getElem? (i := 221) rfl)⟩
def lw_privs_1 : List (MethodName × Nat) := [(⟨"PrivacyLattice", "countLeftOut", "(I)I"⟩, 10), (⟨"PrivacyLattice", "sortRows", "(I)V"⟩, 10), (⟨"PrivacyLattice", "keyOf", "(II)I"⟩, 10), (⟨"PrivacyLattice", "groupEnd", "(I)I"⟩, 10), (⟨"PrivacyLattice", "secretKinds", "(II)I"⟩, 10), (⟨"PrivacyLattice", "prepare", "()V"⟩, 10), (⟨"PrivacyLattice", "judgeSum", "(I)V"⟩, 10), (⟨"PrivacyLattice", "judge", "(I)V"⟩, 10), (⟨"PrivacyLattice", "isFinest", "(I)Z"⟩, 10), (⟨"PrivacyLatticeModel", "isSetting", "(I)Z"⟩, 7), (⟨"PrivacyLatticeModel", "hidden", "(II)Z"⟩, 7), (⟨"PrivacyLatticeModel", "alike", "(III)Z"⟩, 7), (⟨"PrivacyLatticeModel", "level", "(II)I"⟩, 7), (⟨"PrivacyLatticeModel", "judge", "()V"⟩, 7), (⟨"PrivacyLatticeModel", "isFinest", "(I)Z"⟩, 7), (⟨"PrivacyLatticeModel", "coarser", "(II)Z"⟩, 7)]
theorem lw_r1 : ∀ q ∈ lw_privs_1, lw_okq q := List.forall_mem_cons.mpr ⟨lw_p0, List.forall_mem_cons.mpr ⟨lw_p1, List.forall_mem_cons.mpr ⟨lw_p2, List.forall_mem_cons.mpr ⟨lw_p3, List.forall_mem_cons.mpr ⟨lw_p4, List.forall_mem_cons.mpr ⟨lw_p5, List.forall_mem_cons.mpr ⟨lw_p6, List.forall_mem_cons.mpr ⟨lw_p7, List.forall_mem_cons.mpr ⟨lw_p8, List.forall_mem_cons.mpr ⟨lw_p9, List.forall_mem_cons.mpr ⟨lw_p10, List.forall_mem_cons.mpr ⟨lw_p11, List.forall_mem_cons.mpr ⟨lw_p12, List.forall_mem_cons.mpr ⟨lw_p13, List.forall_mem_cons.mpr ⟨lw_p14, List.forall_mem_cons.mpr ⟨lw_p15, fun _ h => absurd h List.not_mem_nil⟩⟩⟩⟩⟩⟩⟩⟩⟩⟩⟩⟩⟩⟩⟩⟩
theorem lw_p16 : lw_okq (⟨"PrivacyLatticeModel", "sum", "(I)I"⟩, 7) := ⟨⟨by decide +kernel, by decide +kernel⟩, lw_t1 (List.mem_of_getElem? (i := 137) rfl), lw_t1 (List.mem_of_getElem? (i := 232) rfl), lw_t1 (List.mem_of_getElem? (i := 233) rfl)⟩
def lw_privs_2 : List (MethodName × Nat) := [(⟨"PrivacyLatticeModel", "sum", "(I)I"⟩, 7)]
theorem lw_r2 : ∀ q ∈ lw_privs_2, lw_okq q := List.forall_mem_cons.mpr ⟨lw_p16, fun _ h => absurd h List.not_mem_nil⟩
def lw_privs : List (MethodName × Nat) := lw_privs_1 ++ (lw_privs_2)
def lw_tbl : List Cond := k2_sels lw_privs ++ tables_1
theorem lw_privs_ok : ∀ q ∈ lw_privs, lw_okq q := by
  show ∀ q ∈ lw_privs_1 ++ (lw_privs_2), lw_okq q
  exact List.forall_mem_append.mpr ⟨lw_r1, lw_r2⟩
-- ===== ONE list of words for every method: the tables' words that hold all through a run =====
def lw_all : List Cond := lw_tbl.filter goodWord
/-- a word of the tables by its place: claim/WORDS.tsv -/
theorem lw_w {w : Cond} (i : Nat) (h : lw_tbl[i]? = some w) (g : goodWord w = true) : w ∈ lw_all := List.mem_filter.mpr ⟨List.mem_of_getElem? h, g⟩
theorem lw_all_tbl {w : Cond} (h : w ∈ lw_all) : w ∈ lw_tbl := (List.mem_filter.mp h).1
theorem lw_self : GoodIn lw_all lw_all := fun w h => ⟨h, good_of_word (List.mem_filter.mp h).2⟩
/-- a class's field words, by their places -/
theorem lw_in (ws : List Cond) (ps : List Nat) (hp : ws = ps.filterMap (fun i => lw_tbl[i]?)) (hg : ws.all goodWord = true) : ∀ w ∈ ws, w ∈ lw_all := by
  intro w h
  have h1 := List.all_eq_true.mp hg w h
  rw [hp] at h
  obtain ⟨i, -, hi⟩ := List.mem_filterMap.mp h
  exact lw_w i hi h1
/-- the words of a contract for the method y with code b, L locals, answer r -/
abbrev ws_ (y : MethodName) (b : ByteArray) (L : Nat) (r : Option FieldType) : List Cond := Cond.code y b L r :: lw_all
theorem lw_meth {y : MethodName} {b : ByteArray} {L : Nat} {r : Option FieldType} (h : Cond.code y b L r ∈ lw_all) : GoodIn lw_all (ws_ y b L r) := by
  intro w hw
  rcases List.mem_cons.mp hw with e | e
  · rw [e]
    exact lw_self _ h
  · exact lw_self _ e
theorem lw_app {a c : List Cond} (ha : ∀ w ∈ a, w ∈ lw_all) (hc : GoodIn lw_all c) : GoodIn lw_all (a ++ c) := by
  intro w hw
  rcases List.mem_append.mp hw with e | e
  · exact lw_self w (ha w e)
  · exact hc w e
/-- what a call through an object asks: cwV n hts (lw_V ..) -/
theorem lw_V {own : String} {idx : Nat} {C : String} {y : MethodName} {b : ByteArray} {L : Nat} {r : Option FieldType} (h1 : Cond.methodLink own idx y ∈ lw_all) (h2 : Cond.instanceMethod y ∈ lw_all) (h3 : Cond.selects C y y ∈ lw_all) (h4 : Cond.initialized C ∈ lw_all) (h5 : Cond.code y b L r ∈ lw_all) : GoodIn lw_all (wsV own idx C y (ws_ y b L r)) := by
  refine lw_app ?_ (lw_meth h5)
  intro w hw
  simp only [List.mem_cons, List.not_mem_nil, or_false] at hw
  rcases hw with e | e | e | e
  · rw [e]; exact h1
  · rw [e]; exact h2
  · rw [e]; exact h3
  · rw [e]; exact h4
/-- what a static call asks: va_cwS n hts (lw_S ..) -/
theorem lw_S {own : String} {idx : Nat} {y : MethodName} {b : ByteArray} {L : Nat} {r : Option FieldType} (h1 : Cond.methodLink own idx y ∈ lw_all) (h2 : Cond.static y ∈ lw_all) (h3 : Cond.initialized y.cls ∈ lw_all) (h4 : Cond.code y b L r ∈ lw_all) : GoodIn lw_all (va_wsS own idx y (ws_ y b L r)) := by
  refine lw_app ?_ (lw_meth h4)
  intro w hw
  simp only [List.mem_cons, List.not_mem_nil, or_false] at hw
  rcases hw with e | e | e
  · rw [e]; exact h1
  · rw [e]; exact h2
  · rw [e]; exact h3
/-- the words of a contract for a method WITH HANDLERS (hh: its table) -/
abbrev wsW_ (y : MethodName) (b : ByteArray) (L : Nat) (r : Option FieldType) (hh : List (Nat × Nat × Nat × Nat)) : List Cond := Cond.codeWith y b L r hh :: lw_all
theorem lw_methW {y : MethodName} {b : ByteArray} {L : Nat} {r : Option FieldType} {hh : List (Nat × Nat × Nat × Nat)} (h : Cond.codeWith y b L r hh ∈ lw_all) : GoodIn lw_all (wsW_ y b L r hh) := by
  intro w hw
  rcases List.mem_cons.mp hw with e | e
  · rw [e]
    exact lw_self _ h
  · exact lw_self _ e
/-- any list of words by their places (lw_in), good -/
theorem lw_good {ws : List Cond} (h : ∀ w ∈ ws, w ∈ lw_all) : GoodIn lw_all ws := fun w hw => lw_self w (h w hw)
/-- what a call of a method with handlers asks: vx_cwVW n hts (lw_VW ..), vx_cwSW n hts (lw_SW ..) -/
theorem lw_VW {own : String} {idx : Nat} {C : String} {y : MethodName} {b : ByteArray} {L : Nat} {r : Option FieldType} {hh : List (Nat × Nat × Nat × Nat)} (h1 : Cond.methodLink own idx y ∈ lw_all) (h2 : Cond.instanceMethod y ∈ lw_all) (h3 : Cond.selects C y y ∈ lw_all) (h4 : Cond.initialized C ∈ lw_all) (h5 : Cond.codeWith y b L r hh ∈ lw_all) : GoodIn lw_all (wsV own idx C y (wsW_ y b L r hh)) := by
  refine lw_app ?_ (lw_methW h5)
  intro w hw
  simp only [List.mem_cons, List.not_mem_nil, or_false] at hw
  rcases hw with e | e | e | e
  · rw [e]; exact h1
  · rw [e]; exact h2
  · rw [e]; exact h3
  · rw [e]; exact h4
theorem lw_SW {own : String} {idx : Nat} {y : MethodName} {b : ByteArray} {L : Nat} {r : Option FieldType} {hh : List (Nat × Nat × Nat × Nat)} (h1 : Cond.methodLink own idx y ∈ lw_all) (h2 : Cond.static y ∈ lw_all) (h3 : Cond.initialized y.cls ∈ lw_all) (h4 : Cond.codeWith y b L r hh ∈ lw_all) : GoodIn lw_all (va_wsS own idx y (wsW_ y b L r hh)) := by
  refine lw_app ?_ (lw_methW h4)
  intro w hw
  simp only [List.mem_cons, List.not_mem_nil, or_false] at hw
  rcases hw with e | e | e
  · rw [e]; exact h1
  · rw [e]; exact h2
  · rw [e]; exact h3
/-- a word by its place in its run of the tables -/
theorem lw_at {r : List Cond} (hr : ∀ w ∈ r, w ∈ lw_tbl) {w : Cond} (i : Nat) (h : r[i]? = some w) : w ∈ lw_tbl := hr w (List.mem_of_getElem? h)
theorem lw_g {w : Cond} (h : w ∈ lw_tbl) (g : goodWord w = true) : w ∈ lw_all := List.mem_filter.mpr ⟨h, g⟩
theorem lw_ms : ∀ w ∈ k2_sels lw_privs, w ∈ lw_tbl := fun w h => show w ∈ k2_sels lw_privs ++ tables_1 from List.mem_append_left _ h
theorem lw_m1 : ∀ w ∈ tables_1_1, w ∈ lw_tbl := fun w h => show w ∈ k2_sels lw_privs ++ tables_1 from List.mem_append_right (k2_sels lw_privs) (show w ∈ tables_1 from List.mem_append_left _ h)
theorem lw_m2 : ∀ w ∈ tables_1_2, w ∈ lw_tbl := fun w h => show w ∈ k2_sels lw_privs ++ tables_1 from List.mem_append_right (k2_sels lw_privs) (show w ∈ tables_1 from List.mem_append_right _ h)
theorem qs0 : (Cond.selects "PrivacyLattice" ⟨"PrivacyLattice", "countLeftOut", "(I)I"⟩ ⟨"PrivacyLattice", "countLeftOut", "(I)I"⟩) ∈ lw_all := lw_g (lw_at lw_ms 0 rfl) rfl
theorem qs1 : (Cond.selects "PrivacyLattice" ⟨"PrivacyLattice", "sortRows", "(I)V"⟩ ⟨"PrivacyLattice", "sortRows", "(I)V"⟩) ∈ lw_all := lw_g (lw_at lw_ms 1 rfl) rfl
theorem qs2 : (Cond.selects "PrivacyLattice" ⟨"PrivacyLattice", "keyOf", "(II)I"⟩ ⟨"PrivacyLattice", "keyOf", "(II)I"⟩) ∈ lw_all := lw_g (lw_at lw_ms 2 rfl) rfl
theorem qs3 : (Cond.selects "PrivacyLattice" ⟨"PrivacyLattice", "groupEnd", "(I)I"⟩ ⟨"PrivacyLattice", "groupEnd", "(I)I"⟩) ∈ lw_all := lw_g (lw_at lw_ms 3 rfl) rfl
theorem qs4 : (Cond.selects "PrivacyLattice" ⟨"PrivacyLattice", "secretKinds", "(II)I"⟩ ⟨"PrivacyLattice", "secretKinds", "(II)I"⟩) ∈ lw_all := lw_g (lw_at lw_ms 4 rfl) rfl
theorem qs5 : (Cond.selects "PrivacyLattice" ⟨"PrivacyLattice", "prepare", "()V"⟩ ⟨"PrivacyLattice", "prepare", "()V"⟩) ∈ lw_all := lw_g (lw_at lw_ms 5 rfl) rfl
theorem qs6 : (Cond.selects "PrivacyLattice" ⟨"PrivacyLattice", "judgeSum", "(I)V"⟩ ⟨"PrivacyLattice", "judgeSum", "(I)V"⟩) ∈ lw_all := lw_g (lw_at lw_ms 6 rfl) rfl
theorem qs7 : (Cond.selects "PrivacyLattice" ⟨"PrivacyLattice", "judge", "(I)V"⟩ ⟨"PrivacyLattice", "judge", "(I)V"⟩) ∈ lw_all := lw_g (lw_at lw_ms 7 rfl) rfl
theorem qs8 : (Cond.selects "PrivacyLattice" ⟨"PrivacyLattice", "isFinest", "(I)Z"⟩ ⟨"PrivacyLattice", "isFinest", "(I)Z"⟩) ∈ lw_all := lw_g (lw_at lw_ms 8 rfl) rfl
theorem qs9 : (Cond.selects "PrivacyLatticeModel" ⟨"PrivacyLatticeModel", "isSetting", "(I)Z"⟩ ⟨"PrivacyLatticeModel", "isSetting", "(I)Z"⟩) ∈ lw_all := lw_g (lw_at lw_ms 9 rfl) rfl
theorem qs10 : (Cond.selects "PrivacyLatticeModel" ⟨"PrivacyLatticeModel", "hidden", "(II)Z"⟩ ⟨"PrivacyLatticeModel", "hidden", "(II)Z"⟩) ∈ lw_all := lw_g (lw_at lw_ms 10 rfl) rfl
theorem qs11 : (Cond.selects "PrivacyLatticeModel" ⟨"PrivacyLatticeModel", "alike", "(III)Z"⟩ ⟨"PrivacyLatticeModel", "alike", "(III)Z"⟩) ∈ lw_all := lw_g (lw_at lw_ms 11 rfl) rfl
theorem qs12 : (Cond.selects "PrivacyLatticeModel" ⟨"PrivacyLatticeModel", "level", "(II)I"⟩ ⟨"PrivacyLatticeModel", "level", "(II)I"⟩) ∈ lw_all := lw_g (lw_at lw_ms 12 rfl) rfl
theorem qs13 : (Cond.selects "PrivacyLatticeModel" ⟨"PrivacyLatticeModel", "judge", "()V"⟩ ⟨"PrivacyLatticeModel", "judge", "()V"⟩) ∈ lw_all := lw_g (lw_at lw_ms 13 rfl) rfl
theorem qs14 : (Cond.selects "PrivacyLatticeModel" ⟨"PrivacyLatticeModel", "isFinest", "(I)Z"⟩ ⟨"PrivacyLatticeModel", "isFinest", "(I)Z"⟩) ∈ lw_all := lw_g (lw_at lw_ms 14 rfl) rfl
theorem qs15 : (Cond.selects "PrivacyLatticeModel" ⟨"PrivacyLatticeModel", "coarser", "(II)Z"⟩ ⟨"PrivacyLatticeModel", "coarser", "(II)Z"⟩) ∈ lw_all := lw_g (lw_at lw_ms 15 rfl) rfl
theorem qs16 : (Cond.selects "PrivacyLatticeModel" ⟨"PrivacyLatticeModel", "sum", "(I)I"⟩ ⟨"PrivacyLatticeModel", "sum", "(I)I"⟩) ∈ lw_all := lw_g (lw_at lw_ms 16 rfl) rfl
end
section
set_option maxRecDepth 100000
def RX0 : String := "PrivacyLattice"
def TX0 : u_T := fun k => match k with
  | 0 => ("PrivacyLattice", "rows", "I", false)
  | 1 => ("PrivacyLattice", "values", "[I", true)
  | 2 => ("PrivacyLattice", "secrets", "[I", true)
  | 3 => ("PrivacyLattice", "least", "I", false)
  | 4 => ("PrivacyLattice", "kinds", "I", false)
  | 5 => ("PrivacyLattice", "allowed", "I", false)
  | 6 => ("PrivacyLattice", "ready", "Z", false)
  | 7 => ("PrivacyLattice", "known", "[B", true)
  | 8 => ("PrivacyLattice", "order", "[I", true)
  | _ => ("PrivacyLattice", "shown", "[I", true)
def tyX0 : Nat → FieldType := fun k => match k with
  | 0 => .int
  | 1 => .array .int
  | 2 => .array .int
  | 3 => .int
  | 4 => .int
  | 5 => .int
  | 6 => .boolean
  | 7 => .array .byte
  | 8 => .array .int
  | _ => .array .int
abbrev wsX00 : List Cond := u_ws RX0 TX0 10
theorem nmX0 : ∀ a, a < 10 → ∀ b, b < 10 → a ≠ b → (TX0 a).2.1 ≠ (TX0 b).2.1 := by decide +kernel
theorem tyX0_ok : ∀ k, k < 10 → parseFieldDescriptor (TX0 k).2.2.1 = some (tyX0 k) := by decide +kernel
abbrev cX0_init : ByteArray := prog_1_method_1_code
def yX0_init : MethodName := ⟨RX0, "<init>", "()V"⟩
abbrev cX0_row : ByteArray := prog_1_method_3_code
def yX0_row : MethodName := ⟨RX0, "row", "(II)I"⟩
abbrev cX0_drop : ByteArray := prog_1_method_4_code
def yX0_drop : MethodName := ⟨RX0, "drop", "()I"⟩
abbrev cX0_demand : ByteArray := prog_1_method_5_code
def yX0_demand : MethodName := ⟨RX0, "demand", "(III)I"⟩
abbrev cX0_leftOut : ByteArray := prog_1_method_18_code
def yX0_leftOut : MethodName := ⟨RX0, "leftOut", "(I)I"⟩
abbrev cX0_badSetting : ByteArray := prog_1_method_2_code
def yX0_badSetting : MethodName := ⟨RX0, "badSetting", "(I)Z"⟩
abbrev cX0_countLeftOut : ByteArray := prog_1_method_12_code
def yX0_countLeftOut : MethodName := ⟨RX0, "countLeftOut", "(I)I"⟩
abbrev cX0_sortRows : ByteArray := prog_1_method_9_code
def yX0_sortRows : MethodName := ⟨RX0, "sortRows", "(I)V"⟩
abbrev cX0_keyOf : ByteArray := prog_1_method_8_code
def yX0_keyOf : MethodName := ⟨RX0, "keyOf", "(II)I"⟩
abbrev cX0_levelOf : ByteArray := prog_1_method_6_code
def yX0_levelOf : MethodName := ⟨RX0, "levelOf", "(II)I"⟩
abbrev cX0_groupEnd : ByteArray := prog_1_method_10_code
def yX0_groupEnd : MethodName := ⟨RX0, "groupEnd", "(I)I"⟩
abbrev cX0_secretKinds : ByteArray := prog_1_method_11_code
def yX0_secretKinds : MethodName := ⟨RX0, "secretKinds", "(II)I"⟩
abbrev cX0_good : ByteArray := prog_1_method_19_code
def yX0_good : MethodName := ⟨RX0, "good", "(I)Z"⟩
abbrev cX0_prepare : ByteArray := prog_1_method_16_code
def yX0_prepare : MethodName := ⟨RX0, "prepare", "()V"⟩
abbrev cX0_judgeSum : ByteArray := prog_1_method_15_code
def yX0_judgeSum : MethodName := ⟨RX0, "judgeSum", "(I)V"⟩
abbrev cX0_sumOfLevels : ByteArray := prog_1_method_7_code
def yX0_sumOfLevels : MethodName := ⟨RX0, "sumOfLevels", "(I)I"⟩
abbrev cX0_judge : ByteArray := prog_1_method_14_code
def yX0_judge : MethodName := ⟨RX0, "judge", "(I)V"⟩
abbrev cX0_atLeast : ByteArray := prog_1_method_13_code
def yX0_atLeast : MethodName := ⟨RX0, "atLeast", "(II)Z"⟩
abbrev cX0_goodSettings : ByteArray := prog_1_method_20_code
def yX0_goodSettings : MethodName := ⟨RX0, "goodSettings", "()I"⟩
abbrev cX0_finest : ByteArray := prog_1_method_21_code
def yX0_finest : MethodName := ⟨RX0, "finest", "()I"⟩
abbrev cX0_isFinest : ByteArray := prog_1_method_17_code
def yX0_isFinest : MethodName := ⟨RX0, "isFinest", "(I)Z"⟩
abbrev cX0_finestAt : ByteArray := prog_1_method_22_code
def yX0_finestAt : MethodName := ⟨RX0, "finestAt", "(I)I"⟩
abbrev cX0_best : ByteArray := prog_1_method_23_code
def yX0_best : MethodName := ⟨RX0, "best", "()I"⟩
abbrev cX0_groups : ByteArray := prog_1_method_24_code
def yX0_groups : MethodName := ⟨RX0, "groups", "(I)I"⟩
abbrev cX0_lookAlike : ByteArray := prog_1_method_25_code
def yX0_lookAlike : MethodName := ⟨RX0, "lookAlike", "(II)I"⟩
theorem q18 : (Jvm.Cond.initialized "PrivacyLattice") ∈ lw_all := lw_g (lw_at lw_m1 1 rfl) rfl
theorem q21 : (Jvm.Cond.instantiable "PrivacyLattice" (10 : Nat)) ∈ lw_all := lw_g (lw_at lw_m1 4 rfl) rfl
theorem q23 : (Jvm.Cond.instanceMethod ({ cls := "PrivacyLattice", name := "<init>", desc := "()V" } : Jvm.MethodName)) ∈ lw_all := lw_g (lw_at lw_m1 6 rfl) rfl
theorem q24 : (Jvm.Cond.code ({ cls := "PrivacyLattice", name := "<init>", desc := "()V" } : Jvm.MethodName) prog_1_method_1_code (1 : Nat) (Option.none : Option Jvm.ClassFile.FieldType)) ∈ lw_all := lw_g (lw_at lw_m1 7 rfl) rfl
theorem q25 : (Jvm.Cond.methodLink "PrivacyLattice" (1 : Nat) ({ cls := "java/lang/Object", name := "<init>", desc := "()V" } : Jvm.MethodName)) ∈ lw_all := lw_g (lw_at lw_m1 8 rfl) rfl
theorem q28 : (Jvm.Cond.fieldLink "PrivacyLattice" (33 : Nat) "PrivacyLattice" "rows" "I") ∈ lw_all := lw_g (lw_at lw_m1 11 rfl) rfl
theorem q29 : (Jvm.Cond.fieldLink "PrivacyLattice" (7 : Nat) "PrivacyLattice" "values" "[I") ∈ lw_all := lw_g (lw_at lw_m1 12 rfl) rfl
theorem q30 : (Jvm.Cond.fieldLink "PrivacyLattice" (13 : Nat) "PrivacyLattice" "secrets" "[I") ∈ lw_all := lw_g (lw_at lw_m1 13 rfl) rfl
theorem q31 : (Jvm.Cond.fieldLink "PrivacyLattice" (26 : Nat) "PrivacyLattice" "least" "I") ∈ lw_all := lw_g (lw_at lw_m1 14 rfl) rfl
theorem q32 : (Jvm.Cond.fieldLink "PrivacyLattice" (30 : Nat) "PrivacyLattice" "kinds" "I") ∈ lw_all := lw_g (lw_at lw_m1 15 rfl) rfl
theorem q33 : (Jvm.Cond.fieldLink "PrivacyLattice" (40 : Nat) "PrivacyLattice" "allowed" "I") ∈ lw_all := lw_g (lw_at lw_m1 16 rfl) rfl
theorem q34 : (Jvm.Cond.fieldLink "PrivacyLattice" (36 : Nat) "PrivacyLattice" "ready" "Z") ∈ lw_all := lw_g (lw_at lw_m1 17 rfl) rfl
theorem q35 : (Jvm.Cond.fieldLink "PrivacyLattice" (16 : Nat) "PrivacyLattice" "known" "[B") ∈ lw_all := lw_g (lw_at lw_m1 18 rfl) rfl
theorem q36 : (Jvm.Cond.fieldLink "PrivacyLattice" (20 : Nat) "PrivacyLattice" "order" "[I") ∈ lw_all := lw_g (lw_at lw_m1 19 rfl) rfl
theorem q37 : (Jvm.Cond.fieldLink "PrivacyLattice" (23 : Nat) "PrivacyLattice" "shown" "[I") ∈ lw_all := lw_g (lw_at lw_m1 20 rfl) rfl
theorem q38 : (Jvm.Cond.lays "PrivacyLattice" "PrivacyLattice" "rows" "I") ∈ lw_all := lw_g (lw_at lw_m1 21 rfl) rfl
theorem q39 : (Jvm.Cond.soleField "PrivacyLattice" "rows") ∈ lw_all := lw_g (lw_at lw_m1 22 rfl) rfl
theorem q40 : (Jvm.Cond.laysFinal "PrivacyLattice" "PrivacyLattice" "values" "[I") ∈ lw_all := lw_g (lw_at lw_m1 23 rfl) rfl
theorem q41 : (Jvm.Cond.soleField "PrivacyLattice" "values") ∈ lw_all := lw_g (lw_at lw_m1 24 rfl) rfl
theorem q42 : (Jvm.Cond.laysFinal "PrivacyLattice" "PrivacyLattice" "secrets" "[I") ∈ lw_all := lw_g (lw_at lw_m1 25 rfl) rfl
theorem q43 : (Jvm.Cond.soleField "PrivacyLattice" "secrets") ∈ lw_all := lw_g (lw_at lw_m1 26 rfl) rfl
theorem q44 : (Jvm.Cond.lays "PrivacyLattice" "PrivacyLattice" "least" "I") ∈ lw_all := lw_g (lw_at lw_m1 27 rfl) rfl
theorem q45 : (Jvm.Cond.soleField "PrivacyLattice" "least") ∈ lw_all := lw_g (lw_at lw_m1 28 rfl) rfl
theorem q46 : (Jvm.Cond.lays "PrivacyLattice" "PrivacyLattice" "kinds" "I") ∈ lw_all := lw_g (lw_at lw_m1 29 rfl) rfl
theorem q47 : (Jvm.Cond.soleField "PrivacyLattice" "kinds") ∈ lw_all := lw_g (lw_at lw_m1 30 rfl) rfl
theorem q48 : (Jvm.Cond.lays "PrivacyLattice" "PrivacyLattice" "allowed" "I") ∈ lw_all := lw_g (lw_at lw_m1 31 rfl) rfl
theorem q49 : (Jvm.Cond.soleField "PrivacyLattice" "allowed") ∈ lw_all := lw_g (lw_at lw_m1 32 rfl) rfl
theorem q50 : (Jvm.Cond.lays "PrivacyLattice" "PrivacyLattice" "ready" "Z") ∈ lw_all := lw_g (lw_at lw_m1 33 rfl) rfl
theorem q51 : (Jvm.Cond.soleField "PrivacyLattice" "ready") ∈ lw_all := lw_g (lw_at lw_m1 34 rfl) rfl
theorem q52 : (Jvm.Cond.laysFinal "PrivacyLattice" "PrivacyLattice" "known" "[B") ∈ lw_all := lw_g (lw_at lw_m1 35 rfl) rfl
theorem q53 : (Jvm.Cond.soleField "PrivacyLattice" "known") ∈ lw_all := lw_g (lw_at lw_m1 36 rfl) rfl
theorem q54 : (Jvm.Cond.laysFinal "PrivacyLattice" "PrivacyLattice" "order" "[I") ∈ lw_all := lw_g (lw_at lw_m1 37 rfl) rfl
theorem q55 : (Jvm.Cond.soleField "PrivacyLattice" "order") ∈ lw_all := lw_g (lw_at lw_m1 38 rfl) rfl
theorem q56 : (Jvm.Cond.laysFinal "PrivacyLattice" "PrivacyLattice" "shown" "[I") ∈ lw_all := lw_g (lw_at lw_m1 39 rfl) rfl
theorem q57 : (Jvm.Cond.soleField "PrivacyLattice" "shown") ∈ lw_all := lw_g (lw_at lw_m1 40 rfl) rfl
theorem q58 : (Jvm.Cond.superclass "PrivacyLattice" "java/lang/Object") ∈ lw_all := lw_g (lw_at lw_m1 41 rfl) rfl
theorem q62 : (Jvm.Cond.instanceMethod ({ cls := "PrivacyLattice", name := "row", desc := "(II)I" } : Jvm.MethodName)) ∈ lw_all := lw_g (lw_at lw_m1 45 rfl) rfl
theorem q63 : (Jvm.Cond.selects "PrivacyLattice" ({ cls := "PrivacyLattice", name := "row", desc := "(II)I" } : Jvm.MethodName) ({ cls := "PrivacyLattice", name := "row", desc := "(II)I" } : Jvm.MethodName)) ∈ lw_all := lw_g (lw_at lw_m1 46 rfl) rfl
theorem q64 : (Jvm.Cond.code ({ cls := "PrivacyLattice", name := "row", desc := "(II)I" } : Jvm.MethodName) prog_1_method_3_code (3 : Nat) (Option.some Jvm.ClassFile.FieldType.int)) ∈ lw_all := lw_g (lw_at lw_m1 47 rfl) rfl
theorem q66 : (Jvm.Cond.instanceMethod ({ cls := "PrivacyLattice", name := "drop", desc := "()I" } : Jvm.MethodName)) ∈ lw_all := lw_g (lw_at lw_m1 49 rfl) rfl
theorem q67 : (Jvm.Cond.selects "PrivacyLattice" ({ cls := "PrivacyLattice", name := "drop", desc := "()I" } : Jvm.MethodName) ({ cls := "PrivacyLattice", name := "drop", desc := "()I" } : Jvm.MethodName)) ∈ lw_all := lw_g (lw_at lw_m1 50 rfl) rfl
theorem q68 : (Jvm.Cond.code ({ cls := "PrivacyLattice", name := "drop", desc := "()I" } : Jvm.MethodName) prog_1_method_4_code (1 : Nat) (Option.some Jvm.ClassFile.FieldType.int)) ∈ lw_all := lw_g (lw_at lw_m1 51 rfl) rfl
theorem q70 : (Jvm.Cond.instanceMethod ({ cls := "PrivacyLattice", name := "demand", desc := "(III)I" } : Jvm.MethodName)) ∈ lw_all := lw_g (lw_at lw_m1 53 rfl) rfl
theorem q71 : (Jvm.Cond.selects "PrivacyLattice" ({ cls := "PrivacyLattice", name := "demand", desc := "(III)I" } : Jvm.MethodName) ({ cls := "PrivacyLattice", name := "demand", desc := "(III)I" } : Jvm.MethodName)) ∈ lw_all := lw_g (lw_at lw_m1 54 rfl) rfl
theorem q72 : (Jvm.Cond.code ({ cls := "PrivacyLattice", name := "demand", desc := "(III)I" } : Jvm.MethodName) prog_1_method_5_code (4 : Nat) (Option.some Jvm.ClassFile.FieldType.int)) ∈ lw_all := lw_g (lw_at lw_m1 55 rfl) rfl
theorem q74 : (Jvm.Cond.instanceMethod ({ cls := "PrivacyLattice", name := "leftOut", desc := "(I)I" } : Jvm.MethodName)) ∈ lw_all := lw_g (lw_at lw_m1 57 rfl) rfl
theorem q75 : (Jvm.Cond.selects "PrivacyLattice" ({ cls := "PrivacyLattice", name := "leftOut", desc := "(I)I" } : Jvm.MethodName) ({ cls := "PrivacyLattice", name := "leftOut", desc := "(I)I" } : Jvm.MethodName)) ∈ lw_all := lw_g (lw_at lw_m1 58 rfl) rfl
theorem q76 : (Jvm.Cond.code ({ cls := "PrivacyLattice", name := "leftOut", desc := "(I)I" } : Jvm.MethodName) prog_1_method_18_code (2 : Nat) (Option.some Jvm.ClassFile.FieldType.int)) ∈ lw_all := lw_g (lw_at lw_m1 59 rfl) rfl
theorem q77 : (Jvm.Cond.methodLink "PrivacyLattice" (77 : Nat) ({ cls := "PrivacyLattice", name := "badSetting", desc := "(I)Z" } : Jvm.MethodName)) ∈ lw_all := lw_g (lw_at lw_m1 60 rfl) rfl
theorem q78 : (Jvm.Cond.static ({ cls := "PrivacyLattice", name := "badSetting", desc := "(I)Z" } : Jvm.MethodName)) ∈ lw_all := lw_g (lw_at lw_m1 61 rfl) rfl
theorem q79 : (Jvm.Cond.code ({ cls := "PrivacyLattice", name := "badSetting", desc := "(I)Z" } : Jvm.MethodName) prog_1_method_2_code (1 : Nat) (Option.some Jvm.ClassFile.FieldType.boolean)) ∈ lw_all := lw_g (lw_at lw_m1 62 rfl) rfl
theorem q80 : (Jvm.Cond.methodLink "PrivacyLattice" (61 : Nat) ({ cls := "PrivacyLattice", name := "countLeftOut", desc := "(I)I" } : Jvm.MethodName)) ∈ lw_all := lw_g (lw_at lw_m1 63 rfl) rfl
theorem q81 : (Jvm.Cond.privateMethod ({ cls := "PrivacyLattice", name := "countLeftOut", desc := "(I)I" } : Jvm.MethodName)) ∈ lw_tbl := lw_at lw_m1 64 rfl
theorem q82 : (Jvm.Cond.instanceMethod ({ cls := "PrivacyLattice", name := "countLeftOut", desc := "(I)I" } : Jvm.MethodName)) ∈ lw_all := lw_g (lw_at lw_m1 65 rfl) rfl
theorem q83 : (Jvm.Cond.code ({ cls := "PrivacyLattice", name := "countLeftOut", desc := "(I)I" } : Jvm.MethodName) prog_1_method_12_code (6 : Nat) (Option.some Jvm.ClassFile.FieldType.int)) ∈ lw_all := lw_g (lw_at lw_m1 66 rfl) rfl
theorem q84 : (Jvm.Cond.methodLink "PrivacyLattice" (50 : Nat) ({ cls := "PrivacyLattice", name := "sortRows", desc := "(I)V" } : Jvm.MethodName)) ∈ lw_all := lw_g (lw_at lw_m1 67 rfl) rfl
theorem q85 : (Jvm.Cond.privateMethod ({ cls := "PrivacyLattice", name := "sortRows", desc := "(I)V" } : Jvm.MethodName)) ∈ lw_tbl := lw_at lw_m1 68 rfl
theorem q86 : (Jvm.Cond.instanceMethod ({ cls := "PrivacyLattice", name := "sortRows", desc := "(I)V" } : Jvm.MethodName)) ∈ lw_all := lw_g (lw_at lw_m1 69 rfl) rfl
theorem q87 : (Jvm.Cond.code ({ cls := "PrivacyLattice", name := "sortRows", desc := "(I)V" } : Jvm.MethodName) prog_1_method_9_code (5 : Nat) (Option.none : Option Jvm.ClassFile.FieldType)) ∈ lw_all := lw_g (lw_at lw_m1 70 rfl) rfl
theorem q88 : (Jvm.Cond.methodLink "PrivacyLattice" (47 : Nat) ({ cls := "PrivacyLattice", name := "keyOf", desc := "(II)I" } : Jvm.MethodName)) ∈ lw_all := lw_g (lw_at lw_m1 71 rfl) rfl
theorem q89 : (Jvm.Cond.privateMethod ({ cls := "PrivacyLattice", name := "keyOf", desc := "(II)I" } : Jvm.MethodName)) ∈ lw_tbl := lw_at lw_m1 72 rfl
theorem q90 : (Jvm.Cond.instanceMethod ({ cls := "PrivacyLattice", name := "keyOf", desc := "(II)I" } : Jvm.MethodName)) ∈ lw_all := lw_g (lw_at lw_m1 73 rfl) rfl
theorem q91 : (Jvm.Cond.code ({ cls := "PrivacyLattice", name := "keyOf", desc := "(II)I" } : Jvm.MethodName) prog_1_method_8_code (6 : Nat) (Option.some Jvm.ClassFile.FieldType.int)) ∈ lw_all := lw_g (lw_at lw_m1 74 rfl) rfl
theorem q92 : (Jvm.Cond.methodLink "PrivacyLattice" (43 : Nat) ({ cls := "PrivacyLattice", name := "levelOf", desc := "(II)I" } : Jvm.MethodName)) ∈ lw_all := lw_g (lw_at lw_m1 75 rfl) rfl
theorem q93 : (Jvm.Cond.static ({ cls := "PrivacyLattice", name := "levelOf", desc := "(II)I" } : Jvm.MethodName)) ∈ lw_all := lw_g (lw_at lw_m1 76 rfl) rfl
theorem q94 : (Jvm.Cond.code ({ cls := "PrivacyLattice", name := "levelOf", desc := "(II)I" } : Jvm.MethodName) prog_1_method_6_code (2 : Nat) (Option.some Jvm.ClassFile.FieldType.int)) ∈ lw_all := lw_g (lw_at lw_m1 77 rfl) rfl
theorem q95 : (Jvm.Cond.methodLink "PrivacyLattice" (54 : Nat) ({ cls := "PrivacyLattice", name := "groupEnd", desc := "(I)I" } : Jvm.MethodName)) ∈ lw_all := lw_g (lw_at lw_m1 78 rfl) rfl
theorem q96 : (Jvm.Cond.privateMethod ({ cls := "PrivacyLattice", name := "groupEnd", desc := "(I)I" } : Jvm.MethodName)) ∈ lw_tbl := lw_at lw_m1 79 rfl
theorem q97 : (Jvm.Cond.instanceMethod ({ cls := "PrivacyLattice", name := "groupEnd", desc := "(I)I" } : Jvm.MethodName)) ∈ lw_all := lw_g (lw_at lw_m1 80 rfl) rfl
theorem q98 : (Jvm.Cond.code ({ cls := "PrivacyLattice", name := "groupEnd", desc := "(I)I" } : Jvm.MethodName) prog_1_method_10_code (3 : Nat) (Option.some Jvm.ClassFile.FieldType.int)) ∈ lw_all := lw_g (lw_at lw_m1 81 rfl) rfl
theorem q99 : (Jvm.Cond.methodLink "PrivacyLattice" (58 : Nat) ({ cls := "PrivacyLattice", name := "secretKinds", desc := "(II)I" } : Jvm.MethodName)) ∈ lw_all := lw_g (lw_at lw_m1 82 rfl) rfl
theorem q100 : (Jvm.Cond.privateMethod ({ cls := "PrivacyLattice", name := "secretKinds", desc := "(II)I" } : Jvm.MethodName)) ∈ lw_tbl := lw_at lw_m1 83 rfl
theorem q101 : (Jvm.Cond.instanceMethod ({ cls := "PrivacyLattice", name := "secretKinds", desc := "(II)I" } : Jvm.MethodName)) ∈ lw_all := lw_g (lw_at lw_m1 84 rfl) rfl
theorem q102 : (Jvm.Cond.code ({ cls := "PrivacyLattice", name := "secretKinds", desc := "(II)I" } : Jvm.MethodName) prog_1_method_11_code (6 : Nat) (Option.some Jvm.ClassFile.FieldType.int)) ∈ lw_all := lw_g (lw_at lw_m1 85 rfl) rfl
theorem q104 : (Jvm.Cond.instanceMethod ({ cls := "PrivacyLattice", name := "good", desc := "(I)Z" } : Jvm.MethodName)) ∈ lw_all := lw_g (lw_at lw_m1 87 rfl) rfl
theorem q105 : (Jvm.Cond.selects "PrivacyLattice" ({ cls := "PrivacyLattice", name := "good", desc := "(I)Z" } : Jvm.MethodName) ({ cls := "PrivacyLattice", name := "good", desc := "(I)Z" } : Jvm.MethodName)) ∈ lw_all := lw_g (lw_at lw_m1 88 rfl) rfl
theorem q106 : (Jvm.Cond.code ({ cls := "PrivacyLattice", name := "good", desc := "(I)Z" } : Jvm.MethodName) prog_1_method_19_code (2 : Nat) (Option.some Jvm.ClassFile.FieldType.boolean)) ∈ lw_all := lw_g (lw_at lw_m1 89 rfl) rfl
theorem q107 : (Jvm.Cond.methodLink "PrivacyLattice" (81 : Nat) ({ cls := "PrivacyLattice", name := "prepare", desc := "()V" } : Jvm.MethodName)) ∈ lw_all := lw_g (lw_at lw_m1 90 rfl) rfl
theorem q108 : (Jvm.Cond.privateMethod ({ cls := "PrivacyLattice", name := "prepare", desc := "()V" } : Jvm.MethodName)) ∈ lw_tbl := lw_at lw_m1 91 rfl
theorem q109 : (Jvm.Cond.instanceMethod ({ cls := "PrivacyLattice", name := "prepare", desc := "()V" } : Jvm.MethodName)) ∈ lw_all := lw_g (lw_at lw_m1 92 rfl) rfl
theorem q110 : (Jvm.Cond.code ({ cls := "PrivacyLattice", name := "prepare", desc := "()V" } : Jvm.MethodName) prog_1_method_16_code (2 : Nat) (Option.none : Option Jvm.ClassFile.FieldType)) ∈ lw_all := lw_g (lw_at lw_m1 93 rfl) rfl
theorem q111 : (Jvm.Cond.methodLink "PrivacyLattice" (74 : Nat) ({ cls := "PrivacyLattice", name := "judgeSum", desc := "(I)V" } : Jvm.MethodName)) ∈ lw_all := lw_g (lw_at lw_m1 94 rfl) rfl
theorem q112 : (Jvm.Cond.privateMethod ({ cls := "PrivacyLattice", name := "judgeSum", desc := "(I)V" } : Jvm.MethodName)) ∈ lw_tbl := lw_at lw_m1 95 rfl
theorem q113 : (Jvm.Cond.instanceMethod ({ cls := "PrivacyLattice", name := "judgeSum", desc := "(I)V" } : Jvm.MethodName)) ∈ lw_all := lw_g (lw_at lw_m1 96 rfl) rfl
theorem q114 : (Jvm.Cond.code ({ cls := "PrivacyLattice", name := "judgeSum", desc := "(I)V" } : Jvm.MethodName) prog_1_method_15_code (3 : Nat) (Option.none : Option Jvm.ClassFile.FieldType)) ∈ lw_all := lw_g (lw_at lw_m1 97 rfl) rfl
theorem q115 : (Jvm.Cond.methodLink "PrivacyLattice" (68 : Nat) ({ cls := "PrivacyLattice", name := "sumOfLevels", desc := "(I)I" } : Jvm.MethodName)) ∈ lw_all := lw_g (lw_at lw_m1 98 rfl) rfl
theorem q116 : (Jvm.Cond.static ({ cls := "PrivacyLattice", name := "sumOfLevels", desc := "(I)I" } : Jvm.MethodName)) ∈ lw_all := lw_g (lw_at lw_m1 99 rfl) rfl
theorem q117 : (Jvm.Cond.code ({ cls := "PrivacyLattice", name := "sumOfLevels", desc := "(I)I" } : Jvm.MethodName) prog_1_method_7_code (1 : Nat) (Option.some Jvm.ClassFile.FieldType.int)) ∈ lw_all := lw_g (lw_at lw_m1 100 rfl) rfl
theorem q118 : (Jvm.Cond.methodLink "PrivacyLattice" (71 : Nat) ({ cls := "PrivacyLattice", name := "judge", desc := "(I)V" } : Jvm.MethodName)) ∈ lw_all := lw_g (lw_at lw_m1 101 rfl) rfl
theorem q119 : (Jvm.Cond.privateMethod ({ cls := "PrivacyLattice", name := "judge", desc := "(I)V" } : Jvm.MethodName)) ∈ lw_tbl := lw_at lw_m1 102 rfl
theorem q120 : (Jvm.Cond.instanceMethod ({ cls := "PrivacyLattice", name := "judge", desc := "(I)V" } : Jvm.MethodName)) ∈ lw_all := lw_g (lw_at lw_m1 103 rfl) rfl
theorem q121 : (Jvm.Cond.code ({ cls := "PrivacyLattice", name := "judge", desc := "(I)V" } : Jvm.MethodName) prog_1_method_14_code (6 : Nat) (Option.none : Option Jvm.ClassFile.FieldType)) ∈ lw_all := lw_g (lw_at lw_m1 104 rfl) rfl
theorem q122 : (Jvm.Cond.methodLink "PrivacyLattice" (64 : Nat) ({ cls := "PrivacyLattice", name := "atLeast", desc := "(II)Z" } : Jvm.MethodName)) ∈ lw_all := lw_g (lw_at lw_m1 105 rfl) rfl
theorem q123 : (Jvm.Cond.static ({ cls := "PrivacyLattice", name := "atLeast", desc := "(II)Z" } : Jvm.MethodName)) ∈ lw_all := lw_g (lw_at lw_m1 106 rfl) rfl
theorem q124 : (Jvm.Cond.code ({ cls := "PrivacyLattice", name := "atLeast", desc := "(II)Z" } : Jvm.MethodName) prog_1_method_13_code (5 : Nat) (Option.some Jvm.ClassFile.FieldType.boolean)) ∈ lw_all := lw_g (lw_at lw_m1 107 rfl) rfl
theorem q126 : (Jvm.Cond.instanceMethod ({ cls := "PrivacyLattice", name := "goodSettings", desc := "()I" } : Jvm.MethodName)) ∈ lw_all := lw_g (lw_at lw_m1 109 rfl) rfl
theorem q127 : (Jvm.Cond.selects "PrivacyLattice" ({ cls := "PrivacyLattice", name := "goodSettings", desc := "()I" } : Jvm.MethodName) ({ cls := "PrivacyLattice", name := "goodSettings", desc := "()I" } : Jvm.MethodName)) ∈ lw_all := lw_g (lw_at lw_m1 110 rfl) rfl
theorem q128 : (Jvm.Cond.code ({ cls := "PrivacyLattice", name := "goodSettings", desc := "()I" } : Jvm.MethodName) prog_1_method_20_code (3 : Nat) (Option.some Jvm.ClassFile.FieldType.int)) ∈ lw_all := lw_g (lw_at lw_m1 111 rfl) rfl
theorem q130 : (Jvm.Cond.instanceMethod ({ cls := "PrivacyLattice", name := "finest", desc := "()I" } : Jvm.MethodName)) ∈ lw_all := lw_g (lw_at lw_m1 113 rfl) rfl
theorem q131 : (Jvm.Cond.selects "PrivacyLattice" ({ cls := "PrivacyLattice", name := "finest", desc := "()I" } : Jvm.MethodName) ({ cls := "PrivacyLattice", name := "finest", desc := "()I" } : Jvm.MethodName)) ∈ lw_all := lw_g (lw_at lw_m1 114 rfl) rfl
theorem q132 : (Jvm.Cond.code ({ cls := "PrivacyLattice", name := "finest", desc := "()I" } : Jvm.MethodName) prog_1_method_21_code (4 : Nat) (Option.some Jvm.ClassFile.FieldType.int)) ∈ lw_all := lw_g (lw_at lw_m1 115 rfl) rfl
theorem q133 : (Jvm.Cond.methodLink "PrivacyLattice" (84 : Nat) ({ cls := "PrivacyLattice", name := "isFinest", desc := "(I)Z" } : Jvm.MethodName)) ∈ lw_all := lw_g (lw_at lw_m1 116 rfl) rfl
theorem q134 : (Jvm.Cond.privateMethod ({ cls := "PrivacyLattice", name := "isFinest", desc := "(I)Z" } : Jvm.MethodName)) ∈ lw_tbl := lw_at lw_m1 117 rfl
theorem q135 : (Jvm.Cond.instanceMethod ({ cls := "PrivacyLattice", name := "isFinest", desc := "(I)Z" } : Jvm.MethodName)) ∈ lw_all := lw_g (lw_at lw_m1 118 rfl) rfl
theorem q136 : (Jvm.Cond.code ({ cls := "PrivacyLattice", name := "isFinest", desc := "(I)Z" } : Jvm.MethodName) prog_1_method_17_code (2 : Nat) (Option.some Jvm.ClassFile.FieldType.boolean)) ∈ lw_all := lw_g (lw_at lw_m1 119 rfl) rfl
theorem q138 : (Jvm.Cond.instanceMethod ({ cls := "PrivacyLattice", name := "finestAt", desc := "(I)I" } : Jvm.MethodName)) ∈ lw_all := lw_g (lw_at lw_m1 121 rfl) rfl
theorem q139 : (Jvm.Cond.selects "PrivacyLattice" ({ cls := "PrivacyLattice", name := "finestAt", desc := "(I)I" } : Jvm.MethodName) ({ cls := "PrivacyLattice", name := "finestAt", desc := "(I)I" } : Jvm.MethodName)) ∈ lw_all := lw_g (lw_at lw_m1 122 rfl) rfl
theorem q140 : (Jvm.Cond.code ({ cls := "PrivacyLattice", name := "finestAt", desc := "(I)I" } : Jvm.MethodName) prog_1_method_22_code (5 : Nat) (Option.some Jvm.ClassFile.FieldType.int)) ∈ lw_all := lw_g (lw_at lw_m1 123 rfl) rfl
theorem q142 : (Jvm.Cond.instanceMethod ({ cls := "PrivacyLattice", name := "best", desc := "()I" } : Jvm.MethodName)) ∈ lw_all := lw_g (lw_at lw_m1 125 rfl) rfl
theorem q143 : (Jvm.Cond.selects "PrivacyLattice" ({ cls := "PrivacyLattice", name := "best", desc := "()I" } : Jvm.MethodName) ({ cls := "PrivacyLattice", name := "best", desc := "()I" } : Jvm.MethodName)) ∈ lw_all := lw_g (lw_at lw_m1 126 rfl) rfl
theorem q144 : (Jvm.Cond.code ({ cls := "PrivacyLattice", name := "best", desc := "()I" } : Jvm.MethodName) prog_1_method_23_code (5 : Nat) (Option.some Jvm.ClassFile.FieldType.int)) ∈ lw_all := lw_g (lw_at lw_m1 127 rfl) rfl
theorem q146 : (Jvm.Cond.instanceMethod ({ cls := "PrivacyLattice", name := "groups", desc := "(I)I" } : Jvm.MethodName)) ∈ lw_all := lw_g (lw_at lw_m1 129 rfl) rfl
theorem q147 : (Jvm.Cond.selects "PrivacyLattice" ({ cls := "PrivacyLattice", name := "groups", desc := "(I)I" } : Jvm.MethodName) ({ cls := "PrivacyLattice", name := "groups", desc := "(I)I" } : Jvm.MethodName)) ∈ lw_all := lw_g (lw_at lw_m1 130 rfl) rfl
theorem q148 : (Jvm.Cond.code ({ cls := "PrivacyLattice", name := "groups", desc := "(I)I" } : Jvm.MethodName) prog_1_method_24_code (4 : Nat) (Option.some Jvm.ClassFile.FieldType.int)) ∈ lw_all := lw_g (lw_at lw_m1 131 rfl) rfl
theorem q150 : (Jvm.Cond.instanceMethod ({ cls := "PrivacyLattice", name := "lookAlike", desc := "(II)I" } : Jvm.MethodName)) ∈ lw_all := lw_g (lw_at lw_m1 133 rfl) rfl
theorem q151 : (Jvm.Cond.selects "PrivacyLattice" ({ cls := "PrivacyLattice", name := "lookAlike", desc := "(II)I" } : Jvm.MethodName) ({ cls := "PrivacyLattice", name := "lookAlike", desc := "(II)I" } : Jvm.MethodName)) ∈ lw_all := lw_g (lw_at lw_m1 134 rfl) rfl
theorem q152 : (Jvm.Cond.code ({ cls := "PrivacyLattice", name := "lookAlike", desc := "(II)I" } : Jvm.MethodName) prog_1_method_25_code (7 : Nat) (Option.some Jvm.ClassFile.FieldType.int)) ∈ lw_all := lw_g (lw_at lw_m1 135 rfl) rfl
theorem in_X0 : ∀ w ∈ wsX00, w ∈ lw_all := lw_in wsX00 [38, 40, 42, 44, 46, 48, 50, 52, 54, 56] (by decide +kernel) (by decide +kernel)
def RX1 : String := "PrivacyLatticeModel"
def TX1 : u_T := fun k => match k with
  | 0 => ("PrivacyLatticeModel", "attributes", "[I", true)
  | 1 => ("PrivacyLatticeModel", "secrets", "[I", true)
  | 2 => ("PrivacyLatticeModel", "rows", "I", false)
  | 3 => ("PrivacyLatticeModel", "least", "I", false)
  | 4 => ("PrivacyLatticeModel", "kinds", "I", false)
  | 5 => ("PrivacyLatticeModel", "spare", "I", false)
  | _ => ("PrivacyLatticeModel", "fine", "[Z", true)
def tyX1 : Nat → FieldType := fun k => match k with
  | 0 => .array .int
  | 1 => .array .int
  | 2 => .int
  | 3 => .int
  | 4 => .int
  | 5 => .int
  | _ => .array .boolean
abbrev wsX10 : List Cond := u_ws RX1 TX1 7
theorem nmX1 : ∀ a, a < 7 → ∀ b, b < 7 → a ≠ b → (TX1 a).2.1 ≠ (TX1 b).2.1 := by decide +kernel
theorem tyX1_ok : ∀ k, k < 7 → parseFieldDescriptor (TX1 k).2.2.1 = some (tyX1 k) := by decide +kernel
abbrev cX1_init : ByteArray := prog_3_method_1_code
def yX1_init : MethodName := ⟨RX1, "<init>", "()V"⟩
abbrev cX1_row : ByteArray := prog_3_method_2_code
def yX1_row : MethodName := ⟨RX1, "row", "(II)I"⟩
abbrev cX1_drop : ByteArray := prog_3_method_3_code
def yX1_drop : MethodName := ⟨RX1, "drop", "()I"⟩
abbrev cX1_demand : ByteArray := prog_3_method_4_code
def yX1_demand : MethodName := ⟨RX1, "demand", "(III)I"⟩
abbrev cX1_leftOut : ByteArray := prog_3_method_9_code
def yX1_leftOut : MethodName := ⟨RX1, "leftOut", "(I)I"⟩
abbrev cX1_isSetting : ByteArray := prog_3_method_5_code
def yX1_isSetting : MethodName := ⟨RX1, "isSetting", "(I)Z"⟩
abbrev cX1_hidden : ByteArray := prog_3_method_8_code
def yX1_hidden : MethodName := ⟨RX1, "hidden", "(II)Z"⟩
abbrev cX1_alike : ByteArray := prog_3_method_7_code
def yX1_alike : MethodName := ⟨RX1, "alike", "(III)Z"⟩
abbrev cX1_level : ByteArray := prog_3_method_6_code
def yX1_level : MethodName := ⟨RX1, "level", "(II)I"⟩
abbrev cX1_good : ByteArray := prog_3_method_10_code
def yX1_good : MethodName := ⟨RX1, "good", "(I)Z"⟩
abbrev cX1_goodSettings : ByteArray := prog_3_method_12_code
def yX1_goodSettings : MethodName := ⟨RX1, "goodSettings", "()I"⟩
abbrev cX1_judge : ByteArray := prog_3_method_11_code
def yX1_judge : MethodName := ⟨RX1, "judge", "()V"⟩
abbrev cX1_finest : ByteArray := prog_3_method_15_code
def yX1_finest : MethodName := ⟨RX1, "finest", "()I"⟩
abbrev cX1_isFinest : ByteArray := prog_3_method_14_code
def yX1_isFinest : MethodName := ⟨RX1, "isFinest", "(I)Z"⟩
abbrev cX1_coarser : ByteArray := prog_3_method_13_code
def yX1_coarser : MethodName := ⟨RX1, "coarser", "(II)Z"⟩
abbrev cX1_finestAt : ByteArray := prog_3_method_16_code
def yX1_finestAt : MethodName := ⟨RX1, "finestAt", "(I)I"⟩
abbrev cX1_best : ByteArray := prog_3_method_18_code
def yX1_best : MethodName := ⟨RX1, "best", "()I"⟩
abbrev cX1_sum : ByteArray := prog_3_method_17_code
def yX1_sum : MethodName := ⟨RX1, "sum", "(I)I"⟩
abbrev cX1_groups : ByteArray := prog_3_method_19_code
def yX1_groups : MethodName := ⟨RX1, "groups", "(I)I"⟩
abbrev cX1_lookAlike : ByteArray := prog_3_method_20_code
def yX1_lookAlike : MethodName := ⟨RX1, "lookAlike", "(II)I"⟩
theorem q19 : (Jvm.Cond.initialized "PrivacyLatticeModel") ∈ lw_all := lw_g (lw_at lw_m1 2 rfl) rfl
theorem q154 : (Jvm.Cond.instantiable "PrivacyLatticeModel" (7 : Nat)) ∈ lw_all := lw_g (lw_at lw_m1 137 rfl) rfl
theorem q156 : (Jvm.Cond.instanceMethod ({ cls := "PrivacyLatticeModel", name := "<init>", desc := "()V" } : Jvm.MethodName)) ∈ lw_all := lw_g (lw_at lw_m1 139 rfl) rfl
theorem q157 : (Jvm.Cond.code ({ cls := "PrivacyLatticeModel", name := "<init>", desc := "()V" } : Jvm.MethodName) prog_3_method_1_code (1 : Nat) (Option.none : Option Jvm.ClassFile.FieldType)) ∈ lw_all := lw_g (lw_at lw_m1 140 rfl) rfl
theorem q158 : (Jvm.Cond.methodLink "PrivacyLatticeModel" (1 : Nat) ({ cls := "java/lang/Object", name := "<init>", desc := "()V" } : Jvm.MethodName)) ∈ lw_all := lw_g (lw_at lw_m1 141 rfl) rfl
theorem q159 : (Jvm.Cond.fieldLink "PrivacyLatticeModel" (7 : Nat) "PrivacyLatticeModel" "attributes" "[I") ∈ lw_all := lw_g (lw_at lw_m1 142 rfl) rfl
theorem q160 : (Jvm.Cond.fieldLink "PrivacyLatticeModel" (13 : Nat) "PrivacyLatticeModel" "secrets" "[I") ∈ lw_all := lw_g (lw_at lw_m1 143 rfl) rfl
theorem q161 : (Jvm.Cond.fieldLink "PrivacyLatticeModel" (27 : Nat) "PrivacyLatticeModel" "rows" "I") ∈ lw_all := lw_g (lw_at lw_m1 144 rfl) rfl
theorem q162 : (Jvm.Cond.fieldLink "PrivacyLatticeModel" (16 : Nat) "PrivacyLatticeModel" "least" "I") ∈ lw_all := lw_g (lw_at lw_m1 145 rfl) rfl
theorem q163 : (Jvm.Cond.fieldLink "PrivacyLatticeModel" (20 : Nat) "PrivacyLatticeModel" "kinds" "I") ∈ lw_all := lw_g (lw_at lw_m1 146 rfl) rfl
theorem q164 : (Jvm.Cond.fieldLink "PrivacyLatticeModel" (30 : Nat) "PrivacyLatticeModel" "spare" "I") ∈ lw_all := lw_g (lw_at lw_m1 147 rfl) rfl
theorem q165 : (Jvm.Cond.fieldLink "PrivacyLatticeModel" (23 : Nat) "PrivacyLatticeModel" "fine" "[Z") ∈ lw_all := lw_g (lw_at lw_m1 148 rfl) rfl
theorem q166 : (Jvm.Cond.laysFinal "PrivacyLatticeModel" "PrivacyLatticeModel" "attributes" "[I") ∈ lw_all := lw_g (lw_at lw_m1 149 rfl) rfl
theorem q167 : (Jvm.Cond.soleField "PrivacyLatticeModel" "attributes") ∈ lw_all := lw_g (lw_at lw_m1 150 rfl) rfl
theorem q168 : (Jvm.Cond.laysFinal "PrivacyLatticeModel" "PrivacyLatticeModel" "secrets" "[I") ∈ lw_all := lw_g (lw_at lw_m1 151 rfl) rfl
theorem q169 : (Jvm.Cond.soleField "PrivacyLatticeModel" "secrets") ∈ lw_all := lw_g (lw_at lw_m1 152 rfl) rfl
theorem q170 : (Jvm.Cond.lays "PrivacyLatticeModel" "PrivacyLatticeModel" "rows" "I") ∈ lw_all := lw_g (lw_at lw_m1 153 rfl) rfl
theorem q171 : (Jvm.Cond.soleField "PrivacyLatticeModel" "rows") ∈ lw_all := lw_g (lw_at lw_m1 154 rfl) rfl
theorem q172 : (Jvm.Cond.lays "PrivacyLatticeModel" "PrivacyLatticeModel" "least" "I") ∈ lw_all := lw_g (lw_at lw_m1 155 rfl) rfl
theorem q173 : (Jvm.Cond.soleField "PrivacyLatticeModel" "least") ∈ lw_all := lw_g (lw_at lw_m1 156 rfl) rfl
theorem q174 : (Jvm.Cond.lays "PrivacyLatticeModel" "PrivacyLatticeModel" "kinds" "I") ∈ lw_all := lw_g (lw_at lw_m1 157 rfl) rfl
theorem q175 : (Jvm.Cond.soleField "PrivacyLatticeModel" "kinds") ∈ lw_all := lw_g (lw_at lw_m1 158 rfl) rfl
theorem q176 : (Jvm.Cond.lays "PrivacyLatticeModel" "PrivacyLatticeModel" "spare" "I") ∈ lw_all := lw_g (lw_at lw_m1 159 rfl) rfl
theorem q177 : (Jvm.Cond.soleField "PrivacyLatticeModel" "spare") ∈ lw_all := lw_g (lw_at lw_m1 160 rfl) rfl
theorem q178 : (Jvm.Cond.laysFinal "PrivacyLatticeModel" "PrivacyLatticeModel" "fine" "[Z") ∈ lw_all := lw_g (lw_at lw_m1 161 rfl) rfl
theorem q179 : (Jvm.Cond.soleField "PrivacyLatticeModel" "fine") ∈ lw_all := lw_g (lw_at lw_m1 162 rfl) rfl
theorem q180 : (Jvm.Cond.superclass "PrivacyLatticeModel" "java/lang/Object") ∈ lw_all := lw_g (lw_at lw_m1 163 rfl) rfl
theorem q183 : (Jvm.Cond.instanceMethod ({ cls := "PrivacyLatticeModel", name := "row", desc := "(II)I" } : Jvm.MethodName)) ∈ lw_all := lw_g (lw_at lw_m1 166 rfl) rfl
theorem q184 : (Jvm.Cond.selects "PrivacyLatticeModel" ({ cls := "PrivacyLatticeModel", name := "row", desc := "(II)I" } : Jvm.MethodName) ({ cls := "PrivacyLatticeModel", name := "row", desc := "(II)I" } : Jvm.MethodName)) ∈ lw_all := lw_g (lw_at lw_m1 167 rfl) rfl
theorem q185 : (Jvm.Cond.code ({ cls := "PrivacyLatticeModel", name := "row", desc := "(II)I" } : Jvm.MethodName) prog_3_method_2_code (4 : Nat) (Option.some Jvm.ClassFile.FieldType.int)) ∈ lw_all := lw_g (lw_at lw_m1 168 rfl) rfl
theorem q187 : (Jvm.Cond.instanceMethod ({ cls := "PrivacyLatticeModel", name := "drop", desc := "()I" } : Jvm.MethodName)) ∈ lw_all := lw_g (lw_at lw_m1 170 rfl) rfl
theorem q188 : (Jvm.Cond.selects "PrivacyLatticeModel" ({ cls := "PrivacyLatticeModel", name := "drop", desc := "()I" } : Jvm.MethodName) ({ cls := "PrivacyLatticeModel", name := "drop", desc := "()I" } : Jvm.MethodName)) ∈ lw_all := lw_g (lw_at lw_m1 171 rfl) rfl
theorem q189 : (Jvm.Cond.code ({ cls := "PrivacyLatticeModel", name := "drop", desc := "()I" } : Jvm.MethodName) prog_3_method_3_code (1 : Nat) (Option.some Jvm.ClassFile.FieldType.int)) ∈ lw_all := lw_g (lw_at lw_m1 172 rfl) rfl
theorem q191 : (Jvm.Cond.instanceMethod ({ cls := "PrivacyLatticeModel", name := "demand", desc := "(III)I" } : Jvm.MethodName)) ∈ lw_all := lw_g (lw_at lw_m1 174 rfl) rfl
theorem q192 : (Jvm.Cond.selects "PrivacyLatticeModel" ({ cls := "PrivacyLatticeModel", name := "demand", desc := "(III)I" } : Jvm.MethodName) ({ cls := "PrivacyLatticeModel", name := "demand", desc := "(III)I" } : Jvm.MethodName)) ∈ lw_all := lw_g (lw_at lw_m1 175 rfl) rfl
theorem q193 : (Jvm.Cond.code ({ cls := "PrivacyLatticeModel", name := "demand", desc := "(III)I" } : Jvm.MethodName) prog_3_method_4_code (4 : Nat) (Option.some Jvm.ClassFile.FieldType.int)) ∈ lw_all := lw_g (lw_at lw_m1 176 rfl) rfl
theorem q195 : (Jvm.Cond.instanceMethod ({ cls := "PrivacyLatticeModel", name := "leftOut", desc := "(I)I" } : Jvm.MethodName)) ∈ lw_all := lw_g (lw_at lw_m1 178 rfl) rfl
theorem q196 : (Jvm.Cond.selects "PrivacyLatticeModel" ({ cls := "PrivacyLatticeModel", name := "leftOut", desc := "(I)I" } : Jvm.MethodName) ({ cls := "PrivacyLatticeModel", name := "leftOut", desc := "(I)I" } : Jvm.MethodName)) ∈ lw_all := lw_g (lw_at lw_m1 179 rfl) rfl
theorem q197 : (Jvm.Cond.code ({ cls := "PrivacyLatticeModel", name := "leftOut", desc := "(I)I" } : Jvm.MethodName) prog_3_method_9_code (4 : Nat) (Option.some Jvm.ClassFile.FieldType.int)) ∈ lw_all := lw_g (lw_at lw_m1 180 rfl) rfl
theorem q198 : (Jvm.Cond.methodLink "PrivacyLatticeModel" (41 : Nat) ({ cls := "PrivacyLatticeModel", name := "isSetting", desc := "(I)Z" } : Jvm.MethodName)) ∈ lw_all := lw_g (lw_at lw_m1 181 rfl) rfl
theorem q199 : (Jvm.Cond.privateMethod ({ cls := "PrivacyLatticeModel", name := "isSetting", desc := "(I)Z" } : Jvm.MethodName)) ∈ lw_tbl := lw_at lw_m1 182 rfl
theorem q200 : (Jvm.Cond.instanceMethod ({ cls := "PrivacyLatticeModel", name := "isSetting", desc := "(I)Z" } : Jvm.MethodName)) ∈ lw_all := lw_g (lw_at lw_m1 183 rfl) rfl
theorem q201 : (Jvm.Cond.code ({ cls := "PrivacyLatticeModel", name := "isSetting", desc := "(I)Z" } : Jvm.MethodName) prog_3_method_5_code (2 : Nat) (Option.some Jvm.ClassFile.FieldType.boolean)) ∈ lw_all := lw_g (lw_at lw_m1 184 rfl) rfl
theorem q202 : (Jvm.Cond.methodLink "PrivacyLatticeModel" (45 : Nat) ({ cls := "PrivacyLatticeModel", name := "hidden", desc := "(II)Z" } : Jvm.MethodName)) ∈ lw_all := lw_g (lw_at lw_m1 185 rfl) rfl
theorem q203 : (Jvm.Cond.privateMethod ({ cls := "PrivacyLatticeModel", name := "hidden", desc := "(II)Z" } : Jvm.MethodName)) ∈ lw_tbl := lw_at lw_m1 186 rfl
theorem q204 : (Jvm.Cond.instanceMethod ({ cls := "PrivacyLatticeModel", name := "hidden", desc := "(II)Z" } : Jvm.MethodName)) ∈ lw_all := lw_g (lw_at lw_m1 187 rfl) rfl
theorem q205 : (Jvm.Cond.code ({ cls := "PrivacyLatticeModel", name := "hidden", desc := "(II)Z" } : Jvm.MethodName) prog_3_method_8_code (7 : Nat) (Option.some Jvm.ClassFile.FieldType.boolean)) ∈ lw_all := lw_g (lw_at lw_m1 188 rfl) rfl
theorem q206 : (Jvm.Cond.methodLink "PrivacyLatticeModel" (37 : Nat) ({ cls := "PrivacyLatticeModel", name := "alike", desc := "(III)Z" } : Jvm.MethodName)) ∈ lw_all := lw_g (lw_at lw_m1 189 rfl) rfl
theorem q207 : (Jvm.Cond.privateMethod ({ cls := "PrivacyLatticeModel", name := "alike", desc := "(III)Z" } : Jvm.MethodName)) ∈ lw_tbl := lw_at lw_m1 190 rfl
theorem q208 : (Jvm.Cond.instanceMethod ({ cls := "PrivacyLatticeModel", name := "alike", desc := "(III)Z" } : Jvm.MethodName)) ∈ lw_all := lw_g (lw_at lw_m1 191 rfl) rfl
theorem q209 : (Jvm.Cond.code ({ cls := "PrivacyLatticeModel", name := "alike", desc := "(III)Z" } : Jvm.MethodName) prog_3_method_7_code (6 : Nat) (Option.some Jvm.ClassFile.FieldType.boolean)) ∈ lw_all := lw_g (lw_at lw_m1 192 rfl) rfl
theorem q210 : (Jvm.Cond.methodLink "PrivacyLatticeModel" (33 : Nat) ({ cls := "PrivacyLatticeModel", name := "level", desc := "(II)I" } : Jvm.MethodName)) ∈ lw_all := lw_g (lw_at lw_m1 193 rfl) rfl
theorem q211 : (Jvm.Cond.privateMethod ({ cls := "PrivacyLatticeModel", name := "level", desc := "(II)I" } : Jvm.MethodName)) ∈ lw_tbl := lw_at lw_m1 194 rfl
theorem q212 : (Jvm.Cond.instanceMethod ({ cls := "PrivacyLatticeModel", name := "level", desc := "(II)I" } : Jvm.MethodName)) ∈ lw_all := lw_g (lw_at lw_m1 195 rfl) rfl
theorem q213 : (Jvm.Cond.code ({ cls := "PrivacyLatticeModel", name := "level", desc := "(II)I" } : Jvm.MethodName) prog_3_method_6_code (3 : Nat) (Option.some Jvm.ClassFile.FieldType.int)) ∈ lw_all := lw_g (lw_at lw_m1 196 rfl) rfl
theorem q215 : (Jvm.Cond.instanceMethod ({ cls := "PrivacyLatticeModel", name := "good", desc := "(I)Z" } : Jvm.MethodName)) ∈ lw_all := lw_g (lw_at lw_m1 198 rfl) rfl
theorem q216 : (Jvm.Cond.selects "PrivacyLatticeModel" ({ cls := "PrivacyLatticeModel", name := "good", desc := "(I)Z" } : Jvm.MethodName) ({ cls := "PrivacyLatticeModel", name := "good", desc := "(I)Z" } : Jvm.MethodName)) ∈ lw_all := lw_g (lw_at lw_m1 199 rfl) rfl
theorem q217 : (Jvm.Cond.code ({ cls := "PrivacyLatticeModel", name := "good", desc := "(I)Z" } : Jvm.MethodName) prog_3_method_10_code (2 : Nat) (Option.some Jvm.ClassFile.FieldType.boolean)) ∈ lw_all := lw_g (lw_at lw_m1 200 rfl) rfl
theorem q218 : (Jvm.Cond.methodLink "PrivacyLatticeModel" (49 : Nat) ({ cls := "PrivacyLatticeModel", name := "leftOut", desc := "(I)I" } : Jvm.MethodName)) ∈ lw_all := lw_g (lw_at lw_m1 201 rfl) rfl
theorem q220 : (Jvm.Cond.instanceMethod ({ cls := "PrivacyLatticeModel", name := "goodSettings", desc := "()I" } : Jvm.MethodName)) ∈ lw_all := lw_g (lw_at lw_m1 203 rfl) rfl
theorem q221 : (Jvm.Cond.selects "PrivacyLatticeModel" ({ cls := "PrivacyLatticeModel", name := "goodSettings", desc := "()I" } : Jvm.MethodName) ({ cls := "PrivacyLatticeModel", name := "goodSettings", desc := "()I" } : Jvm.MethodName)) ∈ lw_all := lw_g (lw_at lw_m1 204 rfl) rfl
theorem q222 : (Jvm.Cond.code ({ cls := "PrivacyLatticeModel", name := "goodSettings", desc := "()I" } : Jvm.MethodName) prog_3_method_12_code (3 : Nat) (Option.some Jvm.ClassFile.FieldType.int)) ∈ lw_all := lw_g (lw_at lw_m1 205 rfl) rfl
theorem q223 : (Jvm.Cond.methodLink "PrivacyLatticeModel" (56 : Nat) ({ cls := "PrivacyLatticeModel", name := "judge", desc := "()V" } : Jvm.MethodName)) ∈ lw_all := lw_g (lw_at lw_m1 206 rfl) rfl
theorem q224 : (Jvm.Cond.privateMethod ({ cls := "PrivacyLatticeModel", name := "judge", desc := "()V" } : Jvm.MethodName)) ∈ lw_tbl := lw_at lw_m1 207 rfl
theorem q225 : (Jvm.Cond.instanceMethod ({ cls := "PrivacyLatticeModel", name := "judge", desc := "()V" } : Jvm.MethodName)) ∈ lw_all := lw_g (lw_at lw_m1 208 rfl) rfl
theorem q226 : (Jvm.Cond.code ({ cls := "PrivacyLatticeModel", name := "judge", desc := "()V" } : Jvm.MethodName) prog_3_method_11_code (2 : Nat) (Option.none : Option Jvm.ClassFile.FieldType)) ∈ lw_all := lw_g (lw_at lw_m1 209 rfl) rfl
theorem q227 : (Jvm.Cond.methodLink "PrivacyLatticeModel" (53 : Nat) ({ cls := "PrivacyLatticeModel", name := "good", desc := "(I)Z" } : Jvm.MethodName)) ∈ lw_all := lw_g (lw_at lw_m1 210 rfl) rfl
theorem q229 : (Jvm.Cond.instanceMethod ({ cls := "PrivacyLatticeModel", name := "finest", desc := "()I" } : Jvm.MethodName)) ∈ lw_all := lw_g (lw_at lw_m1 212 rfl) rfl
theorem q230 : (Jvm.Cond.selects "PrivacyLatticeModel" ({ cls := "PrivacyLatticeModel", name := "finest", desc := "()I" } : Jvm.MethodName) ({ cls := "PrivacyLatticeModel", name := "finest", desc := "()I" } : Jvm.MethodName)) ∈ lw_all := lw_g (lw_at lw_m1 213 rfl) rfl
theorem q231 : (Jvm.Cond.code ({ cls := "PrivacyLatticeModel", name := "finest", desc := "()I" } : Jvm.MethodName) prog_3_method_15_code (3 : Nat) (Option.some Jvm.ClassFile.FieldType.int)) ∈ lw_all := lw_g (lw_at lw_m1 214 rfl) rfl
theorem q232 : (Jvm.Cond.methodLink "PrivacyLatticeModel" (62 : Nat) ({ cls := "PrivacyLatticeModel", name := "isFinest", desc := "(I)Z" } : Jvm.MethodName)) ∈ lw_all := lw_g (lw_at lw_m1 215 rfl) rfl
theorem q233 : (Jvm.Cond.privateMethod ({ cls := "PrivacyLatticeModel", name := "isFinest", desc := "(I)Z" } : Jvm.MethodName)) ∈ lw_tbl := lw_at lw_m1 216 rfl
theorem q234 : (Jvm.Cond.instanceMethod ({ cls := "PrivacyLatticeModel", name := "isFinest", desc := "(I)Z" } : Jvm.MethodName)) ∈ lw_all := lw_g (lw_at lw_m1 217 rfl) rfl
theorem q235 : (Jvm.Cond.code ({ cls := "PrivacyLatticeModel", name := "isFinest", desc := "(I)Z" } : Jvm.MethodName) prog_3_method_14_code (3 : Nat) (Option.some Jvm.ClassFile.FieldType.boolean)) ∈ lw_all := lw_g (lw_at lw_m1 218 rfl) rfl
theorem q236 : (Jvm.Cond.methodLink "PrivacyLatticeModel" (59 : Nat) ({ cls := "PrivacyLatticeModel", name := "coarser", desc := "(II)Z" } : Jvm.MethodName)) ∈ lw_all := lw_g (lw_at lw_m1 219 rfl) rfl
theorem q237 : (Jvm.Cond.privateMethod ({ cls := "PrivacyLatticeModel", name := "coarser", desc := "(II)Z" } : Jvm.MethodName)) ∈ lw_tbl := lw_at lw_m1 220 rfl
theorem q238 : (Jvm.Cond.instanceMethod ({ cls := "PrivacyLatticeModel", name := "coarser", desc := "(II)Z" } : Jvm.MethodName)) ∈ lw_all := lw_g (lw_at lw_m1 221 rfl) rfl
theorem q239 : (Jvm.Cond.code ({ cls := "PrivacyLatticeModel", name := "coarser", desc := "(II)Z" } : Jvm.MethodName) prog_3_method_13_code (4 : Nat) (Option.some Jvm.ClassFile.FieldType.boolean)) ∈ lw_all := lw_g (lw_at lw_m1 222 rfl) rfl
theorem q241 : (Jvm.Cond.instanceMethod ({ cls := "PrivacyLatticeModel", name := "finestAt", desc := "(I)I" } : Jvm.MethodName)) ∈ lw_all := lw_g (lw_at lw_m1 224 rfl) rfl
theorem q242 : (Jvm.Cond.selects "PrivacyLatticeModel" ({ cls := "PrivacyLatticeModel", name := "finestAt", desc := "(I)I" } : Jvm.MethodName) ({ cls := "PrivacyLatticeModel", name := "finestAt", desc := "(I)I" } : Jvm.MethodName)) ∈ lw_all := lw_g (lw_at lw_m1 225 rfl) rfl
theorem q243 : (Jvm.Cond.code ({ cls := "PrivacyLatticeModel", name := "finestAt", desc := "(I)I" } : Jvm.MethodName) prog_3_method_16_code (4 : Nat) (Option.some Jvm.ClassFile.FieldType.int)) ∈ lw_all := lw_g (lw_at lw_m1 226 rfl) rfl
theorem q245 : (Jvm.Cond.instanceMethod ({ cls := "PrivacyLatticeModel", name := "best", desc := "()I" } : Jvm.MethodName)) ∈ lw_all := lw_g (lw_at lw_m1 228 rfl) rfl
theorem q246 : (Jvm.Cond.selects "PrivacyLatticeModel" ({ cls := "PrivacyLatticeModel", name := "best", desc := "()I" } : Jvm.MethodName) ({ cls := "PrivacyLatticeModel", name := "best", desc := "()I" } : Jvm.MethodName)) ∈ lw_all := lw_g (lw_at lw_m1 229 rfl) rfl
theorem q247 : (Jvm.Cond.code ({ cls := "PrivacyLatticeModel", name := "best", desc := "()I" } : Jvm.MethodName) prog_3_method_18_code (3 : Nat) (Option.some Jvm.ClassFile.FieldType.int)) ∈ lw_all := lw_g (lw_at lw_m1 230 rfl) rfl
theorem q248 : (Jvm.Cond.methodLink "PrivacyLatticeModel" (65 : Nat) ({ cls := "PrivacyLatticeModel", name := "sum", desc := "(I)I" } : Jvm.MethodName)) ∈ lw_all := lw_g (lw_at lw_m1 231 rfl) rfl
theorem q249 : (Jvm.Cond.privateMethod ({ cls := "PrivacyLatticeModel", name := "sum", desc := "(I)I" } : Jvm.MethodName)) ∈ lw_tbl := lw_at lw_m1 232 rfl
theorem q250 : (Jvm.Cond.instanceMethod ({ cls := "PrivacyLatticeModel", name := "sum", desc := "(I)I" } : Jvm.MethodName)) ∈ lw_all := lw_g (lw_at lw_m1 233 rfl) rfl
theorem q251 : (Jvm.Cond.code ({ cls := "PrivacyLatticeModel", name := "sum", desc := "(I)I" } : Jvm.MethodName) prog_3_method_17_code (2 : Nat) (Option.some Jvm.ClassFile.FieldType.int)) ∈ lw_all := lw_g (lw_at lw_m1 234 rfl) rfl
theorem q253 : (Jvm.Cond.instanceMethod ({ cls := "PrivacyLatticeModel", name := "groups", desc := "(I)I" } : Jvm.MethodName)) ∈ lw_all := lw_g (lw_at lw_m1 236 rfl) rfl
theorem q254 : (Jvm.Cond.selects "PrivacyLatticeModel" ({ cls := "PrivacyLatticeModel", name := "groups", desc := "(I)I" } : Jvm.MethodName) ({ cls := "PrivacyLatticeModel", name := "groups", desc := "(I)I" } : Jvm.MethodName)) ∈ lw_all := lw_g (lw_at lw_m1 237 rfl) rfl
theorem q255 : (Jvm.Cond.code ({ cls := "PrivacyLatticeModel", name := "groups", desc := "(I)I" } : Jvm.MethodName) prog_3_method_19_code (5 : Nat) (Option.some Jvm.ClassFile.FieldType.int)) ∈ lw_all := lw_g (lw_at lw_m1 238 rfl) rfl
theorem q257 : (Jvm.Cond.instanceMethod ({ cls := "PrivacyLatticeModel", name := "lookAlike", desc := "(II)I" } : Jvm.MethodName)) ∈ lw_all := lw_g (lw_at lw_m2 0 rfl) rfl
theorem q258 : (Jvm.Cond.selects "PrivacyLatticeModel" ({ cls := "PrivacyLatticeModel", name := "lookAlike", desc := "(II)I" } : Jvm.MethodName) ({ cls := "PrivacyLatticeModel", name := "lookAlike", desc := "(II)I" } : Jvm.MethodName)) ∈ lw_all := lw_g (lw_at lw_m2 1 rfl) rfl
theorem q259 : (Jvm.Cond.code ({ cls := "PrivacyLatticeModel", name := "lookAlike", desc := "(II)I" } : Jvm.MethodName) prog_3_method_20_code (5 : Nat) (Option.some Jvm.ClassFile.FieldType.int)) ∈ lw_all := lw_g (lw_at lw_m2 2 rfl) rfl
theorem in_X1 : ∀ w ∈ wsX10, w ∈ lw_all := lw_in wsX10 [166, 168, 170, 172, 174, 176, 178] (by decide +kernel) (by decide +kernel)
def RJ0 : String := "java/lang/Object"
abbrev cJ0_init : ByteArray := object_method_1_code
def yJ0_init : MethodName := ⟨RJ0, "<init>", "()V"⟩
theorem q26 : (Jvm.Cond.instanceMethod ({ cls := "java/lang/Object", name := "<init>", desc := "()V" } : Jvm.MethodName)) ∈ lw_all := lw_g (lw_at lw_m1 9 rfl) rfl
theorem q27 : (Jvm.Cond.code ({ cls := "java/lang/Object", name := "<init>", desc := "()V" } : Jvm.MethodName) object_method_1_code (1 : Nat) (Option.none : Option Jvm.ClassFile.FieldType)) ∈ lw_all := lw_g (lw_at lw_m1 10 rfl) rfl
theorem q17 : (Jvm.Cond.initialized "PrivacyLatticeLaw") ∈ lw_all := lw_g (lw_at lw_m1 0 rfl) rfl
theorem q20 : (Jvm.Cond.classLink "PrivacyLatticeLaw" (7 : Nat) "PrivacyLattice") ∈ lw_all := lw_g (lw_at lw_m1 3 rfl) rfl
theorem q22 : (Jvm.Cond.methodLink "PrivacyLatticeLaw" (9 : Nat) ({ cls := "PrivacyLattice", name := "<init>", desc := "()V" } : Jvm.MethodName)) ∈ lw_all := lw_g (lw_at lw_m1 5 rfl) rfl
theorem q61 : (Jvm.Cond.methodLink "PrivacyLatticeLaw" (13 : Nat) ({ cls := "PrivacyLattice", name := "row", desc := "(II)I" } : Jvm.MethodName)) ∈ lw_all := lw_g (lw_at lw_m1 44 rfl) rfl
theorem q65 : (Jvm.Cond.methodLink "PrivacyLatticeLaw" (18 : Nat) ({ cls := "PrivacyLattice", name := "drop", desc := "()I" } : Jvm.MethodName)) ∈ lw_all := lw_g (lw_at lw_m1 48 rfl) rfl
theorem q69 : (Jvm.Cond.methodLink "PrivacyLatticeLaw" (23 : Nat) ({ cls := "PrivacyLattice", name := "demand", desc := "(III)I" } : Jvm.MethodName)) ∈ lw_all := lw_g (lw_at lw_m1 52 rfl) rfl
theorem q73 : (Jvm.Cond.methodLink "PrivacyLatticeLaw" (28 : Nat) ({ cls := "PrivacyLattice", name := "leftOut", desc := "(I)I" } : Jvm.MethodName)) ∈ lw_all := lw_g (lw_at lw_m1 56 rfl) rfl
theorem q103 : (Jvm.Cond.methodLink "PrivacyLatticeLaw" (33 : Nat) ({ cls := "PrivacyLattice", name := "good", desc := "(I)Z" } : Jvm.MethodName)) ∈ lw_all := lw_g (lw_at lw_m1 86 rfl) rfl
theorem q125 : (Jvm.Cond.methodLink "PrivacyLatticeLaw" (38 : Nat) ({ cls := "PrivacyLattice", name := "goodSettings", desc := "()I" } : Jvm.MethodName)) ∈ lw_all := lw_g (lw_at lw_m1 108 rfl) rfl
theorem q129 : (Jvm.Cond.methodLink "PrivacyLatticeLaw" (42 : Nat) ({ cls := "PrivacyLattice", name := "finest", desc := "()I" } : Jvm.MethodName)) ∈ lw_all := lw_g (lw_at lw_m1 112 rfl) rfl
theorem q137 : (Jvm.Cond.methodLink "PrivacyLatticeLaw" (46 : Nat) ({ cls := "PrivacyLattice", name := "finestAt", desc := "(I)I" } : Jvm.MethodName)) ∈ lw_all := lw_g (lw_at lw_m1 120 rfl) rfl
theorem q141 : (Jvm.Cond.methodLink "PrivacyLatticeLaw" (50 : Nat) ({ cls := "PrivacyLattice", name := "best", desc := "()I" } : Jvm.MethodName)) ∈ lw_all := lw_g (lw_at lw_m1 124 rfl) rfl
theorem q145 : (Jvm.Cond.methodLink "PrivacyLatticeLaw" (54 : Nat) ({ cls := "PrivacyLattice", name := "groups", desc := "(I)I" } : Jvm.MethodName)) ∈ lw_all := lw_g (lw_at lw_m1 128 rfl) rfl
theorem q149 : (Jvm.Cond.methodLink "PrivacyLatticeLaw" (58 : Nat) ({ cls := "PrivacyLattice", name := "lookAlike", desc := "(II)I" } : Jvm.MethodName)) ∈ lw_all := lw_g (lw_at lw_m1 132 rfl) rfl
theorem q153 : (Jvm.Cond.classLink "PrivacyLatticeLaw" (10 : Nat) "PrivacyLatticeModel") ∈ lw_all := lw_g (lw_at lw_m1 136 rfl) rfl
theorem q155 : (Jvm.Cond.methodLink "PrivacyLatticeLaw" (12 : Nat) ({ cls := "PrivacyLatticeModel", name := "<init>", desc := "()V" } : Jvm.MethodName)) ∈ lw_all := lw_g (lw_at lw_m1 138 rfl) rfl
theorem q182 : (Jvm.Cond.methodLink "PrivacyLatticeLaw" (17 : Nat) ({ cls := "PrivacyLatticeModel", name := "row", desc := "(II)I" } : Jvm.MethodName)) ∈ lw_all := lw_g (lw_at lw_m1 165 rfl) rfl
theorem q186 : (Jvm.Cond.methodLink "PrivacyLatticeLaw" (22 : Nat) ({ cls := "PrivacyLatticeModel", name := "drop", desc := "()I" } : Jvm.MethodName)) ∈ lw_all := lw_g (lw_at lw_m1 169 rfl) rfl
theorem q190 : (Jvm.Cond.methodLink "PrivacyLatticeLaw" (27 : Nat) ({ cls := "PrivacyLatticeModel", name := "demand", desc := "(III)I" } : Jvm.MethodName)) ∈ lw_all := lw_g (lw_at lw_m1 173 rfl) rfl
theorem q194 : (Jvm.Cond.methodLink "PrivacyLatticeLaw" (32 : Nat) ({ cls := "PrivacyLatticeModel", name := "leftOut", desc := "(I)I" } : Jvm.MethodName)) ∈ lw_all := lw_g (lw_at lw_m1 177 rfl) rfl
theorem q214 : (Jvm.Cond.methodLink "PrivacyLatticeLaw" (37 : Nat) ({ cls := "PrivacyLatticeModel", name := "good", desc := "(I)Z" } : Jvm.MethodName)) ∈ lw_all := lw_g (lw_at lw_m1 197 rfl) rfl
theorem q219 : (Jvm.Cond.methodLink "PrivacyLatticeLaw" (41 : Nat) ({ cls := "PrivacyLatticeModel", name := "goodSettings", desc := "()I" } : Jvm.MethodName)) ∈ lw_all := lw_g (lw_at lw_m1 202 rfl) rfl
theorem q228 : (Jvm.Cond.methodLink "PrivacyLatticeLaw" (45 : Nat) ({ cls := "PrivacyLatticeModel", name := "finest", desc := "()I" } : Jvm.MethodName)) ∈ lw_all := lw_g (lw_at lw_m1 211 rfl) rfl
theorem q240 : (Jvm.Cond.methodLink "PrivacyLatticeLaw" (49 : Nat) ({ cls := "PrivacyLatticeModel", name := "finestAt", desc := "(I)I" } : Jvm.MethodName)) ∈ lw_all := lw_g (lw_at lw_m1 223 rfl) rfl
theorem q244 : (Jvm.Cond.methodLink "PrivacyLatticeLaw" (53 : Nat) ({ cls := "PrivacyLatticeModel", name := "best", desc := "()I" } : Jvm.MethodName)) ∈ lw_all := lw_g (lw_at lw_m1 227 rfl) rfl
theorem q252 : (Jvm.Cond.methodLink "PrivacyLatticeLaw" (57 : Nat) ({ cls := "PrivacyLatticeModel", name := "groups", desc := "(I)I" } : Jvm.MethodName)) ∈ lw_all := lw_g (lw_at lw_m1 235 rfl) rfl
theorem q256 : (Jvm.Cond.methodLink "PrivacyLatticeLaw" (61 : Nat) ({ cls := "PrivacyLatticeModel", name := "lookAlike", desc := "(II)I" } : Jvm.MethodName)) ∈ lw_all := lw_g (lw_at lw_m1 239 rfl) rfl
theorem q59 : (Jvm.Cond.arrayClass Jvm.ClassFile.FieldType.int) ∈ lw_all := lw_g (lw_at lw_m1 42 rfl) rfl
theorem q60 : (Jvm.Cond.arrayClass Jvm.ClassFile.FieldType.byte) ∈ lw_all := lw_g (lw_at lw_m1 43 rfl) rfl
theorem q181 : (Jvm.Cond.arrayClass Jvm.ClassFile.FieldType.boolean) ∈ lw_all := lw_g (lw_at lw_m1 164 rfl) rfl
end
section
set_option maxRecDepth 100000
theorem dX0_init_0 : decode cX0_init 0 = .ok (.aload_n 0, 1) := by decide +kernel
theorem dX0_init_1 : decode cX0_init 1 = .ok (.invokespecial 1, 3) := by decide +kernel
theorem dX0_init_4 : decode cX0_init 4 = .ok (.aload_n 0, 1) := by decide +kernel
theorem dX0_init_5 : decode cX0_init 5 = .ok (.bipush 16, 2) := by decide +kernel
theorem dX0_init_7 : decode cX0_init 7 = .ok (.newarray .int, 2) := by decide +kernel
theorem dX0_init_9 : decode cX0_init 9 = .ok (.putfield 7, 3) := by decide +kernel
theorem dX0_init_12 : decode cX0_init 12 = .ok (.aload_n 0, 1) := by decide +kernel
theorem dX0_init_13 : decode cX0_init 13 = .ok (.bipush 16, 2) := by decide +kernel
theorem dX0_init_15 : decode cX0_init 15 = .ok (.newarray .int, 2) := by decide +kernel
theorem dX0_init_17 : decode cX0_init 17 = .ok (.putfield 13, 3) := by decide +kernel
theorem dX0_init_20 : decode cX0_init 20 = .ok (.aload_n 0, 1) := by decide +kernel
theorem dX0_init_21 : decode cX0_init 21 = .ok (.bipush 125, 2) := by decide +kernel
theorem dX0_init_23 : decode cX0_init 23 = .ok (.newarray .byte, 2) := by decide +kernel
theorem dX0_init_25 : decode cX0_init 25 = .ok (.putfield 16, 3) := by decide +kernel
theorem dX0_init_28 : decode cX0_init 28 = .ok (.aload_n 0, 1) := by decide +kernel
theorem dX0_init_29 : decode cX0_init 29 = .ok (.bipush 16, 2) := by decide +kernel
theorem dX0_init_31 : decode cX0_init 31 = .ok (.newarray .int, 2) := by decide +kernel
theorem dX0_init_33 : decode cX0_init 33 = .ok (.putfield 20, 3) := by decide +kernel
theorem dX0_init_36 : decode cX0_init 36 = .ok (.aload_n 0, 1) := by decide +kernel
theorem dX0_init_37 : decode cX0_init 37 = .ok (.bipush 16, 2) := by decide +kernel
theorem dX0_init_39 : decode cX0_init 39 = .ok (.newarray .int, 2) := by decide +kernel
theorem dX0_init_41 : decode cX0_init 41 = .ok (.putfield 23, 3) := by decide +kernel
theorem dX0_init_44 : decode cX0_init 44 = .ok (.aload_n 0, 1) := by decide +kernel
theorem dX0_init_45 : decode cX0_init 45 = .ok (.iconst 2, 1) := by decide +kernel
theorem dX0_init_46 : decode cX0_init 46 = .ok (.putfield 26, 3) := by decide +kernel
theorem dX0_init_49 : decode cX0_init 49 = .ok (.aload_n 0, 1) := by decide +kernel
theorem dX0_init_50 : decode cX0_init 50 = .ok (.iconst 1, 1) := by decide +kernel
theorem dX0_init_51 : decode cX0_init 51 = .ok (.putfield 30, 3) := by decide +kernel
theorem dX0_init_54 : decode cX0_init 54 = .ok (.return_, 1) := by decide +kernel
theorem dX0_row_0 : decode cX0_row 0 = .ok (.iload_n 2, 1) := by decide +kernel
theorem dX0_row_1 : decode cX0_row 1 = .ok (.ifCond .lt 9, 3) := by decide +kernel
theorem dX0_row_4 : decode cX0_row 4 = .ok (.iload_n 2, 1) := by decide +kernel
theorem dX0_row_5 : decode cX0_row 5 = .ok (.bipush 7, 2) := by decide +kernel
theorem dX0_row_7 : decode cX0_row 7 = .ok (.if_icmp .le 5, 3) := by decide +kernel
theorem dX0_row_10 : decode cX0_row 10 = .ok (.iconst (-1), 1) := by decide +kernel
theorem dX0_row_11 : decode cX0_row 11 = .ok (.ireturn, 1) := by decide +kernel
theorem dX0_row_12 : decode cX0_row 12 = .ok (.aload_n 0, 1) := by decide +kernel
theorem dX0_row_13 : decode cX0_row 13 = .ok (.getfield 33, 3) := by decide +kernel
theorem dX0_row_16 : decode cX0_row 16 = .ok (.bipush 16, 2) := by decide +kernel
theorem dX0_row_18 : decode cX0_row 18 = .ok (.if_icmp .lt 6, 3) := by decide +kernel
theorem dX0_row_21 : decode cX0_row 21 = .ok (.bipush (-2), 2) := by decide +kernel
theorem dX0_row_23 : decode cX0_row 23 = .ok (.ireturn, 1) := by decide +kernel
theorem dX0_row_24 : decode cX0_row 24 = .ok (.aload_n 0, 1) := by decide +kernel
theorem dX0_row_25 : decode cX0_row 25 = .ok (.getfield 7, 3) := by decide +kernel
theorem dX0_row_28 : decode cX0_row 28 = .ok (.aload_n 0, 1) := by decide +kernel
theorem dX0_row_29 : decode cX0_row 29 = .ok (.getfield 33, 3) := by decide +kernel
theorem dX0_row_32 : decode cX0_row 32 = .ok (.iload_n 1, 1) := by decide +kernel
theorem dX0_row_33 : decode cX0_row 33 = .ok (.sipush 4095, 3) := by decide +kernel
theorem dX0_row_36 : decode cX0_row 36 = .ok (.iand, 1) := by decide +kernel
theorem dX0_row_37 : decode cX0_row 37 = .ok (.iastore, 1) := by decide +kernel
theorem dX0_row_38 : decode cX0_row 38 = .ok (.aload_n 0, 1) := by decide +kernel
theorem dX0_row_39 : decode cX0_row 39 = .ok (.getfield 13, 3) := by decide +kernel
theorem dX0_row_42 : decode cX0_row 42 = .ok (.aload_n 0, 1) := by decide +kernel
theorem dX0_row_43 : decode cX0_row 43 = .ok (.getfield 33, 3) := by decide +kernel
theorem dX0_row_46 : decode cX0_row 46 = .ok (.iload_n 2, 1) := by decide +kernel
theorem dX0_row_47 : decode cX0_row 47 = .ok (.iastore, 1) := by decide +kernel
theorem dX0_row_48 : decode cX0_row 48 = .ok (.aload_n 0, 1) := by decide +kernel
theorem dX0_row_49 : decode cX0_row 49 = .ok (.dup, 1) := by decide +kernel
theorem dX0_row_50 : decode cX0_row 50 = .ok (.getfield 33, 3) := by decide +kernel
theorem dX0_row_53 : decode cX0_row 53 = .ok (.iconst 1, 1) := by decide +kernel
theorem dX0_row_54 : decode cX0_row 54 = .ok (.iadd, 1) := by decide +kernel
theorem dX0_row_55 : decode cX0_row 55 = .ok (.putfield 33, 3) := by decide +kernel
theorem dX0_row_58 : decode cX0_row 58 = .ok (.aload_n 0, 1) := by decide +kernel
theorem dX0_row_59 : decode cX0_row 59 = .ok (.iconst 0, 1) := by decide +kernel
theorem dX0_row_60 : decode cX0_row 60 = .ok (.putfield 36, 3) := by decide +kernel
theorem dX0_row_63 : decode cX0_row 63 = .ok (.aload_n 0, 1) := by decide +kernel
theorem dX0_row_64 : decode cX0_row 64 = .ok (.getfield 33, 3) := by decide +kernel
theorem dX0_row_67 : decode cX0_row 67 = .ok (.iconst 1, 1) := by decide +kernel
theorem dX0_row_68 : decode cX0_row 68 = .ok (.isub, 1) := by decide +kernel
theorem dX0_row_69 : decode cX0_row 69 = .ok (.ireturn, 1) := by decide +kernel
theorem dX0_drop_0 : decode cX0_drop 0 = .ok (.aload_n 0, 1) := by decide +kernel
theorem dX0_drop_1 : decode cX0_drop 1 = .ok (.getfield 33, 3) := by decide +kernel
theorem dX0_drop_4 : decode cX0_drop 4 = .ok (.ifCond .ne 6, 3) := by decide +kernel
theorem dX0_drop_7 : decode cX0_drop 7 = .ok (.bipush (-3), 2) := by decide +kernel
theorem dX0_drop_9 : decode cX0_drop 9 = .ok (.ireturn, 1) := by decide +kernel
theorem dX0_drop_10 : decode cX0_drop 10 = .ok (.aload_n 0, 1) := by decide +kernel
theorem dX0_drop_11 : decode cX0_drop 11 = .ok (.dup, 1) := by decide +kernel
theorem dX0_drop_12 : decode cX0_drop 12 = .ok (.getfield 33, 3) := by decide +kernel
theorem dX0_drop_15 : decode cX0_drop 15 = .ok (.iconst 1, 1) := by decide +kernel
theorem dX0_drop_16 : decode cX0_drop 16 = .ok (.isub, 1) := by decide +kernel
theorem dX0_drop_17 : decode cX0_drop 17 = .ok (.putfield 33, 3) := by decide +kernel
theorem dX0_drop_20 : decode cX0_drop 20 = .ok (.aload_n 0, 1) := by decide +kernel
theorem dX0_drop_21 : decode cX0_drop 21 = .ok (.iconst 0, 1) := by decide +kernel
theorem dX0_drop_22 : decode cX0_drop 22 = .ok (.putfield 36, 3) := by decide +kernel
theorem dX0_drop_25 : decode cX0_drop 25 = .ok (.aload_n 0, 1) := by decide +kernel
theorem dX0_drop_26 : decode cX0_drop 26 = .ok (.getfield 33, 3) := by decide +kernel
theorem dX0_drop_29 : decode cX0_drop 29 = .ok (.ireturn, 1) := by decide +kernel
theorem dX0_demand_0 : decode cX0_demand 0 = .ok (.iload_n 1, 1) := by decide +kernel
theorem dX0_demand_1 : decode cX0_demand 1 = .ok (.iconst 1, 1) := by decide +kernel
theorem dX0_demand_2 : decode cX0_demand 2 = .ok (.if_icmp .lt 30, 3) := by decide +kernel
theorem dX0_demand_5 : decode cX0_demand 5 = .ok (.iload_n 1, 1) := by decide +kernel
theorem dX0_demand_6 : decode cX0_demand 6 = .ok (.bipush 8, 2) := by decide +kernel
theorem dX0_demand_8 : decode cX0_demand 8 = .ok (.if_icmp .gt 24, 3) := by decide +kernel
theorem dX0_demand_11 : decode cX0_demand 11 = .ok (.iload_n 2, 1) := by decide +kernel
theorem dX0_demand_12 : decode cX0_demand 12 = .ok (.iconst 1, 1) := by decide +kernel
theorem dX0_demand_13 : decode cX0_demand 13 = .ok (.if_icmp .lt 19, 3) := by decide +kernel
theorem dX0_demand_16 : decode cX0_demand 16 = .ok (.iload_n 2, 1) := by decide +kernel
theorem dX0_demand_17 : decode cX0_demand 17 = .ok (.bipush 8, 2) := by decide +kernel
theorem dX0_demand_19 : decode cX0_demand 19 = .ok (.if_icmp .gt 13, 3) := by decide +kernel
theorem dX0_demand_22 : decode cX0_demand 22 = .ok (.iload_n 3, 1) := by decide +kernel
theorem dX0_demand_23 : decode cX0_demand 23 = .ok (.ifCond .lt 9, 3) := by decide +kernel
theorem dX0_demand_26 : decode cX0_demand 26 = .ok (.iload_n 3, 1) := by decide +kernel
theorem dX0_demand_27 : decode cX0_demand 27 = .ok (.bipush 16, 2) := by decide +kernel
theorem dX0_demand_29 : decode cX0_demand 29 = .ok (.if_icmp .le 5, 3) := by decide +kernel
theorem dX0_demand_32 : decode cX0_demand 32 = .ok (.iconst (-1), 1) := by decide +kernel
theorem dX0_demand_33 : decode cX0_demand 33 = .ok (.ireturn, 1) := by decide +kernel
theorem dX0_demand_34 : decode cX0_demand 34 = .ok (.aload_n 0, 1) := by decide +kernel
theorem dX0_demand_35 : decode cX0_demand 35 = .ok (.iload_n 1, 1) := by decide +kernel
theorem dX0_demand_36 : decode cX0_demand 36 = .ok (.putfield 26, 3) := by decide +kernel
theorem dX0_demand_39 : decode cX0_demand 39 = .ok (.aload_n 0, 1) := by decide +kernel
theorem dX0_demand_40 : decode cX0_demand 40 = .ok (.iload_n 2, 1) := by decide +kernel
theorem dX0_demand_41 : decode cX0_demand 41 = .ok (.putfield 30, 3) := by decide +kernel
theorem dX0_demand_44 : decode cX0_demand 44 = .ok (.aload_n 0, 1) := by decide +kernel
theorem dX0_demand_45 : decode cX0_demand 45 = .ok (.iload_n 3, 1) := by decide +kernel
theorem dX0_demand_46 : decode cX0_demand 46 = .ok (.putfield 40, 3) := by decide +kernel
theorem dX0_demand_49 : decode cX0_demand 49 = .ok (.aload_n 0, 1) := by decide +kernel
theorem dX0_demand_50 : decode cX0_demand 50 = .ok (.iconst 0, 1) := by decide +kernel
theorem dX0_demand_51 : decode cX0_demand 51 = .ok (.putfield 36, 3) := by decide +kernel
theorem dX0_demand_54 : decode cX0_demand 54 = .ok (.iconst 0, 1) := by decide +kernel
theorem dX0_demand_55 : decode cX0_demand 55 = .ok (.ireturn, 1) := by decide +kernel
theorem dX0_leftOut_0 : decode cX0_leftOut 0 = .ok (.iload_n 1, 1) := by decide +kernel
theorem dX0_leftOut_1 : decode cX0_leftOut 1 = .ok (.invokestatic 77, 3) := by decide +kernel
theorem dX0_leftOut_4 : decode cX0_leftOut 4 = .ok (.ifCond .eq 8, 3) := by decide +kernel
theorem dX0_leftOut_7 : decode cX0_leftOut 7 = .ok (.bipush (-4), 2) := by decide +kernel
theorem dX0_leftOut_9 : decode cX0_leftOut 9 = .ok (.goto 8, 3) := by decide +kernel
theorem dX0_leftOut_12 : decode cX0_leftOut 12 = .ok (.aload_n 0, 1) := by decide +kernel
theorem dX0_leftOut_13 : decode cX0_leftOut 13 = .ok (.iload_n 1, 1) := by decide +kernel
theorem dX0_leftOut_14 : decode cX0_leftOut 14 = .ok (.invokevirtual 61, 3) := by decide +kernel
theorem dX0_leftOut_17 : decode cX0_leftOut 17 = .ok (.ireturn, 1) := by decide +kernel
theorem dX0_badSetting_0 : decode cX0_badSetting 0 = .ok (.iload_n 0, 1) := by decide +kernel
theorem dX0_badSetting_1 : decode cX0_badSetting 1 = .ok (.ifCond .lt 9, 3) := by decide +kernel
theorem dX0_badSetting_4 : decode cX0_badSetting 4 = .ok (.iload_n 0, 1) := by decide +kernel
theorem dX0_badSetting_5 : decode cX0_badSetting 5 = .ok (.bipush 125, 2) := by decide +kernel
theorem dX0_badSetting_7 : decode cX0_badSetting 7 = .ok (.if_icmp .lt 7, 3) := by decide +kernel
theorem dX0_badSetting_10 : decode cX0_badSetting 10 = .ok (.iconst 1, 1) := by decide +kernel
theorem dX0_badSetting_11 : decode cX0_badSetting 11 = .ok (.goto 4, 3) := by decide +kernel
theorem dX0_badSetting_14 : decode cX0_badSetting 14 = .ok (.iconst 0, 1) := by decide +kernel
theorem dX0_badSetting_15 : decode cX0_badSetting 15 = .ok (.ireturn, 1) := by decide +kernel
theorem dX0_countLeftOut_0 : decode cX0_countLeftOut 0 = .ok (.aload_n 0, 1) := by decide +kernel
theorem dX0_countLeftOut_1 : decode cX0_countLeftOut 1 = .ok (.iload_n 1, 1) := by decide +kernel
theorem dX0_countLeftOut_2 : decode cX0_countLeftOut 2 = .ok (.invokevirtual 50, 3) := by decide +kernel
theorem dX0_countLeftOut_5 : decode cX0_countLeftOut 5 = .ok (.iconst 0, 1) := by decide +kernel
theorem dX0_countLeftOut_6 : decode cX0_countLeftOut 6 = .ok (.istore_n 2, 1) := by decide +kernel
theorem dX0_countLeftOut_7 : decode cX0_countLeftOut 7 = .ok (.iconst 0, 1) := by decide +kernel
theorem dX0_countLeftOut_8 : decode cX0_countLeftOut 8 = .ok (.istore_n 3, 1) := by decide +kernel
theorem dX0_countLeftOut_9 : decode cX0_countLeftOut 9 = .ok (.iload_n 3, 1) := by decide +kernel
theorem dX0_countLeftOut_10 : decode cX0_countLeftOut 10 = .ok (.aload_n 0, 1) := by decide +kernel
theorem dX0_countLeftOut_11 : decode cX0_countLeftOut 11 = .ok (.getfield 33, 3) := by decide +kernel
theorem dX0_countLeftOut_14 : decode cX0_countLeftOut 14 = .ok (.if_icmp .ge 52, 3) := by decide +kernel
theorem dX0_countLeftOut_17 : decode cX0_countLeftOut 17 = .ok (.aload_n 0, 1) := by decide +kernel
theorem dX0_countLeftOut_18 : decode cX0_countLeftOut 18 = .ok (.iload_n 3, 1) := by decide +kernel
theorem dX0_countLeftOut_19 : decode cX0_countLeftOut 19 = .ok (.invokevirtual 54, 3) := by decide +kernel
theorem dX0_countLeftOut_22 : decode cX0_countLeftOut 22 = .ok (.istore 4, 2) := by decide +kernel
theorem dX0_countLeftOut_24 : decode cX0_countLeftOut 24 = .ok (.aload_n 0, 1) := by decide +kernel
theorem dX0_countLeftOut_25 : decode cX0_countLeftOut 25 = .ok (.iload_n 3, 1) := by decide +kernel
theorem dX0_countLeftOut_26 : decode cX0_countLeftOut 26 = .ok (.iload 4, 2) := by decide +kernel
theorem dX0_countLeftOut_28 : decode cX0_countLeftOut 28 = .ok (.invokevirtual 58, 3) := by decide +kernel
theorem dX0_countLeftOut_31 : decode cX0_countLeftOut 31 = .ok (.istore 5, 2) := by decide +kernel
theorem dX0_countLeftOut_33 : decode cX0_countLeftOut 33 = .ok (.iload 4, 2) := by decide +kernel
theorem dX0_countLeftOut_35 : decode cX0_countLeftOut 35 = .ok (.iload_n 3, 1) := by decide +kernel
theorem dX0_countLeftOut_36 : decode cX0_countLeftOut 36 = .ok (.isub, 1) := by decide +kernel
theorem dX0_countLeftOut_37 : decode cX0_countLeftOut 37 = .ok (.aload_n 0, 1) := by decide +kernel
theorem dX0_countLeftOut_38 : decode cX0_countLeftOut 38 = .ok (.getfield 26, 3) := by decide +kernel
theorem dX0_countLeftOut_41 : decode cX0_countLeftOut 41 = .ok (.if_icmp .lt 12, 3) := by decide +kernel
theorem dX0_countLeftOut_44 : decode cX0_countLeftOut 44 = .ok (.iload 5, 2) := by decide +kernel
theorem dX0_countLeftOut_46 : decode cX0_countLeftOut 46 = .ok (.aload_n 0, 1) := by decide +kernel
theorem dX0_countLeftOut_47 : decode cX0_countLeftOut 47 = .ok (.getfield 30, 3) := by decide +kernel
theorem dX0_countLeftOut_50 : decode cX0_countLeftOut 50 = .ok (.if_icmp .ge 10, 3) := by decide +kernel
theorem dX0_countLeftOut_53 : decode cX0_countLeftOut 53 = .ok (.iload_n 2, 1) := by decide +kernel
theorem dX0_countLeftOut_54 : decode cX0_countLeftOut 54 = .ok (.iload 4, 2) := by decide +kernel
theorem dX0_countLeftOut_56 : decode cX0_countLeftOut 56 = .ok (.iload_n 3, 1) := by decide +kernel
theorem dX0_countLeftOut_57 : decode cX0_countLeftOut 57 = .ok (.isub, 1) := by decide +kernel
theorem dX0_countLeftOut_58 : decode cX0_countLeftOut 58 = .ok (.iadd, 1) := by decide +kernel
theorem dX0_countLeftOut_59 : decode cX0_countLeftOut 59 = .ok (.istore_n 2, 1) := by decide +kernel
theorem dX0_countLeftOut_60 : decode cX0_countLeftOut 60 = .ok (.iload 4, 2) := by decide +kernel
theorem dX0_countLeftOut_62 : decode cX0_countLeftOut 62 = .ok (.istore_n 3, 1) := by decide +kernel
theorem dX0_countLeftOut_63 : decode cX0_countLeftOut 63 = .ok (.goto (-54), 3) := by decide +kernel
theorem dX0_countLeftOut_66 : decode cX0_countLeftOut 66 = .ok (.iload_n 2, 1) := by decide +kernel
theorem dX0_countLeftOut_67 : decode cX0_countLeftOut 67 = .ok (.ireturn, 1) := by decide +kernel
theorem dX0_sortRows_0 : decode cX0_sortRows 0 = .ok (.iconst 0, 1) := by decide +kernel
theorem dX0_sortRows_1 : decode cX0_sortRows 1 = .ok (.istore_n 2, 1) := by decide +kernel
theorem dX0_sortRows_2 : decode cX0_sortRows 2 = .ok (.iload_n 2, 1) := by decide +kernel
theorem dX0_sortRows_3 : decode cX0_sortRows 3 = .ok (.aload_n 0, 1) := by decide +kernel
theorem dX0_sortRows_4 : decode cX0_sortRows 4 = .ok (.getfield 33, 3) := by decide +kernel
theorem dX0_sortRows_7 : decode cX0_sortRows 7 = .ok (.if_icmp .ge 91, 3) := by decide +kernel
theorem dX0_sortRows_10 : decode cX0_sortRows 10 = .ok (.aload_n 0, 1) := by decide +kernel
theorem dX0_sortRows_11 : decode cX0_sortRows 11 = .ok (.iload_n 2, 1) := by decide +kernel
theorem dX0_sortRows_12 : decode cX0_sortRows 12 = .ok (.iload_n 1, 1) := by decide +kernel
theorem dX0_sortRows_13 : decode cX0_sortRows 13 = .ok (.invokevirtual 47, 3) := by decide +kernel
theorem dX0_sortRows_16 : decode cX0_sortRows 16 = .ok (.istore_n 3, 1) := by decide +kernel
theorem dX0_sortRows_17 : decode cX0_sortRows 17 = .ok (.iload_n 2, 1) := by decide +kernel
theorem dX0_sortRows_18 : decode cX0_sortRows 18 = .ok (.istore 4, 2) := by decide +kernel
theorem dX0_sortRows_20 : decode cX0_sortRows 20 = .ok (.iload 4, 2) := by decide +kernel
theorem dX0_sortRows_22 : decode cX0_sortRows 22 = .ok (.ifCond .le 54, 3) := by decide +kernel
theorem dX0_sortRows_25 : decode cX0_sortRows 25 = .ok (.aload_n 0, 1) := by decide +kernel
theorem dX0_sortRows_26 : decode cX0_sortRows 26 = .ok (.getfield 23, 3) := by decide +kernel
theorem dX0_sortRows_29 : decode cX0_sortRows 29 = .ok (.iload 4, 2) := by decide +kernel
theorem dX0_sortRows_31 : decode cX0_sortRows 31 = .ok (.iconst 1, 1) := by decide +kernel
theorem dX0_sortRows_32 : decode cX0_sortRows 32 = .ok (.isub, 1) := by decide +kernel
theorem dX0_sortRows_33 : decode cX0_sortRows 33 = .ok (.iaload, 1) := by decide +kernel
theorem dX0_sortRows_34 : decode cX0_sortRows 34 = .ok (.iload_n 3, 1) := by decide +kernel
theorem dX0_sortRows_35 : decode cX0_sortRows 35 = .ok (.if_icmp .le 41, 3) := by decide +kernel
theorem dX0_sortRows_38 : decode cX0_sortRows 38 = .ok (.aload_n 0, 1) := by decide +kernel
theorem dX0_sortRows_39 : decode cX0_sortRows 39 = .ok (.getfield 23, 3) := by decide +kernel
theorem dX0_sortRows_42 : decode cX0_sortRows 42 = .ok (.iload 4, 2) := by decide +kernel
theorem dX0_sortRows_44 : decode cX0_sortRows 44 = .ok (.aload_n 0, 1) := by decide +kernel
theorem dX0_sortRows_45 : decode cX0_sortRows 45 = .ok (.getfield 23, 3) := by decide +kernel
theorem dX0_sortRows_48 : decode cX0_sortRows 48 = .ok (.iload 4, 2) := by decide +kernel
theorem dX0_sortRows_50 : decode cX0_sortRows 50 = .ok (.iconst 1, 1) := by decide +kernel
theorem dX0_sortRows_51 : decode cX0_sortRows 51 = .ok (.isub, 1) := by decide +kernel
theorem dX0_sortRows_52 : decode cX0_sortRows 52 = .ok (.iaload, 1) := by decide +kernel
theorem dX0_sortRows_53 : decode cX0_sortRows 53 = .ok (.iastore, 1) := by decide +kernel
theorem dX0_sortRows_54 : decode cX0_sortRows 54 = .ok (.aload_n 0, 1) := by decide +kernel
theorem dX0_sortRows_55 : decode cX0_sortRows 55 = .ok (.getfield 20, 3) := by decide +kernel
theorem dX0_sortRows_58 : decode cX0_sortRows 58 = .ok (.iload 4, 2) := by decide +kernel
theorem dX0_sortRows_60 : decode cX0_sortRows 60 = .ok (.aload_n 0, 1) := by decide +kernel
theorem dX0_sortRows_61 : decode cX0_sortRows 61 = .ok (.getfield 20, 3) := by decide +kernel
theorem dX0_sortRows_64 : decode cX0_sortRows 64 = .ok (.iload 4, 2) := by decide +kernel
theorem dX0_sortRows_66 : decode cX0_sortRows 66 = .ok (.iconst 1, 1) := by decide +kernel
theorem dX0_sortRows_67 : decode cX0_sortRows 67 = .ok (.isub, 1) := by decide +kernel
theorem dX0_sortRows_68 : decode cX0_sortRows 68 = .ok (.iaload, 1) := by decide +kernel
theorem dX0_sortRows_69 : decode cX0_sortRows 69 = .ok (.iastore, 1) := by decide +kernel
theorem dX0_sortRows_70 : decode cX0_sortRows 70 = .ok (.iinc 4 (-1), 3) := by decide +kernel
theorem dX0_sortRows_73 : decode cX0_sortRows 73 = .ok (.goto (-53), 3) := by decide +kernel
theorem dX0_sortRows_76 : decode cX0_sortRows 76 = .ok (.aload_n 0, 1) := by decide +kernel
theorem dX0_sortRows_77 : decode cX0_sortRows 77 = .ok (.getfield 23, 3) := by decide +kernel
theorem dX0_sortRows_80 : decode cX0_sortRows 80 = .ok (.iload 4, 2) := by decide +kernel
theorem dX0_sortRows_82 : decode cX0_sortRows 82 = .ok (.iload_n 3, 1) := by decide +kernel
theorem dX0_sortRows_83 : decode cX0_sortRows 83 = .ok (.iastore, 1) := by decide +kernel
theorem dX0_sortRows_84 : decode cX0_sortRows 84 = .ok (.aload_n 0, 1) := by decide +kernel
theorem dX0_sortRows_85 : decode cX0_sortRows 85 = .ok (.getfield 20, 3) := by decide +kernel
theorem dX0_sortRows_88 : decode cX0_sortRows 88 = .ok (.iload 4, 2) := by decide +kernel
theorem dX0_sortRows_90 : decode cX0_sortRows 90 = .ok (.iload_n 2, 1) := by decide +kernel
theorem dX0_sortRows_91 : decode cX0_sortRows 91 = .ok (.iastore, 1) := by decide +kernel
theorem dX0_sortRows_92 : decode cX0_sortRows 92 = .ok (.iinc 2 1, 3) := by decide +kernel
theorem dX0_sortRows_95 : decode cX0_sortRows 95 = .ok (.goto (-93), 3) := by decide +kernel
theorem dX0_sortRows_98 : decode cX0_sortRows 98 = .ok (.return_, 1) := by decide +kernel
theorem dX0_keyOf_0 : decode cX0_keyOf 0 = .ok (.iconst 0, 1) := by decide +kernel
theorem dX0_keyOf_1 : decode cX0_keyOf 1 = .ok (.istore_n 3, 1) := by decide +kernel
theorem dX0_keyOf_2 : decode cX0_keyOf 2 = .ok (.iconst 0, 1) := by decide +kernel
theorem dX0_keyOf_3 : decode cX0_keyOf 3 = .ok (.istore 4, 2) := by decide +kernel
theorem dX0_keyOf_5 : decode cX0_keyOf 5 = .ok (.iload 4, 2) := by decide +kernel
theorem dX0_keyOf_7 : decode cX0_keyOf 7 = .ok (.iconst 3, 1) := by decide +kernel
theorem dX0_keyOf_8 : decode cX0_keyOf 8 = .ok (.if_icmp .ge 42, 3) := by decide +kernel
theorem dX0_keyOf_11 : decode cX0_keyOf 11 = .ok (.aload_n 0, 1) := by decide +kernel
theorem dX0_keyOf_12 : decode cX0_keyOf 12 = .ok (.getfield 7, 3) := by decide +kernel
theorem dX0_keyOf_15 : decode cX0_keyOf 15 = .ok (.iload_n 1, 1) := by decide +kernel
theorem dX0_keyOf_16 : decode cX0_keyOf 16 = .ok (.iaload, 1) := by decide +kernel
theorem dX0_keyOf_17 : decode cX0_keyOf 17 = .ok (.iconst 4, 1) := by decide +kernel
theorem dX0_keyOf_18 : decode cX0_keyOf 18 = .ok (.iload 4, 2) := by decide +kernel
theorem dX0_keyOf_20 : decode cX0_keyOf 20 = .ok (.imul, 1) := by decide +kernel
theorem dX0_keyOf_21 : decode cX0_keyOf 21 = .ok (.ishr, 1) := by decide +kernel
theorem dX0_keyOf_22 : decode cX0_keyOf 22 = .ok (.bipush 15, 2) := by decide +kernel
theorem dX0_keyOf_24 : decode cX0_keyOf 24 = .ok (.iand, 1) := by decide +kernel
theorem dX0_keyOf_25 : decode cX0_keyOf 25 = .ok (.istore 5, 2) := by decide +kernel
theorem dX0_keyOf_27 : decode cX0_keyOf 27 = .ok (.iload_n 3, 1) := by decide +kernel
theorem dX0_keyOf_28 : decode cX0_keyOf 28 = .ok (.iload 5, 2) := by decide +kernel
theorem dX0_keyOf_30 : decode cX0_keyOf 30 = .ok (.iload_n 2, 1) := by decide +kernel
theorem dX0_keyOf_31 : decode cX0_keyOf 31 = .ok (.iload 4, 2) := by decide +kernel
theorem dX0_keyOf_33 : decode cX0_keyOf 33 = .ok (.invokestatic 43, 3) := by decide +kernel
theorem dX0_keyOf_36 : decode cX0_keyOf 36 = .ok (.ishr, 1) := by decide +kernel
theorem dX0_keyOf_37 : decode cX0_keyOf 37 = .ok (.iconst 4, 1) := by decide +kernel
theorem dX0_keyOf_38 : decode cX0_keyOf 38 = .ok (.iload 4, 2) := by decide +kernel
theorem dX0_keyOf_40 : decode cX0_keyOf 40 = .ok (.imul, 1) := by decide +kernel
theorem dX0_keyOf_41 : decode cX0_keyOf 41 = .ok (.ishl, 1) := by decide +kernel
theorem dX0_keyOf_42 : decode cX0_keyOf 42 = .ok (.ior, 1) := by decide +kernel
theorem dX0_keyOf_43 : decode cX0_keyOf 43 = .ok (.istore_n 3, 1) := by decide +kernel
theorem dX0_keyOf_44 : decode cX0_keyOf 44 = .ok (.iinc 4 1, 3) := by decide +kernel
theorem dX0_keyOf_47 : decode cX0_keyOf 47 = .ok (.goto (-42), 3) := by decide +kernel
theorem dX0_keyOf_50 : decode cX0_keyOf 50 = .ok (.iload_n 3, 1) := by decide +kernel
theorem dX0_keyOf_51 : decode cX0_keyOf 51 = .ok (.ireturn, 1) := by decide +kernel
theorem dX0_levelOf_0 : decode cX0_levelOf 0 = .ok (.iload_n 1, 1) := by decide +kernel
theorem dX0_levelOf_1 : decode cX0_levelOf 1 = .ok (.ifCond .ne 7, 3) := by decide +kernel
theorem dX0_levelOf_4 : decode cX0_levelOf 4 = .ok (.iload_n 0, 1) := by decide +kernel
theorem dX0_levelOf_5 : decode cX0_levelOf 5 = .ok (.iconst 5, 1) := by decide +kernel
theorem dX0_levelOf_6 : decode cX0_levelOf 6 = .ok (.irem, 1) := by decide +kernel
theorem dX0_levelOf_7 : decode cX0_levelOf 7 = .ok (.ireturn, 1) := by decide +kernel
theorem dX0_levelOf_8 : decode cX0_levelOf 8 = .ok (.iload_n 1, 1) := by decide +kernel
theorem dX0_levelOf_9 : decode cX0_levelOf 9 = .ok (.iconst 1, 1) := by decide +kernel
theorem dX0_levelOf_10 : decode cX0_levelOf 10 = .ok (.if_icmp .ne 11, 3) := by decide +kernel
theorem dX0_levelOf_13 : decode cX0_levelOf 13 = .ok (.iload_n 0, 1) := by decide +kernel
theorem dX0_levelOf_14 : decode cX0_levelOf 14 = .ok (.iconst 5, 1) := by decide +kernel
theorem dX0_levelOf_15 : decode cX0_levelOf 15 = .ok (.idiv, 1) := by decide +kernel
theorem dX0_levelOf_16 : decode cX0_levelOf 16 = .ok (.iconst 5, 1) := by decide +kernel
theorem dX0_levelOf_17 : decode cX0_levelOf 17 = .ok (.irem, 1) := by decide +kernel
theorem dX0_levelOf_18 : decode cX0_levelOf 18 = .ok (.goto 7, 3) := by decide +kernel
theorem dX0_levelOf_21 : decode cX0_levelOf 21 = .ok (.iload_n 0, 1) := by decide +kernel
theorem dX0_levelOf_22 : decode cX0_levelOf 22 = .ok (.bipush 25, 2) := by decide +kernel
theorem dX0_levelOf_24 : decode cX0_levelOf 24 = .ok (.idiv, 1) := by decide +kernel
theorem dX0_levelOf_25 : decode cX0_levelOf 25 = .ok (.ireturn, 1) := by decide +kernel
theorem dX0_groupEnd_0 : decode cX0_groupEnd 0 = .ok (.iload_n 1, 1) := by decide +kernel
theorem dX0_groupEnd_1 : decode cX0_groupEnd 1 = .ok (.iconst 1, 1) := by decide +kernel
theorem dX0_groupEnd_2 : decode cX0_groupEnd 2 = .ok (.iadd, 1) := by decide +kernel
theorem dX0_groupEnd_3 : decode cX0_groupEnd 3 = .ok (.istore_n 2, 1) := by decide +kernel
theorem dX0_groupEnd_4 : decode cX0_groupEnd 4 = .ok (.iload_n 2, 1) := by decide +kernel
theorem dX0_groupEnd_5 : decode cX0_groupEnd 5 = .ok (.aload_n 0, 1) := by decide +kernel
theorem dX0_groupEnd_6 : decode cX0_groupEnd 6 = .ok (.getfield 33, 3) := by decide +kernel
theorem dX0_groupEnd_9 : decode cX0_groupEnd 9 = .ok (.if_icmp .ge 24, 3) := by decide +kernel
theorem dX0_groupEnd_12 : decode cX0_groupEnd 12 = .ok (.aload_n 0, 1) := by decide +kernel
theorem dX0_groupEnd_13 : decode cX0_groupEnd 13 = .ok (.getfield 23, 3) := by decide +kernel
theorem dX0_groupEnd_16 : decode cX0_groupEnd 16 = .ok (.iload_n 2, 1) := by decide +kernel
theorem dX0_groupEnd_17 : decode cX0_groupEnd 17 = .ok (.iaload, 1) := by decide +kernel
theorem dX0_groupEnd_18 : decode cX0_groupEnd 18 = .ok (.aload_n 0, 1) := by decide +kernel
theorem dX0_groupEnd_19 : decode cX0_groupEnd 19 = .ok (.getfield 23, 3) := by decide +kernel
theorem dX0_groupEnd_22 : decode cX0_groupEnd 22 = .ok (.iload_n 1, 1) := by decide +kernel
theorem dX0_groupEnd_23 : decode cX0_groupEnd 23 = .ok (.iaload, 1) := by decide +kernel
theorem dX0_groupEnd_24 : decode cX0_groupEnd 24 = .ok (.if_icmp .ne 9, 3) := by decide +kernel
theorem dX0_groupEnd_27 : decode cX0_groupEnd 27 = .ok (.iinc 2 1, 3) := by decide +kernel
theorem dX0_groupEnd_30 : decode cX0_groupEnd 30 = .ok (.goto (-26), 3) := by decide +kernel
theorem dX0_groupEnd_33 : decode cX0_groupEnd 33 = .ok (.iload_n 2, 1) := by decide +kernel
theorem dX0_groupEnd_34 : decode cX0_groupEnd 34 = .ok (.ireturn, 1) := by decide +kernel
theorem dX0_secretKinds_0 : decode cX0_secretKinds 0 = .ok (.iconst 0, 1) := by decide +kernel
theorem dX0_secretKinds_1 : decode cX0_secretKinds 1 = .ok (.istore_n 3, 1) := by decide +kernel
theorem dX0_secretKinds_2 : decode cX0_secretKinds 2 = .ok (.iload_n 1, 1) := by decide +kernel
theorem dX0_secretKinds_3 : decode cX0_secretKinds 3 = .ok (.istore 4, 2) := by decide +kernel
theorem dX0_secretKinds_5 : decode cX0_secretKinds 5 = .ok (.iload 4, 2) := by decide +kernel
theorem dX0_secretKinds_7 : decode cX0_secretKinds 7 = .ok (.iload_n 2, 1) := by decide +kernel
theorem dX0_secretKinds_8 : decode cX0_secretKinds 8 = .ok (.if_icmp .ge 26, 3) := by decide +kernel
theorem dX0_secretKinds_11 : decode cX0_secretKinds 11 = .ok (.iload_n 3, 1) := by decide +kernel
theorem dX0_secretKinds_12 : decode cX0_secretKinds 12 = .ok (.iconst 1, 1) := by decide +kernel
theorem dX0_secretKinds_13 : decode cX0_secretKinds 13 = .ok (.aload_n 0, 1) := by decide +kernel
theorem dX0_secretKinds_14 : decode cX0_secretKinds 14 = .ok (.getfield 13, 3) := by decide +kernel
theorem dX0_secretKinds_17 : decode cX0_secretKinds 17 = .ok (.aload_n 0, 1) := by decide +kernel
theorem dX0_secretKinds_18 : decode cX0_secretKinds 18 = .ok (.getfield 20, 3) := by decide +kernel
theorem dX0_secretKinds_21 : decode cX0_secretKinds 21 = .ok (.iload 4, 2) := by decide +kernel
theorem dX0_secretKinds_23 : decode cX0_secretKinds 23 = .ok (.iaload, 1) := by decide +kernel
theorem dX0_secretKinds_24 : decode cX0_secretKinds 24 = .ok (.iaload, 1) := by decide +kernel
theorem dX0_secretKinds_25 : decode cX0_secretKinds 25 = .ok (.ishl, 1) := by decide +kernel
theorem dX0_secretKinds_26 : decode cX0_secretKinds 26 = .ok (.ior, 1) := by decide +kernel
theorem dX0_secretKinds_27 : decode cX0_secretKinds 27 = .ok (.istore_n 3, 1) := by decide +kernel
theorem dX0_secretKinds_28 : decode cX0_secretKinds 28 = .ok (.iinc 4 1, 3) := by decide +kernel
theorem dX0_secretKinds_31 : decode cX0_secretKinds 31 = .ok (.goto (-26), 3) := by decide +kernel
theorem dX0_secretKinds_34 : decode cX0_secretKinds 34 = .ok (.iconst 0, 1) := by decide +kernel
theorem dX0_secretKinds_35 : decode cX0_secretKinds 35 = .ok (.istore 4, 2) := by decide +kernel
theorem dX0_secretKinds_37 : decode cX0_secretKinds 37 = .ok (.iconst 0, 1) := by decide +kernel
theorem dX0_secretKinds_38 : decode cX0_secretKinds 38 = .ok (.istore 5, 2) := by decide +kernel
theorem dX0_secretKinds_40 : decode cX0_secretKinds 40 = .ok (.iload 5, 2) := by decide +kernel
theorem dX0_secretKinds_42 : decode cX0_secretKinds 42 = .ok (.bipush 8, 2) := by decide +kernel
theorem dX0_secretKinds_44 : decode cX0_secretKinds 44 = .ok (.if_icmp .ge 20, 3) := by decide +kernel
theorem dX0_secretKinds_47 : decode cX0_secretKinds 47 = .ok (.iload 4, 2) := by decide +kernel
theorem dX0_secretKinds_49 : decode cX0_secretKinds 49 = .ok (.iload_n 3, 1) := by decide +kernel
theorem dX0_secretKinds_50 : decode cX0_secretKinds 50 = .ok (.iload 5, 2) := by decide +kernel
theorem dX0_secretKinds_52 : decode cX0_secretKinds 52 = .ok (.ishr, 1) := by decide +kernel
theorem dX0_secretKinds_53 : decode cX0_secretKinds 53 = .ok (.iconst 1, 1) := by decide +kernel
theorem dX0_secretKinds_54 : decode cX0_secretKinds 54 = .ok (.iand, 1) := by decide +kernel
theorem dX0_secretKinds_55 : decode cX0_secretKinds 55 = .ok (.iadd, 1) := by decide +kernel
theorem dX0_secretKinds_56 : decode cX0_secretKinds 56 = .ok (.istore 4, 2) := by decide +kernel
theorem dX0_secretKinds_58 : decode cX0_secretKinds 58 = .ok (.iinc 5 1, 3) := by decide +kernel
theorem dX0_secretKinds_61 : decode cX0_secretKinds 61 = .ok (.goto (-21), 3) := by decide +kernel
theorem dX0_secretKinds_64 : decode cX0_secretKinds 64 = .ok (.iload 4, 2) := by decide +kernel
theorem dX0_secretKinds_66 : decode cX0_secretKinds 66 = .ok (.ireturn, 1) := by decide +kernel
theorem dX0_good_0 : decode cX0_good 0 = .ok (.iload_n 1, 1) := by decide +kernel
theorem dX0_good_1 : decode cX0_good 1 = .ok (.invokestatic 77, 3) := by decide +kernel
theorem dX0_good_4 : decode cX0_good 4 = .ok (.ifCond .eq 5, 3) := by decide +kernel
theorem dX0_good_7 : decode cX0_good 7 = .ok (.iconst 0, 1) := by decide +kernel
theorem dX0_good_8 : decode cX0_good 8 = .ok (.ireturn, 1) := by decide +kernel
theorem dX0_good_9 : decode cX0_good 9 = .ok (.aload_n 0, 1) := by decide +kernel
theorem dX0_good_10 : decode cX0_good 10 = .ok (.invokevirtual 81, 3) := by decide +kernel
theorem dX0_good_13 : decode cX0_good 13 = .ok (.aload_n 0, 1) := by decide +kernel
theorem dX0_good_14 : decode cX0_good 14 = .ok (.getfield 16, 3) := by decide +kernel
theorem dX0_good_17 : decode cX0_good 17 = .ok (.iload_n 1, 1) := by decide +kernel
end
section
set_option maxRecDepth 100000
theorem dX0_good_18 : decode cX0_good 18 = .ok (.baload, 1) := by decide +kernel
theorem dX0_good_19 : decode cX0_good 19 = .ok (.iconst 1, 1) := by decide +kernel
theorem dX0_good_20 : decode cX0_good 20 = .ok (.if_icmp .ne 7, 3) := by decide +kernel
theorem dX0_good_23 : decode cX0_good 23 = .ok (.iconst 1, 1) := by decide +kernel
theorem dX0_good_24 : decode cX0_good 24 = .ok (.goto 4, 3) := by decide +kernel
theorem dX0_good_27 : decode cX0_good 27 = .ok (.iconst 0, 1) := by decide +kernel
theorem dX0_good_28 : decode cX0_good 28 = .ok (.ireturn, 1) := by decide +kernel
theorem dX0_prepare_0 : decode cX0_prepare 0 = .ok (.aload_n 0, 1) := by decide +kernel
theorem dX0_prepare_1 : decode cX0_prepare 1 = .ok (.getfield 36, 3) := by decide +kernel
theorem dX0_prepare_4 : decode cX0_prepare 4 = .ok (.ifCond .eq 4, 3) := by decide +kernel
theorem dX0_prepare_7 : decode cX0_prepare 7 = .ok (.return_, 1) := by decide +kernel
theorem dX0_prepare_8 : decode cX0_prepare 8 = .ok (.aload_n 0, 1) := by decide +kernel
theorem dX0_prepare_9 : decode cX0_prepare 9 = .ok (.iconst 1, 1) := by decide +kernel
theorem dX0_prepare_10 : decode cX0_prepare 10 = .ok (.putfield 36, 3) := by decide +kernel
theorem dX0_prepare_13 : decode cX0_prepare 13 = .ok (.iconst 0, 1) := by decide +kernel
theorem dX0_prepare_14 : decode cX0_prepare 14 = .ok (.istore_n 1, 1) := by decide +kernel
theorem dX0_prepare_15 : decode cX0_prepare 15 = .ok (.iload_n 1, 1) := by decide +kernel
theorem dX0_prepare_16 : decode cX0_prepare 16 = .ok (.bipush 125, 2) := by decide +kernel
theorem dX0_prepare_18 : decode cX0_prepare 18 = .ok (.if_icmp .ge 16, 3) := by decide +kernel
theorem dX0_prepare_21 : decode cX0_prepare 21 = .ok (.aload_n 0, 1) := by decide +kernel
theorem dX0_prepare_22 : decode cX0_prepare 22 = .ok (.getfield 16, 3) := by decide +kernel
theorem dX0_prepare_25 : decode cX0_prepare 25 = .ok (.iload_n 1, 1) := by decide +kernel
theorem dX0_prepare_26 : decode cX0_prepare 26 = .ok (.iconst 0, 1) := by decide +kernel
theorem dX0_prepare_27 : decode cX0_prepare 27 = .ok (.bastore, 1) := by decide +kernel
theorem dX0_prepare_28 : decode cX0_prepare 28 = .ok (.iinc 1 1, 3) := by decide +kernel
theorem dX0_prepare_31 : decode cX0_prepare 31 = .ok (.goto (-16), 3) := by decide +kernel
theorem dX0_prepare_34 : decode cX0_prepare 34 = .ok (.aload_n 0, 1) := by decide +kernel
theorem dX0_prepare_35 : decode cX0_prepare 35 = .ok (.bipush 6, 2) := by decide +kernel
theorem dX0_prepare_37 : decode cX0_prepare 37 = .ok (.invokevirtual 74, 3) := by decide +kernel
theorem dX0_prepare_40 : decode cX0_prepare 40 = .ok (.iconst 1, 1) := by decide +kernel
theorem dX0_prepare_41 : decode cX0_prepare 41 = .ok (.istore_n 1, 1) := by decide +kernel
theorem dX0_prepare_42 : decode cX0_prepare 42 = .ok (.iload_n 1, 1) := by decide +kernel
theorem dX0_prepare_43 : decode cX0_prepare 43 = .ok (.bipush 6, 2) := by decide +kernel
theorem dX0_prepare_45 : decode cX0_prepare 45 = .ok (.if_icmp .gt 25, 3) := by decide +kernel
theorem dX0_prepare_48 : decode cX0_prepare 48 = .ok (.aload_n 0, 1) := by decide +kernel
theorem dX0_prepare_49 : decode cX0_prepare 49 = .ok (.bipush 6, 2) := by decide +kernel
theorem dX0_prepare_51 : decode cX0_prepare 51 = .ok (.iload_n 1, 1) := by decide +kernel
theorem dX0_prepare_52 : decode cX0_prepare 52 = .ok (.isub, 1) := by decide +kernel
theorem dX0_prepare_53 : decode cX0_prepare 53 = .ok (.invokevirtual 74, 3) := by decide +kernel
theorem dX0_prepare_56 : decode cX0_prepare 56 = .ok (.aload_n 0, 1) := by decide +kernel
theorem dX0_prepare_57 : decode cX0_prepare 57 = .ok (.bipush 6, 2) := by decide +kernel
theorem dX0_prepare_59 : decode cX0_prepare 59 = .ok (.iload_n 1, 1) := by decide +kernel
theorem dX0_prepare_60 : decode cX0_prepare 60 = .ok (.iadd, 1) := by decide +kernel
theorem dX0_prepare_61 : decode cX0_prepare 61 = .ok (.invokevirtual 74, 3) := by decide +kernel
theorem dX0_prepare_64 : decode cX0_prepare 64 = .ok (.iinc 1 1, 3) := by decide +kernel
theorem dX0_prepare_67 : decode cX0_prepare 67 = .ok (.goto (-25), 3) := by decide +kernel
theorem dX0_prepare_70 : decode cX0_prepare 70 = .ok (.return_, 1) := by decide +kernel
theorem dX0_judgeSum_0 : decode cX0_judgeSum 0 = .ok (.iconst 0, 1) := by decide +kernel
theorem dX0_judgeSum_1 : decode cX0_judgeSum 1 = .ok (.istore_n 2, 1) := by decide +kernel
theorem dX0_judgeSum_2 : decode cX0_judgeSum 2 = .ok (.iload_n 2, 1) := by decide +kernel
theorem dX0_judgeSum_3 : decode cX0_judgeSum 3 = .ok (.bipush 125, 2) := by decide +kernel
theorem dX0_judgeSum_5 : decode cX0_judgeSum 5 = .ok (.if_icmp .ge 31, 3) := by decide +kernel
theorem dX0_judgeSum_8 : decode cX0_judgeSum 8 = .ok (.aload_n 0, 1) := by decide +kernel
theorem dX0_judgeSum_9 : decode cX0_judgeSum 9 = .ok (.getfield 16, 3) := by decide +kernel
theorem dX0_judgeSum_12 : decode cX0_judgeSum 12 = .ok (.iload_n 2, 1) := by decide +kernel
theorem dX0_judgeSum_13 : decode cX0_judgeSum 13 = .ok (.baload, 1) := by decide +kernel
theorem dX0_judgeSum_14 : decode cX0_judgeSum 14 = .ok (.ifCond .ne 16, 3) := by decide +kernel
theorem dX0_judgeSum_17 : decode cX0_judgeSum 17 = .ok (.iload_n 2, 1) := by decide +kernel
theorem dX0_judgeSum_18 : decode cX0_judgeSum 18 = .ok (.invokestatic 68, 3) := by decide +kernel
theorem dX0_judgeSum_21 : decode cX0_judgeSum 21 = .ok (.iload_n 1, 1) := by decide +kernel
theorem dX0_judgeSum_22 : decode cX0_judgeSum 22 = .ok (.if_icmp .ne 8, 3) := by decide +kernel
theorem dX0_judgeSum_25 : decode cX0_judgeSum 25 = .ok (.aload_n 0, 1) := by decide +kernel
theorem dX0_judgeSum_26 : decode cX0_judgeSum 26 = .ok (.iload_n 2, 1) := by decide +kernel
theorem dX0_judgeSum_27 : decode cX0_judgeSum 27 = .ok (.invokevirtual 71, 3) := by decide +kernel
theorem dX0_judgeSum_30 : decode cX0_judgeSum 30 = .ok (.iinc 2 1, 3) := by decide +kernel
theorem dX0_judgeSum_33 : decode cX0_judgeSum 33 = .ok (.goto (-31), 3) := by decide +kernel
theorem dX0_judgeSum_36 : decode cX0_judgeSum 36 = .ok (.return_, 1) := by decide +kernel
theorem dX0_sumOfLevels_0 : decode cX0_sumOfLevels 0 = .ok (.iload_n 0, 1) := by decide +kernel
theorem dX0_sumOfLevels_1 : decode cX0_sumOfLevels 1 = .ok (.iconst 5, 1) := by decide +kernel
theorem dX0_sumOfLevels_2 : decode cX0_sumOfLevels 2 = .ok (.irem, 1) := by decide +kernel
theorem dX0_sumOfLevels_3 : decode cX0_sumOfLevels 3 = .ok (.iload_n 0, 1) := by decide +kernel
theorem dX0_sumOfLevels_4 : decode cX0_sumOfLevels 4 = .ok (.iconst 5, 1) := by decide +kernel
theorem dX0_sumOfLevels_5 : decode cX0_sumOfLevels 5 = .ok (.idiv, 1) := by decide +kernel
theorem dX0_sumOfLevels_6 : decode cX0_sumOfLevels 6 = .ok (.iconst 5, 1) := by decide +kernel
theorem dX0_sumOfLevels_7 : decode cX0_sumOfLevels 7 = .ok (.irem, 1) := by decide +kernel
theorem dX0_sumOfLevels_8 : decode cX0_sumOfLevels 8 = .ok (.iadd, 1) := by decide +kernel
theorem dX0_sumOfLevels_9 : decode cX0_sumOfLevels 9 = .ok (.iload_n 0, 1) := by decide +kernel
theorem dX0_sumOfLevels_10 : decode cX0_sumOfLevels 10 = .ok (.bipush 25, 2) := by decide +kernel
theorem dX0_sumOfLevels_12 : decode cX0_sumOfLevels 12 = .ok (.idiv, 1) := by decide +kernel
theorem dX0_sumOfLevels_13 : decode cX0_sumOfLevels 13 = .ok (.iadd, 1) := by decide +kernel
theorem dX0_sumOfLevels_14 : decode cX0_sumOfLevels 14 = .ok (.ireturn, 1) := by decide +kernel
theorem dX0_judge_0 : decode cX0_judge 0 = .ok (.aload_n 0, 1) := by decide +kernel
theorem dX0_judge_1 : decode cX0_judge 1 = .ok (.iload_n 1, 1) := by decide +kernel
theorem dX0_judge_2 : decode cX0_judge 2 = .ok (.invokevirtual 61, 3) := by decide +kernel
theorem dX0_judge_5 : decode cX0_judge 5 = .ok (.istore_n 2, 1) := by decide +kernel
theorem dX0_judge_6 : decode cX0_judge 6 = .ok (.iload_n 2, 1) := by decide +kernel
theorem dX0_judge_7 : decode cX0_judge 7 = .ok (.aload_n 0, 1) := by decide +kernel
theorem dX0_judge_8 : decode cX0_judge 8 = .ok (.getfield 40, 3) := by decide +kernel
theorem dX0_judge_11 : decode cX0_judge 11 = .ok (.if_icmp .gt 7, 3) := by decide +kernel
theorem dX0_judge_14 : decode cX0_judge 14 = .ok (.iconst 1, 1) := by decide +kernel
theorem dX0_judge_15 : decode cX0_judge 15 = .ok (.goto 4, 3) := by decide +kernel
theorem dX0_judge_18 : decode cX0_judge 18 = .ok (.iconst 0, 1) := by decide +kernel
theorem dX0_judge_19 : decode cX0_judge 19 = .ok (.istore_n 3, 1) := by decide +kernel
theorem dX0_judge_20 : decode cX0_judge 20 = .ok (.iconst 0, 1) := by decide +kernel
theorem dX0_judge_21 : decode cX0_judge 21 = .ok (.istore 4, 2) := by decide +kernel
theorem dX0_judge_23 : decode cX0_judge 23 = .ok (.iload 4, 2) := by decide +kernel
theorem dX0_judge_25 : decode cX0_judge 25 = .ok (.bipush 125, 2) := by decide +kernel
theorem dX0_judge_27 : decode cX0_judge 27 = .ok (.if_icmp .ge 51, 3) := by decide +kernel
theorem dX0_judge_30 : decode cX0_judge 30 = .ok (.iload_n 3, 1) := by decide +kernel
theorem dX0_judge_31 : decode cX0_judge 31 = .ok (.ifCond .eq 12, 3) := by decide +kernel
theorem dX0_judge_34 : decode cX0_judge 34 = .ok (.iload 4, 2) := by decide +kernel
theorem dX0_judge_36 : decode cX0_judge 36 = .ok (.iload_n 1, 1) := by decide +kernel
theorem dX0_judge_37 : decode cX0_judge 37 = .ok (.invokestatic 64, 3) := by decide +kernel
theorem dX0_judge_40 : decode cX0_judge 40 = .ok (.goto 9, 3) := by decide +kernel
theorem dX0_judge_43 : decode cX0_judge 43 = .ok (.iload_n 1, 1) := by decide +kernel
theorem dX0_judge_44 : decode cX0_judge 44 = .ok (.iload 4, 2) := by decide +kernel
theorem dX0_judge_46 : decode cX0_judge 46 = .ok (.invokestatic 64, 3) := by decide +kernel
theorem dX0_judge_49 : decode cX0_judge 49 = .ok (.istore 5, 2) := by decide +kernel
theorem dX0_judge_51 : decode cX0_judge 51 = .ok (.iload 5, 2) := by decide +kernel
theorem dX0_judge_53 : decode cX0_judge 53 = .ok (.ifCond .eq 19, 3) := by decide +kernel
theorem dX0_judge_56 : decode cX0_judge 56 = .ok (.aload_n 0, 1) := by decide +kernel
theorem dX0_judge_57 : decode cX0_judge 57 = .ok (.getfield 16, 3) := by decide +kernel
theorem dX0_judge_60 : decode cX0_judge 60 = .ok (.iload 4, 2) := by decide +kernel
theorem dX0_judge_62 : decode cX0_judge 62 = .ok (.iload_n 3, 1) := by decide +kernel
theorem dX0_judge_63 : decode cX0_judge 63 = .ok (.ifCond .eq 7, 3) := by decide +kernel
theorem dX0_judge_66 : decode cX0_judge 66 = .ok (.iconst 1, 1) := by decide +kernel
theorem dX0_judge_67 : decode cX0_judge 67 = .ok (.goto 4, 3) := by decide +kernel
theorem dX0_judge_70 : decode cX0_judge 70 = .ok (.iconst 2, 1) := by decide +kernel
theorem dX0_judge_71 : decode cX0_judge 71 = .ok (.bastore, 1) := by decide +kernel
theorem dX0_judge_72 : decode cX0_judge 72 = .ok (.iinc 4 1, 3) := by decide +kernel
theorem dX0_judge_75 : decode cX0_judge 75 = .ok (.goto (-52), 3) := by decide +kernel
theorem dX0_judge_78 : decode cX0_judge 78 = .ok (.return_, 1) := by decide +kernel
theorem dX0_atLeast_0 : decode cX0_atLeast 0 = .ok (.iconst 0, 1) := by decide +kernel
theorem dX0_atLeast_1 : decode cX0_atLeast 1 = .ok (.istore_n 2, 1) := by decide +kernel
theorem dX0_atLeast_2 : decode cX0_atLeast 2 = .ok (.iload_n 2, 1) := by decide +kernel
theorem dX0_atLeast_3 : decode cX0_atLeast 3 = .ok (.iconst 3, 1) := by decide +kernel
theorem dX0_atLeast_4 : decode cX0_atLeast 4 = .ok (.if_icmp .ge 30, 3) := by decide +kernel
theorem dX0_atLeast_7 : decode cX0_atLeast 7 = .ok (.iload_n 0, 1) := by decide +kernel
theorem dX0_atLeast_8 : decode cX0_atLeast 8 = .ok (.iload_n 2, 1) := by decide +kernel
theorem dX0_atLeast_9 : decode cX0_atLeast 9 = .ok (.invokestatic 43, 3) := by decide +kernel
theorem dX0_atLeast_12 : decode cX0_atLeast 12 = .ok (.istore_n 3, 1) := by decide +kernel
theorem dX0_atLeast_13 : decode cX0_atLeast 13 = .ok (.iload_n 1, 1) := by decide +kernel
theorem dX0_atLeast_14 : decode cX0_atLeast 14 = .ok (.iload_n 2, 1) := by decide +kernel
theorem dX0_atLeast_15 : decode cX0_atLeast 15 = .ok (.invokestatic 43, 3) := by decide +kernel
theorem dX0_atLeast_18 : decode cX0_atLeast 18 = .ok (.istore 4, 2) := by decide +kernel
theorem dX0_atLeast_20 : decode cX0_atLeast 20 = .ok (.iload_n 3, 1) := by decide +kernel
theorem dX0_atLeast_21 : decode cX0_atLeast 21 = .ok (.iload 4, 2) := by decide +kernel
theorem dX0_atLeast_23 : decode cX0_atLeast 23 = .ok (.if_icmp .ge 5, 3) := by decide +kernel
theorem dX0_atLeast_26 : decode cX0_atLeast 26 = .ok (.iconst 0, 1) := by decide +kernel
theorem dX0_atLeast_27 : decode cX0_atLeast 27 = .ok (.ireturn, 1) := by decide +kernel
theorem dX0_atLeast_28 : decode cX0_atLeast 28 = .ok (.iinc 2 1, 3) := by decide +kernel
theorem dX0_atLeast_31 : decode cX0_atLeast 31 = .ok (.goto (-29), 3) := by decide +kernel
theorem dX0_atLeast_34 : decode cX0_atLeast 34 = .ok (.iconst 1, 1) := by decide +kernel
theorem dX0_atLeast_35 : decode cX0_atLeast 35 = .ok (.ireturn, 1) := by decide +kernel
theorem dX0_goodSettings_0 : decode cX0_goodSettings 0 = .ok (.aload_n 0, 1) := by decide +kernel
theorem dX0_goodSettings_1 : decode cX0_goodSettings 1 = .ok (.invokevirtual 81, 3) := by decide +kernel
theorem dX0_goodSettings_4 : decode cX0_goodSettings 4 = .ok (.iconst 0, 1) := by decide +kernel
theorem dX0_goodSettings_5 : decode cX0_goodSettings 5 = .ok (.istore_n 1, 1) := by decide +kernel
theorem dX0_goodSettings_6 : decode cX0_goodSettings 6 = .ok (.iconst 0, 1) := by decide +kernel
theorem dX0_goodSettings_7 : decode cX0_goodSettings 7 = .ok (.istore_n 2, 1) := by decide +kernel
theorem dX0_goodSettings_8 : decode cX0_goodSettings 8 = .ok (.iload_n 2, 1) := by decide +kernel
theorem dX0_goodSettings_9 : decode cX0_goodSettings 9 = .ok (.bipush 125, 2) := by decide +kernel
theorem dX0_goodSettings_11 : decode cX0_goodSettings 11 = .ok (.if_icmp .ge 22, 3) := by decide +kernel
theorem dX0_goodSettings_14 : decode cX0_goodSettings 14 = .ok (.aload_n 0, 1) := by decide +kernel
theorem dX0_goodSettings_15 : decode cX0_goodSettings 15 = .ok (.getfield 16, 3) := by decide +kernel
theorem dX0_goodSettings_18 : decode cX0_goodSettings 18 = .ok (.iload_n 2, 1) := by decide +kernel
theorem dX0_goodSettings_19 : decode cX0_goodSettings 19 = .ok (.baload, 1) := by decide +kernel
theorem dX0_goodSettings_20 : decode cX0_goodSettings 20 = .ok (.iconst 1, 1) := by decide +kernel
theorem dX0_goodSettings_21 : decode cX0_goodSettings 21 = .ok (.if_icmp .ne 6, 3) := by decide +kernel
theorem dX0_goodSettings_24 : decode cX0_goodSettings 24 = .ok (.iinc 1 1, 3) := by decide +kernel
theorem dX0_goodSettings_27 : decode cX0_goodSettings 27 = .ok (.iinc 2 1, 3) := by decide +kernel
theorem dX0_goodSettings_30 : decode cX0_goodSettings 30 = .ok (.goto (-22), 3) := by decide +kernel
theorem dX0_goodSettings_33 : decode cX0_goodSettings 33 = .ok (.iload_n 1, 1) := by decide +kernel
theorem dX0_goodSettings_34 : decode cX0_goodSettings 34 = .ok (.ireturn, 1) := by decide +kernel
theorem dX0_finest_0 : decode cX0_finest 0 = .ok (.aload_n 0, 1) := by decide +kernel
theorem dX0_finest_1 : decode cX0_finest 1 = .ok (.invokevirtual 81, 3) := by decide +kernel
theorem dX0_finest_4 : decode cX0_finest 4 = .ok (.iconst 0, 1) := by decide +kernel
theorem dX0_finest_5 : decode cX0_finest 5 = .ok (.istore_n 1, 1) := by decide +kernel
theorem dX0_finest_6 : decode cX0_finest 6 = .ok (.iconst 0, 1) := by decide +kernel
theorem dX0_finest_7 : decode cX0_finest 7 = .ok (.istore_n 2, 1) := by decide +kernel
theorem dX0_finest_8 : decode cX0_finest 8 = .ok (.iload_n 2, 1) := by decide +kernel
theorem dX0_finest_9 : decode cX0_finest 9 = .ok (.bipush 125, 2) := by decide +kernel
theorem dX0_finest_11 : decode cX0_finest 11 = .ok (.if_icmp .ge 22, 3) := by decide +kernel
theorem dX0_finest_14 : decode cX0_finest 14 = .ok (.aload_n 0, 1) := by decide +kernel
theorem dX0_finest_15 : decode cX0_finest 15 = .ok (.iload_n 2, 1) := by decide +kernel
theorem dX0_finest_16 : decode cX0_finest 16 = .ok (.invokevirtual 84, 3) := by decide +kernel
theorem dX0_finest_19 : decode cX0_finest 19 = .ok (.istore_n 3, 1) := by decide +kernel
theorem dX0_finest_20 : decode cX0_finest 20 = .ok (.iload_n 3, 1) := by decide +kernel
theorem dX0_finest_21 : decode cX0_finest 21 = .ok (.ifCond .eq 6, 3) := by decide +kernel
theorem dX0_finest_24 : decode cX0_finest 24 = .ok (.iinc 1 1, 3) := by decide +kernel
theorem dX0_finest_27 : decode cX0_finest 27 = .ok (.iinc 2 1, 3) := by decide +kernel
theorem dX0_finest_30 : decode cX0_finest 30 = .ok (.goto (-22), 3) := by decide +kernel
theorem dX0_finest_33 : decode cX0_finest 33 = .ok (.iload_n 1, 1) := by decide +kernel
theorem dX0_finest_34 : decode cX0_finest 34 = .ok (.ireturn, 1) := by decide +kernel
theorem dX0_isFinest_0 : decode cX0_isFinest 0 = .ok (.aload_n 0, 1) := by decide +kernel
theorem dX0_isFinest_1 : decode cX0_isFinest 1 = .ok (.getfield 16, 3) := by decide +kernel
theorem dX0_isFinest_4 : decode cX0_isFinest 4 = .ok (.iload_n 1, 1) := by decide +kernel
theorem dX0_isFinest_5 : decode cX0_isFinest 5 = .ok (.baload, 1) := by decide +kernel
theorem dX0_isFinest_6 : decode cX0_isFinest 6 = .ok (.iconst 1, 1) := by decide +kernel
theorem dX0_isFinest_7 : decode cX0_isFinest 7 = .ok (.if_icmp .eq 5, 3) := by decide +kernel
theorem dX0_isFinest_10 : decode cX0_isFinest 10 = .ok (.iconst 0, 1) := by decide +kernel
theorem dX0_isFinest_11 : decode cX0_isFinest 11 = .ok (.ireturn, 1) := by decide +kernel
theorem dX0_isFinest_12 : decode cX0_isFinest 12 = .ok (.iload_n 1, 1) := by decide +kernel
theorem dX0_isFinest_13 : decode cX0_isFinest 13 = .ok (.iconst 5, 1) := by decide +kernel
theorem dX0_isFinest_14 : decode cX0_isFinest 14 = .ok (.irem, 1) := by decide +kernel
theorem dX0_isFinest_15 : decode cX0_isFinest 15 = .ok (.ifCond .le 17, 3) := by decide +kernel
theorem dX0_isFinest_18 : decode cX0_isFinest 18 = .ok (.aload_n 0, 1) := by decide +kernel
theorem dX0_isFinest_19 : decode cX0_isFinest 19 = .ok (.getfield 16, 3) := by decide +kernel
theorem dX0_isFinest_22 : decode cX0_isFinest 22 = .ok (.iload_n 1, 1) := by decide +kernel
theorem dX0_isFinest_23 : decode cX0_isFinest 23 = .ok (.iconst 1, 1) := by decide +kernel
theorem dX0_isFinest_24 : decode cX0_isFinest 24 = .ok (.isub, 1) := by decide +kernel
theorem dX0_isFinest_25 : decode cX0_isFinest 25 = .ok (.baload, 1) := by decide +kernel
theorem dX0_isFinest_26 : decode cX0_isFinest 26 = .ok (.iconst 1, 1) := by decide +kernel
theorem dX0_isFinest_27 : decode cX0_isFinest 27 = .ok (.if_icmp .ne 5, 3) := by decide +kernel
theorem dX0_isFinest_30 : decode cX0_isFinest 30 = .ok (.iconst 0, 1) := by decide +kernel
theorem dX0_isFinest_31 : decode cX0_isFinest 31 = .ok (.ireturn, 1) := by decide +kernel
theorem dX0_isFinest_32 : decode cX0_isFinest 32 = .ok (.iload_n 1, 1) := by decide +kernel
theorem dX0_isFinest_33 : decode cX0_isFinest 33 = .ok (.iconst 5, 1) := by decide +kernel
theorem dX0_isFinest_34 : decode cX0_isFinest 34 = .ok (.idiv, 1) := by decide +kernel
theorem dX0_isFinest_35 : decode cX0_isFinest 35 = .ok (.iconst 5, 1) := by decide +kernel
theorem dX0_isFinest_36 : decode cX0_isFinest 36 = .ok (.irem, 1) := by decide +kernel
theorem dX0_isFinest_37 : decode cX0_isFinest 37 = .ok (.ifCond .le 17, 3) := by decide +kernel
theorem dX0_isFinest_40 : decode cX0_isFinest 40 = .ok (.aload_n 0, 1) := by decide +kernel
theorem dX0_isFinest_41 : decode cX0_isFinest 41 = .ok (.getfield 16, 3) := by decide +kernel
theorem dX0_isFinest_44 : decode cX0_isFinest 44 = .ok (.iload_n 1, 1) := by decide +kernel
theorem dX0_isFinest_45 : decode cX0_isFinest 45 = .ok (.iconst 5, 1) := by decide +kernel
theorem dX0_isFinest_46 : decode cX0_isFinest 46 = .ok (.isub, 1) := by decide +kernel
theorem dX0_isFinest_47 : decode cX0_isFinest 47 = .ok (.baload, 1) := by decide +kernel
theorem dX0_isFinest_48 : decode cX0_isFinest 48 = .ok (.iconst 1, 1) := by decide +kernel
theorem dX0_isFinest_49 : decode cX0_isFinest 49 = .ok (.if_icmp .ne 5, 3) := by decide +kernel
theorem dX0_isFinest_52 : decode cX0_isFinest 52 = .ok (.iconst 0, 1) := by decide +kernel
theorem dX0_isFinest_53 : decode cX0_isFinest 53 = .ok (.ireturn, 1) := by decide +kernel
theorem dX0_isFinest_54 : decode cX0_isFinest 54 = .ok (.iload_n 1, 1) := by decide +kernel
theorem dX0_isFinest_55 : decode cX0_isFinest 55 = .ok (.bipush 25, 2) := by decide +kernel
theorem dX0_isFinest_57 : decode cX0_isFinest 57 = .ok (.if_icmp .lt 16, 3) := by decide +kernel
theorem dX0_isFinest_60 : decode cX0_isFinest 60 = .ok (.aload_n 0, 1) := by decide +kernel
theorem dX0_isFinest_61 : decode cX0_isFinest 61 = .ok (.getfield 16, 3) := by decide +kernel
theorem dX0_isFinest_64 : decode cX0_isFinest 64 = .ok (.iload_n 1, 1) := by decide +kernel
theorem dX0_isFinest_65 : decode cX0_isFinest 65 = .ok (.bipush 25, 2) := by decide +kernel
theorem dX0_isFinest_67 : decode cX0_isFinest 67 = .ok (.isub, 1) := by decide +kernel
theorem dX0_isFinest_68 : decode cX0_isFinest 68 = .ok (.baload, 1) := by decide +kernel
theorem dX0_isFinest_69 : decode cX0_isFinest 69 = .ok (.iconst 1, 1) := by decide +kernel
theorem dX0_isFinest_70 : decode cX0_isFinest 70 = .ok (.if_icmp .eq 7, 3) := by decide +kernel
theorem dX0_isFinest_73 : decode cX0_isFinest 73 = .ok (.iconst 1, 1) := by decide +kernel
theorem dX0_isFinest_74 : decode cX0_isFinest 74 = .ok (.goto 4, 3) := by decide +kernel
theorem dX0_isFinest_77 : decode cX0_isFinest 77 = .ok (.iconst 0, 1) := by decide +kernel
theorem dX0_isFinest_78 : decode cX0_isFinest 78 = .ok (.ireturn, 1) := by decide +kernel
theorem dX0_finestAt_0 : decode cX0_finestAt 0 = .ok (.iload_n 1, 1) := by decide +kernel
theorem dX0_finestAt_1 : decode cX0_finestAt 1 = .ok (.ifCond .ge 6, 3) := by decide +kernel
theorem dX0_finestAt_4 : decode cX0_finestAt 4 = .ok (.bipush (-5), 2) := by decide +kernel
theorem dX0_finestAt_6 : decode cX0_finestAt 6 = .ok (.ireturn, 1) := by decide +kernel
theorem dX0_finestAt_7 : decode cX0_finestAt 7 = .ok (.aload_n 0, 1) := by decide +kernel
theorem dX0_finestAt_8 : decode cX0_finestAt 8 = .ok (.invokevirtual 81, 3) := by decide +kernel
theorem dX0_finestAt_11 : decode cX0_finestAt 11 = .ok (.iconst 0, 1) := by decide +kernel
theorem dX0_finestAt_12 : decode cX0_finestAt 12 = .ok (.istore_n 2, 1) := by decide +kernel
theorem dX0_finestAt_13 : decode cX0_finestAt 13 = .ok (.iconst 0, 1) := by decide +kernel
theorem dX0_finestAt_14 : decode cX0_finestAt 14 = .ok (.istore_n 3, 1) := by decide +kernel
theorem dX0_finestAt_15 : decode cX0_finestAt 15 = .ok (.iload_n 3, 1) := by decide +kernel
theorem dX0_finestAt_16 : decode cX0_finestAt 16 = .ok (.bipush 125, 2) := by decide +kernel
theorem dX0_finestAt_18 : decode cX0_finestAt 18 = .ok (.if_icmp .ge 36, 3) := by decide +kernel
theorem dX0_finestAt_21 : decode cX0_finestAt 21 = .ok (.aload_n 0, 1) := by decide +kernel
theorem dX0_finestAt_22 : decode cX0_finestAt 22 = .ok (.iload_n 3, 1) := by decide +kernel
theorem dX0_finestAt_23 : decode cX0_finestAt 23 = .ok (.invokevirtual 84, 3) := by decide +kernel
theorem dX0_finestAt_26 : decode cX0_finestAt 26 = .ok (.istore 4, 2) := by decide +kernel
theorem dX0_finestAt_28 : decode cX0_finestAt 28 = .ok (.iload 4, 2) := by decide +kernel
theorem dX0_finestAt_30 : decode cX0_finestAt 30 = .ok (.ifCond .eq 10, 3) := by decide +kernel
theorem dX0_finestAt_33 : decode cX0_finestAt 33 = .ok (.iload_n 2, 1) := by decide +kernel
theorem dX0_finestAt_34 : decode cX0_finestAt 34 = .ok (.iload_n 1, 1) := by decide +kernel
theorem dX0_finestAt_35 : decode cX0_finestAt 35 = .ok (.if_icmp .ne 5, 3) := by decide +kernel
theorem dX0_finestAt_38 : decode cX0_finestAt 38 = .ok (.iload_n 3, 1) := by decide +kernel
theorem dX0_finestAt_39 : decode cX0_finestAt 39 = .ok (.ireturn, 1) := by decide +kernel
theorem dX0_finestAt_40 : decode cX0_finestAt 40 = .ok (.iload 4, 2) := by decide +kernel
theorem dX0_finestAt_42 : decode cX0_finestAt 42 = .ok (.ifCond .eq 6, 3) := by decide +kernel
theorem dX0_finestAt_45 : decode cX0_finestAt 45 = .ok (.iinc 2 1, 3) := by decide +kernel
theorem dX0_finestAt_48 : decode cX0_finestAt 48 = .ok (.iinc 3 1, 3) := by decide +kernel
theorem dX0_finestAt_51 : decode cX0_finestAt 51 = .ok (.goto (-36), 3) := by decide +kernel
theorem dX0_finestAt_54 : decode cX0_finestAt 54 = .ok (.bipush (-5), 2) := by decide +kernel
theorem dX0_finestAt_56 : decode cX0_finestAt 56 = .ok (.ireturn, 1) := by decide +kernel
theorem dX0_best_0 : decode cX0_best 0 = .ok (.aload_n 0, 1) := by decide +kernel
theorem dX0_best_1 : decode cX0_best 1 = .ok (.invokevirtual 81, 3) := by decide +kernel
theorem dX0_best_4 : decode cX0_best 4 = .ok (.bipush (-5), 2) := by decide +kernel
theorem dX0_best_6 : decode cX0_best 6 = .ok (.istore_n 1, 1) := by decide +kernel
theorem dX0_best_7 : decode cX0_best 7 = .ok (.bipush 13, 2) := by decide +kernel
theorem dX0_best_9 : decode cX0_best 9 = .ok (.istore_n 2, 1) := by decide +kernel
theorem dX0_best_10 : decode cX0_best 10 = .ok (.iconst 0, 1) := by decide +kernel
theorem dX0_best_11 : decode cX0_best 11 = .ok (.istore_n 3, 1) := by decide +kernel
theorem dX0_best_12 : decode cX0_best 12 = .ok (.iload_n 3, 1) := by decide +kernel
theorem dX0_best_13 : decode cX0_best 13 = .ok (.bipush 125, 2) := by decide +kernel
theorem dX0_best_15 : decode cX0_best 15 = .ok (.if_icmp .ge 36, 3) := by decide +kernel
theorem dX0_best_18 : decode cX0_best 18 = .ok (.iload_n 3, 1) := by decide +kernel
theorem dX0_best_19 : decode cX0_best 19 = .ok (.invokestatic 68, 3) := by decide +kernel
theorem dX0_best_22 : decode cX0_best 22 = .ok (.istore 4, 2) := by decide +kernel
theorem dX0_best_24 : decode cX0_best 24 = .ok (.aload_n 0, 1) := by decide +kernel
theorem dX0_best_25 : decode cX0_best 25 = .ok (.getfield 16, 3) := by decide +kernel
theorem dX0_best_28 : decode cX0_best 28 = .ok (.iload_n 3, 1) := by decide +kernel
theorem dX0_best_29 : decode cX0_best 29 = .ok (.baload, 1) := by decide +kernel
theorem dX0_best_30 : decode cX0_best 30 = .ok (.iconst 1, 1) := by decide +kernel
theorem dX0_best_31 : decode cX0_best 31 = .ok (.if_icmp .ne 14, 3) := by decide +kernel
theorem dX0_best_34 : decode cX0_best 34 = .ok (.iload 4, 2) := by decide +kernel
theorem dX0_best_36 : decode cX0_best 36 = .ok (.iload_n 2, 1) := by decide +kernel
theorem dX0_best_37 : decode cX0_best 37 = .ok (.if_icmp .ge 8, 3) := by decide +kernel
theorem dX0_best_40 : decode cX0_best 40 = .ok (.iload_n 3, 1) := by decide +kernel
theorem dX0_best_41 : decode cX0_best 41 = .ok (.istore_n 1, 1) := by decide +kernel
theorem dX0_best_42 : decode cX0_best 42 = .ok (.iload 4, 2) := by decide +kernel
theorem dX0_best_44 : decode cX0_best 44 = .ok (.istore_n 2, 1) := by decide +kernel
theorem dX0_best_45 : decode cX0_best 45 = .ok (.iinc 3 1, 3) := by decide +kernel
theorem dX0_best_48 : decode cX0_best 48 = .ok (.goto (-36), 3) := by decide +kernel
theorem dX0_best_51 : decode cX0_best 51 = .ok (.iload_n 1, 1) := by decide +kernel
theorem dX0_best_52 : decode cX0_best 52 = .ok (.ireturn, 1) := by decide +kernel
theorem dX0_groups_0 : decode cX0_groups 0 = .ok (.iload_n 1, 1) := by decide +kernel
theorem dX0_groups_1 : decode cX0_groups 1 = .ok (.invokestatic 77, 3) := by decide +kernel
theorem dX0_groups_4 : decode cX0_groups 4 = .ok (.ifCond .eq 6, 3) := by decide +kernel
theorem dX0_groups_7 : decode cX0_groups 7 = .ok (.bipush (-4), 2) := by decide +kernel
theorem dX0_groups_9 : decode cX0_groups 9 = .ok (.ireturn, 1) := by decide +kernel
theorem dX0_groups_10 : decode cX0_groups 10 = .ok (.aload_n 0, 1) := by decide +kernel
theorem dX0_groups_11 : decode cX0_groups 11 = .ok (.iload_n 1, 1) := by decide +kernel
theorem dX0_groups_12 : decode cX0_groups 12 = .ok (.invokevirtual 50, 3) := by decide +kernel
theorem dX0_groups_15 : decode cX0_groups 15 = .ok (.iconst 0, 1) := by decide +kernel
theorem dX0_groups_16 : decode cX0_groups 16 = .ok (.istore_n 2, 1) := by decide +kernel
theorem dX0_groups_17 : decode cX0_groups 17 = .ok (.iconst 0, 1) := by decide +kernel
theorem dX0_groups_18 : decode cX0_groups 18 = .ok (.istore_n 3, 1) := by decide +kernel
theorem dX0_groups_19 : decode cX0_groups 19 = .ok (.iload_n 3, 1) := by decide +kernel
theorem dX0_groups_20 : decode cX0_groups 20 = .ok (.aload_n 0, 1) := by decide +kernel
theorem dX0_groups_21 : decode cX0_groups 21 = .ok (.getfield 33, 3) := by decide +kernel
theorem dX0_groups_24 : decode cX0_groups 24 = .ok (.if_icmp .ge 15, 3) := by decide +kernel
theorem dX0_groups_27 : decode cX0_groups 27 = .ok (.aload_n 0, 1) := by decide +kernel
theorem dX0_groups_28 : decode cX0_groups 28 = .ok (.iload_n 3, 1) := by decide +kernel
theorem dX0_groups_29 : decode cX0_groups 29 = .ok (.invokevirtual 54, 3) := by decide +kernel
theorem dX0_groups_32 : decode cX0_groups 32 = .ok (.istore_n 3, 1) := by decide +kernel
theorem dX0_groups_33 : decode cX0_groups 33 = .ok (.iinc 2 1, 3) := by decide +kernel
theorem dX0_groups_36 : decode cX0_groups 36 = .ok (.goto (-17), 3) := by decide +kernel
theorem dX0_groups_39 : decode cX0_groups 39 = .ok (.iload_n 2, 1) := by decide +kernel
theorem dX0_groups_40 : decode cX0_groups 40 = .ok (.ireturn, 1) := by decide +kernel
theorem dX0_lookAlike_0 : decode cX0_lookAlike 0 = .ok (.iload_n 1, 1) := by decide +kernel
theorem dX0_lookAlike_1 : decode cX0_lookAlike 1 = .ok (.invokestatic 77, 3) := by decide +kernel
theorem dX0_lookAlike_4 : decode cX0_lookAlike 4 = .ok (.ifCond .eq 6, 3) := by decide +kernel
theorem dX0_lookAlike_7 : decode cX0_lookAlike 7 = .ok (.bipush (-4), 2) := by decide +kernel
theorem dX0_lookAlike_9 : decode cX0_lookAlike 9 = .ok (.ireturn, 1) := by decide +kernel
theorem dX0_lookAlike_10 : decode cX0_lookAlike 10 = .ok (.iload_n 2, 1) := by decide +kernel
theorem dX0_lookAlike_11 : decode cX0_lookAlike 11 = .ok (.ifCond .lt 11, 3) := by decide +kernel
theorem dX0_lookAlike_14 : decode cX0_lookAlike 14 = .ok (.iload_n 2, 1) := by decide +kernel
theorem dX0_lookAlike_15 : decode cX0_lookAlike 15 = .ok (.aload_n 0, 1) := by decide +kernel
theorem dX0_lookAlike_16 : decode cX0_lookAlike 16 = .ok (.getfield 33, 3) := by decide +kernel
theorem dX0_lookAlike_19 : decode cX0_lookAlike 19 = .ok (.if_icmp .lt 6, 3) := by decide +kernel
theorem dX0_lookAlike_22 : decode cX0_lookAlike 22 = .ok (.bipush (-3), 2) := by decide +kernel
theorem dX0_lookAlike_24 : decode cX0_lookAlike 24 = .ok (.ireturn, 1) := by decide +kernel
theorem dX0_lookAlike_25 : decode cX0_lookAlike 25 = .ok (.aload_n 0, 1) := by decide +kernel
theorem dX0_lookAlike_26 : decode cX0_lookAlike 26 = .ok (.iload_n 2, 1) := by decide +kernel
theorem dX0_lookAlike_27 : decode cX0_lookAlike 27 = .ok (.iload_n 1, 1) := by decide +kernel
theorem dX0_lookAlike_28 : decode cX0_lookAlike 28 = .ok (.invokevirtual 47, 3) := by decide +kernel
theorem dX0_lookAlike_31 : decode cX0_lookAlike 31 = .ok (.istore_n 3, 1) := by decide +kernel
theorem dX0_lookAlike_32 : decode cX0_lookAlike 32 = .ok (.iconst 0, 1) := by decide +kernel
theorem dX0_lookAlike_33 : decode cX0_lookAlike 33 = .ok (.istore 4, 2) := by decide +kernel
theorem dX0_lookAlike_35 : decode cX0_lookAlike 35 = .ok (.iconst 0, 1) := by decide +kernel
theorem dX0_lookAlike_36 : decode cX0_lookAlike 36 = .ok (.istore 5, 2) := by decide +kernel
theorem dX0_lookAlike_38 : decode cX0_lookAlike 38 = .ok (.iload 5, 2) := by decide +kernel
theorem dX0_lookAlike_40 : decode cX0_lookAlike 40 = .ok (.aload_n 0, 1) := by decide +kernel
theorem dX0_lookAlike_41 : decode cX0_lookAlike 41 = .ok (.getfield 33, 3) := by decide +kernel
theorem dX0_lookAlike_44 : decode cX0_lookAlike 44 = .ok (.if_icmp .ge 27, 3) := by decide +kernel
theorem dX0_lookAlike_47 : decode cX0_lookAlike 47 = .ok (.aload_n 0, 1) := by decide +kernel
theorem dX0_lookAlike_48 : decode cX0_lookAlike 48 = .ok (.iload 5, 2) := by decide +kernel
theorem dX0_lookAlike_50 : decode cX0_lookAlike 50 = .ok (.iload_n 1, 1) := by decide +kernel
theorem dX0_lookAlike_51 : decode cX0_lookAlike 51 = .ok (.invokevirtual 47, 3) := by decide +kernel
theorem dX0_lookAlike_54 : decode cX0_lookAlike 54 = .ok (.istore 6, 2) := by decide +kernel
theorem dX0_lookAlike_56 : decode cX0_lookAlike 56 = .ok (.iload 6, 2) := by decide +kernel
theorem dX0_lookAlike_58 : decode cX0_lookAlike 58 = .ok (.iload_n 3, 1) := by decide +kernel
theorem dX0_lookAlike_59 : decode cX0_lookAlike 59 = .ok (.if_icmp .ne 6, 3) := by decide +kernel
theorem dX0_lookAlike_62 : decode cX0_lookAlike 62 = .ok (.iinc 4 1, 3) := by decide +kernel
theorem dX0_lookAlike_65 : decode cX0_lookAlike 65 = .ok (.iinc 5 1, 3) := by decide +kernel
theorem dX0_lookAlike_68 : decode cX0_lookAlike 68 = .ok (.goto (-30), 3) := by decide +kernel
theorem dX0_lookAlike_71 : decode cX0_lookAlike 71 = .ok (.iload 4, 2) := by decide +kernel
theorem dX0_lookAlike_73 : decode cX0_lookAlike 73 = .ok (.ireturn, 1) := by decide +kernel
end
section
set_option maxRecDepth 100000
theorem dX1_init_0 : decode cX1_init 0 = .ok (.aload_n 0, 1) := by decide +kernel
theorem dX1_init_1 : decode cX1_init 1 = .ok (.invokespecial 1, 3) := by decide +kernel
theorem dX1_init_4 : decode cX1_init 4 = .ok (.aload_n 0, 1) := by decide +kernel
theorem dX1_init_5 : decode cX1_init 5 = .ok (.bipush 48, 2) := by decide +kernel
theorem dX1_init_7 : decode cX1_init 7 = .ok (.newarray .int, 2) := by decide +kernel
theorem dX1_init_9 : decode cX1_init 9 = .ok (.putfield 7, 3) := by decide +kernel
theorem dX1_init_12 : decode cX1_init 12 = .ok (.aload_n 0, 1) := by decide +kernel
theorem dX1_init_13 : decode cX1_init 13 = .ok (.bipush 16, 2) := by decide +kernel
theorem dX1_init_15 : decode cX1_init 15 = .ok (.newarray .int, 2) := by decide +kernel
theorem dX1_init_17 : decode cX1_init 17 = .ok (.putfield 13, 3) := by decide +kernel
theorem dX1_init_20 : decode cX1_init 20 = .ok (.aload_n 0, 1) := by decide +kernel
theorem dX1_init_21 : decode cX1_init 21 = .ok (.iconst 2, 1) := by decide +kernel
theorem dX1_init_22 : decode cX1_init 22 = .ok (.putfield 16, 3) := by decide +kernel
theorem dX1_init_25 : decode cX1_init 25 = .ok (.aload_n 0, 1) := by decide +kernel
theorem dX1_init_26 : decode cX1_init 26 = .ok (.iconst 1, 1) := by decide +kernel
theorem dX1_init_27 : decode cX1_init 27 = .ok (.putfield 20, 3) := by decide +kernel
theorem dX1_init_30 : decode cX1_init 30 = .ok (.aload_n 0, 1) := by decide +kernel
theorem dX1_init_31 : decode cX1_init 31 = .ok (.bipush 125, 2) := by decide +kernel
theorem dX1_init_33 : decode cX1_init 33 = .ok (.newarray .boolean, 2) := by decide +kernel
theorem dX1_init_35 : decode cX1_init 35 = .ok (.putfield 23, 3) := by decide +kernel
theorem dX1_init_38 : decode cX1_init 38 = .ok (.return_, 1) := by decide +kernel
theorem dX1_row_0 : decode cX1_row 0 = .ok (.iload_n 2, 1) := by decide +kernel
theorem dX1_row_1 : decode cX1_row 1 = .ok (.ifCond .lt 9, 3) := by decide +kernel
theorem dX1_row_4 : decode cX1_row 4 = .ok (.iload_n 2, 1) := by decide +kernel
theorem dX1_row_5 : decode cX1_row 5 = .ok (.bipush 7, 2) := by decide +kernel
theorem dX1_row_7 : decode cX1_row 7 = .ok (.if_icmp .le 5, 3) := by decide +kernel
theorem dX1_row_10 : decode cX1_row 10 = .ok (.iconst (-1), 1) := by decide +kernel
theorem dX1_row_11 : decode cX1_row 11 = .ok (.ireturn, 1) := by decide +kernel
theorem dX1_row_12 : decode cX1_row 12 = .ok (.aload_n 0, 1) := by decide +kernel
theorem dX1_row_13 : decode cX1_row 13 = .ok (.getfield 27, 3) := by decide +kernel
theorem dX1_row_16 : decode cX1_row 16 = .ok (.bipush 16, 2) := by decide +kernel
theorem dX1_row_18 : decode cX1_row 18 = .ok (.if_icmp .ne 6, 3) := by decide +kernel
theorem dX1_row_21 : decode cX1_row 21 = .ok (.bipush (-2), 2) := by decide +kernel
theorem dX1_row_23 : decode cX1_row 23 = .ok (.ireturn, 1) := by decide +kernel
theorem dX1_row_24 : decode cX1_row 24 = .ok (.iconst 0, 1) := by decide +kernel
theorem dX1_row_25 : decode cX1_row 25 = .ok (.istore_n 3, 1) := by decide +kernel
theorem dX1_row_26 : decode cX1_row 26 = .ok (.iload_n 3, 1) := by decide +kernel
theorem dX1_row_27 : decode cX1_row 27 = .ok (.iconst 3, 1) := by decide +kernel
theorem dX1_row_28 : decode cX1_row 28 = .ok (.if_icmp .ge 30, 3) := by decide +kernel
theorem dX1_row_31 : decode cX1_row 31 = .ok (.aload_n 0, 1) := by decide +kernel
theorem dX1_row_32 : decode cX1_row 32 = .ok (.getfield 7, 3) := by decide +kernel
theorem dX1_row_35 : decode cX1_row 35 = .ok (.aload_n 0, 1) := by decide +kernel
theorem dX1_row_36 : decode cX1_row 36 = .ok (.getfield 27, 3) := by decide +kernel
theorem dX1_row_39 : decode cX1_row 39 = .ok (.iconst 3, 1) := by decide +kernel
theorem dX1_row_40 : decode cX1_row 40 = .ok (.imul, 1) := by decide +kernel
theorem dX1_row_41 : decode cX1_row 41 = .ok (.iload_n 3, 1) := by decide +kernel
theorem dX1_row_42 : decode cX1_row 42 = .ok (.iadd, 1) := by decide +kernel
theorem dX1_row_43 : decode cX1_row 43 = .ok (.iload_n 1, 1) := by decide +kernel
theorem dX1_row_44 : decode cX1_row 44 = .ok (.iconst 4, 1) := by decide +kernel
theorem dX1_row_45 : decode cX1_row 45 = .ok (.iload_n 3, 1) := by decide +kernel
theorem dX1_row_46 : decode cX1_row 46 = .ok (.imul, 1) := by decide +kernel
theorem dX1_row_47 : decode cX1_row 47 = .ok (.ishr, 1) := by decide +kernel
theorem dX1_row_48 : decode cX1_row 48 = .ok (.bipush 15, 2) := by decide +kernel
theorem dX1_row_50 : decode cX1_row 50 = .ok (.iand, 1) := by decide +kernel
theorem dX1_row_51 : decode cX1_row 51 = .ok (.iastore, 1) := by decide +kernel
theorem dX1_row_52 : decode cX1_row 52 = .ok (.iinc 3 1, 3) := by decide +kernel
theorem dX1_row_55 : decode cX1_row 55 = .ok (.goto (-29), 3) := by decide +kernel
theorem dX1_row_58 : decode cX1_row 58 = .ok (.aload_n 0, 1) := by decide +kernel
theorem dX1_row_59 : decode cX1_row 59 = .ok (.getfield 13, 3) := by decide +kernel
theorem dX1_row_62 : decode cX1_row 62 = .ok (.aload_n 0, 1) := by decide +kernel
theorem dX1_row_63 : decode cX1_row 63 = .ok (.getfield 27, 3) := by decide +kernel
theorem dX1_row_66 : decode cX1_row 66 = .ok (.iload_n 2, 1) := by decide +kernel
theorem dX1_row_67 : decode cX1_row 67 = .ok (.iastore, 1) := by decide +kernel
theorem dX1_row_68 : decode cX1_row 68 = .ok (.aload_n 0, 1) := by decide +kernel
theorem dX1_row_69 : decode cX1_row 69 = .ok (.dup, 1) := by decide +kernel
theorem dX1_row_70 : decode cX1_row 70 = .ok (.getfield 27, 3) := by decide +kernel
theorem dX1_row_73 : decode cX1_row 73 = .ok (.iconst 1, 1) := by decide +kernel
theorem dX1_row_74 : decode cX1_row 74 = .ok (.iadd, 1) := by decide +kernel
theorem dX1_row_75 : decode cX1_row 75 = .ok (.putfield 27, 3) := by decide +kernel
theorem dX1_row_78 : decode cX1_row 78 = .ok (.aload_n 0, 1) := by decide +kernel
theorem dX1_row_79 : decode cX1_row 79 = .ok (.getfield 27, 3) := by decide +kernel
theorem dX1_row_82 : decode cX1_row 82 = .ok (.iconst 1, 1) := by decide +kernel
theorem dX1_row_83 : decode cX1_row 83 = .ok (.isub, 1) := by decide +kernel
theorem dX1_row_84 : decode cX1_row 84 = .ok (.ireturn, 1) := by decide +kernel
theorem dX1_drop_0 : decode cX1_drop 0 = .ok (.aload_n 0, 1) := by decide +kernel
theorem dX1_drop_1 : decode cX1_drop 1 = .ok (.getfield 27, 3) := by decide +kernel
theorem dX1_drop_4 : decode cX1_drop 4 = .ok (.ifCond .ne 6, 3) := by decide +kernel
theorem dX1_drop_7 : decode cX1_drop 7 = .ok (.bipush (-3), 2) := by decide +kernel
theorem dX1_drop_9 : decode cX1_drop 9 = .ok (.ireturn, 1) := by decide +kernel
theorem dX1_drop_10 : decode cX1_drop 10 = .ok (.aload_n 0, 1) := by decide +kernel
theorem dX1_drop_11 : decode cX1_drop 11 = .ok (.dup, 1) := by decide +kernel
theorem dX1_drop_12 : decode cX1_drop 12 = .ok (.getfield 27, 3) := by decide +kernel
theorem dX1_drop_15 : decode cX1_drop 15 = .ok (.iconst 1, 1) := by decide +kernel
theorem dX1_drop_16 : decode cX1_drop 16 = .ok (.isub, 1) := by decide +kernel
theorem dX1_drop_17 : decode cX1_drop 17 = .ok (.putfield 27, 3) := by decide +kernel
theorem dX1_drop_20 : decode cX1_drop 20 = .ok (.aload_n 0, 1) := by decide +kernel
theorem dX1_drop_21 : decode cX1_drop 21 = .ok (.getfield 27, 3) := by decide +kernel
theorem dX1_drop_24 : decode cX1_drop 24 = .ok (.ireturn, 1) := by decide +kernel
theorem dX1_demand_0 : decode cX1_demand 0 = .ok (.iload_n 1, 1) := by decide +kernel
theorem dX1_demand_1 : decode cX1_demand 1 = .ok (.iconst 1, 1) := by decide +kernel
theorem dX1_demand_2 : decode cX1_demand 2 = .ok (.if_icmp .lt 30, 3) := by decide +kernel
theorem dX1_demand_5 : decode cX1_demand 5 = .ok (.iload_n 1, 1) := by decide +kernel
theorem dX1_demand_6 : decode cX1_demand 6 = .ok (.bipush 8, 2) := by decide +kernel
theorem dX1_demand_8 : decode cX1_demand 8 = .ok (.if_icmp .gt 24, 3) := by decide +kernel
theorem dX1_demand_11 : decode cX1_demand 11 = .ok (.iload_n 2, 1) := by decide +kernel
theorem dX1_demand_12 : decode cX1_demand 12 = .ok (.iconst 1, 1) := by decide +kernel
theorem dX1_demand_13 : decode cX1_demand 13 = .ok (.if_icmp .lt 19, 3) := by decide +kernel
theorem dX1_demand_16 : decode cX1_demand 16 = .ok (.iload_n 2, 1) := by decide +kernel
theorem dX1_demand_17 : decode cX1_demand 17 = .ok (.bipush 8, 2) := by decide +kernel
theorem dX1_demand_19 : decode cX1_demand 19 = .ok (.if_icmp .gt 13, 3) := by decide +kernel
theorem dX1_demand_22 : decode cX1_demand 22 = .ok (.iload_n 3, 1) := by decide +kernel
theorem dX1_demand_23 : decode cX1_demand 23 = .ok (.ifCond .lt 9, 3) := by decide +kernel
theorem dX1_demand_26 : decode cX1_demand 26 = .ok (.iload_n 3, 1) := by decide +kernel
theorem dX1_demand_27 : decode cX1_demand 27 = .ok (.bipush 16, 2) := by decide +kernel
theorem dX1_demand_29 : decode cX1_demand 29 = .ok (.if_icmp .le 5, 3) := by decide +kernel
theorem dX1_demand_32 : decode cX1_demand 32 = .ok (.iconst (-1), 1) := by decide +kernel
theorem dX1_demand_33 : decode cX1_demand 33 = .ok (.ireturn, 1) := by decide +kernel
theorem dX1_demand_34 : decode cX1_demand 34 = .ok (.aload_n 0, 1) := by decide +kernel
theorem dX1_demand_35 : decode cX1_demand 35 = .ok (.iload_n 1, 1) := by decide +kernel
theorem dX1_demand_36 : decode cX1_demand 36 = .ok (.putfield 16, 3) := by decide +kernel
theorem dX1_demand_39 : decode cX1_demand 39 = .ok (.aload_n 0, 1) := by decide +kernel
theorem dX1_demand_40 : decode cX1_demand 40 = .ok (.iload_n 2, 1) := by decide +kernel
theorem dX1_demand_41 : decode cX1_demand 41 = .ok (.putfield 20, 3) := by decide +kernel
theorem dX1_demand_44 : decode cX1_demand 44 = .ok (.aload_n 0, 1) := by decide +kernel
theorem dX1_demand_45 : decode cX1_demand 45 = .ok (.iload_n 3, 1) := by decide +kernel
theorem dX1_demand_46 : decode cX1_demand 46 = .ok (.putfield 30, 3) := by decide +kernel
theorem dX1_demand_49 : decode cX1_demand 49 = .ok (.iconst 0, 1) := by decide +kernel
theorem dX1_demand_50 : decode cX1_demand 50 = .ok (.ireturn, 1) := by decide +kernel
theorem dX1_leftOut_0 : decode cX1_leftOut 0 = .ok (.aload_n 0, 1) := by decide +kernel
theorem dX1_leftOut_1 : decode cX1_leftOut 1 = .ok (.iload_n 1, 1) := by decide +kernel
theorem dX1_leftOut_2 : decode cX1_leftOut 2 = .ok (.invokevirtual 41, 3) := by decide +kernel
theorem dX1_leftOut_5 : decode cX1_leftOut 5 = .ok (.ifCond .ne 6, 3) := by decide +kernel
theorem dX1_leftOut_8 : decode cX1_leftOut 8 = .ok (.bipush (-4), 2) := by decide +kernel
theorem dX1_leftOut_10 : decode cX1_leftOut 10 = .ok (.ireturn, 1) := by decide +kernel
theorem dX1_leftOut_11 : decode cX1_leftOut 11 = .ok (.iconst 0, 1) := by decide +kernel
theorem dX1_leftOut_12 : decode cX1_leftOut 12 = .ok (.istore_n 2, 1) := by decide +kernel
theorem dX1_leftOut_13 : decode cX1_leftOut 13 = .ok (.iconst 0, 1) := by decide +kernel
theorem dX1_leftOut_14 : decode cX1_leftOut 14 = .ok (.istore_n 3, 1) := by decide +kernel
theorem dX1_leftOut_15 : decode cX1_leftOut 15 = .ok (.iload_n 3, 1) := by decide +kernel
theorem dX1_leftOut_16 : decode cX1_leftOut 16 = .ok (.aload_n 0, 1) := by decide +kernel
theorem dX1_leftOut_17 : decode cX1_leftOut 17 = .ok (.getfield 27, 3) := by decide +kernel
theorem dX1_leftOut_20 : decode cX1_leftOut 20 = .ok (.if_icmp .ge 21, 3) := by decide +kernel
theorem dX1_leftOut_23 : decode cX1_leftOut 23 = .ok (.aload_n 0, 1) := by decide +kernel
theorem dX1_leftOut_24 : decode cX1_leftOut 24 = .ok (.iload_n 1, 1) := by decide +kernel
theorem dX1_leftOut_25 : decode cX1_leftOut 25 = .ok (.iload_n 3, 1) := by decide +kernel
theorem dX1_leftOut_26 : decode cX1_leftOut 26 = .ok (.invokevirtual 45, 3) := by decide +kernel
theorem dX1_leftOut_29 : decode cX1_leftOut 29 = .ok (.ifCond .ne 6, 3) := by decide +kernel
theorem dX1_leftOut_32 : decode cX1_leftOut 32 = .ok (.iinc 2 1, 3) := by decide +kernel
theorem dX1_leftOut_35 : decode cX1_leftOut 35 = .ok (.iinc 3 1, 3) := by decide +kernel
theorem dX1_leftOut_38 : decode cX1_leftOut 38 = .ok (.goto (-23), 3) := by decide +kernel
theorem dX1_leftOut_41 : decode cX1_leftOut 41 = .ok (.iload_n 2, 1) := by decide +kernel
theorem dX1_leftOut_42 : decode cX1_leftOut 42 = .ok (.ireturn, 1) := by decide +kernel
theorem dX1_isSetting_0 : decode cX1_isSetting 0 = .ok (.iload_n 1, 1) := by decide +kernel
theorem dX1_isSetting_1 : decode cX1_isSetting 1 = .ok (.ifCond .lt 13, 3) := by decide +kernel
theorem dX1_isSetting_4 : decode cX1_isSetting 4 = .ok (.iload_n 1, 1) := by decide +kernel
theorem dX1_isSetting_5 : decode cX1_isSetting 5 = .ok (.bipush 125, 2) := by decide +kernel
theorem dX1_isSetting_7 : decode cX1_isSetting 7 = .ok (.if_icmp .ge 7, 3) := by decide +kernel
theorem dX1_isSetting_10 : decode cX1_isSetting 10 = .ok (.iconst 1, 1) := by decide +kernel
theorem dX1_isSetting_11 : decode cX1_isSetting 11 = .ok (.goto 4, 3) := by decide +kernel
theorem dX1_isSetting_14 : decode cX1_isSetting 14 = .ok (.iconst 0, 1) := by decide +kernel
theorem dX1_isSetting_15 : decode cX1_isSetting 15 = .ok (.ireturn, 1) := by decide +kernel
theorem dX1_hidden_0 : decode cX1_hidden 0 = .ok (.iconst 0, 1) := by decide +kernel
theorem dX1_hidden_1 : decode cX1_hidden 1 = .ok (.istore_n 3, 1) := by decide +kernel
theorem dX1_hidden_2 : decode cX1_hidden 2 = .ok (.iconst 0, 1) := by decide +kernel
theorem dX1_hidden_3 : decode cX1_hidden 3 = .ok (.istore 4, 2) := by decide +kernel
theorem dX1_hidden_5 : decode cX1_hidden 5 = .ok (.iconst 0, 1) := by decide +kernel
theorem dX1_hidden_6 : decode cX1_hidden 6 = .ok (.istore 5, 2) := by decide +kernel
theorem dX1_hidden_8 : decode cX1_hidden 8 = .ok (.iload 5, 2) := by decide +kernel
theorem dX1_hidden_10 : decode cX1_hidden 10 = .ok (.aload_n 0, 1) := by decide +kernel
theorem dX1_hidden_11 : decode cX1_hidden 11 = .ok (.getfield 27, 3) := by decide +kernel
theorem dX1_hidden_14 : decode cX1_hidden 14 = .ok (.if_icmp .ge 37, 3) := by decide +kernel
theorem dX1_hidden_17 : decode cX1_hidden 17 = .ok (.aload_n 0, 1) := by decide +kernel
theorem dX1_hidden_18 : decode cX1_hidden 18 = .ok (.iload_n 1, 1) := by decide +kernel
theorem dX1_hidden_19 : decode cX1_hidden 19 = .ok (.iload_n 2, 1) := by decide +kernel
theorem dX1_hidden_20 : decode cX1_hidden 20 = .ok (.iload 5, 2) := by decide +kernel
theorem dX1_hidden_22 : decode cX1_hidden 22 = .ok (.invokevirtual 37, 3) := by decide +kernel
theorem dX1_hidden_25 : decode cX1_hidden 25 = .ok (.ifCond .eq 20, 3) := by decide +kernel
theorem dX1_hidden_28 : decode cX1_hidden 28 = .ok (.iinc 3 1, 3) := by decide +kernel
theorem dX1_hidden_31 : decode cX1_hidden 31 = .ok (.iload 4, 2) := by decide +kernel
theorem dX1_hidden_33 : decode cX1_hidden 33 = .ok (.iconst 1, 1) := by decide +kernel
theorem dX1_hidden_34 : decode cX1_hidden 34 = .ok (.aload_n 0, 1) := by decide +kernel
theorem dX1_hidden_35 : decode cX1_hidden 35 = .ok (.getfield 13, 3) := by decide +kernel
theorem dX1_hidden_38 : decode cX1_hidden 38 = .ok (.iload 5, 2) := by decide +kernel
theorem dX1_hidden_40 : decode cX1_hidden 40 = .ok (.iaload, 1) := by decide +kernel
theorem dX1_hidden_41 : decode cX1_hidden 41 = .ok (.ishl, 1) := by decide +kernel
theorem dX1_hidden_42 : decode cX1_hidden 42 = .ok (.ior, 1) := by decide +kernel
theorem dX1_hidden_43 : decode cX1_hidden 43 = .ok (.istore 4, 2) := by decide +kernel
theorem dX1_hidden_45 : decode cX1_hidden 45 = .ok (.iinc 5 1, 3) := by decide +kernel
theorem dX1_hidden_48 : decode cX1_hidden 48 = .ok (.goto (-40), 3) := by decide +kernel
theorem dX1_hidden_51 : decode cX1_hidden 51 = .ok (.iconst 0, 1) := by decide +kernel
theorem dX1_hidden_52 : decode cX1_hidden 52 = .ok (.istore 5, 2) := by decide +kernel
theorem dX1_hidden_54 : decode cX1_hidden 54 = .ok (.iconst 0, 1) := by decide +kernel
theorem dX1_hidden_55 : decode cX1_hidden 55 = .ok (.istore 6, 2) := by decide +kernel
theorem dX1_hidden_57 : decode cX1_hidden 57 = .ok (.iload 6, 2) := by decide +kernel
theorem dX1_hidden_59 : decode cX1_hidden 59 = .ok (.bipush 8, 2) := by decide +kernel
theorem dX1_hidden_61 : decode cX1_hidden 61 = .ok (.if_icmp .ge 21, 3) := by decide +kernel
theorem dX1_hidden_64 : decode cX1_hidden 64 = .ok (.iload 5, 2) := by decide +kernel
theorem dX1_hidden_66 : decode cX1_hidden 66 = .ok (.iload 4, 2) := by decide +kernel
theorem dX1_hidden_68 : decode cX1_hidden 68 = .ok (.iload 6, 2) := by decide +kernel
theorem dX1_hidden_70 : decode cX1_hidden 70 = .ok (.ishr, 1) := by decide +kernel
theorem dX1_hidden_71 : decode cX1_hidden 71 = .ok (.iconst 1, 1) := by decide +kernel
theorem dX1_hidden_72 : decode cX1_hidden 72 = .ok (.iand, 1) := by decide +kernel
theorem dX1_hidden_73 : decode cX1_hidden 73 = .ok (.iadd, 1) := by decide +kernel
theorem dX1_hidden_74 : decode cX1_hidden 74 = .ok (.istore 5, 2) := by decide +kernel
theorem dX1_hidden_76 : decode cX1_hidden 76 = .ok (.iinc 6 1, 3) := by decide +kernel
theorem dX1_hidden_79 : decode cX1_hidden 79 = .ok (.goto (-22), 3) := by decide +kernel
theorem dX1_hidden_82 : decode cX1_hidden 82 = .ok (.iload_n 3, 1) := by decide +kernel
theorem dX1_hidden_83 : decode cX1_hidden 83 = .ok (.aload_n 0, 1) := by decide +kernel
theorem dX1_hidden_84 : decode cX1_hidden 84 = .ok (.getfield 16, 3) := by decide +kernel
theorem dX1_hidden_87 : decode cX1_hidden 87 = .ok (.if_icmp .lt 16, 3) := by decide +kernel
theorem dX1_hidden_90 : decode cX1_hidden 90 = .ok (.iload 5, 2) := by decide +kernel
theorem dX1_hidden_92 : decode cX1_hidden 92 = .ok (.aload_n 0, 1) := by decide +kernel
theorem dX1_hidden_93 : decode cX1_hidden 93 = .ok (.getfield 20, 3) := by decide +kernel
theorem dX1_hidden_96 : decode cX1_hidden 96 = .ok (.if_icmp .lt 7, 3) := by decide +kernel
theorem dX1_hidden_99 : decode cX1_hidden 99 = .ok (.iconst 1, 1) := by decide +kernel
theorem dX1_hidden_100 : decode cX1_hidden 100 = .ok (.goto 4, 3) := by decide +kernel
theorem dX1_hidden_103 : decode cX1_hidden 103 = .ok (.iconst 0, 1) := by decide +kernel
theorem dX1_hidden_104 : decode cX1_hidden 104 = .ok (.ireturn, 1) := by decide +kernel
theorem dX1_alike_0 : decode cX1_alike 0 = .ok (.iconst 0, 1) := by decide +kernel
theorem dX1_alike_1 : decode cX1_alike 1 = .ok (.istore 4, 2) := by decide +kernel
theorem dX1_alike_3 : decode cX1_alike 3 = .ok (.iload 4, 2) := by decide +kernel
theorem dX1_alike_5 : decode cX1_alike 5 = .ok (.iconst 3, 1) := by decide +kernel
theorem dX1_alike_6 : decode cX1_alike 6 = .ok (.if_icmp .ge 53, 3) := by decide +kernel
theorem dX1_alike_9 : decode cX1_alike 9 = .ok (.iconst 1, 1) := by decide +kernel
theorem dX1_alike_10 : decode cX1_alike 10 = .ok (.aload_n 0, 1) := by decide +kernel
theorem dX1_alike_11 : decode cX1_alike 11 = .ok (.iload_n 1, 1) := by decide +kernel
theorem dX1_alike_12 : decode cX1_alike 12 = .ok (.iload 4, 2) := by decide +kernel
theorem dX1_alike_14 : decode cX1_alike 14 = .ok (.invokevirtual 33, 3) := by decide +kernel
theorem dX1_alike_17 : decode cX1_alike 17 = .ok (.ishl, 1) := by decide +kernel
theorem dX1_alike_18 : decode cX1_alike 18 = .ok (.istore 5, 2) := by decide +kernel
theorem dX1_alike_20 : decode cX1_alike 20 = .ok (.aload_n 0, 1) := by decide +kernel
theorem dX1_alike_21 : decode cX1_alike 21 = .ok (.getfield 7, 3) := by decide +kernel
theorem dX1_alike_24 : decode cX1_alike 24 = .ok (.iload_n 2, 1) := by decide +kernel
theorem dX1_alike_25 : decode cX1_alike 25 = .ok (.iconst 3, 1) := by decide +kernel
theorem dX1_alike_26 : decode cX1_alike 26 = .ok (.imul, 1) := by decide +kernel
theorem dX1_alike_27 : decode cX1_alike 27 = .ok (.iload 4, 2) := by decide +kernel
theorem dX1_alike_29 : decode cX1_alike 29 = .ok (.iadd, 1) := by decide +kernel
theorem dX1_alike_30 : decode cX1_alike 30 = .ok (.iaload, 1) := by decide +kernel
theorem dX1_alike_31 : decode cX1_alike 31 = .ok (.iload 5, 2) := by decide +kernel
theorem dX1_alike_33 : decode cX1_alike 33 = .ok (.idiv, 1) := by decide +kernel
theorem dX1_alike_34 : decode cX1_alike 34 = .ok (.aload_n 0, 1) := by decide +kernel
theorem dX1_alike_35 : decode cX1_alike 35 = .ok (.getfield 7, 3) := by decide +kernel
theorem dX1_alike_38 : decode cX1_alike 38 = .ok (.iload_n 3, 1) := by decide +kernel
theorem dX1_alike_39 : decode cX1_alike 39 = .ok (.iconst 3, 1) := by decide +kernel
theorem dX1_alike_40 : decode cX1_alike 40 = .ok (.imul, 1) := by decide +kernel
theorem dX1_alike_41 : decode cX1_alike 41 = .ok (.iload 4, 2) := by decide +kernel
theorem dX1_alike_43 : decode cX1_alike 43 = .ok (.iadd, 1) := by decide +kernel
theorem dX1_alike_44 : decode cX1_alike 44 = .ok (.iaload, 1) := by decide +kernel
theorem dX1_alike_45 : decode cX1_alike 45 = .ok (.iload 5, 2) := by decide +kernel
theorem dX1_alike_47 : decode cX1_alike 47 = .ok (.idiv, 1) := by decide +kernel
theorem dX1_alike_48 : decode cX1_alike 48 = .ok (.if_icmp .eq 5, 3) := by decide +kernel
theorem dX1_alike_51 : decode cX1_alike 51 = .ok (.iconst 0, 1) := by decide +kernel
theorem dX1_alike_52 : decode cX1_alike 52 = .ok (.ireturn, 1) := by decide +kernel
theorem dX1_alike_53 : decode cX1_alike 53 = .ok (.iinc 4 1, 3) := by decide +kernel
theorem dX1_alike_56 : decode cX1_alike 56 = .ok (.goto (-53), 3) := by decide +kernel
theorem dX1_alike_59 : decode cX1_alike 59 = .ok (.iconst 1, 1) := by decide +kernel
theorem dX1_alike_60 : decode cX1_alike 60 = .ok (.ireturn, 1) := by decide +kernel
theorem dX1_level_0 : decode cX1_level 0 = .ok (.iload_n 2, 1) := by decide +kernel
theorem dX1_level_1 : decode cX1_level 1 = .ok (.ifCond .ne 9, 3) := by decide +kernel
theorem dX1_level_4 : decode cX1_level 4 = .ok (.iload_n 1, 1) := by decide +kernel
theorem dX1_level_5 : decode cX1_level 5 = .ok (.iconst 5, 1) := by decide +kernel
theorem dX1_level_6 : decode cX1_level 6 = .ok (.irem, 1) := by decide +kernel
theorem dX1_level_7 : decode cX1_level 7 = .ok (.goto 20, 3) := by decide +kernel
theorem dX1_level_10 : decode cX1_level 10 = .ok (.iload_n 2, 1) := by decide +kernel
theorem dX1_level_11 : decode cX1_level 11 = .ok (.iconst 1, 1) := by decide +kernel
theorem dX1_level_12 : decode cX1_level 12 = .ok (.if_icmp .ne 11, 3) := by decide +kernel
theorem dX1_level_15 : decode cX1_level 15 = .ok (.iload_n 1, 1) := by decide +kernel
theorem dX1_level_16 : decode cX1_level 16 = .ok (.iconst 5, 1) := by decide +kernel
theorem dX1_level_17 : decode cX1_level 17 = .ok (.idiv, 1) := by decide +kernel
theorem dX1_level_18 : decode cX1_level 18 = .ok (.iconst 5, 1) := by decide +kernel
theorem dX1_level_19 : decode cX1_level 19 = .ok (.irem, 1) := by decide +kernel
theorem dX1_level_20 : decode cX1_level 20 = .ok (.goto 7, 3) := by decide +kernel
theorem dX1_level_23 : decode cX1_level 23 = .ok (.iload_n 1, 1) := by decide +kernel
theorem dX1_level_24 : decode cX1_level 24 = .ok (.bipush 25, 2) := by decide +kernel
theorem dX1_level_26 : decode cX1_level 26 = .ok (.idiv, 1) := by decide +kernel
theorem dX1_level_27 : decode cX1_level 27 = .ok (.ireturn, 1) := by decide +kernel
theorem dX1_good_0 : decode cX1_good 0 = .ok (.aload_n 0, 1) := by decide +kernel
theorem dX1_good_1 : decode cX1_good 1 = .ok (.iload_n 1, 1) := by decide +kernel
theorem dX1_good_2 : decode cX1_good 2 = .ok (.invokevirtual 41, 3) := by decide +kernel
theorem dX1_good_5 : decode cX1_good 5 = .ok (.ifCond .eq 19, 3) := by decide +kernel
theorem dX1_good_8 : decode cX1_good 8 = .ok (.aload_n 0, 1) := by decide +kernel
theorem dX1_good_9 : decode cX1_good 9 = .ok (.iload_n 1, 1) := by decide +kernel
theorem dX1_good_10 : decode cX1_good 10 = .ok (.invokevirtual 49, 3) := by decide +kernel
theorem dX1_good_13 : decode cX1_good 13 = .ok (.aload_n 0, 1) := by decide +kernel
theorem dX1_good_14 : decode cX1_good 14 = .ok (.getfield 30, 3) := by decide +kernel
theorem dX1_good_17 : decode cX1_good 17 = .ok (.if_icmp .gt 7, 3) := by decide +kernel
theorem dX1_good_20 : decode cX1_good 20 = .ok (.iconst 1, 1) := by decide +kernel
theorem dX1_good_21 : decode cX1_good 21 = .ok (.goto 4, 3) := by decide +kernel
theorem dX1_good_24 : decode cX1_good 24 = .ok (.iconst 0, 1) := by decide +kernel
theorem dX1_good_25 : decode cX1_good 25 = .ok (.ireturn, 1) := by decide +kernel
theorem dX1_goodSettings_0 : decode cX1_goodSettings 0 = .ok (.iconst 0, 1) := by decide +kernel
theorem dX1_goodSettings_1 : decode cX1_goodSettings 1 = .ok (.istore_n 1, 1) := by decide +kernel
theorem dX1_goodSettings_2 : decode cX1_goodSettings 2 = .ok (.aload_n 0, 1) := by decide +kernel
theorem dX1_goodSettings_3 : decode cX1_goodSettings 3 = .ok (.invokevirtual 56, 3) := by decide +kernel
theorem dX1_goodSettings_6 : decode cX1_goodSettings 6 = .ok (.iconst 0, 1) := by decide +kernel
theorem dX1_goodSettings_7 : decode cX1_goodSettings 7 = .ok (.istore_n 2, 1) := by decide +kernel
theorem dX1_goodSettings_8 : decode cX1_goodSettings 8 = .ok (.iload_n 2, 1) := by decide +kernel
theorem dX1_goodSettings_9 : decode cX1_goodSettings 9 = .ok (.bipush 125, 2) := by decide +kernel
theorem dX1_goodSettings_11 : decode cX1_goodSettings 11 = .ok (.if_icmp .ge 21, 3) := by decide +kernel
theorem dX1_goodSettings_14 : decode cX1_goodSettings 14 = .ok (.aload_n 0, 1) := by decide +kernel
theorem dX1_goodSettings_15 : decode cX1_goodSettings 15 = .ok (.getfield 23, 3) := by decide +kernel
theorem dX1_goodSettings_18 : decode cX1_goodSettings 18 = .ok (.iload_n 2, 1) := by decide +kernel
theorem dX1_goodSettings_19 : decode cX1_goodSettings 19 = .ok (.baload, 1) := by decide +kernel
theorem dX1_goodSettings_20 : decode cX1_goodSettings 20 = .ok (.ifCond .eq 6, 3) := by decide +kernel
theorem dX1_goodSettings_23 : decode cX1_goodSettings 23 = .ok (.iinc 1 1, 3) := by decide +kernel
theorem dX1_goodSettings_26 : decode cX1_goodSettings 26 = .ok (.iinc 2 1, 3) := by decide +kernel
theorem dX1_goodSettings_29 : decode cX1_goodSettings 29 = .ok (.goto (-21), 3) := by decide +kernel
theorem dX1_goodSettings_32 : decode cX1_goodSettings 32 = .ok (.iload_n 1, 1) := by decide +kernel
theorem dX1_goodSettings_33 : decode cX1_goodSettings 33 = .ok (.ireturn, 1) := by decide +kernel
theorem dX1_judge_0 : decode cX1_judge 0 = .ok (.iconst 0, 1) := by decide +kernel
theorem dX1_judge_1 : decode cX1_judge 1 = .ok (.istore_n 1, 1) := by decide +kernel
theorem dX1_judge_2 : decode cX1_judge 2 = .ok (.iload_n 1, 1) := by decide +kernel
theorem dX1_judge_3 : decode cX1_judge 3 = .ok (.bipush 125, 2) := by decide +kernel
theorem dX1_judge_5 : decode cX1_judge 5 = .ok (.if_icmp .ge 20, 3) := by decide +kernel
theorem dX1_judge_8 : decode cX1_judge 8 = .ok (.aload_n 0, 1) := by decide +kernel
theorem dX1_judge_9 : decode cX1_judge 9 = .ok (.getfield 23, 3) := by decide +kernel
theorem dX1_judge_12 : decode cX1_judge 12 = .ok (.iload_n 1, 1) := by decide +kernel
theorem dX1_judge_13 : decode cX1_judge 13 = .ok (.aload_n 0, 1) := by decide +kernel
theorem dX1_judge_14 : decode cX1_judge 14 = .ok (.iload_n 1, 1) := by decide +kernel
theorem dX1_judge_15 : decode cX1_judge 15 = .ok (.invokevirtual 53, 3) := by decide +kernel
theorem dX1_judge_18 : decode cX1_judge 18 = .ok (.bastore, 1) := by decide +kernel
theorem dX1_judge_19 : decode cX1_judge 19 = .ok (.iinc 1 1, 3) := by decide +kernel
theorem dX1_judge_22 : decode cX1_judge 22 = .ok (.goto (-20), 3) := by decide +kernel
theorem dX1_judge_25 : decode cX1_judge 25 = .ok (.return_, 1) := by decide +kernel
theorem dX1_finest_0 : decode cX1_finest 0 = .ok (.iconst 0, 1) := by decide +kernel
theorem dX1_finest_1 : decode cX1_finest 1 = .ok (.istore_n 1, 1) := by decide +kernel
theorem dX1_finest_2 : decode cX1_finest 2 = .ok (.aload_n 0, 1) := by decide +kernel
theorem dX1_finest_3 : decode cX1_finest 3 = .ok (.invokevirtual 56, 3) := by decide +kernel
theorem dX1_finest_6 : decode cX1_finest 6 = .ok (.iconst 0, 1) := by decide +kernel
theorem dX1_finest_7 : decode cX1_finest 7 = .ok (.istore_n 2, 1) := by decide +kernel
theorem dX1_finest_8 : decode cX1_finest 8 = .ok (.iload_n 2, 1) := by decide +kernel
theorem dX1_finest_9 : decode cX1_finest 9 = .ok (.bipush 125, 2) := by decide +kernel
theorem dX1_finest_11 : decode cX1_finest 11 = .ok (.if_icmp .ge 20, 3) := by decide +kernel
theorem dX1_finest_14 : decode cX1_finest 14 = .ok (.aload_n 0, 1) := by decide +kernel
theorem dX1_finest_15 : decode cX1_finest 15 = .ok (.iload_n 2, 1) := by decide +kernel
theorem dX1_finest_16 : decode cX1_finest 16 = .ok (.invokevirtual 62, 3) := by decide +kernel
theorem dX1_finest_19 : decode cX1_finest 19 = .ok (.ifCond .eq 6, 3) := by decide +kernel
theorem dX1_finest_22 : decode cX1_finest 22 = .ok (.iinc 1 1, 3) := by decide +kernel
theorem dX1_finest_25 : decode cX1_finest 25 = .ok (.iinc 2 1, 3) := by decide +kernel
theorem dX1_finest_28 : decode cX1_finest 28 = .ok (.goto (-20), 3) := by decide +kernel
theorem dX1_finest_31 : decode cX1_finest 31 = .ok (.iload_n 1, 1) := by decide +kernel
theorem dX1_finest_32 : decode cX1_finest 32 = .ok (.ireturn, 1) := by decide +kernel
theorem dX1_isFinest_0 : decode cX1_isFinest 0 = .ok (.aload_n 0, 1) := by decide +kernel
theorem dX1_isFinest_1 : decode cX1_isFinest 1 = .ok (.getfield 23, 3) := by decide +kernel
theorem dX1_isFinest_4 : decode cX1_isFinest 4 = .ok (.iload_n 1, 1) := by decide +kernel
theorem dX1_isFinest_5 : decode cX1_isFinest 5 = .ok (.baload, 1) := by decide +kernel
theorem dX1_isFinest_6 : decode cX1_isFinest 6 = .ok (.ifCond .ne 5, 3) := by decide +kernel
theorem dX1_isFinest_9 : decode cX1_isFinest 9 = .ok (.iconst 0, 1) := by decide +kernel
theorem dX1_isFinest_10 : decode cX1_isFinest 10 = .ok (.ireturn, 1) := by decide +kernel
theorem dX1_isFinest_11 : decode cX1_isFinest 11 = .ok (.iconst 0, 1) := by decide +kernel
theorem dX1_isFinest_12 : decode cX1_isFinest 12 = .ok (.istore_n 2, 1) := by decide +kernel
theorem dX1_isFinest_13 : decode cX1_isFinest 13 = .ok (.iload_n 2, 1) := by decide +kernel
theorem dX1_isFinest_14 : decode cX1_isFinest 14 = .ok (.bipush 125, 2) := by decide +kernel
theorem dX1_isFinest_16 : decode cX1_isFinest 16 = .ok (.if_icmp .ge 29, 3) := by decide +kernel
theorem dX1_isFinest_19 : decode cX1_isFinest 19 = .ok (.aload_n 0, 1) := by decide +kernel
theorem dX1_isFinest_20 : decode cX1_isFinest 20 = .ok (.getfield 23, 3) := by decide +kernel
theorem dX1_isFinest_23 : decode cX1_isFinest 23 = .ok (.iload_n 2, 1) := by decide +kernel
theorem dX1_isFinest_24 : decode cX1_isFinest 24 = .ok (.baload, 1) := by decide +kernel
theorem dX1_isFinest_25 : decode cX1_isFinest 25 = .ok (.ifCond .eq 14, 3) := by decide +kernel
theorem dX1_isFinest_28 : decode cX1_isFinest 28 = .ok (.aload_n 0, 1) := by decide +kernel
theorem dX1_isFinest_29 : decode cX1_isFinest 29 = .ok (.iload_n 1, 1) := by decide +kernel
theorem dX1_isFinest_30 : decode cX1_isFinest 30 = .ok (.iload_n 2, 1) := by decide +kernel
theorem dX1_isFinest_31 : decode cX1_isFinest 31 = .ok (.invokevirtual 59, 3) := by decide +kernel
theorem dX1_isFinest_34 : decode cX1_isFinest 34 = .ok (.ifCond .eq 5, 3) := by decide +kernel
theorem dX1_isFinest_37 : decode cX1_isFinest 37 = .ok (.iconst 0, 1) := by decide +kernel
theorem dX1_isFinest_38 : decode cX1_isFinest 38 = .ok (.ireturn, 1) := by decide +kernel
theorem dX1_isFinest_39 : decode cX1_isFinest 39 = .ok (.iinc 2 1, 3) := by decide +kernel
theorem dX1_isFinest_42 : decode cX1_isFinest 42 = .ok (.goto (-29), 3) := by decide +kernel
theorem dX1_isFinest_45 : decode cX1_isFinest 45 = .ok (.iconst 1, 1) := by decide +kernel
theorem dX1_isFinest_46 : decode cX1_isFinest 46 = .ok (.ireturn, 1) := by decide +kernel
theorem dX1_coarser_0 : decode cX1_coarser 0 = .ok (.iconst 0, 1) := by decide +kernel
theorem dX1_coarser_1 : decode cX1_coarser 1 = .ok (.istore_n 3, 1) := by decide +kernel
theorem dX1_coarser_2 : decode cX1_coarser 2 = .ok (.iload_n 3, 1) := by decide +kernel
theorem dX1_coarser_3 : decode cX1_coarser 3 = .ok (.iconst 3, 1) := by decide +kernel
theorem dX1_coarser_4 : decode cX1_coarser 4 = .ok (.if_icmp .ge 26, 3) := by decide +kernel
theorem dX1_coarser_7 : decode cX1_coarser 7 = .ok (.aload_n 0, 1) := by decide +kernel
theorem dX1_coarser_8 : decode cX1_coarser 8 = .ok (.iload_n 1, 1) := by decide +kernel
theorem dX1_coarser_9 : decode cX1_coarser 9 = .ok (.iload_n 3, 1) := by decide +kernel
theorem dX1_coarser_10 : decode cX1_coarser 10 = .ok (.invokevirtual 33, 3) := by decide +kernel
theorem dX1_coarser_13 : decode cX1_coarser 13 = .ok (.aload_n 0, 1) := by decide +kernel
theorem dX1_coarser_14 : decode cX1_coarser 14 = .ok (.iload_n 2, 1) := by decide +kernel
theorem dX1_coarser_15 : decode cX1_coarser 15 = .ok (.iload_n 3, 1) := by decide +kernel
theorem dX1_coarser_16 : decode cX1_coarser 16 = .ok (.invokevirtual 33, 3) := by decide +kernel
theorem dX1_coarser_19 : decode cX1_coarser 19 = .ok (.if_icmp .ge 5, 3) := by decide +kernel
theorem dX1_coarser_22 : decode cX1_coarser 22 = .ok (.iconst 0, 1) := by decide +kernel
theorem dX1_coarser_23 : decode cX1_coarser 23 = .ok (.ireturn, 1) := by decide +kernel
theorem dX1_coarser_24 : decode cX1_coarser 24 = .ok (.iinc 3 1, 3) := by decide +kernel
theorem dX1_coarser_27 : decode cX1_coarser 27 = .ok (.goto (-25), 3) := by decide +kernel
theorem dX1_coarser_30 : decode cX1_coarser 30 = .ok (.iload_n 1, 1) := by decide +kernel
theorem dX1_coarser_31 : decode cX1_coarser 31 = .ok (.iload_n 2, 1) := by decide +kernel
theorem dX1_coarser_32 : decode cX1_coarser 32 = .ok (.if_icmp .eq 7, 3) := by decide +kernel
theorem dX1_coarser_35 : decode cX1_coarser 35 = .ok (.iconst 1, 1) := by decide +kernel
theorem dX1_coarser_36 : decode cX1_coarser 36 = .ok (.goto 4, 3) := by decide +kernel
theorem dX1_coarser_39 : decode cX1_coarser 39 = .ok (.iconst 0, 1) := by decide +kernel
theorem dX1_coarser_40 : decode cX1_coarser 40 = .ok (.ireturn, 1) := by decide +kernel
theorem dX1_finestAt_0 : decode cX1_finestAt 0 = .ok (.iconst 0, 1) := by decide +kernel
theorem dX1_finestAt_1 : decode cX1_finestAt 1 = .ok (.istore_n 2, 1) := by decide +kernel
theorem dX1_finestAt_2 : decode cX1_finestAt 2 = .ok (.aload_n 0, 1) := by decide +kernel
theorem dX1_finestAt_3 : decode cX1_finestAt 3 = .ok (.invokevirtual 56, 3) := by decide +kernel
theorem dX1_finestAt_6 : decode cX1_finestAt 6 = .ok (.iconst 0, 1) := by decide +kernel
theorem dX1_finestAt_7 : decode cX1_finestAt 7 = .ok (.istore_n 3, 1) := by decide +kernel
theorem dX1_finestAt_8 : decode cX1_finestAt 8 = .ok (.iload_n 3, 1) := by decide +kernel
theorem dX1_finestAt_9 : decode cX1_finestAt 9 = .ok (.bipush 125, 2) := by decide +kernel
theorem dX1_finestAt_11 : decode cX1_finestAt 11 = .ok (.if_icmp .ge 27, 3) := by decide +kernel
theorem dX1_finestAt_14 : decode cX1_finestAt 14 = .ok (.aload_n 0, 1) := by decide +kernel
theorem dX1_finestAt_15 : decode cX1_finestAt 15 = .ok (.iload_n 3, 1) := by decide +kernel
theorem dX1_finestAt_16 : decode cX1_finestAt 16 = .ok (.invokevirtual 62, 3) := by decide +kernel
theorem dX1_finestAt_19 : decode cX1_finestAt 19 = .ok (.ifCond .eq 13, 3) := by decide +kernel
theorem dX1_finestAt_22 : decode cX1_finestAt 22 = .ok (.iload_n 2, 1) := by decide +kernel
theorem dX1_finestAt_23 : decode cX1_finestAt 23 = .ok (.iload_n 1, 1) := by decide +kernel
theorem dX1_finestAt_24 : decode cX1_finestAt 24 = .ok (.if_icmp .ne 5, 3) := by decide +kernel
theorem dX1_finestAt_27 : decode cX1_finestAt 27 = .ok (.iload_n 3, 1) := by decide +kernel
theorem dX1_finestAt_28 : decode cX1_finestAt 28 = .ok (.ireturn, 1) := by decide +kernel
theorem dX1_finestAt_29 : decode cX1_finestAt 29 = .ok (.iinc 2 1, 3) := by decide +kernel
theorem dX1_finestAt_32 : decode cX1_finestAt 32 = .ok (.iinc 3 1, 3) := by decide +kernel
theorem dX1_finestAt_35 : decode cX1_finestAt 35 = .ok (.goto (-27), 3) := by decide +kernel
theorem dX1_finestAt_38 : decode cX1_finestAt 38 = .ok (.bipush (-5), 2) := by decide +kernel
theorem dX1_finestAt_40 : decode cX1_finestAt 40 = .ok (.ireturn, 1) := by decide +kernel
theorem dX1_best_0 : decode cX1_best 0 = .ok (.bipush (-5), 2) := by decide +kernel
theorem dX1_best_2 : decode cX1_best 2 = .ok (.istore_n 1, 1) := by decide +kernel
theorem dX1_best_3 : decode cX1_best 3 = .ok (.aload_n 0, 1) := by decide +kernel
theorem dX1_best_4 : decode cX1_best 4 = .ok (.invokevirtual 56, 3) := by decide +kernel
theorem dX1_best_7 : decode cX1_best 7 = .ok (.iconst 0, 1) := by decide +kernel
theorem dX1_best_8 : decode cX1_best 8 = .ok (.istore_n 2, 1) := by decide +kernel
theorem dX1_best_9 : decode cX1_best 9 = .ok (.iload_n 2, 1) := by decide +kernel
theorem dX1_best_10 : decode cX1_best 10 = .ok (.bipush 125, 2) := by decide +kernel
theorem dX1_best_12 : decode cX1_best 12 = .ok (.if_icmp .ge 37, 3) := by decide +kernel
theorem dX1_best_15 : decode cX1_best 15 = .ok (.aload_n 0, 1) := by decide +kernel
theorem dX1_best_16 : decode cX1_best 16 = .ok (.getfield 23, 3) := by decide +kernel
theorem dX1_best_19 : decode cX1_best 19 = .ok (.iload_n 2, 1) := by decide +kernel
theorem dX1_best_20 : decode cX1_best 20 = .ok (.baload, 1) := by decide +kernel
theorem dX1_best_21 : decode cX1_best 21 = .ok (.ifCond .eq 22, 3) := by decide +kernel
theorem dX1_best_24 : decode cX1_best 24 = .ok (.iload_n 1, 1) := by decide +kernel
theorem dX1_best_25 : decode cX1_best 25 = .ok (.ifCond .lt 16, 3) := by decide +kernel
theorem dX1_best_28 : decode cX1_best 28 = .ok (.aload_n 0, 1) := by decide +kernel
theorem dX1_best_29 : decode cX1_best 29 = .ok (.iload_n 2, 1) := by decide +kernel
theorem dX1_best_30 : decode cX1_best 30 = .ok (.invokevirtual 65, 3) := by decide +kernel
theorem dX1_best_33 : decode cX1_best 33 = .ok (.aload_n 0, 1) := by decide +kernel
theorem dX1_best_34 : decode cX1_best 34 = .ok (.iload_n 1, 1) := by decide +kernel
theorem dX1_best_35 : decode cX1_best 35 = .ok (.invokevirtual 65, 3) := by decide +kernel
theorem dX1_best_38 : decode cX1_best 38 = .ok (.if_icmp .ge 5, 3) := by decide +kernel
theorem dX1_best_41 : decode cX1_best 41 = .ok (.iload_n 2, 1) := by decide +kernel
theorem dX1_best_42 : decode cX1_best 42 = .ok (.istore_n 1, 1) := by decide +kernel
theorem dX1_best_43 : decode cX1_best 43 = .ok (.iinc 2 1, 3) := by decide +kernel
theorem dX1_best_46 : decode cX1_best 46 = .ok (.goto (-37), 3) := by decide +kernel
theorem dX1_best_49 : decode cX1_best 49 = .ok (.iload_n 1, 1) := by decide +kernel
theorem dX1_best_50 : decode cX1_best 50 = .ok (.ireturn, 1) := by decide +kernel
theorem dX1_sum_0 : decode cX1_sum 0 = .ok (.aload_n 0, 1) := by decide +kernel
theorem dX1_sum_1 : decode cX1_sum 1 = .ok (.iload_n 1, 1) := by decide +kernel
theorem dX1_sum_2 : decode cX1_sum 2 = .ok (.iconst 0, 1) := by decide +kernel
theorem dX1_sum_3 : decode cX1_sum 3 = .ok (.invokevirtual 33, 3) := by decide +kernel
theorem dX1_sum_6 : decode cX1_sum 6 = .ok (.aload_n 0, 1) := by decide +kernel
theorem dX1_sum_7 : decode cX1_sum 7 = .ok (.iload_n 1, 1) := by decide +kernel
theorem dX1_sum_8 : decode cX1_sum 8 = .ok (.iconst 1, 1) := by decide +kernel
theorem dX1_sum_9 : decode cX1_sum 9 = .ok (.invokevirtual 33, 3) := by decide +kernel
theorem dX1_sum_12 : decode cX1_sum 12 = .ok (.iadd, 1) := by decide +kernel
theorem dX1_sum_13 : decode cX1_sum 13 = .ok (.aload_n 0, 1) := by decide +kernel
theorem dX1_sum_14 : decode cX1_sum 14 = .ok (.iload_n 1, 1) := by decide +kernel
theorem dX1_sum_15 : decode cX1_sum 15 = .ok (.iconst 2, 1) := by decide +kernel
theorem dX1_sum_16 : decode cX1_sum 16 = .ok (.invokevirtual 33, 3) := by decide +kernel
theorem dX1_sum_19 : decode cX1_sum 19 = .ok (.iadd, 1) := by decide +kernel
theorem dX1_sum_20 : decode cX1_sum 20 = .ok (.ireturn, 1) := by decide +kernel
theorem dX1_groups_0 : decode cX1_groups 0 = .ok (.aload_n 0, 1) := by decide +kernel
theorem dX1_groups_1 : decode cX1_groups 1 = .ok (.iload_n 1, 1) := by decide +kernel
theorem dX1_groups_2 : decode cX1_groups 2 = .ok (.invokevirtual 41, 3) := by decide +kernel
theorem dX1_groups_5 : decode cX1_groups 5 = .ok (.ifCond .ne 6, 3) := by decide +kernel
theorem dX1_groups_8 : decode cX1_groups 8 = .ok (.bipush (-4), 2) := by decide +kernel
theorem dX1_groups_10 : decode cX1_groups 10 = .ok (.ireturn, 1) := by decide +kernel
theorem dX1_groups_11 : decode cX1_groups 11 = .ok (.iconst 0, 1) := by decide +kernel
theorem dX1_groups_12 : decode cX1_groups 12 = .ok (.istore_n 2, 1) := by decide +kernel
theorem dX1_groups_13 : decode cX1_groups 13 = .ok (.iconst 0, 1) := by decide +kernel
theorem dX1_groups_14 : decode cX1_groups 14 = .ok (.istore_n 3, 1) := by decide +kernel
theorem dX1_groups_15 : decode cX1_groups 15 = .ok (.iload_n 3, 1) := by decide +kernel
theorem dX1_groups_16 : decode cX1_groups 16 = .ok (.aload_n 0, 1) := by decide +kernel
theorem dX1_groups_17 : decode cX1_groups 17 = .ok (.getfield 27, 3) := by decide +kernel
theorem dX1_groups_20 : decode cX1_groups 20 = .ok (.if_icmp .ge 44, 3) := by decide +kernel
theorem dX1_groups_23 : decode cX1_groups 23 = .ok (.iconst 0, 1) := by decide +kernel
theorem dX1_groups_24 : decode cX1_groups 24 = .ok (.istore 4, 2) := by decide +kernel
theorem dX1_groups_26 : decode cX1_groups 26 = .ok (.iload 4, 2) := by decide +kernel
theorem dX1_groups_28 : decode cX1_groups 28 = .ok (.iload_n 3, 1) := by decide +kernel
theorem dX1_groups_29 : decode cX1_groups 29 = .ok (.if_icmp .ge 20, 3) := by decide +kernel
theorem dX1_groups_32 : decode cX1_groups 32 = .ok (.aload_n 0, 1) := by decide +kernel
theorem dX1_groups_33 : decode cX1_groups 33 = .ok (.iload_n 1, 1) := by decide +kernel
theorem dX1_groups_34 : decode cX1_groups 34 = .ok (.iload 4, 2) := by decide +kernel
theorem dX1_groups_36 : decode cX1_groups 36 = .ok (.iload_n 3, 1) := by decide +kernel
theorem dX1_groups_37 : decode cX1_groups 37 = .ok (.invokevirtual 37, 3) := by decide +kernel
theorem dX1_groups_40 : decode cX1_groups 40 = .ok (.ifCond .ne 9, 3) := by decide +kernel
theorem dX1_groups_43 : decode cX1_groups 43 = .ok (.iinc 4 1, 3) := by decide +kernel
theorem dX1_groups_46 : decode cX1_groups 46 = .ok (.goto (-20), 3) := by decide +kernel
theorem dX1_groups_49 : decode cX1_groups 49 = .ok (.iload 4, 2) := by decide +kernel
theorem dX1_groups_51 : decode cX1_groups 51 = .ok (.iload_n 3, 1) := by decide +kernel
theorem dX1_groups_52 : decode cX1_groups 52 = .ok (.if_icmp .ne 6, 3) := by decide +kernel
theorem dX1_groups_55 : decode cX1_groups 55 = .ok (.iinc 2 1, 3) := by decide +kernel
theorem dX1_groups_58 : decode cX1_groups 58 = .ok (.iinc 3 1, 3) := by decide +kernel
theorem dX1_groups_61 : decode cX1_groups 61 = .ok (.goto (-46), 3) := by decide +kernel
theorem dX1_groups_64 : decode cX1_groups 64 = .ok (.iload_n 2, 1) := by decide +kernel
theorem dX1_groups_65 : decode cX1_groups 65 = .ok (.ireturn, 1) := by decide +kernel
theorem dX1_lookAlike_0 : decode cX1_lookAlike 0 = .ok (.aload_n 0, 1) := by decide +kernel
theorem dX1_lookAlike_1 : decode cX1_lookAlike 1 = .ok (.iload_n 1, 1) := by decide +kernel
theorem dX1_lookAlike_2 : decode cX1_lookAlike 2 = .ok (.invokevirtual 41, 3) := by decide +kernel
theorem dX1_lookAlike_5 : decode cX1_lookAlike 5 = .ok (.ifCond .ne 6, 3) := by decide +kernel
theorem dX1_lookAlike_8 : decode cX1_lookAlike 8 = .ok (.bipush (-4), 2) := by decide +kernel
theorem dX1_lookAlike_10 : decode cX1_lookAlike 10 = .ok (.ireturn, 1) := by decide +kernel
theorem dX1_lookAlike_11 : decode cX1_lookAlike 11 = .ok (.iload_n 2, 1) := by decide +kernel
theorem dX1_lookAlike_12 : decode cX1_lookAlike 12 = .ok (.ifCond .lt 11, 3) := by decide +kernel
theorem dX1_lookAlike_15 : decode cX1_lookAlike 15 = .ok (.iload_n 2, 1) := by decide +kernel
theorem dX1_lookAlike_16 : decode cX1_lookAlike 16 = .ok (.aload_n 0, 1) := by decide +kernel
theorem dX1_lookAlike_17 : decode cX1_lookAlike 17 = .ok (.getfield 27, 3) := by decide +kernel
theorem dX1_lookAlike_20 : decode cX1_lookAlike 20 = .ok (.if_icmp .lt 6, 3) := by decide +kernel
theorem dX1_lookAlike_23 : decode cX1_lookAlike 23 = .ok (.bipush (-3), 2) := by decide +kernel
theorem dX1_lookAlike_25 : decode cX1_lookAlike 25 = .ok (.ireturn, 1) := by decide +kernel
theorem dX1_lookAlike_26 : decode cX1_lookAlike 26 = .ok (.iconst 0, 1) := by decide +kernel
theorem dX1_lookAlike_27 : decode cX1_lookAlike 27 = .ok (.istore_n 3, 1) := by decide +kernel
theorem dX1_lookAlike_28 : decode cX1_lookAlike 28 = .ok (.iconst 0, 1) := by decide +kernel
theorem dX1_lookAlike_29 : decode cX1_lookAlike 29 = .ok (.istore 4, 2) := by decide +kernel
theorem dX1_lookAlike_31 : decode cX1_lookAlike 31 = .ok (.iload 4, 2) := by decide +kernel
theorem dX1_lookAlike_33 : decode cX1_lookAlike 33 = .ok (.aload_n 0, 1) := by decide +kernel
theorem dX1_lookAlike_34 : decode cX1_lookAlike 34 = .ok (.getfield 27, 3) := by decide +kernel
theorem dX1_lookAlike_37 : decode cX1_lookAlike 37 = .ok (.if_icmp .ge 23, 3) := by decide +kernel
theorem dX1_lookAlike_40 : decode cX1_lookAlike 40 = .ok (.aload_n 0, 1) := by decide +kernel
theorem dX1_lookAlike_41 : decode cX1_lookAlike 41 = .ok (.iload_n 1, 1) := by decide +kernel
theorem dX1_lookAlike_42 : decode cX1_lookAlike 42 = .ok (.iload_n 2, 1) := by decide +kernel
theorem dX1_lookAlike_43 : decode cX1_lookAlike 43 = .ok (.iload 4, 2) := by decide +kernel
theorem dX1_lookAlike_45 : decode cX1_lookAlike 45 = .ok (.invokevirtual 37, 3) := by decide +kernel
theorem dX1_lookAlike_48 : decode cX1_lookAlike 48 = .ok (.ifCond .eq 6, 3) := by decide +kernel
theorem dX1_lookAlike_51 : decode cX1_lookAlike 51 = .ok (.iinc 3 1, 3) := by decide +kernel
theorem dX1_lookAlike_54 : decode cX1_lookAlike 54 = .ok (.iinc 4 1, 3) := by decide +kernel
theorem dX1_lookAlike_57 : decode cX1_lookAlike 57 = .ok (.goto (-26), 3) := by decide +kernel
theorem dX1_lookAlike_60 : decode cX1_lookAlike 60 = .ok (.iload_n 3, 1) := by decide +kernel
theorem dX1_lookAlike_61 : decode cX1_lookAlike 61 = .ok (.ireturn, 1) := by decide +kernel
end
section
set_option maxRecDepth 100000
abbrev cL_law : ByteArray := code
theorem dL_law_0 : decode cL_law 0 = .ok (.new 7, 3) := by decide +kernel
theorem dL_law_3 : decode cL_law 3 = .ok (.dup, 1) := by decide +kernel
theorem dL_law_4 : decode cL_law 4 = .ok (.invokespecial 9, 3) := by decide +kernel
theorem dL_law_7 : decode cL_law 7 = .ok (.astore_n 1, 1) := by decide +kernel
theorem dL_law_8 : decode cL_law 8 = .ok (.new 10, 3) := by decide +kernel
theorem dL_law_11 : decode cL_law 11 = .ok (.dup, 1) := by decide +kernel
theorem dL_law_12 : decode cL_law 12 = .ok (.invokespecial 12, 3) := by decide +kernel
theorem dL_law_15 : decode cL_law 15 = .ok (.astore_n 2, 1) := by decide +kernel
theorem dL_law_16 : decode cL_law 16 = .ok (.iconst 0, 1) := by decide +kernel
theorem dL_law_17 : decode cL_law 17 = .ok (.istore_n 3, 1) := by decide +kernel
theorem dL_law_18 : decode cL_law 18 = .ok (.iload_n 3, 1) := by decide +kernel
theorem dL_law_19 : decode cL_law 19 = .ok (.aload_n 0, 1) := by decide +kernel
theorem dL_law_20 : decode cL_law 20 = .ok (.arraylength, 1) := by decide +kernel
theorem dL_law_21 : decode cL_law 21 = .ok (.iconst 4, 1) := by decide +kernel
theorem dL_law_22 : decode cL_law 22 = .ok (.isub, 1) := by decide +kernel
theorem dL_law_23 : decode cL_law 23 = .ok (.if_icmp .gt 328, 3) := by decide +kernel
theorem dL_law_26 : decode cL_law 26 = .ok (.aload_n 0, 1) := by decide +kernel
theorem dL_law_27 : decode cL_law 27 = .ok (.iload_n 3, 1) := by decide +kernel
theorem dL_law_28 : decode cL_law 28 = .ok (.iaload, 1) := by decide +kernel
theorem dL_law_29 : decode cL_law 29 = .ok (.bipush 15, 2) := by decide +kernel
theorem dL_law_31 : decode cL_law 31 = .ok (.iand, 1) := by decide +kernel
theorem dL_law_32 : decode cL_law 32 = .ok (.tableswitch 313 0 10 #[60, 93, 106, 149, 172, 195, 208, 221, 244, 257, 280], 60) := by decide +kernel
theorem dL_law_92 : decode cL_law 92 = .ok (.aload_n 1, 1) := by decide +kernel
theorem dL_law_93 : decode cL_law 93 = .ok (.aload_n 0, 1) := by decide +kernel
theorem dL_law_94 : decode cL_law 94 = .ok (.iload_n 3, 1) := by decide +kernel
theorem dL_law_95 : decode cL_law 95 = .ok (.iconst 1, 1) := by decide +kernel
theorem dL_law_96 : decode cL_law 96 = .ok (.iadd, 1) := by decide +kernel
theorem dL_law_97 : decode cL_law 97 = .ok (.iaload, 1) := by decide +kernel
theorem dL_law_98 : decode cL_law 98 = .ok (.aload_n 0, 1) := by decide +kernel
theorem dL_law_99 : decode cL_law 99 = .ok (.iload_n 3, 1) := by decide +kernel
theorem dL_law_100 : decode cL_law 100 = .ok (.iconst 2, 1) := by decide +kernel
theorem dL_law_101 : decode cL_law 101 = .ok (.iadd, 1) := by decide +kernel
theorem dL_law_102 : decode cL_law 102 = .ok (.iaload, 1) := by decide +kernel
theorem dL_law_103 : decode cL_law 103 = .ok (.invokevirtual 13, 3) := by decide +kernel
theorem dL_law_106 : decode cL_law 106 = .ok (.aload_n 2, 1) := by decide +kernel
theorem dL_law_107 : decode cL_law 107 = .ok (.aload_n 0, 1) := by decide +kernel
theorem dL_law_108 : decode cL_law 108 = .ok (.iload_n 3, 1) := by decide +kernel
theorem dL_law_109 : decode cL_law 109 = .ok (.iconst 1, 1) := by decide +kernel
theorem dL_law_110 : decode cL_law 110 = .ok (.iadd, 1) := by decide +kernel
theorem dL_law_111 : decode cL_law 111 = .ok (.iaload, 1) := by decide +kernel
theorem dL_law_112 : decode cL_law 112 = .ok (.aload_n 0, 1) := by decide +kernel
theorem dL_law_113 : decode cL_law 113 = .ok (.iload_n 3, 1) := by decide +kernel
theorem dL_law_114 : decode cL_law 114 = .ok (.iconst 2, 1) := by decide +kernel
theorem dL_law_115 : decode cL_law 115 = .ok (.iadd, 1) := by decide +kernel
theorem dL_law_116 : decode cL_law 116 = .ok (.iaload, 1) := by decide +kernel
theorem dL_law_117 : decode cL_law 117 = .ok (.invokevirtual 17, 3) := by decide +kernel
theorem dL_law_120 : decode cL_law 120 = .ok (.if_icmp .eq 225, 3) := by decide +kernel
theorem dL_law_123 : decode cL_law 123 = .ok (.iconst 0, 1) := by decide +kernel
theorem dL_law_124 : decode cL_law 124 = .ok (.ireturn, 1) := by decide +kernel
theorem dL_law_125 : decode cL_law 125 = .ok (.aload_n 1, 1) := by decide +kernel
theorem dL_law_126 : decode cL_law 126 = .ok (.invokevirtual 18, 3) := by decide +kernel
theorem dL_law_129 : decode cL_law 129 = .ok (.aload_n 2, 1) := by decide +kernel
theorem dL_law_130 : decode cL_law 130 = .ok (.invokevirtual 22, 3) := by decide +kernel
theorem dL_law_133 : decode cL_law 133 = .ok (.if_icmp .eq 212, 3) := by decide +kernel
theorem dL_law_136 : decode cL_law 136 = .ok (.iconst 0, 1) := by decide +kernel
theorem dL_law_137 : decode cL_law 137 = .ok (.ireturn, 1) := by decide +kernel
theorem dL_law_138 : decode cL_law 138 = .ok (.aload_n 1, 1) := by decide +kernel
theorem dL_law_139 : decode cL_law 139 = .ok (.aload_n 0, 1) := by decide +kernel
theorem dL_law_140 : decode cL_law 140 = .ok (.iload_n 3, 1) := by decide +kernel
theorem dL_law_141 : decode cL_law 141 = .ok (.iconst 1, 1) := by decide +kernel
theorem dL_law_142 : decode cL_law 142 = .ok (.iadd, 1) := by decide +kernel
theorem dL_law_143 : decode cL_law 143 = .ok (.iaload, 1) := by decide +kernel
theorem dL_law_144 : decode cL_law 144 = .ok (.aload_n 0, 1) := by decide +kernel
theorem dL_law_145 : decode cL_law 145 = .ok (.iload_n 3, 1) := by decide +kernel
theorem dL_law_146 : decode cL_law 146 = .ok (.iconst 2, 1) := by decide +kernel
theorem dL_law_147 : decode cL_law 147 = .ok (.iadd, 1) := by decide +kernel
theorem dL_law_148 : decode cL_law 148 = .ok (.iaload, 1) := by decide +kernel
theorem dL_law_149 : decode cL_law 149 = .ok (.aload_n 0, 1) := by decide +kernel
theorem dL_law_150 : decode cL_law 150 = .ok (.iload_n 3, 1) := by decide +kernel
theorem dL_law_151 : decode cL_law 151 = .ok (.iconst 3, 1) := by decide +kernel
theorem dL_law_152 : decode cL_law 152 = .ok (.iadd, 1) := by decide +kernel
theorem dL_law_153 : decode cL_law 153 = .ok (.iaload, 1) := by decide +kernel
theorem dL_law_154 : decode cL_law 154 = .ok (.invokevirtual 23, 3) := by decide +kernel
theorem dL_law_157 : decode cL_law 157 = .ok (.aload_n 2, 1) := by decide +kernel
theorem dL_law_158 : decode cL_law 158 = .ok (.aload_n 0, 1) := by decide +kernel
theorem dL_law_159 : decode cL_law 159 = .ok (.iload_n 3, 1) := by decide +kernel
theorem dL_law_160 : decode cL_law 160 = .ok (.iconst 1, 1) := by decide +kernel
theorem dL_law_161 : decode cL_law 161 = .ok (.iadd, 1) := by decide +kernel
theorem dL_law_162 : decode cL_law 162 = .ok (.iaload, 1) := by decide +kernel
theorem dL_law_163 : decode cL_law 163 = .ok (.aload_n 0, 1) := by decide +kernel
theorem dL_law_164 : decode cL_law 164 = .ok (.iload_n 3, 1) := by decide +kernel
theorem dL_law_165 : decode cL_law 165 = .ok (.iconst 2, 1) := by decide +kernel
theorem dL_law_166 : decode cL_law 166 = .ok (.iadd, 1) := by decide +kernel
theorem dL_law_167 : decode cL_law 167 = .ok (.iaload, 1) := by decide +kernel
theorem dL_law_168 : decode cL_law 168 = .ok (.aload_n 0, 1) := by decide +kernel
theorem dL_law_169 : decode cL_law 169 = .ok (.iload_n 3, 1) := by decide +kernel
theorem dL_law_170 : decode cL_law 170 = .ok (.iconst 3, 1) := by decide +kernel
theorem dL_law_171 : decode cL_law 171 = .ok (.iadd, 1) := by decide +kernel
theorem dL_law_172 : decode cL_law 172 = .ok (.iaload, 1) := by decide +kernel
theorem dL_law_173 : decode cL_law 173 = .ok (.invokevirtual 27, 3) := by decide +kernel
theorem dL_law_176 : decode cL_law 176 = .ok (.if_icmp .eq 169, 3) := by decide +kernel
theorem dL_law_179 : decode cL_law 179 = .ok (.iconst 0, 1) := by decide +kernel
theorem dL_law_180 : decode cL_law 180 = .ok (.ireturn, 1) := by decide +kernel
theorem dL_law_181 : decode cL_law 181 = .ok (.aload_n 1, 1) := by decide +kernel
theorem dL_law_182 : decode cL_law 182 = .ok (.aload_n 0, 1) := by decide +kernel
theorem dL_law_183 : decode cL_law 183 = .ok (.iload_n 3, 1) := by decide +kernel
theorem dL_law_184 : decode cL_law 184 = .ok (.iconst 1, 1) := by decide +kernel
theorem dL_law_185 : decode cL_law 185 = .ok (.iadd, 1) := by decide +kernel
theorem dL_law_186 : decode cL_law 186 = .ok (.iaload, 1) := by decide +kernel
theorem dL_law_187 : decode cL_law 187 = .ok (.invokevirtual 28, 3) := by decide +kernel
theorem dL_law_190 : decode cL_law 190 = .ok (.aload_n 2, 1) := by decide +kernel
theorem dL_law_191 : decode cL_law 191 = .ok (.aload_n 0, 1) := by decide +kernel
theorem dL_law_192 : decode cL_law 192 = .ok (.iload_n 3, 1) := by decide +kernel
theorem dL_law_193 : decode cL_law 193 = .ok (.iconst 1, 1) := by decide +kernel
theorem dL_law_194 : decode cL_law 194 = .ok (.iadd, 1) := by decide +kernel
theorem dL_law_195 : decode cL_law 195 = .ok (.iaload, 1) := by decide +kernel
theorem dL_law_196 : decode cL_law 196 = .ok (.invokevirtual 32, 3) := by decide +kernel
theorem dL_law_199 : decode cL_law 199 = .ok (.if_icmp .eq 146, 3) := by decide +kernel
theorem dL_law_202 : decode cL_law 202 = .ok (.iconst 0, 1) := by decide +kernel
theorem dL_law_203 : decode cL_law 203 = .ok (.ireturn, 1) := by decide +kernel
theorem dL_law_204 : decode cL_law 204 = .ok (.aload_n 1, 1) := by decide +kernel
theorem dL_law_205 : decode cL_law 205 = .ok (.aload_n 0, 1) := by decide +kernel
theorem dL_law_206 : decode cL_law 206 = .ok (.iload_n 3, 1) := by decide +kernel
theorem dL_law_207 : decode cL_law 207 = .ok (.iconst 1, 1) := by decide +kernel
theorem dL_law_208 : decode cL_law 208 = .ok (.iadd, 1) := by decide +kernel
theorem dL_law_209 : decode cL_law 209 = .ok (.iaload, 1) := by decide +kernel
theorem dL_law_210 : decode cL_law 210 = .ok (.invokevirtual 33, 3) := by decide +kernel
theorem dL_law_213 : decode cL_law 213 = .ok (.aload_n 2, 1) := by decide +kernel
theorem dL_law_214 : decode cL_law 214 = .ok (.aload_n 0, 1) := by decide +kernel
theorem dL_law_215 : decode cL_law 215 = .ok (.iload_n 3, 1) := by decide +kernel
theorem dL_law_216 : decode cL_law 216 = .ok (.iconst 1, 1) := by decide +kernel
theorem dL_law_217 : decode cL_law 217 = .ok (.iadd, 1) := by decide +kernel
theorem dL_law_218 : decode cL_law 218 = .ok (.iaload, 1) := by decide +kernel
theorem dL_law_219 : decode cL_law 219 = .ok (.invokevirtual 37, 3) := by decide +kernel
theorem dL_law_222 : decode cL_law 222 = .ok (.if_icmp .eq 123, 3) := by decide +kernel
theorem dL_law_225 : decode cL_law 225 = .ok (.iconst 0, 1) := by decide +kernel
theorem dL_law_226 : decode cL_law 226 = .ok (.ireturn, 1) := by decide +kernel
theorem dL_law_227 : decode cL_law 227 = .ok (.aload_n 1, 1) := by decide +kernel
theorem dL_law_228 : decode cL_law 228 = .ok (.invokevirtual 38, 3) := by decide +kernel
theorem dL_law_231 : decode cL_law 231 = .ok (.aload_n 2, 1) := by decide +kernel
theorem dL_law_232 : decode cL_law 232 = .ok (.invokevirtual 41, 3) := by decide +kernel
theorem dL_law_235 : decode cL_law 235 = .ok (.if_icmp .eq 110, 3) := by decide +kernel
theorem dL_law_238 : decode cL_law 238 = .ok (.iconst 0, 1) := by decide +kernel
theorem dL_law_239 : decode cL_law 239 = .ok (.ireturn, 1) := by decide +kernel
theorem dL_law_240 : decode cL_law 240 = .ok (.aload_n 1, 1) := by decide +kernel
theorem dL_law_241 : decode cL_law 241 = .ok (.invokevirtual 42, 3) := by decide +kernel
theorem dL_law_244 : decode cL_law 244 = .ok (.aload_n 2, 1) := by decide +kernel
theorem dL_law_245 : decode cL_law 245 = .ok (.invokevirtual 45, 3) := by decide +kernel
theorem dL_law_248 : decode cL_law 248 = .ok (.if_icmp .eq 97, 3) := by decide +kernel
theorem dL_law_251 : decode cL_law 251 = .ok (.iconst 0, 1) := by decide +kernel
theorem dL_law_252 : decode cL_law 252 = .ok (.ireturn, 1) := by decide +kernel
theorem dL_law_253 : decode cL_law 253 = .ok (.aload_n 1, 1) := by decide +kernel
theorem dL_law_254 : decode cL_law 254 = .ok (.aload_n 0, 1) := by decide +kernel
theorem dL_law_255 : decode cL_law 255 = .ok (.iload_n 3, 1) := by decide +kernel
theorem dL_law_256 : decode cL_law 256 = .ok (.iconst 1, 1) := by decide +kernel
theorem dL_law_257 : decode cL_law 257 = .ok (.iadd, 1) := by decide +kernel
theorem dL_law_258 : decode cL_law 258 = .ok (.iaload, 1) := by decide +kernel
theorem dL_law_259 : decode cL_law 259 = .ok (.invokevirtual 46, 3) := by decide +kernel
theorem dL_law_262 : decode cL_law 262 = .ok (.aload_n 2, 1) := by decide +kernel
theorem dL_law_263 : decode cL_law 263 = .ok (.aload_n 0, 1) := by decide +kernel
theorem dL_law_264 : decode cL_law 264 = .ok (.iload_n 3, 1) := by decide +kernel
theorem dL_law_265 : decode cL_law 265 = .ok (.iconst 1, 1) := by decide +kernel
theorem dL_law_266 : decode cL_law 266 = .ok (.iadd, 1) := by decide +kernel
theorem dL_law_267 : decode cL_law 267 = .ok (.iaload, 1) := by decide +kernel
theorem dL_law_268 : decode cL_law 268 = .ok (.invokevirtual 49, 3) := by decide +kernel
theorem dL_law_271 : decode cL_law 271 = .ok (.if_icmp .eq 74, 3) := by decide +kernel
theorem dL_law_274 : decode cL_law 274 = .ok (.iconst 0, 1) := by decide +kernel
theorem dL_law_275 : decode cL_law 275 = .ok (.ireturn, 1) := by decide +kernel
theorem dL_law_276 : decode cL_law 276 = .ok (.aload_n 1, 1) := by decide +kernel
theorem dL_law_277 : decode cL_law 277 = .ok (.invokevirtual 50, 3) := by decide +kernel
theorem dL_law_280 : decode cL_law 280 = .ok (.aload_n 2, 1) := by decide +kernel
theorem dL_law_281 : decode cL_law 281 = .ok (.invokevirtual 53, 3) := by decide +kernel
theorem dL_law_284 : decode cL_law 284 = .ok (.if_icmp .eq 61, 3) := by decide +kernel
theorem dL_law_287 : decode cL_law 287 = .ok (.iconst 0, 1) := by decide +kernel
theorem dL_law_288 : decode cL_law 288 = .ok (.ireturn, 1) := by decide +kernel
theorem dL_law_289 : decode cL_law 289 = .ok (.aload_n 1, 1) := by decide +kernel
theorem dL_law_290 : decode cL_law 290 = .ok (.aload_n 0, 1) := by decide +kernel
theorem dL_law_291 : decode cL_law 291 = .ok (.iload_n 3, 1) := by decide +kernel
theorem dL_law_292 : decode cL_law 292 = .ok (.iconst 1, 1) := by decide +kernel
theorem dL_law_293 : decode cL_law 293 = .ok (.iadd, 1) := by decide +kernel
theorem dL_law_294 : decode cL_law 294 = .ok (.iaload, 1) := by decide +kernel
theorem dL_law_295 : decode cL_law 295 = .ok (.invokevirtual 54, 3) := by decide +kernel
theorem dL_law_298 : decode cL_law 298 = .ok (.aload_n 2, 1) := by decide +kernel
theorem dL_law_299 : decode cL_law 299 = .ok (.aload_n 0, 1) := by decide +kernel
theorem dL_law_300 : decode cL_law 300 = .ok (.iload_n 3, 1) := by decide +kernel
theorem dL_law_301 : decode cL_law 301 = .ok (.iconst 1, 1) := by decide +kernel
theorem dL_law_302 : decode cL_law 302 = .ok (.iadd, 1) := by decide +kernel
theorem dL_law_303 : decode cL_law 303 = .ok (.iaload, 1) := by decide +kernel
theorem dL_law_304 : decode cL_law 304 = .ok (.invokevirtual 57, 3) := by decide +kernel
theorem dL_law_307 : decode cL_law 307 = .ok (.if_icmp .eq 38, 3) := by decide +kernel
theorem dL_law_310 : decode cL_law 310 = .ok (.iconst 0, 1) := by decide +kernel
theorem dL_law_311 : decode cL_law 311 = .ok (.ireturn, 1) := by decide +kernel
theorem dL_law_312 : decode cL_law 312 = .ok (.aload_n 1, 1) := by decide +kernel
theorem dL_law_313 : decode cL_law 313 = .ok (.aload_n 0, 1) := by decide +kernel
theorem dL_law_314 : decode cL_law 314 = .ok (.iload_n 3, 1) := by decide +kernel
theorem dL_law_315 : decode cL_law 315 = .ok (.iconst 1, 1) := by decide +kernel
theorem dL_law_316 : decode cL_law 316 = .ok (.iadd, 1) := by decide +kernel
theorem dL_law_317 : decode cL_law 317 = .ok (.iaload, 1) := by decide +kernel
theorem dL_law_318 : decode cL_law 318 = .ok (.aload_n 0, 1) := by decide +kernel
theorem dL_law_319 : decode cL_law 319 = .ok (.iload_n 3, 1) := by decide +kernel
theorem dL_law_320 : decode cL_law 320 = .ok (.iconst 2, 1) := by decide +kernel
theorem dL_law_321 : decode cL_law 321 = .ok (.iadd, 1) := by decide +kernel
theorem dL_law_322 : decode cL_law 322 = .ok (.iaload, 1) := by decide +kernel
theorem dL_law_323 : decode cL_law 323 = .ok (.invokevirtual 58, 3) := by decide +kernel
theorem dL_law_326 : decode cL_law 326 = .ok (.aload_n 2, 1) := by decide +kernel
theorem dL_law_327 : decode cL_law 327 = .ok (.aload_n 0, 1) := by decide +kernel
theorem dL_law_328 : decode cL_law 328 = .ok (.iload_n 3, 1) := by decide +kernel
theorem dL_law_329 : decode cL_law 329 = .ok (.iconst 1, 1) := by decide +kernel
theorem dL_law_330 : decode cL_law 330 = .ok (.iadd, 1) := by decide +kernel
theorem dL_law_331 : decode cL_law 331 = .ok (.iaload, 1) := by decide +kernel
theorem dL_law_332 : decode cL_law 332 = .ok (.aload_n 0, 1) := by decide +kernel
theorem dL_law_333 : decode cL_law 333 = .ok (.iload_n 3, 1) := by decide +kernel
theorem dL_law_334 : decode cL_law 334 = .ok (.iconst 2, 1) := by decide +kernel
theorem dL_law_335 : decode cL_law 335 = .ok (.iadd, 1) := by decide +kernel
theorem dL_law_336 : decode cL_law 336 = .ok (.iaload, 1) := by decide +kernel
theorem dL_law_337 : decode cL_law 337 = .ok (.invokevirtual 61, 3) := by decide +kernel
theorem dL_law_340 : decode cL_law 340 = .ok (.if_icmp .eq 5, 3) := by decide +kernel
theorem dL_law_343 : decode cL_law 343 = .ok (.iconst 0, 1) := by decide +kernel
theorem dL_law_344 : decode cL_law 344 = .ok (.ireturn, 1) := by decide +kernel
theorem dL_law_345 : decode cL_law 345 = .ok (.iinc 3 4, 3) := by decide +kernel
theorem dL_law_348 : decode cL_law 348 = .ok (.goto (-330), 3) := by decide +kernel
theorem dL_law_351 : decode cL_law 351 = .ok (.iconst 1, 1) := by decide +kernel
theorem dL_law_352 : decode cL_law 352 = .ok (.ireturn, 1) := by decide +kernel
end
section
/-! The frame of all walks: numbers as nI, the surroundings of a walk (pl_Cx), its world (pl_Zx), contracts (pl_CI: int or boolean, pl_CV: void), how they are begun and how they are called -/
def rmD (d : Nat) : Room := { frames := d, cells := 0, slots := 0, locals := 30 * d }
abbrev pl_cl : List vw_C := [(RX0, TX0, 10), (RX1, TX1, 7)]
def nF (F : Nat → Nat) : Nat → Int32 := fun i => nI (F i)
def updN (F : Nat → Nat) (k x : Nat) : Nat → Nat := fun j => if j = k then x else F j
theorem nF_upd (F : Nat → Nat) (k x : Nat) : upd (nF F) k (nI x) = nF (updN F k x) := by
  funext j
  by_cases h : j = k
  · simp [upd, nF, updN, h]
  · simp [upd, nF, updN, h]
theorem updN_s (F : Nat → Nat) (k x : Nat) : updN F k x k = x := by simp [updN]
theorem updN_n (F : Nat → Nat) {k j : Nat} (x : Nat) (h : j ≠ k) : updN F k x j = F j := by simp [updN, h]
theorem nF_0 : (fun _ : Nat => (0 : Int32)) = nF (fun _ => 0) := rfl
/-- the surroundings of a walk: machine, code, locals' number, own class, words, class numbers, what may change -/
def pl_Cx (p : Program) (s : State) (m : MethodId) (args : Array Value) (c : Code) (cc : ByteArray) (nL : Nat) (own : String) (D : va_G) (tys : List (ClassId × FieldType)) (A : Nat → Prop) : Prop :=
  p.tables.exec = Jvm.exec ∧ c.code = cc ∧ c.maxLocals = nL ∧ s.vm.findClass own = some m.cls ∧ (∀ w ∈ lw_all, w.before args s = true) ∧ va_K D pl_cl tys s ∧ (∀ q : Nat, s.heap.size ≤ q → A q)
/-- the world of a walk -/
def pl_Zx (D : va_G) (A : Nat → Prop) (s : State) (ws : va_W) (H : Heap) (locs : List Loc) : Prop := va_P D pl_cl ws H ∧ va_D A ws ∧ va_S A s.heap H locs
def pl_Pre (D : va_G) (tys : List (ClassId × FieldType)) (ws0 : va_W) (sz : Nat) (U : State) : Prop := U.heap.size = sz ∧ va_P D pl_cl ws0 U.heap ∧ va_K D pl_cl tys U ∧ va_D (fun _ => True) ws0
def pl_Aft (D : va_G) (tys : List (ClassId × FieldType)) (ws1 : va_W) (A : Nat → Prop) (t : State) : Prop := va_P D pl_cl ws1 t.heap ∧ va_K D pl_cl tys t ∧ va_D A ws1
/-- a contract that answers an int: the world ws0 before, the world w u behind it, with post -/
def pl_CI (l : Launch) (y : MethodName) (cc : ByteArray) (nL : Nat) (ty : FieldType) (rm : Room) (D : va_G) (tys : List (ClassId × FieldType)) (args : List Value) (ws0 : va_W) {σ : Type} (w : σ → va_W) (post : Int32 → σ → Prop) : Prop :=
  ∀ sz : Nat, Met l y (ws_ y cc nL (some ty)) rm (va_Pc args (pl_Pre D tys ws0 sz)) (va_Qi post (fun u t => pl_Aft D tys (w u) (va_A ws0 sz) t) (va_A ws0 sz)) 0 0 (va_A ws0 sz)
/-- a contract that answers nothing -/
def pl_CV (l : Launch) (y : MethodName) (cc : ByteArray) (nL : Nat) (rm : Room) (D : va_G) (tys : List (ClassId × FieldType)) (args : List Value) (ws0 : va_W) {σ : Type} (w : σ → va_W) (post : σ → Prop) : Prop :=
  ∀ sz : Nat, Met l y (ws_ y cc nL none) rm (va_Pc args (pl_Pre D tys ws0 sz)) (va_Qv post (fun u t => pl_Aft D tys (w u) (va_A ws0 sz) t) (va_A ws0 sz)) 0 0 (va_A ws0 sz)
theorem pl_CI_of {l : Launch} {y : MethodName} {cc : ByteArray} {nL : Nat} {ty : FieldType} {rm : Room} {D : va_G} {tys : List (ClassId × FieldType)} {args : List Value} {ws0 : va_W} {σ : Type} {w : σ → va_W} {post : Int32 → σ → Prop}
    (hy : plainName y.cls = true) (hn : (lg_sl args).length ≤ nL)
    (body : ∀ (p : Program) (e : Env) (s : State) (m : MethodId) (below : List Frame) (meth : Method) (c : Code) (A : Nat → Prop) (Q : State → Prop) (ls : Array Slot),
      pl_Cx p s m args.toArray c cc nL y.cls D tys A →
      (∀ (pc : Nat) (H : Heap) (locs : List Loc) (ls : Array Slot) (r : Int32) (u : σ), decode cc pc = .ok (.ireturn, 1) → narrow ty (.int r) = .int r → post r u → pl_Zx D A s (w u) H locs → W p l e rm s m args.toArray below meth c H locs 0 0 Q (F0 m pc ls [.int r])) →
      pl_Zx D A s ws0 s.heap [] → lv_has ls nL (lv_args 0 args) → W p l e rm s m args.toArray below meth c s.heap [] 0 0 Q (F0 m 0 ls [])) :
    pl_CI l y cc nL ty rm D tys args ws0 w post := by
  intro sz
  refine Met.ofW (cc := cc) (maxL := nL) (ret := some ty) hy rfl ?_
  intro p e s m args' below meth c s₁ B hml hv
  obtain ⟨rfl, hsz, hP, hK, hD0⟩ := hv
  have hts0 := atoms_spec (ws := ws_ y cc nL (some ty)) B.pre
  have hts : ∀ w ∈ lw_all, w.before args.toArray s = true := fun w h => hts0 w (List.mem_cons_of_mem _ h)
  have hown : s.vm.findClass y.cls = some m.cls := findClass_of_methodNamed B.named
  have hlocks := B.notSynchronized
  subst hsz
  have hD := hD0.self (sz := s.heap.size)
  have hl := lv_entry args (n := nL) hn
  rw [lg_entry_eq]
  refine body p e s m below meth c (va_A ws0 s.heap.size) _ _ ⟨B.exec, B.bytes, hml, hown, hts, hK, fun q h => Or.inr h⟩ ?_ ⟨hP, hD, va_S.rf⟩ hl
  intro pc H locs ls r u hdg hnr hpost hZ
  exact W.zret (v := r) B.exec B.bytes B.returns hnr (fun t ht hW => ⟨⟨r, u, rfl, hpost, by rw [ht]; exact hZ.1, va_K.moved hW.alike hK, hZ.2.1⟩, hZ.2.2.F ht⟩) hZ.2.2.2.2 hdg
theorem pl_CV_of {l : Launch} {y : MethodName} {cc : ByteArray} {nL : Nat} {rm : Room} {D : va_G} {tys : List (ClassId × FieldType)} {args : List Value} {ws0 : va_W} {σ : Type} {w : σ → va_W} {post : σ → Prop}
    (hy : plainName y.cls = true) (hn : (lg_sl args).length ≤ nL)
    (body : ∀ (p : Program) (e : Env) (s : State) (m : MethodId) (below : List Frame) (meth : Method) (c : Code) (A : Nat → Prop) (Q : State → Prop) (ls : Array Slot),
      pl_Cx p s m args.toArray c cc nL y.cls D tys A →
      (∀ (pc : Nat) (H : Heap) (locs : List Loc) (ls : Array Slot) (u : σ), decode cc pc = .ok (.return_, 1) → post u → pl_Zx D A s (w u) H locs → W p l e rm s m args.toArray below meth c H locs 0 0 Q (F0 m pc ls [])) →
      pl_Zx D A s ws0 s.heap [] → lv_has ls nL (lv_args 0 args) → W p l e rm s m args.toArray below meth c s.heap [] 0 0 Q (F0 m 0 ls [])) :
    pl_CV l y cc nL rm D tys args ws0 w post := by
  intro sz
  refine Met.ofW (cc := cc) (maxL := nL) (ret := none) hy rfl ?_
  intro p e s m args' below meth c s₁ B hml hv
  obtain ⟨rfl, hsz, hP, hK, hD0⟩ := hv
  have hts0 := atoms_spec (ws := ws_ y cc nL none) B.pre
  have hts : ∀ w ∈ lw_all, w.before args.toArray s = true := fun w h => hts0 w (List.mem_cons_of_mem _ h)
  have hown : s.vm.findClass y.cls = some m.cls := findClass_of_methodNamed B.named
  have hlocks := B.notSynchronized
  subst hsz
  have hD := hD0.self (sz := s.heap.size)
  have hl := lv_entry args (n := nL) hn
  rw [lg_entry_eq]
  refine body p e s m below meth c (va_A ws0 s.heap.size) _ _ ⟨B.exec, B.bytes, hml, hown, hts, hK, fun q h => Or.inr h⟩ ?_ ⟨hP, hD, va_S.rf⟩ hl
  intro pc H locs ls u hdg hpost hZ
  exact W.vret B.exec B.bytes B.returns (fun t ht hW => ⟨⟨u, rfl, hpost, by rw [ht]; exact hZ.1, va_K.moved hW.alike hK, hZ.2.1⟩, hZ.2.2.F ht⟩) hZ.2.2.2.2 hdg
theorem pl_blind {D : va_G} {tys : List (ClassId × FieldType)} {ws0 : va_W} {sz : Nat} {args : List Value} : FrameBlind (va_Pc args (pl_Pre D tys ws0 sz)) := by
  intro a U g mk q
  obtain ⟨q0, q1, qP, qK, qD⟩ := q
  exact ⟨q0, q1, qP, va_K.moved (u := U) (U := U.calling g mk a) (Vm.Alike.refl U.vm) qK, qD⟩
section
variable {p : Program} {l : Launch} {e : Env} {R : Room} {s : State} {m : MethodId} {args : Array Value} {below : List Frame} {meth : Method} {c : Code} {H : Heap} {locs : List Loc} {cells slots : Nat} {Q : State → Prop} {cc : ByteArray} {pc : Nat} {ls : Array Slot} {rest : List Value} {nL : Nat} {own : String} {D : va_G} {tys : List (ClassId × FieldType)} {A : Nat → Prop} {ws : va_W}
theorem pl_fr (C : pl_Cx p s m args c cc nL own D tys A) (Z : pl_Zx D A s ws H locs) : ∀ q : Nat, va_A ws H.size q → A q := by
  intro q h
  rcases h with ⟨k, e, h⟩ | h
  · exact Z.2.1.2 k _ h
  · exact C.2.2.2.2.2.2 q (Nat.le_trans Z.2.2.1 h)
/-- a call of a method of the own world (all of it) that answers an int -/
theorem pl_callV {y : MethodName} {cc' : ByteArray} {nL' : Nat} {ty : FieldType} {rm' : Room} {As : List Value} {b : Nat} {σ : Type} {w : σ → va_W} {post : Int32 → σ → Prop} {idx : Nat} {lv : List (Nat × Value)} {st : List Value} {q0 ci : Nat} {fs : List Value} {q : vw_C}
    (hM : pl_CI l y cc' nL' ty rm' D tys (.ref b :: As) ws w post) (C : pl_Cx p s m args c cc nL own D tys A) (Z : pl_Zx D A s ws H locs)
    (he : ws[q0]? = some (b, .inr (ci, fs))) (hc : pl_cl[ci]? = some q) (hq : q.1 = y.cls)
    (hT : GoodIn lw_all (wsV own idx y.cls y (ws_ y cc' nL' (some ty))))
    (na : Nat) (hn : As.length = na) (hd : y.cls ≠ "java/lang/invoke/MethodHandle" ∧ y.cls ≠ "java/lang/invoke/VarHandle" ∧ (parseMethodDescriptor y.desc).map (fun d => d.parameters.length) = some na)
    (hR : rm'.frames + 1 ≤ R.frames ∧ 8 + (nL' + 11) + rm'.locals ≤ R.locals ∧ cells ≤ R.cells ∧ slots ≤ R.slots) (h0 : rm'.cells = 0 ∧ rm'.slots = 0)
    (hl : lv_has ls nL lv) (hrest : (rest.map fun v => v.category).sum ≤ 8) (hst : st = As.reverse ++ .ref b :: rest) (hdg : decode cc pc = .ok (.invokevirtual idx, 3))
    (kk : ∀ (r : Int32) (u : σ) (H : Heap) (locs : List Loc), post r u → pl_Zx D A s (w u) H locs → W p l e R s m args below meth c H locs cells slots Q (F0 m (pc + 3) ls (.int r :: rest))) :
    W p l e R s m args below meth c H locs cells slots Q (F0 m pc ls st) := by
  have hFc := pl_fr C Z
  obtain ⟨hx, hb, hml, hown, hts, hK, hA⟩ := C
  obtain ⟨hP, hD, hS⟩ := Z
  have hrv := va_recv hK hP hc he
  rw [hq] at hrv
  refine va_calli (va_runV (As := As) (rest := rest) (b := b) ⟨hx, hb, hml, hown, hts⟩ (hM H.size) (cwV na hts hT rfl h0.1 h0.2 ⟨rfl, hd⟩ ⟨hR.1, hR.2.1⟩) ⟨pl_blind, hrv, fun U hU hW => ⟨rfl, by rw [hU], by rw [hU]; exact hP, va_K.moved hW.alike hK, hD.weaken (fun _ _ _ _ => trivial)⟩⟩ rfl hn hl.1 hst (lv_room hrest) hdg ⟨hR.2.2.1, hR.2.2.2⟩) hS (fun q _ h => hFc q h) hFc ?_
  intro r u t H1 locs1 ht hvm hpost hB hz1 hk1 hS1
  obtain ⟨hP1, hK1, hD1⟩ := hB
  rw [ht] at hP1
  exact kk r u H1 locs1 hpost ⟨hP1, hD1.weaken (fun _ _ _ h => hFc _ h), hS1⟩
/-- the same, of a void method -/
theorem pl_callU {y : MethodName} {cc' : ByteArray} {nL' : Nat} {rm' : Room} {As : List Value} {b : Nat} {σ : Type} {w : σ → va_W} {post : σ → Prop} {idx : Nat} {lv : List (Nat × Value)} {st : List Value} {q0 ci : Nat} {fs : List Value} {q : vw_C}
    (hM : pl_CV l y cc' nL' rm' D tys (.ref b :: As) ws w post) (C : pl_Cx p s m args c cc nL own D tys A) (Z : pl_Zx D A s ws H locs)
    (he : ws[q0]? = some (b, .inr (ci, fs))) (hc : pl_cl[ci]? = some q) (hq : q.1 = y.cls)
    (hT : GoodIn lw_all (wsV own idx y.cls y (ws_ y cc' nL' none)))
    (na : Nat) (hn : As.length = na) (hd : y.cls ≠ "java/lang/invoke/MethodHandle" ∧ y.cls ≠ "java/lang/invoke/VarHandle" ∧ (parseMethodDescriptor y.desc).map (fun d => d.parameters.length) = some na)
    (hR : rm'.frames + 1 ≤ R.frames ∧ 8 + (nL' + 11) + rm'.locals ≤ R.locals ∧ cells ≤ R.cells ∧ slots ≤ R.slots) (h0 : rm'.cells = 0 ∧ rm'.slots = 0)
    (hl : lv_has ls nL lv) (hrest : (rest.map fun v => v.category).sum ≤ 8) (hst : st = As.reverse ++ .ref b :: rest) (hdg : decode cc pc = .ok (.invokevirtual idx, 3))
    (kk : ∀ (u : σ) (H : Heap) (locs : List Loc), post u → pl_Zx D A s (w u) H locs → W p l e R s m args below meth c H locs cells slots Q (F0 m (pc + 3) ls rest)) :
    W p l e R s m args below meth c H locs cells slots Q (F0 m pc ls st) := by
  have hFc := pl_fr C Z
  obtain ⟨hx, hb, hml, hown, hts, hK, hA⟩ := C
  obtain ⟨hP, hD, hS⟩ := Z
  have hrv := va_recv hK hP hc he
  rw [hq] at hrv
  refine va_callv (va_runV (As := As) (rest := rest) (b := b) ⟨hx, hb, hml, hown, hts⟩ (hM H.size) (cwV na hts hT rfl h0.1 h0.2 ⟨rfl, hd⟩ ⟨hR.1, hR.2.1⟩) ⟨pl_blind, hrv, fun U hU hW => ⟨rfl, by rw [hU], by rw [hU]; exact hP, va_K.moved hW.alike hK, hD.weaken (fun _ _ _ _ => trivial)⟩⟩ rfl hn hl.1 hst (lv_room hrest) hdg ⟨hR.2.2.1, hR.2.2.2⟩) hS (fun q _ h => hFc q h) hFc ?_
  intro u t H1 locs1 ht hvm hpost hB hz1 hk1 hS1
  obtain ⟨hP1, hK1, hD1⟩ := hB
  rw [ht] at hP1
  exact kk u H1 locs1 hpost ⟨hP1, hD1.weaken (fun _ _ _ h => hFc _ h), hS1⟩
/-- a call of a static method that has no world -/
theorem pl_callS {y : MethodName} {cc' : ByteArray} {nL' : Nat} {ty : FieldType} {rm' : Room} {As : List Value} {post : Int32 → Unit → Prop} {idx : Nat} {lv : List (Nat × Value)} {st : List Value}
    (hM : pl_CI l y cc' nL' ty rm' D [] As [] (fun _ : Unit => []) post) (C : pl_Cx p s m args c cc nL own D tys A) (Z : pl_Zx D A s ws H locs)
    (hT : GoodIn lw_all (va_wsS own idx y (ws_ y cc' nL' (some ty))))
    (na : Nat) (hn : As.length = na) (hd : y.cls ≠ "java/lang/invoke/MethodHandle" ∧ y.cls ≠ "java/lang/invoke/VarHandle" ∧ (parseMethodDescriptor y.desc).map (fun d => d.parameters.length) = some na)
    (hR : rm'.frames + 1 ≤ R.frames ∧ 8 + (nL' + 11) + rm'.locals ≤ R.locals ∧ cells ≤ R.cells ∧ slots ≤ R.slots) (h0 : rm'.cells = 0 ∧ rm'.slots = 0)
    (hl : lv_has ls nL lv) (hrest : (rest.map fun v => v.category).sum ≤ 8) (hst : st = As.reverse ++ rest) (hdg : decode cc pc = .ok (.invokestatic idx, 3))
    (kk : ∀ (r : Int32) (H : Heap) (locs : List Loc), post r () → pl_Zx D A s ws H locs → W p l e R s m args below meth c H locs cells slots Q (F0 m (pc + 3) ls (.int r :: rest))) :
    W p l e R s m args below meth c H locs cells slots Q (F0 m pc ls st) := by
  obtain ⟨hx, hb, hml, hown, hts, hK, hA⟩ := C
  obtain ⟨hP, hD, hS⟩ := Z
  have hFc : ∀ q : Nat, va_A [] H.size q → A q := by
    intro q h
    rcases h with ⟨k, e, h⟩ | h
    · simp at h
    · exact hA q (Nat.le_trans hS.1 h)
  have hK0 : va_K D pl_cl [] s := hK.sub (tys' := []) [] rfl
  refine va_calli (va_runS (As := As) (rest := rest) ⟨hx, hb, hml, hown, hts⟩ (hM H.size) (va_cwS na hts hT rfl h0.1 h0.2 hd ⟨hR.1, hR.2.1⟩) ⟨pl_blind, fun U hU hW => ⟨rfl, by rw [hU], (fun k q h => by simp at h), va_K.moved hW.alike hK0, ⟨fun i j p q h => by simp at h, fun k q h => by simp at h⟩⟩⟩ rfl hn hl.1 hst (lv_room hrest) hdg ⟨hR.2.2.1, hR.2.2.2⟩) hS (fun q _ h => hFc q h) hFc ?_
  intro r u t H1 locs1 ht hvm hpost hB hz1 hk1 hS1
  refine kk r H1 locs1 hpost ⟨hP.kept (fun k q hk => hk1 q.1 (hP k q hk).lt ?_), hD, hS1⟩
  intro h
  rcases h with ⟨k, e, h⟩ | h
  · simp at h
  · exact absurd (hP _ q hk).lt (Nat.not_lt.mpr h)
/-! rows with numbers nI -/
theorem pn_top {x y : Int32} (h : x = y) (k : W p l e R s m args below meth c H locs cells slots Q (F0 m pc ls (.int y :: rest))) : W p l e R s m args below meth c H locs cells slots Q (F0 m pc ls (.int x :: rest)) := h ▸ k
theorem pn_add {a b : Nat} (hx : p.tables.exec = Jvm.exec) (hb : c.code = cc) (hdg : decode cc pc = .ok (.iadd, 1)) (k : W p l e R s m args below meth c H locs cells slots Q (F0 m (pc + 1) ls (.int (nI (a + b)) :: rest))) : W p l e R s m args below meth c H locs cells slots Q (F0 m pc ls (.int (nI b) :: .int (nI a) :: rest)) := lv_iadd hx hb hdg (pn_top (nI_add a b) k)
theorem pn_sub {a b : Nat} (hx : p.tables.exec = Jvm.exec) (hb : c.code = cc) (h : b ≤ a) (hdg : decode cc pc = .ok (.isub, 1)) (k : W p l e R s m args below meth c H locs cells slots Q (F0 m (pc + 1) ls (.int (nI (a - b)) :: rest))) : W p l e R s m args below meth c H locs cells slots Q (F0 m pc ls (.int (nI b) :: .int (nI a) :: rest)) := lv_isub hx hb hdg (pn_top (pk_sub h) k)
theorem pn_mul {a b : Nat} (hx : p.tables.exec = Jvm.exec) (hb : c.code = cc) (hdg : decode cc pc = .ok (.imul, 1)) (k : W p l e R s m args below meth c H locs cells slots Q (F0 m (pc + 1) ls (.int (nI (a * b)) :: rest))) : W p l e R s m args below meth c H locs cells slots Q (F0 m pc ls (.int (nI b) :: .int (nI a) :: rest)) := lv_imul hx hb hdg (pn_top (pk_mul a b) k)
theorem pn_div {a b : Nat} (hx : p.tables.exec = Jvm.exec) (hb : c.code = cc) (ha : a < 2 ^ 31) (h0 : 0 < b) (h1 : b < 2 ^ 31) (hdg : decode cc pc = .ok (.idiv, 1)) (k : W p l e R s m args below meth c H locs cells slots Q (F0 m (pc + 1) ls (.int (nI (a / b)) :: rest))) : W p l e R s m args below meth c H locs cells slots Q (F0 m pc ls (.int (nI b) :: .int (nI a) :: rest)) := lv_idiv hx hb hdg (nI_ne0 h0 h1) (pn_top (pk_div ha h0 h1) k)
theorem pn_rem {a b : Nat} (hx : p.tables.exec = Jvm.exec) (hb : c.code = cc) (ha : a < 2 ^ 31) (h0 : 0 < b) (h1 : b < 2 ^ 31) (hdg : decode cc pc = .ok (.irem, 1)) (k : W p l e R s m args below meth c H locs cells slots Q (F0 m (pc + 1) ls (.int (nI (a % b)) :: rest))) : W p l e R s m args below meth c H locs cells slots Q (F0 m pc ls (.int (nI b) :: .int (nI a) :: rest)) := lv_irem hx hb hdg (nI_ne0 h0 h1) (pn_top (pk_rem ha h0 h1) k)
theorem pn_sm : ∀ n, n < 32 → ((nI n &&& 31).toBitVec.smod 32).toNat = n := by decide +kernel
theorem pn_shl {a b : Nat} (hx : p.tables.exec = Jvm.exec) (hb : c.code = cc) (h1 : b < 32) (h2 : a * 2 ^ b < 2 ^ 32) (hdg : decode cc pc = .ok (.ishl, 1)) (k : W p l e R s m args below meth c H locs cells slots Q (F0 m (pc + 1) ls (.int (nI (a * 2 ^ b)) :: rest))) : W p l e R s m args below meth c H locs cells slots Q (F0 m pc ls (.int (nI b) :: .int (nI a) :: rest)) := lv_ishl hx hb hdg (pn_top (pk_shlN _ b (pn_sm b h1) h2) k)
theorem pn_shr {a b : Nat} (hx : p.tables.exec = Jvm.exec) (hb : c.code = cc) (h1 : b < 32) (h2 : a < 2 ^ 31) (hdg : decode cc pc = .ok (.ishr, 1)) (k : W p l e R s m args below meth c H locs cells slots Q (F0 m (pc + 1) ls (.int (nI (a / 2 ^ b)) :: rest))) : W p l e R s m args below meth c H locs cells slots Q (F0 m pc ls (.int (nI b) :: .int (nI a) :: rest)) := lv_ishr hx hb hdg (pn_top (pk_shrN h2 _ b (pn_sm b h1)) k)
theorem pn_and {a b : Nat} (hx : p.tables.exec = Jvm.exec) (hb : c.code = cc) (t : Nat) (h2 : a < 2 ^ 31) (hm : (nI b).toBitVec.toNat = 2 ^ t - 1) (hdg : decode cc pc = .ok (.iand, 1)) (k : W p l e R s m args below meth c H locs cells slots Q (F0 m (pc + 1) ls (.int (nI (a % 2 ^ t)) :: rest))) : W p l e R s m args below meth c H locs cells slots Q (F0 m pc ls (.int (nI b) :: .int (nI a) :: rest)) := lv_iand hx hb hdg (pn_top (pk_andN (by omega) t hm) k)
theorem pn_nor (a b : Nat) : nI a ||| nI b = nI (a ||| b) := by
  apply Int32.toBitVec_inj.mp
  show BitVec.ofNat 32 a ||| BitVec.ofNat 32 b = BitVec.ofNat 32 (a ||| b)
  exact (BitVec.ofNat_or).symm
theorem pn_or {a b : Nat} (hx : p.tables.exec = Jvm.exec) (hb : c.code = cc) (hdg : decode cc pc = .ok (.ior, 1)) (k : W p l e R s m args below meth c H locs cells slots Q (F0 m (pc + 1) ls (.int (nI (a ||| b)) :: rest))) : W p l e R s m args below meth c H locs cells slots Q (F0 m pc ls (.int (nI b) :: .int (nI a) :: rest)) := lv_ior hx hb hdg (pn_top (pn_nor a b) k)
theorem pn_i1 (a : Nat) : nI a + Int32.ofInt 1 = nI (a + 1) := nI_1 a
theorem pn_i4 (a : Nat) : nI a + Int32.ofInt 4 = nI (a + 4) := nI_add a 4
theorem pn_im {a : Nat} (h : 0 < a) : nI a + Int32.ofInt (-1) = nI (a - 1) := sb_m1 h
theorem pn_e0 {a : Nat} (h : a < 2 ^ 31) : nI a = 0 ↔ a = 0 := by
  rw [← nI_0]; exact nI_eq h (by decide)
theorem pn_l0 {a : Nat} (h : a < 2 ^ 31) : nI a ≤ 0 ↔ a = 0 := by
  rw [← nI_0, nI_leI h (by decide)]; omega
theorem pn_n0 {a : Nat} (h : a < 2 ^ 31) : ¬ nI a < 0 := nI_pos h
theorem pn_b0 {b : Bool} : nI b.toNat = 0 ↔ b = false := by cases b <;> decide
theorem pn_b1 {b : Bool} : ¬ nI b.toNat = 0 ↔ b = true := by cases b <;> decide
theorem pn_nb (b : Bool) : narrow .boolean (.int (nI b.toNat)) = .int (nI b.toNat) := by cases b <;> rfl
theorem pn_t1 {b : Bool} (h : b = true) : nI 1 = nI b.toNat := by rw [h]; rfl
theorem pn_t0 {b : Bool} (h : ¬ b = true) : nI 0 = nI b.toNat := by rw [Bool.eq_false_iff.mpr h]; rfl
/-! arrays -/
theorem pn_iald {a : Nat} {cA : ClassId} {n : Nat} {F : Nat → Nat} {j : Nat} (C : pl_Cx p s m args c cc nL own D tys A) (Z : pl_Zx D A s ws H locs) (q0 t0 : Nat) (ha : ws[q0]? = some (a, .inl (cA, n, .inl (nF F)))) (ht : tys[t0]? = some (cA, .int)) (hj : j < n) (hn : n < 2 ^ 31) (hdg : decode cc pc = .ok (.iaload, 1)) (k : W p l e R s m args below meth c H locs cells slots Q (F0 m (pc + 1) ls (.int (nI (F j)) :: rest))) : W p l e R s m args below meth c H locs cells slots Q (F0 m pc ls (.int (nI j) :: .ref a :: rest)) :=
  va_iald C.1 C.2.1 C.2.2.2.2.2.1 Z.1 q0 t0 ha ht (vp_in_nI hj hn) hdg (pn_top (by show nI (F _) = _; rw [nI_clamp (by omega)]) k)
theorem pn_bald {a : Nat} {cA : ClassId} {n : Nat} {F : Nat → Nat} {j : Nat} (C : pl_Cx p s m args c cc nL own D tys A) (Z : pl_Zx D A s ws H locs) (q0 t0 : Nat) (ha : ws[q0]? = some (a, .inl (cA, n, .inl (nF F)))) (ht : tys[t0]? = some (cA, .byte)) (hj : j < n) (hn : n < 2 ^ 31) (hdg : decode cc pc = .ok (.baload, 1)) (k : W p l e R s m args below meth c H locs cells slots Q (F0 m (pc + 1) ls (.int (nI (F j)) :: rest))) : W p l e R s m args below meth c H locs cells slots Q (F0 m pc ls (.int (nI j) :: .ref a :: rest)) :=
  va_bald C.1 C.2.1 C.2.2.2.2.2.1 Z.1 q0 t0 ha ht (vp_in_nI hj hn) hdg (pn_top (by show nI (F _) = _; rw [nI_clamp (by omega)]) k)
theorem pn_zald {a : Nat} {cA : ClassId} {n : Nat} {F : Nat → Nat} {j : Nat} (C : pl_Cx p s m args c cc nL own D tys A) (Z : pl_Zx D A s ws H locs) (q0 t0 : Nat) (ha : ws[q0]? = some (a, .inl (cA, n, .inl (nF F)))) (ht : tys[t0]? = some (cA, .boolean)) (hj : j < n) (hn : n < 2 ^ 31) (hdg : decode cc pc = .ok (.baload, 1)) (k : W p l e R s m args below meth c H locs cells slots Q (F0 m (pc + 1) ls (.int (nI (F j)) :: rest))) : W p l e R s m args below meth c H locs cells slots Q (F0 m pc ls (.int (nI j) :: .ref a :: rest)) :=
  va_zald C.1 C.2.1 C.2.2.2.2.2.1 Z.1 q0 t0 ha ht (vp_in_nI hj hn) hdg (pn_top (by show nI (F _) = _; rw [nI_clamp (by omega)]) k)
theorem pn_iast {a : Nat} {cA : ClassId} {n : Nat} {F : Nat → Nat} {j x : Nat} (C : pl_Cx p s m args c cc nL own D tys A) (Z : pl_Zx D A s ws H locs) (q0 t0 : Nat) (ha : ws[q0]? = some (a, .inl (cA, n, .inl (nF F)))) (ht : tys[t0]? = some (cA, .int)) (hj : j < n) (hn : n < 2 ^ 31) (hdg : decode cc pc = .ok (.iastore, 1)) (k : ∀ (H : Heap) (locs : List Loc), pl_Zx D A s (ws.set q0 (a, .inl (cA, n, .inl (nF (updN F j x))))) H locs → W p l e R s m args below meth c H locs cells slots Q (F0 m (pc + 1) ls rest)) : W p l e R s m args below meth c H locs cells slots Q (F0 m pc ls (.int (nI x) :: .int (nI j) :: .ref a :: rest)) := by
  refine va_iast C.1 C.2.1 C.2.2.2.2.2.1 Z.1 Z.2.1 Z.2.2 q0 t0 ha ht (vp_in_nI hj hn) hdg (fun H1 locs1 hP hD hS => k H1 locs1 ?_)
  rw [nI_clamp (by omega), nF_upd] at hP hD
  exact ⟨hP, hD, hS⟩
theorem pn_bast {a : Nat} {cA : ClassId} {n : Nat} {F : Nat → Nat} {j x : Nat} (C : pl_Cx p s m args c cc nL own D tys A) (Z : pl_Zx D A s ws H locs) (q0 t0 : Nat) (ha : ws[q0]? = some (a, .inl (cA, n, .inl (nF F)))) (ht : tys[t0]? = some (cA, .byte)) (hj : j < n) (hn : n < 2 ^ 31) (hv : vp_nar .byte (nI x) = nI x) (hdg : decode cc pc = .ok (.bastore, 1)) (k : ∀ (H : Heap) (locs : List Loc), pl_Zx D A s (ws.set q0 (a, .inl (cA, n, .inl (nF (updN F j x))))) H locs → W p l e R s m args below meth c H locs cells slots Q (F0 m (pc + 1) ls rest)) : W p l e R s m args below meth c H locs cells slots Q (F0 m pc ls (.int (nI x) :: .int (nI j) :: .ref a :: rest)) := by
  refine va_bast C.1 C.2.1 C.2.2.2.2.2.1 Z.1 Z.2.1 Z.2.2 q0 t0 ha ht (vp_in_nI hj hn) hdg (fun H1 locs1 hP hD hS => k H1 locs1 ?_)
  rw [nI_clamp (by omega), hv, nF_upd] at hP hD
  exact ⟨hP, hD, hS⟩
theorem pn_zast {a : Nat} {cA : ClassId} {n : Nat} {F : Nat → Nat} {j x : Nat} (C : pl_Cx p s m args c cc nL own D tys A) (Z : pl_Zx D A s ws H locs) (q0 t0 : Nat) (ha : ws[q0]? = some (a, .inl (cA, n, .inl (nF F)))) (ht : tys[t0]? = some (cA, .boolean)) (hj : j < n) (hn : n < 2 ^ 31) (hv : vp_nar .boolean (nI x) = nI x) (hdg : decode cc pc = .ok (.bastore, 1)) (k : ∀ (H : Heap) (locs : List Loc), pl_Zx D A s (ws.set q0 (a, .inl (cA, n, .inl (nF (updN F j x))))) H locs → W p l e R s m args below meth c H locs cells slots Q (F0 m (pc + 1) ls rest)) : W p l e R s m args below meth c H locs cells slots Q (F0 m pc ls (.int (nI x) :: .int (nI j) :: .ref a :: rest)) := by
  refine va_zast C.1 C.2.1 C.2.2.2.2.2.1 Z.1 Z.2.1 Z.2.2 q0 t0 ha ht (vp_in_nI hj hn) hdg (fun H1 locs1 hP hD hS => k H1 locs1 ?_)
  rw [nI_clamp (by omega), hv, nF_upd] at hP hD
  exact ⟨hP, hD, hS⟩
/-! fields -/
theorem px_get {a idx : Nat} {fs : List Value} {v : Value} (C : pl_Cx p s m args c cc nL own D tys A) (Z : pl_Zx D A s ws H locs) (q0 : Nat) (he : ws[q0]? = some (a, .inr (0, fs))) (k : Nat) (hk : k < 10) (hlink : Cond.fieldLink own idx (TX0 k).1 (TX0 k).2.1 (TX0 k).2.2.1 ∈ lw_all) (hv : fs[k]? = some v) (hdg : decode cc pc = .ok (.getfield idx, 3)) (kk : W p l e R s m args below meth c H locs cells slots Q (F0 m (pc + 3) ls (v :: rest))) : W p l e R s m args below meth c H locs cells slots Q (F0 m pc ls (.ref a :: rest)) :=
  va_get (D := D) (ci := 0) (v := v) (C := RX0) (T := TX0) (N := 10) C.1 C.2.1 C.2.2.2.2.1 in_X0 C.2.2.2.1 C.2.2.2.2.2.1 Z.1 q0 he rfl k hk (C.2.2.2.2.1 _ hlink) (fun _ h => h) hv hdg kk
theorem pm_get {a idx : Nat} {fs : List Value} {v : Value} (C : pl_Cx p s m args c cc nL own D tys A) (Z : pl_Zx D A s ws H locs) (q0 : Nat) (he : ws[q0]? = some (a, .inr (1, fs))) (k : Nat) (hk : k < 7) (hlink : Cond.fieldLink own idx (TX1 k).1 (TX1 k).2.1 (TX1 k).2.2.1 ∈ lw_all) (hv : fs[k]? = some v) (hdg : decode cc pc = .ok (.getfield idx, 3)) (kk : W p l e R s m args below meth c H locs cells slots Q (F0 m (pc + 3) ls (v :: rest))) : W p l e R s m args below meth c H locs cells slots Q (F0 m pc ls (.ref a :: rest)) :=
  va_get (D := D) (ci := 1) (v := v) (C := RX1) (T := TX1) (N := 7) C.1 C.2.1 C.2.2.2.2.1 in_X1 C.2.2.2.1 C.2.2.2.2.2.1 Z.1 q0 he rfl k hk (C.2.2.2.2.1 _ hlink) (fun _ h => h) hv hdg kk
theorem px_put {a idx : Nat} {fs : List Value} {v : Value} {ty : FieldType} (C : pl_Cx p s m args c cc nL own D tys A) (Z : pl_Zx D A s ws H locs) (q0 : Nat) (he : ws[q0]? = some (a, .inr (0, fs))) (k : Nat) (hk : k < 10) (hlink : Cond.fieldLink own idx (TX0 k).1 (TX0 k).2.1 (TX0 k).2.2.1 ∈ lw_all) (hfin : (TX0 k).2.2.2 = false) (hd : parseFieldDescriptor (TX0 k).2.2.1 = some ty) (hn : narrow ty v = v) (hfit : fits ty v = true) (hl : k < fs.length) (hdg : decode cc pc = .ok (.putfield idx, 3)) (kk : ∀ (H : Heap) (locs : List Loc), pl_Zx D A s (ws.set q0 (a, .inr (0, fs.set k v))) H locs → W p l e R s m args below meth c H locs cells slots Q (F0 m (pc + 3) ls rest)) : W p l e R s m args below meth c H locs cells slots Q (F0 m pc ls (v :: .ref a :: rest)) :=
  va_put (D := D) (ci := 0) (v := v) (ty := ty) (C := RX0) (T := TX0) (N := 10) C.1 C.2.1 C.2.2.2.2.1 in_X0 tyX0 tyX0_ok nmX0 C.2.2.2.1 C.2.2.2.2.2.1 Z.1 Z.2.1 Z.2.2 q0 he rfl k hk (C.2.2.2.2.1 _ hlink) (fun _ h => h) hfin hd hn hfit hl hdg (fun H1 locs1 hP hD hS => kk H1 locs1 ⟨hP, hD, hS⟩)
theorem pm_put {a idx : Nat} {fs : List Value} {v : Value} {ty : FieldType} (C : pl_Cx p s m args c cc nL own D tys A) (Z : pl_Zx D A s ws H locs) (q0 : Nat) (he : ws[q0]? = some (a, .inr (1, fs))) (k : Nat) (hk : k < 7) (hlink : Cond.fieldLink own idx (TX1 k).1 (TX1 k).2.1 (TX1 k).2.2.1 ∈ lw_all) (hfin : (TX1 k).2.2.2 = false) (hd : parseFieldDescriptor (TX1 k).2.2.1 = some ty) (hn : narrow ty v = v) (hfit : fits ty v = true) (hl : k < fs.length) (hdg : decode cc pc = .ok (.putfield idx, 3)) (kk : ∀ (H : Heap) (locs : List Loc), pl_Zx D A s (ws.set q0 (a, .inr (1, fs.set k v))) H locs → W p l e R s m args below meth c H locs cells slots Q (F0 m (pc + 3) ls rest)) : W p l e R s m args below meth c H locs cells slots Q (F0 m pc ls (v :: .ref a :: rest)) :=
  va_put (D := D) (ci := 1) (v := v) (ty := ty) (C := RX1) (T := TX1) (N := 7) C.1 C.2.1 C.2.2.2.2.1 in_X1 tyX1 tyX1_ok nmX1 C.2.2.2.1 C.2.2.2.2.2.1 Z.1 Z.2.1 Z.2.2 q0 he rfl k hk (C.2.2.2.2.1 _ hlink) (fun _ h => h) hfin hd hn hfit hl hdg (fun H1 locs1 hP hD hS => kk H1 locs1 ⟨hP, hD, hS⟩)
end
/-! the two worlds -/
/-- PrivacyLattice: object h 0; values, secrets, known, order, shown at h 1 .. h 5 -/
def pl_X (h : Nat → Nat) (k : Nat → ClassId) (n a b d z : Nat) (V S K O T : Nat → Nat) : va_W :=
  [(h 0, .inr (0, [.int (nI n), .ref (h 1), .ref (h 2), .int (nI a), .int (nI b), .int (nI d), .int (nI z), .ref (h 3), .ref (h 4), .ref (h 5)])), (h 1, .inl (k 1, 16, .inl (nF V))), (h 2, .inl (k 2, 16, .inl (nF S))), (h 3, .inl (k 3, 125, .inl (nF K))), (h 4, .inl (k 4, 16, .inl (nF O))), (h 5, .inl (k 5, 16, .inl (nF T)))]
abbrev pl_XT (k : Nat → ClassId) : List (ClassId × FieldType) := [(k 1, .int), (k 2, .int), (k 3, .byte), (k 4, .int), (k 5, .int)]
/-- what attribute j % 3 of row j / 3 is -/
def pl_at (V : Nat → Nat) (j : Nat) : Nat := V (j / 3) / 2 ^ (4 * (j % 3)) % 2 ^ 4
/-- PrivacyLatticeModel: object h 0; attributes, secrets, fine at h 1, h 2, h 3 -/
def pl_M (h : Nat → Nat) (k : Nat → ClassId) (n a b d : Nat) (U S G : Nat → Nat) : va_W :=
  [(h 0, .inr (1, [.ref (h 1), .ref (h 2), .int (nI n), .int (nI a), .int (nI b), .int (nI d), .ref (h 3)])), (h 1, .inl (k 1, 48, .inl (nF U))), (h 2, .inl (k 2, 16, .inl (nF S))), (h 3, .inl (k 3, 125, .inl (nF G)))]
abbrev pl_MT (k : Nat → ClassId) : List (ClassId × FieldType) := [(k 1, .int), (k 2, .int), (k 3, .boolean)]
end
section
/-! PLAIN LAWS: what both classes compute, with no program in sight -/
def pl_cnt (P : Nat → Bool) : Nat → Nat
  | 0 => 0
  | k + 1 => pl_cnt P k + (P k).toNat
def pl_ex (P : Nat → Bool) : Nat → Bool
  | 0 => false
  | k + 1 => pl_ex P k || P k
theorem pl_ex_iff (P : Nat → Bool) (n : Nat) : pl_ex P n = true ↔ ∃ q, q < n ∧ P q = true := by
  induction n with
  | zero => simp [pl_ex]
  | succ n ih =>
    rw [pl_ex, Bool.or_eq_true, ih]
    constructor
    · rintro (⟨q, h1, h2⟩ | h)
      · exact ⟨q, by omega, h2⟩
      · exact ⟨n, by omega, h⟩
    · rintro ⟨q, h1, h2⟩
      rcases Nat.lt_or_ge q n with h | h
      · exact Or.inl ⟨q, h, h2⟩
      · have e : q = n := by omega
        subst e
        exact Or.inr h2
theorem pl_ex_no (P : Nat → Bool) (n : Nat) : pl_ex P n = false ↔ ∀ q, q < n → P q = false := by
  constructor
  · intro h q hq
    cases e : P q with
    | false => rfl
    | true =>
      have h2 := (pl_ex_iff P n).mpr ⟨q, hq, e⟩
      rw [h] at h2
      cases h2
  · intro h
    cases e : pl_ex P n with
    | false => rfl
    | true =>
      obtain ⟨q, hq, h2⟩ := (pl_ex_iff P n).mp e
      rw [h q hq] at h2
      cases h2
theorem pl_b_iff {a b : Bool} (h : a = true ↔ b = true) : a = b := by
  cases a <;> cases b <;> simp_all
theorem pl_cnt_congr {P Q : Nat → Bool} {n : Nat} (h : ∀ i, i < n → P i = Q i) : pl_cnt P n = pl_cnt Q n := by
  induction n with
  | zero => rfl
  | succ n ih => rw [pl_cnt, pl_cnt, ih (fun i hi => h i (by omega)), h n (by omega)]
theorem pl_ex_congr {P Q : Nat → Bool} {n : Nat} (h : ∀ i, i < n → P i = Q i) : pl_ex P n = pl_ex Q n := by
  induction n with
  | zero => rfl
  | succ n ih => rw [pl_ex, pl_ex, ih (fun i hi => h i (by omega)), h n (by omega)]
theorem pl_cnt_mono {P Q : Nat → Bool} {n : Nat} (h : ∀ i, i < n → P i = true → Q i = true) : pl_cnt P n ≤ pl_cnt Q n := by
  induction n with
  | zero => exact Nat.le_refl _
  | succ n ih =>
    rw [pl_cnt, pl_cnt]
    have h1 := ih (fun i hi => h i (by omega))
    have h2 := h n (by omega)
    cases e : P n with
    | false => simp; omega
    | true => rw [h2 e]; simp; omega
theorem pl_cnt_le (P : Nat → Bool) (n : Nat) : pl_cnt P n ≤ n := by
  induction n with
  | zero => exact Nat.le_refl _
  | succ n ih =>
    rw [pl_cnt]
    cases P n <;> simp <;> omega
theorem pl_cnt_list (P : Nat → Bool) (n : Nat) : pl_cnt P n = (List.range n).countP P := by
  induction n with
  | zero => rfl
  | succ n ih =>
    rw [pl_cnt, List.range_succ, List.countP_append, ih]
    cases e : P n <;> simp [e]
/-- counting along a permutation -/
theorem pl_cnt_perm {O : Nat → Nat} {n : Nat} (h : ((List.range n).map O).Perm (List.range n)) (P : Nat → Bool) : pl_cnt (fun j => P (O j)) n = pl_cnt P n := by
  rw [pl_cnt_list, pl_cnt_list, ← h.countP_eq P, List.countP_map]
  rfl
theorem pl_perm_lt {O : Nat → Nat} {n : Nat} (h : ((List.range n).map O).Perm (List.range n)) {j : Nat} (hj : j < n) : O j < n := by
  have h1 : O j ∈ (List.range n).map O := List.mem_map.mpr ⟨j, List.mem_range.mpr hj, rfl⟩
  exact List.mem_range.mp (h.mem_iff.mp h1)
theorem pl_perm_ex {O : Nat → Nat} {n : Nat} (h : ((List.range n).map O).Perm (List.range n)) {q : Nat} (hq : q < n) : ∃ j, j < n ∧ O j = q := by
  obtain ⟨j, h1, h2⟩ := List.mem_map.mp (h.mem_iff.mpr (List.mem_range.mpr hq))
  exact ⟨j, List.mem_range.mp h1, h2⟩
theorem pl_cnt_iv (f e n : Nat) : pl_cnt (fun j => decide (f ≤ j ∧ j < e)) n = min n e - f := by
  induction n with
  | zero => simp [pl_cnt]
  | succ n ih =>
    rw [pl_cnt, ih]
    by_cases h : f ≤ n ∧ n < e
    · simp only [h, and_self, decide_true, Bool.toNat_true]; omega
    · simp only [h, decide_false, Bool.toNat_false]; omega
theorem pl_cnt_const {P : Nat → Bool} {f e : Nat} (c : Bool) (hfe : f ≤ e) (h : ∀ j, f ≤ j → j < e → P j = c) : pl_cnt P e = pl_cnt P f + (if c then e - f else 0) := by
  obtain ⟨t, rfl⟩ := Nat.le.dest hfe
  clear hfe
  induction t with
  | zero => simp
  | succ t ih =>
    have h1 := ih (fun j h1 h2 => h j h1 (by omega))
    have h2 := h (f + t) (by omega) (by omega)
    rw [show f + (t + 1) = (f + t) + 1 from rfl, pl_cnt, h1, h2]
    cases c <;> simp <;> omega
/-! settings -/
def pl_lev (s a : Nat) : Nat := if a = 0 then s % 5 else if a = 1 then s / 5 % 5 else s / 25
def pl_sum (s : Nat) : Nat := pl_lev s 0 + pl_lev s 1 + pl_lev s 2
def pl_ge (s t : Nat) : Bool := decide (pl_lev t 0 ≤ pl_lev s 0) && decide (pl_lev t 1 ≤ pl_lev s 1) && decide (pl_lev t 2 ≤ pl_lev s 2)
theorem pl_lev0 (s : Nat) : pl_lev s 0 = s % 5 := rfl
theorem pl_lev1 (s : Nat) : pl_lev s 1 = s / 5 % 5 := rfl
theorem pl_lev2 (s : Nat) : pl_lev s 2 = s / 25 := rfl
theorem pl_lev_le {s : Nat} (hs : s < 125) (a : Nat) : pl_lev s a ≤ 4 := by
  unfold pl_lev
  split
  · omega
  · split <;> omega
theorem pl_ge_iff (s t : Nat) : pl_ge s t = true ↔ ∀ a, a < 3 → pl_lev t a ≤ pl_lev s a := by
  unfold pl_ge
  simp only [Bool.and_eq_true, decide_eq_true_eq]
  constructor
  · rintro ⟨⟨h0, h1⟩, h2⟩ a ha
    match a, ha with
    | 0, _ => exact h0
    | 1, _ => exact h1
    | 2, _ => exact h2
  · intro h
    exact ⟨⟨h 0 (by omega), h 1 (by omega)⟩, h 2 (by omega)⟩
theorem pl_ge_iff2 (s t : Nat) : pl_ge s t = true ↔ t % 5 ≤ s % 5 ∧ t / 5 % 5 ≤ s / 5 % 5 ∧ t / 25 ≤ s / 25 := by
  rw [pl_ge_iff]
  constructor
  · intro h
    exact ⟨h 0 (by omega), h 1 (by omega), h 2 (by omega)⟩
  · rintro ⟨h0, h1, h2⟩ a ha
    match a, ha with
    | 0, _ => exact h0
    | 1, _ => exact h1
    | 2, _ => exact h2
theorem pl_sum_le {s : Nat} (hs : s < 125) : pl_sum s ≤ 12 := by
  have h0 := pl_lev_le hs 0
  have h1 := pl_lev_le hs 1
  have h2 := pl_lev_le hs 2
  unfold pl_sum
  omega
/-! keys -/
def pl_D (v s a : Nat) : Nat := v / 2 ^ (4 * a) % 2 ^ 4 / 2 ^ pl_lev s a
def pl_kp (v s : Nat) : Nat → Nat
  | 0 => 0
  | a + 1 => pl_kp v s a + pl_D v s a * 2 ^ (4 * a)
def pl_key (V : Nat → Nat) (s r : Nat) : Nat := pl_kp (V r) s 3
theorem pl_D_lt (v s a : Nat) : pl_D v s a < 16 := by
  unfold pl_D
  have h1 : v / 2 ^ (4 * a) % 2 ^ 4 < 2 ^ 4 := Nat.mod_lt _ (by decide)
  have h2 := Nat.div_le_self (v / 2 ^ (4 * a) % 2 ^ 4) (2 ^ pl_lev s a)
  omega
theorem pl_kp_lt (v s a : Nat) : pl_kp v s a < 2 ^ (4 * a) := by
  induction a with
  | zero => simp [pl_kp]
  | succ a ih =>
    rw [pl_kp]
    have h1 : pl_D v s a ≤ 15 := by have := pl_D_lt v s a; omega
    have h2 : pl_D v s a * 2 ^ (4 * a) ≤ 15 * 2 ^ (4 * a) := Nat.mul_le_mul_right _ h1
    have h3 : 2 ^ (4 * (a + 1)) = 16 * 2 ^ (4 * a) := by
      rw [show 4 * (a + 1) = 4 * a + 4 from by omega, Nat.pow_add]; omega
    rw [h3]
    omega
theorem pl_kp_or (v s a : Nat) : pl_kp v s a ||| pl_D v s a * 2 ^ (4 * a) = pl_kp v s (a + 1) := by
  rw [Nat.or_comm, Nat.mul_comm, ← Nat.two_pow_add_eq_or_of_lt (pl_kp_lt v s a), pl_kp, Nat.mul_comm]
  omega
theorem pl_kp3 (v s : Nat) : pl_kp v s 3 = pl_D v s 0 + pl_D v s 1 * 16 + pl_D v s 2 * 256 := by
  simp [pl_kp]
theorem pl_key_lt (V : Nat → Nat) (s r : Nat) : pl_key V s r < 4096 := pl_kp_lt (V r) s 3
theorem pl_key_iff (V : Nat → Nat) (s r q : Nat) : pl_key V s r = pl_key V s q ↔ ∀ a, a < 3 → pl_D (V r) s a = pl_D (V q) s a := by
  unfold pl_key
  rw [pl_kp3, pl_kp3]
  have r0 := pl_D_lt (V r) s 0
  have r1 := pl_D_lt (V r) s 1
  have r2 := pl_D_lt (V r) s 2
  have q0 := pl_D_lt (V q) s 0
  have q1 := pl_D_lt (V q) s 1
  have q2 := pl_D_lt (V q) s 2
  constructor
  · intro h a ha
    match a, ha with
    | 0, _ => omega
    | 1, _ => omega
    | 2, _ => omega
  · intro h
    rw [h 0 (by omega), h 1 (by omega), h 2 (by omega)]
/-- what looks alike at a setting looks alike at a coarser one -/
theorem pl_key_mono {V : Nat → Nat} {s t r q : Nat} (h : pl_ge t s = true) (hk : pl_key V s r = pl_key V s q) : pl_key V t r = pl_key V t q := by
  rw [pl_key_iff] at hk ⊢
  intro a ha
  have h1 := (pl_ge_iff t s).mp h a ha
  have h2 := hk a ha
  unfold pl_D at h2 ⊢
  obtain ⟨x, hx⟩ := Nat.le.dest h1
  rw [← hx, Nat.pow_add, ← Nat.div_div_eq_div_mul, ← Nat.div_div_eq_div_mul, h2]
/-! hidden rows -/
def pl_sz (n : Nat) (κ : Nat → Nat) (k : Nat) : Nat := pl_cnt (fun q => k == κ q) n
def pl_kd (n : Nat) (κ S : Nat → Nat) (k : Nat) : Nat := pl_cnt (fun t => pl_ex (fun q => (k == κ q) && (S q == t)) n) 8
def pl_hid (n : Nat) (κ S : Nat → Nat) (a b k : Nat) : Bool := decide (a ≤ pl_sz n κ k) && decide (b ≤ pl_kd n κ S k)
def pl_lft (n : Nat) (κ S : Nat → Nat) (a b : Nat) : Nat := pl_cnt (fun r => !pl_hid n κ S a b (κ r)) n
def pl_gd (n : Nat) (V S : Nat → Nat) (a b d s : Nat) : Bool := decide (pl_lft n (pl_key V s) S a b ≤ d)
theorem pl_lft_mono {n : Nat} {V S : Nat → Nat} {a b s t : Nat} (h : pl_ge t s = true) : pl_lft n (pl_key V t) S a b ≤ pl_lft n (pl_key V s) S a b := by
  unfold pl_lft
  refine pl_cnt_mono (fun r hr h1 => ?_)
  have hsz : pl_sz n (pl_key V s) (pl_key V s r) ≤ pl_sz n (pl_key V t) (pl_key V t r) := by
    refine pl_cnt_mono (fun q hq h2 => ?_)
    rw [beq_iff_eq] at h2 ⊢
    exact pl_key_mono h h2
  have hkd : pl_kd n (pl_key V s) S (pl_key V s r) ≤ pl_kd n (pl_key V t) S (pl_key V t r) := by
    refine pl_cnt_mono (fun x hx h2 => ?_)
    obtain ⟨q, hq, h3⟩ := (pl_ex_iff _ _).mp h2
    refine (pl_ex_iff _ _).mpr ⟨q, hq, ?_⟩
    rw [Bool.and_eq_true, beq_iff_eq] at h3 ⊢
    exact ⟨pl_key_mono h h3.1, h3.2⟩
  unfold pl_hid at h1 ⊢
  rw [Bool.not_eq_true', Bool.and_eq_false_iff, decide_eq_false_iff_not, decide_eq_false_iff_not] at h1 ⊢
  rcases h1 with h1 | h1
  · exact Or.inl (by omega)
  · exact Or.inr (by omega)
theorem pl_gd_mono {n : Nat} {V S : Nat → Nat} {a b d s t : Nat} (h : pl_ge t s = true) (hs : pl_gd n V S a b d s = true) : pl_gd n V S a b d t = true := by
  unfold pl_gd at hs ⊢
  rw [decide_eq_true_eq] at hs ⊢
  exact Nat.le_trans (pl_lft_mono h) hs
/-! sorted rows -/
def pl_srt (r : Nat) (κ O T : Nat → Nat) : Prop := (∀ j, j < r → T j = κ (O j)) ∧ ((List.range r).map O).Perm (List.range r) ∧ (∀ i j, i ≤ j → j < r → T i ≤ T j)
/-- the inner loop's hole at i -/
def pl_hole (r i x : Nat) (O T O' T' : Nat → Nat) : Prop := (∀ j, j < i → O' j = O j ∧ T' j = T j) ∧ (∀ j, i ≤ j → j < r → O' (j + 1) = O j ∧ T' (j + 1) = T j) ∧ (∀ j, i ≤ j → j < r → x < T j)
theorem pl_hole_0 (r x : Nat) (O T : Nat → Nat) : pl_hole r r x O T O T := ⟨fun _ _ => ⟨rfl, rfl⟩, fun j h1 h2 => absurd h1 (by omega), fun j h1 h2 => absurd h1 (by omega)⟩
theorem pl_hole_s {r i x : Nat} {O T O' T' : Nat → Nat} (hi : 0 < i) (hir : i ≤ r) (h : pl_hole r i x O T O' T') (hx : x < T' (i - 1)) : pl_hole r (i - 1) x O T (updN O' i (O' (i - 1))) (updN T' i (T' (i - 1))) := by
  obtain ⟨h1, h2, h3⟩ := h
  have e := h1 (i - 1) (by omega)
  refine ⟨fun j hj => ?_, fun j hj hr => ?_, fun j hj hr => ?_⟩
  · rw [updN_n _ _ (show j ≠ i by omega), updN_n _ _ (show j ≠ i by omega)]
    exact h1 j (by omega)
  · by_cases hji : j = i - 1
    · subst hji
      rw [show i - 1 + 1 = i by omega, updN_s, updN_s]
      exact e
    · rw [updN_n _ _ (show j + 1 ≠ i by omega), updN_n _ _ (show j + 1 ≠ i by omega)]
      exact h2 j (by omega) hr
  · by_cases hji : j = i - 1
    · subst hji
      rw [← e.2]; exact hx
    · exact h3 j (by omega) hr
theorem pl_ins {r i : Nat} {κ O T O' T' : Nat → Nat} (hs : pl_srt r κ O T) (hir : i ≤ r) (h : pl_hole r i (κ r) O T O' T') (hx : i = 0 ∨ T' (i - 1) ≤ κ r) : pl_srt (r + 1) κ (updN O' i r) (updN T' i (κ r)) := by
  obtain ⟨s1, s2, s3⟩ := hs
  obtain ⟨h1, h2, h3⟩ := h
  have up : ∀ j, i ≤ j → j < r → updN O' i r (j + 1) = O j ∧ updN T' i (κ r) (j + 1) = T j := by
    intro j hj hr
    rw [updN_n _ _ (show j + 1 ≠ i by omega), updN_n _ _ (show j + 1 ≠ i by omega)]
    exact h2 j hj hr
  have lo : ∀ j, j < i → updN O' i r j = O j ∧ updN T' i (κ r) j = T j := by
    intro j hj
    rw [updN_n _ _ (show j ≠ i by omega), updN_n _ _ (show j ≠ i by omega)]
    exact h1 j hj
  refine ⟨fun j hj => ?_, ?_, fun x y hxy hy => ?_⟩
  · rcases Nat.lt_trichotomy j i with hji | hji | hji
    · rw [(lo j hji).1, (lo j hji).2]; exact s1 j (by omega)
    · subst hji
      rw [updN_s, updN_s]
    · obtain ⟨t, rfl⟩ : ∃ t, j = t + 1 := ⟨j - 1, by omega⟩
      rw [(up t (by omega) (by omega)).1, (up t (by omega) (by omega)).2]
      exact s1 t (by omega)
  · obtain ⟨t, rfl⟩ := Nat.le.dest hir
    have e1 : (List.range (i + t)).map O = (List.range i).map O ++ (List.range t).map (fun j => O (i + j)) := by
      rw [List.range_add, List.map_append, List.map_map]; rfl
    have e2 : (List.range (i + t + 1)).map (updN O' i (i + t)) = (List.range i).map O ++ (i + t) :: (List.range t).map (fun j => O (i + j)) := by
      rw [show i + t + 1 = i + (t + 1) by omega, List.range_add, List.map_append, List.map_map, List.range_succ_eq_map, List.map_cons, List.map_map]
      congr 1
      · exact List.map_congr_left (fun j hj => (lo j (List.mem_range.mp hj)).1)
      · congr 1
        · show updN O' i (i + t) (i + 0) = _
          rw [Nat.add_zero, updN_s]
        · refine List.map_congr_left (fun j hj => ?_)
          show updN O' i (i + t) (i + (j + 1)) = _
          exact (up (i + j) (by omega) (by have := List.mem_range.mp hj; omega)).1
    rw [e2, List.range_succ]
    rw [e1] at s2
    exact List.perm_middle.trans ((List.Perm.cons _ s2).trans (List.perm_append_singleton _ _).symm)
  · have bnd : ∀ j, j < i → T j ≤ κ r := by
      intro j hj
      rcases hx with hx | hx
      · omega
      · rw [(h1 (i - 1) (by omega)).2] at hx
        exact Nat.le_trans (s3 j (i - 1) (by omega) (by omega)) hx
    rcases Nat.lt_trichotomy x i with hxi | hxi | hxi
    · rw [(lo x hxi).2]
      rcases Nat.lt_trichotomy y i with hyi | hyi | hyi
      · rw [(lo y hyi).2]; exact s3 x y hxy (by omega)
      · subst hyi
        rw [updN_s]; exact bnd x hxi
      · obtain ⟨t, rfl⟩ : ∃ t, y = t + 1 := ⟨y - 1, by omega⟩
        rw [(up t (by omega) (by omega)).2]; exact s3 x t (by omega) (by omega)
    · subst hxi
      rw [updN_s]
      rcases Nat.eq_or_lt_of_le hxy with hyi | hyi
      · subst hyi
        rw [updN_s]; exact Nat.le_refl _
      · obtain ⟨t, rfl⟩ : ∃ t, y = t + 1 := ⟨y - 1, by omega⟩
        rw [(up t (by omega) (by omega)).2]; exact Nat.le_of_lt (h3 t (by omega) (by omega))
    · obtain ⟨u, rfl⟩ : ∃ u, x = u + 1 := ⟨x - 1, by omega⟩
      obtain ⟨t, rfl⟩ : ∃ t, y = t + 1 := ⟨y - 1, by omega⟩
      rw [(up u (by omega) (by omega)).2, (up t (by omega) (by omega)).2]
      exact s3 u t (by omega) (by omega)
/-! groups of the sorted rows -/
/-- a group [f, e) of n sorted rows -/
def pl_grpE (n : Nat) (T : Nat → Nat) (f e : Nat) : Prop := f < e ∧ e ≤ n ∧ (∀ j, f ≤ j → j < e → T j = T f) ∧ (e < n → T e ≠ T f)
/-- f is where a group begins, or the end -/
def pl_bnd (n : Nat) (T : Nat → Nat) (f : Nat) : Prop := f ≤ n ∧ ∀ i, i < f → f < n → T i < T f
theorem pl_bnd_0 (n : Nat) (T : Nat → Nat) : pl_bnd n T 0 := ⟨Nat.zero_le _, fun i h => absurd h (by omega)⟩
theorem pl_bnd_s {n : Nat} {κ O T : Nat → Nat} {f e : Nat} (hs : pl_srt n κ O T) (hb : pl_bnd n T f) (hg : pl_grpE n T f e) : pl_bnd n T e := by
  obtain ⟨g1, g2, g3, g4⟩ := hg
  refine ⟨g2, fun i hi he => ?_⟩
  have h1 := hs.2.2 f e (by omega) he
  have h2 := g4 he
  rcases Nat.lt_or_ge i f with h | h
  · have := hs.2.2 i f (by omega) (by omega); omega
  · have := g3 i h hi; omega
theorem pl_grp_in {n : Nat} {κ O T : Nat → Nat} {f e : Nat} (hs : pl_srt n κ O T) (hb : pl_bnd n T f) (hg : pl_grpE n T f e) {j : Nat} (hj : j < n) : T f = T j ↔ f ≤ j ∧ j < e := by
  obtain ⟨g1, g2, g3, g4⟩ := hg
  constructor
  · intro h
    refine ⟨?_, ?_⟩
    · rcases Nat.lt_or_ge j f with q | q
      · have := hb.2 j q (by omega); omega
      · exact q
    · rcases Nat.lt_or_ge j e with q | q
      · exact q
      · exfalso
        have h1 := g4 (by omega)
        have h2 := hs.2.2 e j q hj
        have h3 := hs.2.2 f e (by omega) (by omega)
        omega
  · rintro ⟨h1, h2⟩
    exact (g3 j h1 h2).symm
theorem pl_grp_sz {n : Nat} {κ O T : Nat → Nat} {f e : Nat} (hs : pl_srt n κ O T) (hb : pl_bnd n T f) (hg : pl_grpE n T f e) : pl_sz n κ (T f) = e - f := by
  unfold pl_sz
  rw [← pl_cnt_perm hs.2.1, pl_cnt_congr (Q := fun j => decide (f ≤ j ∧ j < e)), pl_cnt_iv, Nat.min_eq_right hg.2.1]
  intro j hj
  refine pl_b_iff ?_
  rw [beq_iff_eq, decide_eq_true_eq, ← hs.1 j hj]
  exact pl_grp_in hs hb hg hj
theorem pl_grp_kd {n : Nat} {κ O T S : Nat → Nat} {f e : Nat} (hs : pl_srt n κ O T) (hb : pl_bnd n T f) (hg : pl_grpE n T f e) {m : Nat} (hm : ∀ t, m.testBit t = true ↔ ∃ j, f ≤ j ∧ j < e ∧ S (O j) = t) : pl_cnt m.testBit 8 = pl_kd n κ S (T f) := by
  unfold pl_kd
  refine pl_cnt_congr (fun t _ => pl_b_iff ?_)
  rw [hm t, pl_ex_iff]
  constructor
  · rintro ⟨j, h1, h2, h3⟩
    have hj : j < n := Nat.lt_of_lt_of_le h2 hg.2.1
    refine ⟨O j, pl_perm_lt hs.2.1 hj, ?_⟩
    rw [Bool.and_eq_true, beq_iff_eq, beq_iff_eq, ← hs.1 j hj]
    exact ⟨(pl_grp_in hs hb hg hj).mpr ⟨h1, h2⟩, h3⟩
  · rintro ⟨q, hq, h⟩
    rw [Bool.and_eq_true, beq_iff_eq, beq_iff_eq] at h
    obtain ⟨j, hj, rfl⟩ := pl_perm_ex hs.2.1 hq
    rw [← hs.1 j hj] at h
    have h2 := (pl_grp_in hs hb hg hj).mp h.1
    exact ⟨j, h2.1, h2.2, h.2⟩
/-- one group more: the rows left out -/
theorem pl_out_s {n : Nat} {κ O T S : Nat → Nat} {f e a b : Nat} (hs : pl_srt n κ O T) (hb : pl_bnd n T f) (hg : pl_grpE n T f e) : pl_cnt (fun j => !pl_hid n κ S a b (κ (O j))) e = pl_cnt (fun j => !pl_hid n κ S a b (κ (O j))) f + (if (!pl_hid n κ S a b (T f)) = true then e - f else 0) := by
  refine pl_cnt_const _ (Nat.le_of_lt hg.1) (fun j h1 h2 => ?_)
  have hj : j < n := Nat.lt_of_lt_of_le h2 hg.2.1
  show (!pl_hid n κ S a b (κ (O j))) = _
  rw [← hs.1 j hj, hg.2.2.1 j h1 h2]
theorem pl_out_end {n : Nat} {κ O T S : Nat → Nat} {a b : Nat} (hs : pl_srt n κ O T) : pl_cnt (fun j => !pl_hid n κ S a b (κ (O j))) n = pl_lft n κ S a b :=
  pl_cnt_perm hs.2.1 (fun r => !pl_hid n κ S a b (κ r))
/-! how many different keys -/
def pl_ds (κ : Nat → Nat) (n : Nat) : Nat := pl_cnt (fun k => pl_ex (fun j => κ j == k) n) 4096
def pl_grp (n : Nat) (κ : Nat → Nat) : Nat := pl_cnt (fun r => !pl_ex (fun q => κ q == κ r) r) n
theorem pl_cnt_or {P : Nat → Bool} {x : Nat} (h : P x = false) (N : Nat) : pl_cnt (fun k => P k || (x == k)) N = pl_cnt P N + (if x < N then 1 else 0) := by
  induction N with
  | zero => rfl
  | succ N ih =>
    rw [pl_cnt, pl_cnt, ih]
    by_cases hx : x = N
    · subst hx
      simp [h]
    · have : (x == N) = false := by simp [hx]
      rw [this, Bool.or_false]
      by_cases h2 : x < N
      · rw [if_pos h2, if_pos (by omega)]; omega
      · rw [if_neg h2, if_neg (by omega)]; omega
theorem pl_ds_s {T : Nat → Nat} {f e : Nat} (hfe : f < e) (h1 : ∀ j, f ≤ j → j < e → T j = T f) (h2 : ∀ i, i < f → T i ≠ T f) (h3 : T f < 4096) : pl_ds T e = pl_ds T f + 1 := by
  unfold pl_ds
  rw [pl_cnt_congr (Q := fun k => pl_ex (fun j => T j == k) f || (T f == k)), pl_cnt_or, if_pos h3]
  · rw [pl_ex_no]
    intro q hq
    simp [h2 q hq]
  · intro k _
    refine pl_b_iff ?_
    rw [pl_ex_iff, Bool.or_eq_true, pl_ex_iff]
    constructor
    · rintro ⟨q, hq, h⟩
      rcases Nat.lt_or_ge q f with g | g
      · exact Or.inl ⟨q, g, h⟩
      · rw [h1 q g hq] at h; exact Or.inr h
    · rintro (⟨q, hq, h⟩ | h)
      · exact ⟨q, by omega, h⟩
      · exact ⟨f, hfe, h⟩
theorem pl_ds_same {κ : Nat → Nat} {n : Nat} (h : ∃ i, i < n ∧ κ i = κ n) : pl_ds κ (n + 1) = pl_ds κ n := by
  unfold pl_ds
  refine pl_cnt_congr (fun k _ => pl_b_iff ?_)
  rw [pl_ex_iff, pl_ex_iff]
  constructor
  · rintro ⟨q, hq, h2⟩
    rcases Nat.lt_or_ge q n with g | g
    · exact ⟨q, g, h2⟩
    · have e : q = n := by omega
      subst e
      obtain ⟨i, hi, h3⟩ := h
      refine ⟨i, hi, ?_⟩
      rw [beq_iff_eq] at h2 ⊢
      omega
  · rintro ⟨q, hq, h2⟩
    exact ⟨q, by omega, h2⟩
theorem pl_grp_ds {κ : Nat → Nat} (hk : ∀ r, κ r < 4096) (n : Nat) : pl_grp n κ = pl_ds κ n := by
  induction n with
  | zero =>
    unfold pl_grp pl_ds
    rw [pl_cnt, pl_cnt_congr (Q := fun _ => false)]
    · exact (show ∀ N, 0 = pl_cnt (fun _ => false) N from fun N => by
        induction N with
        | zero => rfl
        | succ N ih => rw [pl_cnt, ← ih]; rfl) 4096
    · intro i _; rfl
  | succ n ih =>
    have e : pl_grp (n + 1) κ = pl_grp n κ + (!pl_ex (fun q => κ q == κ n) n).toNat := rfl
    rw [e, ih]
    cases h : pl_ex (fun q => κ q == κ n) n with
    | true =>
      obtain ⟨i, hi, h2⟩ := (pl_ex_iff _ _).mp h
      rw [pl_ds_same ⟨i, hi, by simpa using h2⟩]; simp
    | false =>
      rw [pl_ds_s (Nat.lt_succ_self n) (fun j h1 h2 => by rw [show j = n by omega]) (fun i hi => by
        have := (pl_ex_no _ _).mp h i hi
        simpa using this) (hk n)]
      rfl
theorem pl_ds_perm {n : Nat} {κ O T : Nat → Nat} (hs : pl_srt n κ O T) : pl_ds T n = pl_ds κ n := by
  unfold pl_ds
  refine pl_cnt_congr (fun k _ => pl_b_iff ?_)
  rw [pl_ex_iff, pl_ex_iff]
  constructor
  · rintro ⟨j, hj, h⟩
    exact ⟨O j, pl_perm_lt hs.2.1 hj, by rw [← hs.1 j hj]; exact h⟩
  · rintro ⟨q, hq, h⟩
    obtain ⟨j, hj, rfl⟩ := pl_perm_ex hs.2.1 hq
    exact ⟨j, hj, by rw [hs.1 j hj]; exact h⟩
theorem pl_ds_0 (T : Nat → Nat) : pl_ds T 0 = 0 := by
  unfold pl_ds
  rw [pl_cnt_congr (Q := fun _ => false)]
  · exact (show ∀ N, pl_cnt (fun _ => false) N = 0 from fun N => by
      induction N with
      | zero => rfl
      | succ N ih => rw [pl_cnt, ih]; rfl) 4096
  · intro i _; rfl
/-! masks of secrets -/
theorem pl_mask (m k t : Nat) : (m ||| 1 * 2 ^ k).testBit t = (m.testBit t || decide (k = t)) := by
  rw [Nat.testBit_or, Nat.one_mul, Nat.testBit_two_pow]
theorem pl_mask_lt {m k : Nat} (hm : m < 2 ^ 8) (hk : k < 8) : m ||| 1 * 2 ^ k < 2 ^ 8 := by
  refine Nat.or_lt_two_pow hm ?_
  rw [Nat.one_mul]
  exact Nat.pow_lt_pow_right (by decide) hk
theorem pl_mask_s (m t : Nat) : pl_cnt m.testBit t + m / 2 ^ t % 2 ^ 1 = pl_cnt m.testBit (t + 1) := by
  rw [pl_cnt, Nat.toNat_testBit, Nat.pow_one]
/-! finest settings -/
def pl_fin (g : Nat → Bool) (s : Nat) : Bool := g s && !pl_ex (fun t => g t && (pl_ge s t && (s != t))) 125
def pl_fin1 (K : Nat → Nat) (s : Nat) : Bool := (K s == 1) && (!(decide (0 < s % 5) && (K (s - 1) == 1)) && (!(decide (0 < s / 5 % 5) && (K (s - 5) == 1)) && (decide (s < 25) || !(K (s - 25) == 1))))
def pl_gv (g : Nat → Bool) (t : Nat) : Nat := if g t then 1 else 2
theorem pl_gv1 (g : Nat → Bool) (t : Nat) : (pl_gv g t == 1) = g t := by
  unfold pl_gv
  cases g t <;> rfl
theorem pl_fin_eq {g : Nat → Bool} (hg : ∀ s t, pl_ge t s = true → g s = true → g t = true) {K : Nat → Nat} (hK : ∀ t, t < 125 → K t = pl_gv g t) {s : Nat} (hs : s < 125) : pl_fin1 K s = pl_fin g s := by
  unfold pl_fin1 pl_fin
  rw [hK s hs, hK (s - 1) (by omega), hK (s - 5) (by omega), hK (s - 25) (by omega), pl_gv1, pl_gv1, pl_gv1, pl_gv1]
  refine pl_b_iff ?_
  simp only [Bool.and_eq_true, Bool.not_eq_true', Bool.or_eq_true, decide_eq_true_eq, Bool.and_eq_false_iff, decide_eq_false_iff_not]
  rw [pl_ex_no]
  constructor
  · rintro ⟨h1, h2, h3, h4⟩
    refine ⟨h1, fun t ht => ?_⟩
    cases e : (g t && (pl_ge s t && (s != t))) with
    | false => rfl
    | true =>
      exfalso
      simp only [Bool.and_eq_true, bne_iff_ne, ne_eq] at e
      obtain ⟨e1, e2, e3⟩ := e
      rw [pl_ge_iff2] at e2
      obtain ⟨l0, l1, l2⟩ := e2
      by_cases c0 : t % 5 < s % 5
      · have := hg t (s - 1) ((pl_ge_iff2 _ _).mpr (by omega)) e1
        rcases h2 with h2 | h2
        · omega
        · rw [this] at h2; cases h2
      · by_cases c1 : t / 5 % 5 < s / 5 % 5
        · have := hg t (s - 5) ((pl_ge_iff2 _ _).mpr (by omega)) e1
          rcases h3 with h3 | h3
          · omega
          · rw [this] at h3; cases h3
        · by_cases c2 : t / 25 < s / 25
          · have := hg t (s - 25) ((pl_ge_iff2 _ _).mpr (by omega)) e1
            rcases h4 with h4 | h4
            · omega
            · rw [this] at h4; cases h4
          · omega
  · rintro ⟨h1, h2⟩
    have key : ∀ t, t < 125 → pl_ge s t = true → s ≠ t → g t = false := by
      intro t ht h3 h4
      have := h2 t ht
      cases e : g t with
      | false => rfl
      | true => simp [e, h3, h4] at this
    refine ⟨h1, ?_, ?_, ?_⟩
    · by_cases c : 0 < s % 5
      · exact Or.inr (key _ (by omega) ((pl_ge_iff2 _ _).mpr (by omega)) (by omega))
      · exact Or.inl c
    · by_cases c : 0 < s / 5 % 5
      · exact Or.inr (key _ (by omega) ((pl_ge_iff2 _ _).mpr (by omega)) (by omega))
      · exact Or.inl c
    · by_cases c : s < 25
      · exact Or.inl c
      · exact Or.inr (key _ (by omega) ((pl_ge_iff2 _ _).mpr (by omega)) (by omega))
/-- the i-th that P picks, from s on, k tried -/
def pl_fat (P : Nat → Bool) (i : Int32) : Nat → Nat → Int32
  | 0, _ => -5
  | k + 1, s => if P s = true ∧ nI (pl_cnt P s) = i then nI s else pl_fat P i k (s + 1)
theorem pl_fat_neg {P : Nat → Bool} {i : Int32} (h : i < 0) : ∀ k s, k + s ≤ 125 → pl_fat P i k s = -5 := by
  intro k
  induction k with
  | zero => intro s _; rfl
  | succ k ih =>
    intro s hs
    rw [pl_fat, if_neg, ih (s + 1) (by omega)]
    rintro ⟨-, h2⟩
    rw [← h2] at h
    exact nI_pos (by have := pl_cnt_le P s; omega) h
theorem pl_fat_y {P : Nat → Bool} {i : Int32} {k s : Nat} (h1 : P s = true) (h2 : nI (pl_cnt P s) = i) : pl_fat P i (k + 1) s = nI s := by
  rw [pl_fat, if_pos ⟨h1, h2⟩]
theorem pl_fat_n {P : Nat → Bool} {i : Int32} {k s : Nat} (h : ¬ (P s = true ∧ nI (pl_cnt P s) = i)) : pl_fat P i (k + 1) s = pl_fat P i k (s + 1) := by
  rw [pl_fat, if_neg h]
/-! the best setting -/
def pl_bl : Option Nat → Nat
  | none => 13
  | some b => pl_sum b
def pl_bv : Option Nat → Int32
  | none => -5
  | some b => nI b
def pl_bst (g : Nat → Bool) : Nat → Option Nat
  | 0 => none
  | s + 1 => if g s = true ∧ pl_sum s < pl_bl (pl_bst g s) then some s else pl_bst g s
theorem pl_bst_lt (g : Nat → Bool) (s : Nat) : ∀ b, pl_bst g s = some b → b < s := by
  induction s with
  | zero => intro b h; cases h
  | succ s ih =>
    intro b h
    rw [pl_bst] at h
    split at h
    · cases h; omega
    · have := ih b h; omega
theorem pl_bl_le {g : Nat → Bool} {s : Nat} (hs : s ≤ 125) : pl_bl (pl_bst g s) ≤ 13 := by
  cases e : pl_bst g s with
  | none => exact Nat.le_refl _
  | some b =>
    have h1 := pl_bst_lt g s b e
    have h2 := pl_sum_le (show b < 125 by omega)
    show pl_sum b ≤ 13
    omega
/-! known settings -/
def pl_snd (g : Nat → Bool) (K : Nat → Nat) : Prop := ∀ t, t < 125 → K t = 0 ∨ K t = pl_gv g t
def pl_all (g : Nat → Bool) (K : Nat → Nat) : Prop := ∀ t, t < 125 → K t = pl_gv g t
/-- what judge writes -/
def pl_jv (g : Bool) (s t : Nat) : Bool := bif g then pl_ge t s else pl_ge s t
theorem pl_ge_rf (s : Nat) : pl_ge s s = true := (pl_ge_iff2 _ _).mpr ⟨Nat.le_refl _, Nat.le_refl _, Nat.le_refl _⟩
theorem pl_jud {g : Nat → Bool} (hg : ∀ s t, pl_ge t s = true → g s = true → g t = true) {K K' : Nat → Nat} {s : Nat} (hs : s < 125) (hK : pl_snd g K) (h : ∀ t, t < 125 → K' t = if pl_jv (g s) s t = true then (if g s = true then 1 else 2) else K t) : pl_snd g K' ∧ (∀ t, t < 125 → K t ≠ 0 → K' t ≠ 0) ∧ K' s ≠ 0 := by
  refine ⟨fun t ht => ?_, fun t ht h0 => ?_, ?_⟩
  · rw [h t ht]
    split
    · rename_i c
      right
      unfold pl_jv at c
      unfold pl_gv
      cases e : g s with
      | true =>
        rw [e] at c
        rw [hg s t c e]
      | false =>
        rw [e] at c
        cases e2 : g t with
        | true => rw [hg t s c e2] at e; cases e
        | false => rfl
    · exact hK t ht
  · rw [h t ht]
    split
    · split <;> omega
    · exact h0
  · rw [h s hs]
    have c : pl_jv (g s) s s = true := by unfold pl_jv; cases g s <;> exact pl_ge_rf s
    rw [if_pos c]
    split <;> omega
/-! what the public methods answer -/
def sp_leftOut (n : Nat) (V S : Nat → Nat) (a b : Nat) (x : Int32) : Int32 := if x < 0 ∨ nI 125 ≤ x then -4 else nI (pl_lft n (pl_key V x.toNatClampNeg) S a b)
def sp_good (n : Nat) (V S : Nat → Nat) (a b d : Nat) (x : Int32) : Int32 := if x < 0 ∨ nI 125 ≤ x then nI 0 else nI (pl_gd n V S a b d x.toNatClampNeg).toNat
def sp_goodSettings (n : Nat) (V S : Nat → Nat) (a b d : Nat) : Int32 := nI (pl_cnt (pl_gd n V S a b d) 125)
def sp_finest (n : Nat) (V S : Nat → Nat) (a b d : Nat) : Int32 := nI (pl_cnt (pl_fin (pl_gd n V S a b d)) 125)
def sp_finestAt (n : Nat) (V S : Nat → Nat) (a b d : Nat) (i : Int32) : Int32 := pl_fat (pl_fin (pl_gd n V S a b d)) i 125 0
def sp_best (n : Nat) (V S : Nat → Nat) (a b d : Nat) : Int32 := pl_bv (pl_bst (pl_gd n V S a b d) 125)
def sp_groups (n : Nat) (V : Nat → Nat) (x : Int32) : Int32 := if x < 0 ∨ nI 125 ≤ x then -4 else nI (pl_grp n (pl_key V x.toNatClampNeg))
def sp_lookAlike (n : Nat) (V : Nat → Nat) (x r : Int32) : Int32 := if x < 0 ∨ nI 125 ≤ x then -4 else if r < 0 ∨ nI n ≤ r then -3 else nI (pl_sz n (pl_key V x.toNatClampNeg) (pl_key V x.toNatClampNeg r.toNatClampNeg))
def sp_row (n : Nat) (V S : Nat → Nat) (x y : Int32) : Int32 × Nat × (Nat → Nat) × (Nat → Nat) := if y < 0 ∨ nI 7 < y then (-1, n, V, S) else if 16 ≤ n then (-2, n, V, S) else (nI n, n + 1, updN V n (x.toBitVec.toNat % 2 ^ 12), updN S n y.toNatClampNeg)
def sp_drop (n : Nat) : Int32 × Nat := if n = 0 then (-3, n) else (nI (n - 1), n - 1)
def sp_demand (a b d : Nat) (k l s : Int32) : Int32 × Nat × Nat × Nat := if k < nI 1 ∨ nI 8 < k ∨ l < nI 1 ∨ nI 8 < l ∨ s < 0 ∨ nI 16 < s then (-1, a, b, d) else (nI 0, k.toNatClampNeg, l.toNatClampNeg, s.toNatClampNeg)
theorem sp_in {x : Int32} (h : ¬ (x < 0 ∨ nI 125 ≤ x)) : ∃ j, j < 125 ∧ x = nI j := by
  rcases pk_ix x (show 125 < 2 ^ 31 by decide) with h1 | h1 | h1
  · exact absurd (Or.inl h1) h
  · exact absurd (Or.inr h1) h
  · exact h1
theorem sp_ok {j : Nat} (h : j < 125) : ¬ (nI j < 0 ∨ nI 125 ≤ nI j) := by
  rintro (h1 | h1)
  · exact nI_pos (by omega) h1
  · have := (nI_leI (by decide) (by omega)).mp h1
    omega
/-! the attributes of a new row -/
theorem pl_at_row {V : Nat → Nat} {n x : Nat} : updN (updN (updN (pl_at V) (n * 3 + 0) (x / 2 ^ (4 * 0) % 2 ^ 4)) (n * 3 + 1) (x / 2 ^ (4 * 1) % 2 ^ 4)) (n * 3 + 2) (x / 2 ^ (4 * 2) % 2 ^ 4) = pl_at (updN V n x) := by
  funext j
  unfold pl_at
  by_cases h : j / 3 = n
  · rw [show updN V n x (j / 3) = x by rw [h, updN_s]]
    have hj : j = n * 3 + j % 3 := by omega
    have h3 : j % 3 < 3 := Nat.mod_lt _ (by decide)
    generalize j % 3 = a at hj h3 ⊢
    subst hj
    match a, h3 with
    | 0, _ => rw [updN_n _ _ (by omega), updN_n _ _ (by omega), updN_s]
    | 1, _ => rw [updN_n _ _ (by omega), updN_s]
    | 2, _ => rw [updN_s]
  · rw [updN_n _ _ (by omega), updN_n _ _ (by omega), updN_n _ _ (by omega), updN_n _ _ h]
end
section
/-! small rows that the walks use -/
theorem pl_D_sh {v s i : Nat} (hi : i < 3) : pl_D v s i * 2 ^ (4 * i) < 2 ^ 32 := by
  have h1 := pl_kp_lt v s (i + 1)
  rw [pl_kp] at h1
  have h2 : 2 ^ (4 * (i + 1)) ≤ 2 ^ 12 := Nat.pow_le_pow_right (by decide) (by omega)
  omega
theorem pl_1sh {x : Nat} (h : x < 8) : 1 * 2 ^ x < 2 ^ 32 := by
  rw [Nat.one_mul]
  exact Nat.pow_lt_pow_right (by decide) (by omega)
theorem pl_srt_0 (κ O T : Nat → Nat) : pl_srt 0 κ O T := ⟨fun j h => absurd h (by omega), List.Perm.refl _, fun i j _ h => absurd h (by omega)⟩
theorem pl_srt_lt {n : Nat} {V : Nat → Nat} {g : Nat} {O T : Nat → Nat} (hs : pl_srt n (pl_key V g) O T) : ∀ j, j < n → T j < 4096 := by
  intro j hj
  rw [hs.1 j hj]
  exact pl_key_lt _ _ _
theorem pl_mask_0 {q : Nat} {F : Nat → Nat} (t : Nat) : (0 : Nat).testBit t = true ↔ ∃ j, q ≤ j ∧ j < q ∧ F j = t := by
  constructor
  · intro h
    rw [Nat.zero_testBit] at h
    cases h
  · rintro ⟨j, h1, h2, -⟩
    omega
theorem pl_mask_y {q i mk : Nat} {F : Nat → Nat} (hi : q ≤ i) (hv : ∀ t, mk.testBit t = true ↔ ∃ j, q ≤ j ∧ j < i ∧ F j = t) : ∀ t, (mk ||| 1 * 2 ^ F i).testBit t = true ↔ ∃ j, q ≤ j ∧ j < i + 1 ∧ F j = t := by
  intro t
  rw [pl_mask, Bool.or_eq_true, hv t, decide_eq_true_eq]
  constructor
  · rintro (⟨j, h1, h2, h3⟩ | h)
    · exact ⟨j, h1, by omega, h3⟩
    · exact ⟨i, hi, by omega, h⟩
  · rintro ⟨j, h1, h2, h3⟩
    rcases Nat.lt_or_ge j i with h | h
    · exact Or.inl ⟨j, h1, h, h3⟩
    · have e : j = i := by omega
      subst e
      exact Or.inr h3
theorem pl_hid_f1 {n : Nat} {κ S : Nat → Nat} {a b k : Nat} (h : pl_sz n κ k < a) : pl_hid n κ S a b k = false := by
  unfold pl_hid
  rw [decide_eq_false (by omega), Bool.false_and]
theorem pl_hid_f2 {n : Nat} {κ S : Nat → Nat} {a b k : Nat} (h : pl_kd n κ S k < b) : pl_hid n κ S a b k = false := by
  unfold pl_hid
  rw [decide_eq_false (p := b ≤ pl_kd n κ S k) (by omega), Bool.and_false]
theorem pl_hid_t {n : Nat} {κ S : Nat → Nat} {a b k : Nat} (h1 : a ≤ pl_sz n κ k) (h2 : b ≤ pl_kd n κ S k) : pl_hid n κ S a b k = true := by
  unfold pl_hid
  rw [decide_eq_true h1, decide_eq_true h2]
  rfl
theorem pl_out_n {n : Nat} {κ O T S : Nat → Nat} {f e a b : Nat} (hs : pl_srt n κ O T) (hb : pl_bnd n T f) (hg : pl_grpE n T f e) (hh : pl_hid n κ S a b (T f) = true) : pl_cnt (fun j => !pl_hid n κ S a b (κ (O j))) e = pl_cnt (fun j => !pl_hid n κ S a b (κ (O j))) f := by
  rw [pl_out_s hs hb hg, hh]; simp
theorem pl_out_y {n : Nat} {κ O T S : Nat → Nat} {f e a b : Nat} (hs : pl_srt n κ O T) (hb : pl_bnd n T f) (hg : pl_grpE n T f e) (hh : pl_hid n κ S a b (T f) = false) : pl_cnt (fun j => !pl_hid n κ S a b (κ (O j))) e = pl_cnt (fun j => !pl_hid n κ S a b (κ (O j))) f + (e - f) := by
  rw [pl_out_s hs hb hg, hh]; simp
theorem pl_cnt_f {P : Nat → Bool} {i : Nat} (h : P i = false) : pl_cnt P (i + 1) = pl_cnt P i := by
  rw [pl_cnt, h]; rfl
theorem pl_cnt_t {P : Nat → Bool} {i : Nat} (h : P i = true) : pl_cnt P (i + 1) = pl_cnt P i + 1 := by
  rw [pl_cnt, h]; rfl
theorem pl_lft_le (n : Nat) (κ S : Nat → Nat) (a b : Nat) : pl_lft n κ S a b ≤ n := pl_cnt_le _ _
theorem pl_kd_le (n : Nat) (κ S : Nat → Nat) (k : Nat) : pl_kd n κ S k ≤ 8 := pl_cnt_le _ _
theorem pl_sz_le (n : Nat) (κ : Nat → Nat) (k : Nat) : pl_sz n κ k ≤ n := pl_cnt_le _ _
theorem pl_gd_t {n : Nat} {V S : Nat → Nat} {a b d s : Nat} (h : pl_lft n (pl_key V s) S a b ≤ d) : pl_gd n V S a b d s = true := decide_eq_true h
theorem pl_gd_f {n : Nat} {V S : Nat → Nat} {a b d s : Nat} (h : d < pl_lft n (pl_key V s) S a b) : pl_gd n V S a b d s = false := decide_eq_false (by omega)
theorem pl_gm (n : Nat) (V S : Nat → Nat) (a b d : Nat) : ∀ s t, pl_ge t s = true → pl_gd n V S a b d s = true → pl_gd n V S a b d t = true := fun _ _ h h2 => pl_gd_mono h h2
/-- judge's loop: what is known with i settings looked at -/
def pl_jd (g : Bool) (s : Nat) (K K1 : Nat → Nat) (i : Nat) : Prop := ∀ t, K1 t = if (decide (t < i) && pl_jv g s t) = true then (if g = true then 1 else 2) else K t
theorem pl_jd_0 (g : Bool) (s : Nat) (K : Nat → Nat) : pl_jd g s K K 0 := by
  intro t
  rw [decide_eq_false (by omega), Bool.false_and, if_neg (by decide)]
theorem pl_jd_n {g : Bool} {s : Nat} {K K1 : Nat → Nat} {i : Nat} (h : pl_jd g s K K1 i) (hj : pl_jv g s i = false) : pl_jd g s K K1 (i + 1) := by
  intro t
  rw [h t]
  by_cases e : t = i
  · subst e
    rw [hj, Bool.and_false, Bool.and_false]
  · have : decide (t < i) = decide (t < i + 1) := by
      by_cases q : t < i
      · rw [decide_eq_true q, decide_eq_true (by omega)]
      · rw [decide_eq_false q, decide_eq_false (by omega)]
    rw [this]
theorem pl_jd_y {g : Bool} {s : Nat} {K K1 : Nat → Nat} {i v : Nat} (h : pl_jd g s K K1 i) (hj : pl_jv g s i = true) (hv : v = if g = true then 1 else 2) : pl_jd g s K (updN K1 i v) (i + 1) := by
  intro t
  by_cases e : t = i
  · subst e
    rw [updN_s, hj, decide_eq_true (by omega), if_pos (by rfl), hv]
  · have : decide (t < i) = decide (t < i + 1) := by
      by_cases q : t < i
      · rw [decide_eq_true q, decide_eq_true (by omega)]
      · rw [decide_eq_false q, decide_eq_false (by omega)]
    rw [updN_n _ _ e, h t, this]
theorem pl_jd_e {g : Bool} {s : Nat} {K K1 : Nat → Nat} {i : Nat} (h : pl_jd g s K K1 i) (hi : 125 ≤ i) : ∀ t, t < 125 → K1 t = if pl_jv g s t = true then (if g = true then 1 else 2) else K t := by
  intro t ht
  rw [h t, decide_eq_true (by omega), Bool.true_and]
theorem pl_gv_lt (g : Nat → Bool) (t : Nat) : pl_gv g t < 3 := by
  unfold pl_gv
  split <;> omega
theorem pl_gv_0 (g : Nat → Bool) (t : Nat) : pl_gv g t ≠ 0 := by
  unfold pl_gv
  split <;> omega
theorem pl_gv_1 {g : Nat → Bool} {t : Nat} : pl_gv g t = 1 ↔ g t = true := by
  unfold pl_gv
  split
  · rename_i h; simp [h]
  · rename_i h; simp [h]
theorem pl_snd_lt {g : Nat → Bool} {K : Nat → Nat} (h : pl_snd g K) {t : Nat} (ht : t < 125) : K t < 3 := by
  have h1 := pl_gv_lt g t
  rcases h t ht with e | e <;> omega
theorem pl_all_lt {g : Nat → Bool} {K : Nat → Nat} (h : pl_all g K) : ∀ t, t < 125 → K t < 3 := by
  intro t ht
  rw [h t ht]
  exact pl_gv_lt g t
theorem pl_k1 {g : Nat → Bool} {K : Nat → Nat} (h : pl_all g K) {t : Nat} (ht : t < 125) (e : K t = 1) : g t = true := pl_gv_1.mp ((h t ht).symm.trans e)
theorem pl_k0 {g : Nat → Bool} {K : Nat → Nat} (h : pl_all g K) {t : Nat} (ht : t < 125) (e : ¬ K t = 1) : g t = false := Bool.eq_false_iff.mpr (fun q => e ((h t ht).trans (pl_gv_1.mpr q)))
/-- what ready says of known -/
def pl_rdy (g : Nat → Bool) (z : Nat) (K : Nat → Nat) : Prop := z < 2 ∧ (z ≠ 0 → pl_all g K)
theorem pl_rdy_1 {g : Nat → Bool} {z : Nat} {K : Nat → Nat} (hz : z = 1) (h : pl_all g K) : pl_rdy g z K := ⟨by omega, fun _ => h⟩
theorem pl_zero_s {K : Nat → Nat} {i : Nat} (h : ∀ t, t < i → K t = 0) : ∀ t, t < i + 1 → updN K i 0 t = 0 := by
  intro t ht
  by_cases e : t = i
  · rw [e, updN_s]
  · rw [updN_n _ _ e]; exact h t (by omega)
theorem pl_prep {g : Nat → Bool} {K : Nat → Nat} (h1 : pl_snd g K) (h3 : ∀ t, t < 125 → 6 < pl_sum t + 7 → pl_sum t < 6 + 7 → K t ≠ 0) : pl_all g K := by
  intro t ht
  have hs := pl_sum_le ht
  rcases h1 t ht with e | e
  · exact absurd e (h3 t ht (by omega) (by omega))
  · exact e
theorem pl_prep_s {x : Nat} {K3 K4 K5 : Nat → Nat} (hx : 1 ≤ x) (hx2 : x ≤ 6) (h3 : ∀ t, t < 125 → 6 < pl_sum t + x → pl_sum t < 6 + x → K3 t ≠ 0)
    (j2 : ∀ t, t < 125 → K3 t ≠ 0 → K4 t ≠ 0) (j3 : ∀ t, t < 125 → pl_sum t = 6 - x → K4 t ≠ 0) (i2 : ∀ t, t < 125 → K4 t ≠ 0 → K5 t ≠ 0) (i3 : ∀ t, t < 125 → pl_sum t = 6 + x → K5 t ≠ 0) :
    ∀ t, t < 125 → 6 < pl_sum t + (x + 1) → pl_sum t < 6 + (x + 1) → K5 t ≠ 0 := by
  intro t ht a1 a2
  by_cases e1 : pl_sum t = 6 + x
  · exact i3 t ht e1
  · by_cases e2 : pl_sum t = 6 - x
    · exact i2 t ht (j3 t ht e2)
    · exact i2 t ht (j2 t ht (h3 t ht (by omega) (by omega)))
theorem pl_fin1_iff (K : Nat → Nat) (g : Nat) : pl_fin1 K g = true ↔ K g = 1 ∧ (g % 5 = 0 ∨ ¬ K (g - 1) = 1) ∧ (g / 5 % 5 = 0 ∨ ¬ K (g - 5) = 1) ∧ (g < 25 ∨ ¬ K (g - 25) = 1) := by
  unfold pl_fin1
  simp only [Bool.and_eq_true, Bool.not_eq_true', Bool.or_eq_true, decide_eq_true_eq, Bool.and_eq_false_iff, decide_eq_false_iff_not, beq_iff_eq, beq_eq_false_iff_ne, ne_eq]
  omega
theorem sp_leftOut_b {n : Nat} {V S : Nat → Nat} {a b : Nat} {x : Int32} (h : x < 0 ∨ nI 125 ≤ x) : sp_leftOut n V S a b x = -4 := if_pos h
theorem sp_leftOut_j {n : Nat} {V S : Nat → Nat} {a b j : Nat} (h : j < 125) : sp_leftOut n V S a b (nI j) = nI (pl_lft n (pl_key V j) S a b) := by
  unfold sp_leftOut
  rw [if_neg (sp_ok h), nI_clamp (by omega)]
theorem sp_good_b {n : Nat} {V S : Nat → Nat} {a b d : Nat} {x : Int32} (h : x < 0 ∨ nI 125 ≤ x) : sp_good n V S a b d x = nI 0 := if_pos h
theorem sp_good_j {n : Nat} {V S : Nat → Nat} {a b d j : Nat} (h : j < 125) : sp_good n V S a b d (nI j) = nI (pl_gd n V S a b d j).toNat := by
  unfold sp_good
  rw [if_neg (sp_ok h), nI_clamp (by omega)]
theorem sp_groups_b {n : Nat} {V : Nat → Nat} {x : Int32} (h : x < 0 ∨ nI 125 ≤ x) : sp_groups n V x = -4 := if_pos h
theorem sp_groups_j {n : Nat} {V : Nat → Nat} {j : Nat} (h : j < 125) : sp_groups n V (nI j) = nI (pl_grp n (pl_key V j)) := by
  unfold sp_groups
  rw [if_neg (sp_ok h), nI_clamp (by omega)]
theorem sp_lookAlike_b {n : Nat} {V : Nat → Nat} {x r : Int32} (h : x < 0 ∨ nI 125 ≤ x) : sp_lookAlike n V x r = -4 := if_pos h
theorem sp_lookAlike_r {n : Nat} {V : Nat → Nat} {j : Nat} {r : Int32} (h : j < 125) (hr : r < 0 ∨ nI n ≤ r) : sp_lookAlike n V (nI j) r = -3 := by
  unfold sp_lookAlike
  rw [if_neg (sp_ok h), if_pos hr]
theorem sp_lookAlike_j {n : Nat} {V : Nat → Nat} {j r : Nat} (h : j < 125) (hr : r < n) (hn : n ≤ 16) : sp_lookAlike n V (nI j) (nI r) = nI (pl_sz n (pl_key V j) (pl_key V j r)) := by
  have hr2 : ¬ (nI r < 0 ∨ nI n ≤ nI r) := by
    rintro (q | q)
    · exact nI_pos (by omega) q
    · have := (nI_leI (by omega) (by omega)).mp q
      omega
  unfold sp_lookAlike
  rw [if_neg (sp_ok h), if_neg hr2, nI_clamp (by omega), nI_clamp (by omega)]
theorem pl_yin {y : Int32} {n : Nat} (hn : n ≤ 16) (h0 : ¬ y < 0) (h1 : y < nI n) : ∃ r, r < n ∧ y = nI r := by
  rcases pk_ix y (show n < 2 ^ 31 by omega) with q | q | q
  · exact absurd q h0
  · exact absurd h1 (Int32.not_lt.mpr q)
  · exact q
theorem pl_y8 {y : Int32} {n : Nat} (hn : n ≤ 100) (h0 : ¬ y < 0) (h1 : y ≤ nI n) : ∃ r, r < n + 1 ∧ y = nI r := by
  rcases pk_ix y (show n + 1 < 2 ^ 31 by omega) with q | q | q
  · exact absurd q h0
  · exfalso
    have h2 := Int32.le_trans q h1
    have := (nI_leI (by omega) (by omega)).mp h2
    omega
  · exact q
theorem pl_y18 {y : Int32} (h0 : ¬ y < nI 1) (h1 : ¬ nI 8 < y) : ∃ r, r ≤ 8 ∧ 1 ≤ r ∧ y = nI r := by
  have h2 : ¬ y < 0 := fun q => h0 (Int32.lt_trans q (by decide))
  obtain ⟨r, hr, rfl⟩ := pl_y8 (n := 8) (by decide) h2 (Int32.not_lt.mp h1)
  refine ⟨r, by omega, ?_, rfl⟩
  have := mt (nI_ltI (a := r) (b := 1) (by omega) (by decide)).mpr h0
  omega
theorem sp_row_1 {n : Nat} {V S : Nat → Nat} {x y : Int32} (h : y < 0 ∨ nI 7 < y) : sp_row n V S x y = (-1, n, V, S) := if_pos h
theorem pl_n7 {t : Nat} (ht : t < 8) : ¬ (nI t < 0 ∨ nI 7 < nI t) := by
  rintro (q | q)
  · exact nI_pos (by omega) q
  · have := (nI_ltI (by decide) (by omega)).mp q
    omega
theorem sp_row_2 {n : Nat} {V S : Nat → Nat} {x : Int32} {t : Nat} (ht : t < 8) (hn : 16 ≤ n) : sp_row n V S x (nI t) = (-2, n, V, S) := by
  unfold sp_row
  rw [if_neg (pl_n7 ht), if_pos hn]
theorem sp_row_3 {n : Nat} {V S : Nat → Nat} {x : Int32} {t : Nat} (ht : t < 8) (hn : n < 16) : sp_row n V S x (nI t) = (nI n, n + 1, updN V n (x.toBitVec.toNat % 2 ^ 12), updN S n t) := by
  unfold sp_row
  rw [if_neg (pl_n7 ht), if_neg (by omega), nI_clamp (by omega)]
theorem sp_drop_0 {n : Nat} (h : n = 0) : sp_drop n = (-3, n) := if_pos h
theorem sp_drop_1 {n : Nat} (h : ¬ n = 0) : sp_drop n = (nI (n - 1), n - 1) := if_neg h
theorem sp_demand_0 {a b d : Nat} {x y w : Int32} (h : x < nI 1 ∨ nI 8 < x ∨ y < nI 1 ∨ nI 8 < y ∨ w < 0 ∨ nI 16 < w) : sp_demand a b d x y w = (-1, a, b, d) := if_pos h
theorem sp_demand_1 {a b d x y w : Nat} (hx : x ≤ 8) (hx1 : 1 ≤ x) (hy : y ≤ 8) (hy1 : 1 ≤ y) (hw : w < 17) : sp_demand a b d (nI x) (nI y) (nI w) = (nI 0, x, y, w) := by
  unfold sp_demand
  rw [if_neg, nI_clamp (by omega), nI_clamp (by omega), nI_clamp (by omega)]
  rintro (q | q | q | q | q | q)
  · have := (nI_ltI (by omega) (by decide)).mp q; omega
  · have := (nI_ltI (by decide) (by omega)).mp q; omega
  · have := (nI_ltI (by omega) (by decide)).mp q; omega
  · have := (nI_ltI (by decide) (by omega)).mp q; omega
  · exact nI_pos (by omega) q
  · have := (nI_ltI (by decide) (by omega)).mp q; omega
theorem pl_fat_next {P : Nat → Bool} {x : Int32} {i : Nat} (hi : i < 125) (h : ¬ (P i = true ∧ nI (pl_cnt P i) = x)) : pl_fat P x (125 - (i + 1)) (i + 1) = pl_fat P x (125 - i) i := by
  rw [show 125 - i = (125 - (i + 1)) + 1 by omega, pl_fat_n h]
theorem pl_fat_hit {P : Nat → Bool} {x : Int32} {i : Nat} (hi : i < 125) (h1 : P i = true) (h2 : nI (pl_cnt P i) = x) : pl_fat P x (125 - i) i = nI i := by
  rw [show 125 - i = (125 - (i + 1)) + 1 by omega, pl_fat_y h1 h2]
theorem pl_fat_end {P : Nat → Bool} {x : Int32} {i : Nat} (hi : 125 ≤ i) : pl_fat P x (125 - i) i = -5 := by
  rw [show 125 - i = 0 by omega]; rfl
theorem pl_bst_y {g : Nat → Bool} {i : Nat} (h1 : g i = true) (h2 : pl_sum i < pl_bl (pl_bst g i)) : pl_bst g (i + 1) = some i := by
  rw [pl_bst, if_pos ⟨h1, h2⟩]
theorem pl_bst_n1 {g : Nat → Bool} {i : Nat} (h : g i = false) : pl_bst g (i + 1) = pl_bst g i := by
  rw [pl_bst, if_neg]
  rintro ⟨q, -⟩
  rw [h] at q
  cases q
theorem pl_bst_n2 {g : Nat → Bool} {i : Nat} (h : pl_bl (pl_bst g i) ≤ pl_sum i) : pl_bst g (i + 1) = pl_bst g i := by
  rw [pl_bst, if_neg]
  rintro ⟨-, q⟩
  omega
/-! the Model's rows -/
def pl_ru (U : Nat → Nat) (n x : Nat) : Nat → Nat → Nat
  | 0 => U
  | i + 1 => updN (pl_ru U n x i) (n * 3 + i) (x / 2 ^ (4 * i) % 2 ^ 4)
theorem pl_ru_3 (V : Nat → Nat) (n x : Nat) : pl_ru (pl_at V) n x 3 = pl_at (updN V n x) := pl_at_row
theorem pl_at_ri (V : Nat → Nat) (r i : Nat) (hi : i < 3) : pl_at V (r * 3 + i) = V r / 2 ^ (4 * i) % 2 ^ 4 := by
  unfold pl_at
  rw [show (r * 3 + i) / 3 = r by omega, show (r * 3 + i) % 3 = i by omega]
theorem pl_toInt (x : Int32) : x.toInt = if 2 * x.toBitVec.toNat < 2 ^ 32 then (x.toBitVec.toNat : Int) else (x.toBitVec.toNat : Int) - 2 ^ 32 := by
  show x.toBitVec.toInt = _
  rw [BitVec.toInt_eq_toNat_cond]
  rfl
theorem pl_xsh (x : Int32) {i : Nat} (hi : i < 3) : (x >>> (nI (4 * i) &&& 31)) &&& nI 15 = nI (x.toBitVec.toNat % 2 ^ 12 / 2 ^ (4 * i) % 2 ^ 4) := by
  rw [pk_and _ 4 (by decide)]
  congr 1
  have h1 := pk_shr x (nI (4 * i) &&& 31) (4 * i) (pn_sm (4 * i) (by omega))
  generalize x >>> (nI (4 * i) &&& 31) = y at h1 ⊢
  rw [Int.shiftRight_eq_div_pow, pl_toInt, pl_toInt] at h1
  have hx : x.toBitVec.toNat < 2 ^ 32 := x.toBitVec.isLt
  have hy : y.toBitVec.toNat < 2 ^ 32 := y.toBitVec.isLt
  generalize x.toBitVec.toNat = X at h1 hx ⊢
  generalize y.toBitVec.toNat = Y at h1 hy ⊢
  match i, hi with
  | 0, _ => simp only [Nat.mul_zero, Nat.pow_zero] at h1 ⊢; split at h1 <;> split at h1 <;> omega
  | 1, _ => simp only [Nat.mul_one] at h1 ⊢; split at h1 <;> split at h1 <;> omega
  | 2, _ => simp only [Nat.reduceMul] at h1 ⊢; split at h1 <;> split at h1 <;> omega
theorem pl_al_y {V : Nat → Nat} {g r q : Nat} (h : ∀ a, a < 3 → pl_D (V r) g a = pl_D (V q) g a) : (pl_key V g r == pl_key V g q) = true := by
  rw [beq_iff_eq]; exact (pl_key_iff V g r q).mpr h
theorem pl_al_n {V : Nat → Nat} {g r q a : Nat} (ha : a < 3) (h : ¬ pl_D (V r) g a = pl_D (V q) g a) : ¬ (pl_key V g r == pl_key V g q) = true := by
  rw [beq_iff_eq]
  exact fun e => h ((pl_key_iff V g r q).mp e a ha)
theorem pl_ex_t {P : Nat → Bool} {i N : Nat} (h : P i = true) (hi : i < N) : pl_ex P N = true := (pl_ex_iff P N).mpr ⟨i, hi, h⟩
theorem pl_exs_0 {P : Nat → Nat → Bool} {t : Nat} : (0 : Nat).testBit t = pl_ex (P t) 0 := by
  rw [Nat.zero_testBit]; rfl
theorem pl_exs_n {mk i : Nat} {κ S : Nat → Nat} {k : Nat} (hv : ∀ t, mk.testBit t = pl_ex (fun q => (k == κ q) && (S q == t)) i) (h : (k == κ i) = false) : ∀ t, mk.testBit t = pl_ex (fun q => (k == κ q) && (S q == t)) (i + 1) := by
  intro t
  rw [pl_ex, ← hv t, h, Bool.false_and, Bool.or_false]
theorem pl_exs_y {mk i : Nat} {κ S : Nat → Nat} {k : Nat} (hv : ∀ t, mk.testBit t = pl_ex (fun q => (k == κ q) && (S q == t)) i) (h : (k == κ i) = true) : ∀ t, (mk ||| 1 * 2 ^ S i).testBit t = pl_ex (fun q => (k == κ q) && (S q == t)) (i + 1) := by
  intro t
  rw [pl_mask, pl_ex, ← hv t, h, Bool.true_and]
  rfl
theorem pl_exs_e {mk n : Nat} {κ S : Nat → Nat} {k : Nat} (hv : ∀ t, mk.testBit t = pl_ex (fun q => (k == κ q) && (S q == t)) n) : pl_cnt mk.testBit 8 = pl_kd n κ S k := pl_cnt_congr (fun t _ => hv t)
/-- fine, with i settings looked at -/
theorem pl_fine_s {g : Nat → Bool} {G : Nat → Nat} {i : Nat} (h : ∀ t, t < i → G t = (g t).toNat) : ∀ t, t < i + 1 → updN G i (g i).toNat t = (g t).toNat := by
  intro t ht
  by_cases e : t = i
  · rw [e, updN_s]
  · rw [updN_n _ _ e]; exact h t (by omega)
theorem pl_f1 {g : Nat → Bool} {G : Nat → Nat} (h : ∀ t, t < 125 → G t = (g t).toNat) {t : Nat} (ht : t < 125) (e : ¬ G t = 0) : g t = true := by
  cases q : g t with
  | true => rfl
  | false => rw [h t ht, q] at e; exact absurd rfl e
theorem pl_f0 {g : Nat → Bool} {G : Nat → Nat} (h : ∀ t, t < 125 → G t = (g t).toNat) {t : Nat} (ht : t < 125) (e : G t = 0) : g t = false := by
  cases q : g t with
  | false => rfl
  | true => rw [h t ht, q] at e; cases e
theorem pl_fl {g : Nat → Bool} {G : Nat → Nat} (h : ∀ t, t < 125 → G t = (g t).toNat) {t : Nat} (ht : t < 125) : G t < 2 := by
  rw [h t ht]
  cases g t <;> decide
theorem pl_fin_0 {g : Nat → Bool} {s : Nat} (h : g s = false) : ¬ pl_fin g s = true := by
  unfold pl_fin
  rw [h, Bool.false_and]
  decide
theorem pl_fin_no {g : Nat → Bool} {s t : Nat} (ht : t < 125) (h1 : g t = true) (h2 : (pl_ge s t && (s != t)) = true) : ¬ pl_fin g s = true := by
  unfold pl_fin
  rw [pl_ex_t (P := fun t => g t && (pl_ge s t && (s != t))) (i := t) (by show (g t && (pl_ge s t && (s != t))) = true; rw [h1, h2]; rfl) ht]
  cases g s <;> decide
theorem pl_fin_yes {g : Nat → Bool} {s : Nat} (h : g s = true) (hv : ∀ t, t < 125 → (g t && (pl_ge s t && (s != t))) = false) : pl_fin g s = true := by
  unfold pl_fin
  rw [h, (pl_ex_no _ _).mpr hv]
  rfl
theorem pl_grp_n {κ : Nat → Nat} {r q : Nat} (hq : q < r) (h : (κ q == κ r) = true) : pl_cnt (fun r => !pl_ex (fun q => κ q == κ r) r) (r + 1) = pl_cnt (fun r => !pl_ex (fun q => κ q == κ r) r) r := by
  refine pl_cnt_f ?_
  show (!pl_ex (fun q => κ q == κ r) r) = false
  rw [pl_ex_t (P := fun q => κ q == κ r) h hq]
  rfl
theorem pl_grp_y {κ : Nat → Nat} {r : Nat} (h : ∀ q, q < r → (κ q == κ r) = false) : pl_cnt (fun r => !pl_ex (fun q => κ q == κ r) r) (r + 1) = pl_cnt (fun r => !pl_ex (fun q => κ q == κ r) r) r + 1 := by
  refine pl_cnt_t ?_
  show (!pl_ex (fun q => κ q == κ r) r) = true
  rw [(pl_ex_no _ _).mpr h]
  rfl
end
section
set_option maxHeartbeats 4000000 in
set_option maxRecDepth 100000 in
theorem mX0_badSetting (l : Launch) (D : va_G) (x : Int32)  : pl_CI l yX0_badSetting cX0_badSetting 1 .boolean (rmD 0) D ([]) [.int x] ([]) (fun _ : Unit => []) (fun v _ => (v = nI 1 ∧ (x < 0 ∨ nI 125 ≤ x)) ∨ (v = nI 0 ∧ ∃ j, j < 125 ∧ x = nI j)) := by
  refine pl_CI_of (by decide) (Nat.le_of_ble_eq_true rfl) ?_
  intro p e st m below meth c A Q ls C hret Z hl
  have hx := C.1
  have hb := C.2.1
  have hl : lv_has ls 1 [(0, .int x)] := hl
  refine lv_iload_n hx hb dX0_badSetting_0 rfl (lv_at hl 0 rfl) ?_
  refine lv_if_lt (tgt := 10) hx hb dX0_badSetting_1 (by decide) (fun c1 => ?_) (fun c1 => ?_)
  · have c1 := c1
    refine lv_iconst (v := (nI 1)) hx hb dX0_badSetting_10 (by decide) ?_
    refine lv_goto (tgt := 15) hx hb dX0_badSetting_11 (by decide) ?_
    exact hret _ _ _ _ _ (()) dX0_badSetting_15 (rfl) (by first | exact Or.inl ⟨rfl, Or.inl c1⟩ | exact Or.inl ⟨rfl, Or.inr (Int32.not_lt.mp c7)⟩ | exact Or.inr ⟨rfl, sp_in (fun q => q.elim c1 (fun q => Int32.not_lt.mpr q c7))⟩) Z
  · have c1 := c1
    refine lv_iload_n hx hb dX0_badSetting_4 rfl (lv_at hl 0 rfl) ?_
    refine lv_bipush (v := (nI 125)) hx hb dX0_badSetting_5 (by decide) ?_
    refine lv_icmp_lt (tgt := 14) hx hb dX0_badSetting_7 (by decide) (fun c7 => ?_) (fun c7 => ?_)
    · have c7 := c7
      refine lv_iconst (v := (nI 0)) hx hb dX0_badSetting_14 (by decide) ?_
      exact hret _ _ _ _ _ (()) dX0_badSetting_15 (rfl) (by first | exact Or.inl ⟨rfl, Or.inl c1⟩ | exact Or.inl ⟨rfl, Or.inr (Int32.not_lt.mp c7)⟩ | exact Or.inr ⟨rfl, sp_in (fun q => q.elim c1 (fun q => Int32.not_lt.mpr q c7))⟩) Z
    · have c7 := c7
      refine lv_iconst (v := (nI 1)) hx hb dX0_badSetting_10 (by decide) ?_
      refine lv_goto (tgt := 15) hx hb dX0_badSetting_11 (by decide) ?_
      exact hret _ _ _ _ _ (()) dX0_badSetting_15 (rfl) (by first | exact Or.inl ⟨rfl, Or.inl c1⟩ | exact Or.inl ⟨rfl, Or.inr (Int32.not_lt.mp c7)⟩ | exact Or.inr ⟨rfl, sp_in (fun q => q.elim c1 (fun q => Int32.not_lt.mpr q c7))⟩) Z
set_option maxHeartbeats 4000000 in
set_option maxRecDepth 100000 in
theorem mX0_levelOf (l : Launch) (D : va_G) (g j : Nat) (hg : g < 125) (hj : j < 3) : pl_CI l yX0_levelOf cX0_levelOf 2 .int (rmD 0) D ([]) [.int (nI g), .int (nI j)] ([]) (fun _ : Unit => []) (fun v _ => v = nI (pl_lev g j)) := by
  refine pl_CI_of (by decide) (Nat.le_of_ble_eq_true rfl) ?_
  intro p e st m below meth c A Q ls C hret Z hl
  have hx := C.1
  have hb := C.2.1
  have hl : lv_has ls 2 [(0, .int (nI g)), (1, .int (nI j))] := hl
  refine lv_iload_n hx hb dX0_levelOf_0 rfl (lv_at hl 1 rfl) ?_
  refine lv_if_ne (tgt := 8) hx hb dX0_levelOf_1 (by decide) (fun c1 => ?_) (fun c1 => ?_)
  · have c1 : ¬ j = 0 := mt (pn_e0 (by omega)).mpr c1
    refine lv_iload_n hx hb dX0_levelOf_8 rfl (lv_at hl 1 rfl) ?_
    refine lv_iconst (v := (nI 1)) hx hb dX0_levelOf_9 (by decide) ?_
    refine lv_icmp_ne (tgt := 21) hx hb dX0_levelOf_10 (by decide) (fun c10 => ?_) (fun c10 => ?_)
    · have c10 : ¬ j = 1 := mt (nI_eq (by omega) (by omega)).mpr c10
      refine lv_iload_n hx hb dX0_levelOf_21 rfl (lv_at hl 0 rfl) ?_
      refine lv_bipush (v := (nI 25)) hx hb dX0_levelOf_22 (by decide) ?_
      refine pn_div hx hb (by omega) (by omega) (by omega) dX0_levelOf_24 ?_
      exact hret _ _ _ _ _ (()) dX0_levelOf_25 (rfl) (by first | (subst c10; rfl) | (unfold pl_lev; rw [if_neg c1, if_neg c10])) Z
    · have c10 : j = 1 := (nI_eq (by omega) (by omega)).mp c10
      refine lv_iload_n hx hb dX0_levelOf_13 rfl (lv_at hl 0 rfl) ?_
      refine lv_iconst (v := (nI 5)) hx hb dX0_levelOf_14 (by decide) ?_
      refine pn_div hx hb (by omega) (by omega) (by omega) dX0_levelOf_15 ?_
      refine lv_iconst (v := (nI 5)) hx hb dX0_levelOf_16 (by decide) ?_
      refine pn_rem hx hb (by omega) (by omega) (by omega) dX0_levelOf_17 ?_
      refine lv_goto (tgt := 25) hx hb dX0_levelOf_18 (by decide) ?_
      exact hret _ _ _ _ _ (()) dX0_levelOf_25 (rfl) (by first | (subst c10; rfl) | (unfold pl_lev; rw [if_neg c1, if_neg c10])) Z
  · have c1 : j = 0 := (pn_e0 (by omega)).mp c1
    refine lv_iload_n hx hb dX0_levelOf_4 rfl (lv_at hl 0 rfl) ?_
    refine lv_iconst (v := (nI 5)) hx hb dX0_levelOf_5 (by decide) ?_
    refine pn_rem hx hb (by omega) (by omega) (by omega) dX0_levelOf_6 ?_
    exact hret _ _ _ _ _ (()) dX0_levelOf_7 (rfl) (by subst c1; rfl) Z
set_option maxHeartbeats 4000000 in
set_option maxRecDepth 100000 in
theorem mX0_sumOfLevels (l : Launch) (D : va_G) (g : Nat) (hg : g < 125) : pl_CI l yX0_sumOfLevels cX0_sumOfLevels 1 .int (rmD 0) D ([]) [.int (nI g)] ([]) (fun _ : Unit => []) (fun v _ => v = nI (pl_sum g)) := by
  refine pl_CI_of (by decide) (Nat.le_of_ble_eq_true rfl) ?_
  intro p e st m below meth c A Q ls C hret Z hl
  have hx := C.1
  have hb := C.2.1
  have hl : lv_has ls 1 [(0, .int (nI g))] := hl
  refine lv_iload_n hx hb dX0_sumOfLevels_0 rfl (lv_at hl 0 rfl) ?_
  refine lv_iconst (v := (nI 5)) hx hb dX0_sumOfLevels_1 (by decide) ?_
  refine pn_rem hx hb (by omega) (by omega) (by omega) dX0_sumOfLevels_2 ?_
  refine lv_iload_n hx hb dX0_sumOfLevels_3 rfl (lv_at hl 0 rfl) ?_
  refine lv_iconst (v := (nI 5)) hx hb dX0_sumOfLevels_4 (by decide) ?_
  refine pn_div hx hb (by omega) (by omega) (by omega) dX0_sumOfLevels_5 ?_
  refine lv_iconst (v := (nI 5)) hx hb dX0_sumOfLevels_6 (by decide) ?_
  refine pn_rem hx hb (by omega) (by omega) (by omega) dX0_sumOfLevels_7 ?_
  refine pn_add hx hb dX0_sumOfLevels_8 ?_
  refine lv_iload_n hx hb dX0_sumOfLevels_9 rfl (lv_at hl 0 rfl) ?_
  refine lv_bipush (v := (nI 25)) hx hb dX0_sumOfLevels_10 (by decide) ?_
  refine pn_div hx hb (by omega) (by omega) (by omega) dX0_sumOfLevels_12 ?_
  refine pn_add hx hb dX0_sumOfLevels_13 ?_
  exact hret _ _ _ _ _ (()) dX0_sumOfLevels_14 (rfl) (rfl) Z
set_option maxHeartbeats 4000000 in
set_option maxRecDepth 100000 in
theorem mX0_atLeast (l : Launch) (D : va_G) (g t : Nat) (hg : g < 125) (ht : t < 125) : pl_CI l yX0_atLeast cX0_atLeast 5 .boolean (rmD 1) D ([]) [.int (nI g), .int (nI t)] ([]) (fun _ : Unit => []) (fun v _ => v = nI (pl_ge g t).toNat) := by
  refine pl_CI_of (by decide) (Nat.le_of_ble_eq_true rfl) ?_
  intro p e st m below meth c A Q ls C hret Z hl
  have hx := C.1
  have hb := C.2.1
  have hl : lv_has ls 5 [(0, .int (nI g)), (1, .int (nI t))] := hl
  refine lv_iconst (v := (nI 0)) hx hb dX0_atLeast_0 (by decide) ?_
  refine lv_istore_n (lv' := [(2, .int (nI 0)), (0, .int (nI g)), (1, .int (nI t))]) hx hb dX0_atLeast_1 rfl hl (by decide) rfl (fun ls hl => ?_)
  have loop2 : ∀ (f : Nat) (i : Nat), 3 < i + f → (i ≤ 3) → (∀ a, a < i → pl_lev t a ≤ pl_lev g a) → ∀ (H : Heap) (locs : List Loc) (ls : Array Slot), pl_Zx D A st [] H locs → lv_has ls 5 [(0, .int (nI g)), (1, .int (nI t)), (2, .int (nI i))] → W p l e (rmD 1) st m ([.int (nI g), .int (nI t)] : List Value).toArray below meth c H locs 0 0 Q (F0 m 2 ls []) := by
    intro f
    induction f with
    | zero =>
      intro i hf hi hv
      exact absurd hf (by omega)
    | succ f ih2 =>
      intro i hf hi hv H locs ls Z hl
      refine lv_iload_n hx hb dX0_atLeast_2 rfl (lv_at hl 2 rfl) ?_
      refine lv_iconst (v := (nI 3)) hx hb dX0_atLeast_3 (by decide) ?_
      refine lv_icmp_ge (tgt := 34) hx hb dX0_atLeast_4 (by decide) (fun c4 => ?_) (fun c4 => ?_)
      · have c4 : 3 ≤ i := (nI_leI (by omega) (by omega)).mp c4
        refine lv_iconst (v := (nI 1)) hx hb dX0_atLeast_34 (by decide) ?_
        exact hret _ _ _ _ _ (()) dX0_atLeast_35 (rfl) (pn_t1 ((pl_ge_iff g t).mpr (fun a ha => hv a (by omega)))) Z
      · have c4 : i < 3 := Nat.lt_of_not_le (mt (nI_leI (by omega) (by omega)).mpr c4)
        refine lv_iload_n hx hb dX0_atLeast_7 rfl (lv_at hl 0 rfl) ?_
        refine lv_iload_n hx hb dX0_atLeast_8 rfl (lv_at hl 2 rfl) ?_
        refine pl_callS (rest := []) (mX0_levelOf l D g i hg c4) C Z (lw_S q92 q93 q18 q94) 2 rfl (by decide +kernel) (by decide) ⟨rfl, rfl⟩ hl (Nat.le_of_ble_eq_true rfl) rfl dX0_atLeast_9 (fun v9 H locs hp Z => ?_)
        subst hp
        refine lv_istore_n (lv' := [(3, .int (nI (pl_lev g i))), (0, .int (nI g)), (1, .int (nI t)), (2, .int (nI i))]) hx hb dX0_atLeast_12 rfl hl (by decide) rfl (fun ls hl => ?_)
        refine lv_iload_n hx hb dX0_atLeast_13 rfl (lv_at hl 2 rfl) ?_
        refine lv_iload_n hx hb dX0_atLeast_14 rfl (lv_at hl 3 rfl) ?_
        refine pl_callS (rest := []) (mX0_levelOf l D t i ht c4) C Z (lw_S q92 q93 q18 q94) 2 rfl (by decide +kernel) (by decide) ⟨rfl, rfl⟩ hl (Nat.le_of_ble_eq_true rfl) rfl dX0_atLeast_15 (fun v15 H locs hp Z => ?_)
        subst hp
        refine lv_istore (lv' := [(4, .int (nI (pl_lev t i))), (3, .int (nI (pl_lev g i))), (0, .int (nI g)), (1, .int (nI t)), (2, .int (nI i))]) hx hb dX0_atLeast_18 hl (by decide) rfl (fun ls hl => ?_)
        have l1 := pl_lev_le hg i
        have l2 := pl_lev_le ht i
        refine lv_iload_n hx hb dX0_atLeast_20 rfl (lv_at hl 1 rfl) ?_
        refine lv_iload hx hb dX0_atLeast_21 (lv_at hl 0 rfl) ?_
        refine lv_icmp_ge (tgt := 28) hx hb dX0_atLeast_23 (by decide) (fun c23 => ?_) (fun c23 => ?_)
        · have c23 : (pl_lev t i) ≤ (pl_lev g i) := (nI_leI (by omega) (by omega)).mp c23
          refine lv_iinc (v := (nI (i + 1))) (lv' := [(2, .int (nI (i + 1))), (4, .int (nI (pl_lev t i))), (3, .int (nI (pl_lev g i))), (0, .int (nI g)), (1, .int (nI t))]) hx hb dX0_atLeast_28 hl (k := 4) rfl (pn_i1 _) (by decide) rfl (fun ls hl => ?_)
          refine lv_goto (tgt := 2) hx hb dX0_atLeast_31 (by decide) ?_
          exact ih2 (i + 1) (by omega) (by omega) (lt_s hv c23) _ _ _ Z (lv_sub hl [3, 4, 0] rfl)
        · have c23 : (pl_lev g i) < (pl_lev t i) := Nat.lt_of_not_le (mt (nI_leI (by omega) (by omega)).mpr c23)
          refine lv_iconst (v := (nI 0)) hx hb dX0_atLeast_26 (by decide) ?_
          exact hret _ _ _ _ _ (()) dX0_atLeast_27 (rfl) (pn_t0 (fun q => absurd ((pl_ge_iff g t).mp q i c4) (by omega))) Z
  exact loop2 4 0 (by omega) (by omega) (fun a ha => absurd ha (by omega)) _ _ _ Z (lv_sub hl [1, 2, 0] rfl)
end
section
set_option maxHeartbeats 4000000 in
set_option maxRecDepth 100000 in
theorem mX0_keyOf (l : Launch) (D : va_G) (h : Nat → Nat) (k : Nat → ClassId) (n a b d z : Nat) (V S K O T : Nat → Nat) (r g : Nat) (hr : r < 16) (hg : g < 125) (hV : ∀ i, V i < 4096) : pl_CI l yX0_keyOf cX0_keyOf 6 .int (rmD 1) D (pl_XT k) [.ref (h 0), .int (nI r), .int (nI g)] (pl_X h k n a b d z V S K O T) (fun _ : Unit => pl_X h k n a b d z V S K O T) (fun v _ => v = nI (pl_key V g r)) := by
  refine pl_CI_of (by decide) (Nat.le_of_ble_eq_true rfl) ?_
  intro p e st m below meth c A Q ls C hret Z hl
  have hx := C.1
  have hb := C.2.1
  have hl : lv_has ls 6 [(0, .ref (h 0)), (1, .int (nI r)), (2, .int (nI g))] := hl
  refine lv_iconst (v := (nI 0)) hx hb dX0_keyOf_0 (by decide) ?_
  refine lv_istore_n (lv' := [(3, .int (nI 0)), (0, .ref (h 0)), (1, .int (nI r)), (2, .int (nI g))]) hx hb dX0_keyOf_1 rfl hl (by decide) rfl (fun ls hl => ?_)
  refine lv_iconst (v := (nI 0)) hx hb dX0_keyOf_2 (by decide) ?_
  refine lv_istore (lv' := [(4, .int (nI 0)), (3, .int (nI 0)), (0, .ref (h 0)), (1, .int (nI r)), (2, .int (nI g))]) hx hb dX0_keyOf_3 hl (by decide) rfl (fun ls hl => ?_)
  have loop5 : ∀ (f : Nat) (i : Nat), 3 < i + f → (i ≤ 3) → ∀ (H : Heap) (locs : List Loc) (ls : Array Slot), pl_Zx D A st (pl_X h k n a b d z V S K O T) H locs → lv_has ls 6 [(0, .ref (h 0)), (1, .int (nI r)), (2, .int (nI g)), (3, .int (nI (pl_kp (V r) g i))), (4, .int (nI i))] → W p l e (rmD 1) st m ([.ref (h 0), .int (nI r), .int (nI g)] : List Value).toArray below meth c H locs 0 0 Q (F0 m 5 ls []) := by
    intro f
    induction f with
    | zero =>
      intro i hf hi
      exact absurd hf (by omega)
    | succ f ih5 =>
      intro i hf hi H locs ls Z hl
      refine lv_iload hx hb dX0_keyOf_5 (lv_at hl 4 rfl) ?_
      refine lv_iconst (v := (nI 3)) hx hb dX0_keyOf_7 (by decide) ?_
      refine lv_icmp_ge (tgt := 50) hx hb dX0_keyOf_8 (by decide) (fun c8 => ?_) (fun c8 => ?_)
      · have c8 : 3 ≤ i := (nI_leI (by omega) (by omega)).mp c8
        refine lv_iload_n hx hb dX0_keyOf_50 rfl (lv_at hl 3 rfl) ?_
        exact hret _ _ _ _ _ (()) dX0_keyOf_51 (rfl) (by rw [show i = 3 by omega]; rfl) Z
      · have c8 : i < 3 := Nat.lt_of_not_le (mt (nI_leI (by omega) (by omega)).mpr c8)
        have hVr := hV r
        have l1 := pl_lev_le hg i
        refine lv_aload_n hx hb dX0_keyOf_11 rfl (lv_at hl 0 rfl) ?_
        refine px_get C Z 0 rfl 1 (by decide) q29 rfl dX0_keyOf_12 ?_
        refine lv_iload_n hx hb dX0_keyOf_15 rfl (lv_at hl 1 rfl) ?_
        refine pn_iald C Z 1 0 rfl rfl (by omega) (by decide) dX0_keyOf_16 ?_
        refine lv_iconst (v := (nI 4)) hx hb dX0_keyOf_17 (by decide) ?_
        refine lv_iload hx hb dX0_keyOf_18 (lv_at hl 4 rfl) ?_
        refine pn_mul hx hb dX0_keyOf_20 ?_
        refine pn_shr hx hb (by omega) (by omega) dX0_keyOf_21 ?_
        refine lv_bipush (v := (nI 15)) hx hb dX0_keyOf_22 (by decide) ?_
        refine pn_and hx hb 4 (Nat.lt_of_le_of_lt (Nat.div_le_self _ _) (by omega)) (by decide) dX0_keyOf_24 ?_
        refine lv_istore (lv' := [(5, .int (nI (((V r) / 2 ^ (4 * i)) % 2 ^ 4))), (0, .ref (h 0)), (1, .int (nI r)), (2, .int (nI g)), (3, .int (nI (pl_kp (V r) g i))), (4, .int (nI i))]) hx hb dX0_keyOf_25 hl (by decide) rfl (fun ls hl => ?_)
        refine lv_iload_n hx hb dX0_keyOf_27 rfl (lv_at hl 4 rfl) ?_
        refine lv_iload hx hb dX0_keyOf_28 (lv_at hl 0 rfl) ?_
        refine lv_iload_n hx hb dX0_keyOf_30 rfl (lv_at hl 3 rfl) ?_
        refine lv_iload hx hb dX0_keyOf_31 (lv_at hl 5 rfl) ?_
        refine pl_callS (rest := [.int (nI (((V r) / 2 ^ (4 * i)) % 2 ^ 4)), .int (nI (pl_kp (V r) g i))]) (mX0_levelOf l D g i hg c8) C Z (lw_S q92 q93 q18 q94) 2 rfl (by decide +kernel) (by decide) ⟨rfl, rfl⟩ hl (Nat.le_of_ble_eq_true rfl) rfl dX0_keyOf_33 (fun v33 H locs hp Z => ?_)
        subst hp
        refine pn_shr hx hb (by omega) (Nat.lt_of_lt_of_le (Nat.mod_lt _ (by decide)) (by decide)) dX0_keyOf_36 ?_
        refine pn_top (y := (nI (pl_D (V r) g i))) (rfl) ?_
        refine lv_iconst (v := (nI 4)) hx hb dX0_keyOf_37 (by decide) ?_
        refine lv_iload hx hb dX0_keyOf_38 (lv_at hl 5 rfl) ?_
        refine pn_mul hx hb dX0_keyOf_40 ?_
        refine pn_shl hx hb (by omega) (pl_D_sh c8) dX0_keyOf_41 ?_
        refine pn_or hx hb dX0_keyOf_42 ?_
        refine pn_top (y := (nI (pl_kp (V r) g (i + 1)))) (congrArg nI (pl_kp_or _ _ _)) ?_
        refine lv_istore_n (lv' := [(3, .int (nI (pl_kp (V r) g (i + 1)))), (5, .int (nI (((V r) / 2 ^ (4 * i)) % 2 ^ 4))), (0, .ref (h 0)), (1, .int (nI r)), (2, .int (nI g)), (4, .int (nI i))]) hx hb dX0_keyOf_43 rfl hl (by decide) rfl (fun ls hl => ?_)
        refine lv_iinc (v := (nI (i + 1))) (lv' := [(4, .int (nI (i + 1))), (3, .int (nI (pl_kp (V r) g (i + 1)))), (5, .int (nI (((V r) / 2 ^ (4 * i)) % 2 ^ 4))), (0, .ref (h 0)), (1, .int (nI r)), (2, .int (nI g))]) hx hb dX0_keyOf_44 hl (k := 5) rfl (pn_i1 _) (by decide) rfl (fun ls hl => ?_)
        refine lv_goto (tgt := 5) hx hb dX0_keyOf_47 (by decide) ?_
        exact ih5 (i + 1) (by omega) (by omega) _ _ _ Z (lv_sub hl [3, 4, 5, 1, 0] rfl)
  exact loop5 4 0 (by omega) (by omega) _ _ _ Z (lv_sub hl [2, 3, 4, 1, 0] rfl)
set_option maxHeartbeats 4000000 in
set_option maxRecDepth 100000 in
theorem mX0_sortRows (l : Launch) (D : va_G) (h : Nat → Nat) (k : Nat → ClassId) (n a b d z : Nat) (V S K O T : Nat → Nat) (g : Nat) (hg : g < 125) (hn : n ≤ 16) (hV : ∀ i, V i < 4096) : pl_CV l yX0_sortRows cX0_sortRows 5 (rmD 2) D (pl_XT k) [.ref (h 0), .int (nI g)] (pl_X h k n a b d z V S K O T) (fun u : (Nat → Nat) × (Nat → Nat) => pl_X h k n a b d z V S K u.1 u.2) (fun u => pl_srt n (pl_key V g) u.1 u.2) := by
  refine pl_CV_of (by decide) (Nat.le_of_ble_eq_true rfl) ?_
  intro p e st m below meth c A Q ls C hret Z hl
  have hx := C.1
  have hb := C.2.1
  have hl : lv_has ls 5 [(0, .ref (h 0)), (1, .int (nI g))] := hl
  refine lv_iconst (v := (nI 0)) hx hb dX0_sortRows_0 (by decide) ?_
  refine lv_istore_n (lv' := [(2, .int (nI 0)), (0, .ref (h 0)), (1, .int (nI g))]) hx hb dX0_sortRows_1 rfl hl (by decide) rfl (fun ls hl => ?_)
  have loop2 : ∀ (f : Nat) (r : Nat) (O1 : Nat → Nat) (T1 : Nat → Nat), n < r + f → (r ≤ n) → (pl_srt r (pl_key V g) O1 T1) → ∀ (H : Heap) (locs : List Loc) (ls : Array Slot), pl_Zx D A st (pl_X h k n a b d z V S K O1 T1) H locs → lv_has ls 5 [(0, .ref (h 0)), (1, .int (nI g)), (2, .int (nI r))] → W p l e (rmD 2) st m ([.ref (h 0), .int (nI g)] : List Value).toArray below meth c H locs 0 0 Q (F0 m 2 ls []) := by
    intro f
    induction f with
    | zero =>
      intro r O1 T1 hf hr hs
      exact absurd hf (by omega)
    | succ f ih2 =>
      intro r O1 T1 hf hr hs H locs ls Z hl
      refine lv_iload_n hx hb dX0_sortRows_2 rfl (lv_at hl 2 rfl) ?_
      refine lv_aload_n hx hb dX0_sortRows_3 rfl (lv_at hl 0 rfl) ?_
      refine px_get C Z 0 rfl 0 (by decide) q28 rfl dX0_sortRows_4 ?_
      refine lv_icmp_ge (tgt := 98) hx hb dX0_sortRows_7 (by decide) (fun c7 => ?_) (fun c7 => ?_)
      · have c7 : n ≤ r := (nI_leI (by omega) (by omega)).mp c7
        exact hret _ _ _ _ ((O1, T1)) dX0_sortRows_98 (by have e1 : r = n := (by omega); rw [← e1]; exact hs) Z
      · have c7 : r < n := Nat.lt_of_not_le (mt (nI_leI (by omega) (by omega)).mpr c7)
        refine lv_aload_n hx hb dX0_sortRows_10 rfl (lv_at hl 0 rfl) ?_
        refine lv_iload_n hx hb dX0_sortRows_11 rfl (lv_at hl 2 rfl) ?_
        refine lv_iload_n hx hb dX0_sortRows_12 rfl (lv_at hl 1 rfl) ?_
        refine pl_callV (q0 := 0) (rest := []) (mX0_keyOf l D h k n a b d z V S K O1 T1 r g (by omega) hg hV) C Z rfl rfl rfl (lw_V q88 q90 qs2 q18 q91) 2 rfl (by decide +kernel) (by decide) ⟨rfl, rfl⟩ hl (Nat.le_of_ble_eq_true rfl) rfl dX0_sortRows_13 (fun v13 u H locs hp Z => ?_)
        subst hp
        have Z : pl_Zx D A st (pl_X h k n a b d z V S K O1 T1) H locs := Z
        refine lv_istore_n (lv' := [(3, .int (nI (pl_key V g r))), (0, .ref (h 0)), (1, .int (nI g)), (2, .int (nI r))]) hx hb dX0_sortRows_16 rfl hl (by decide) rfl (fun ls hl => ?_)
        refine lv_iload_n hx hb dX0_sortRows_17 rfl (lv_at hl 3 rfl) ?_
        refine lv_istore (lv' := [(4, .int (nI r)), (3, .int (nI (pl_key V g r))), (0, .ref (h 0)), (1, .int (nI g)), (2, .int (nI r))]) hx hb dX0_sortRows_18 hl (by decide) rfl (fun ls hl => ?_)
        have loop20 : ∀ (f : Nat) (i : Nat) (O2 : Nat → Nat) (T2 : Nat → Nat), i < f → (i ≤ r) → (pl_hole r i (pl_key V g r) O1 T1 O2 T2) → ∀ (H : Heap) (locs : List Loc) (ls : Array Slot), pl_Zx D A st (pl_X h k n a b d z V S K O2 T2) H locs → lv_has ls 5 [(0, .ref (h 0)), (1, .int (nI g)), (2, .int (nI r)), (3, .int (nI (pl_key V g r))), (4, .int (nI i))] → W p l e (rmD 2) st m ([.ref (h 0), .int (nI g)] : List Value).toArray below meth c H locs 0 0 Q (F0 m 20 ls []) := by
          intro f
          induction f with
          | zero =>
            intro i O2 T2 hf hi hh
            exact absurd hf (by omega)
          | succ f ih20 =>
            intro i O2 T2 hf hi hh H locs ls Z hl
            refine lv_iload hx hb dX0_sortRows_20 (lv_at hl 4 rfl) ?_
            refine lv_if_le (tgt := 76) hx hb dX0_sortRows_22 (by decide) (fun c22 => ?_) (fun c22 => ?_)
            · have c22 : i = 0 := (pn_l0 (by omega)).mp c22
              refine lv_aload_n hx hb dX0_sortRows_76 rfl (lv_at hl 0 rfl) ?_
              refine px_get C Z 0 rfl 9 (by decide) q37 rfl dX0_sortRows_77 ?_
              refine lv_iload hx hb dX0_sortRows_80 (lv_at hl 4 rfl) ?_
              refine lv_iload_n hx hb dX0_sortRows_82 rfl (lv_at hl 3 rfl) ?_
              refine pn_iast C Z 5 4 rfl rfl (by omega) (by decide) dX0_sortRows_83 (fun H locs Z => ?_)
              have Z : pl_Zx D A st (pl_X h k n a b d z V S K O2 (updN T2 i (pl_key V g r))) H locs := Z
              refine lv_aload_n hx hb dX0_sortRows_84 rfl (lv_at hl 0 rfl) ?_
              refine px_get C Z 0 rfl 8 (by decide) q36 rfl dX0_sortRows_85 ?_
              refine lv_iload hx hb dX0_sortRows_88 (lv_at hl 4 rfl) ?_
              refine lv_iload_n hx hb dX0_sortRows_90 rfl (lv_at hl 2 rfl) ?_
              refine pn_iast C Z 4 3 rfl rfl (by omega) (by decide) dX0_sortRows_91 (fun H locs Z => ?_)
              have Z : pl_Zx D A st (pl_X h k n a b d z V S K (updN O2 i r) (updN T2 i (pl_key V g r))) H locs := Z
              refine lv_iinc (v := (nI (r + 1))) (lv' := [(2, .int (nI (r + 1))), (0, .ref (h 0)), (1, .int (nI g)), (3, .int (nI (pl_key V g r))), (4, .int (nI i))]) hx hb dX0_sortRows_92 hl (k := 2) rfl (pn_i1 _) (by decide) rfl (fun ls hl => ?_)
              refine lv_goto (tgt := 2) hx hb dX0_sortRows_95 (by decide) ?_
              exact ih2 (r + 1) (updN O2 i r) (updN T2 i (pl_key V g r)) (by omega) (by omega) (pl_ins hs hi hh (by first | exact Or.inl c22 | exact Or.inr c35)) _ _ _ Z (lv_sub hl [1, 2, 0] rfl)
            · have c22 : ¬ i = 0 := mt (pn_l0 (by omega)).mpr c22
              refine lv_aload_n hx hb dX0_sortRows_25 rfl (lv_at hl 0 rfl) ?_
              refine px_get C Z 0 rfl 9 (by decide) q37 rfl dX0_sortRows_26 ?_
              refine lv_iload hx hb dX0_sortRows_29 (lv_at hl 4 rfl) ?_
              refine lv_iconst (v := (nI 1)) hx hb dX0_sortRows_31 (by decide) ?_
              refine pn_sub hx hb (by omega) dX0_sortRows_32 ?_
              refine pn_iald C Z 5 4 rfl rfl (by omega) (by decide) dX0_sortRows_33 ?_
              refine lv_iload_n hx hb dX0_sortRows_34 rfl (lv_at hl 3 rfl) ?_
              have t1 : T2 (i - 1) < 4096 := by rw [(hh.1 (i - 1) (by omega)).2, hs.1 (i - 1) (by omega)]; exact pl_key_lt _ _ _
              have t2 := pl_key_lt V g r
              refine lv_icmp_le (tgt := 76) hx hb dX0_sortRows_35 (by decide) (fun c35 => ?_) (fun c35 => ?_)
              · have c35 : (T2 (i - 1)) ≤ (pl_key V g r) := (nI_leI (by omega) (by omega)).mp c35
                refine lv_aload_n hx hb dX0_sortRows_76 rfl (lv_at hl 0 rfl) ?_
                refine px_get C Z 0 rfl 9 (by decide) q37 rfl dX0_sortRows_77 ?_
                refine lv_iload hx hb dX0_sortRows_80 (lv_at hl 4 rfl) ?_
                refine lv_iload_n hx hb dX0_sortRows_82 rfl (lv_at hl 3 rfl) ?_
                refine pn_iast C Z 5 4 rfl rfl (by omega) (by decide) dX0_sortRows_83 (fun H locs Z => ?_)
                have Z : pl_Zx D A st (pl_X h k n a b d z V S K O2 (updN T2 i (pl_key V g r))) H locs := Z
                refine lv_aload_n hx hb dX0_sortRows_84 rfl (lv_at hl 0 rfl) ?_
                refine px_get C Z 0 rfl 8 (by decide) q36 rfl dX0_sortRows_85 ?_
                refine lv_iload hx hb dX0_sortRows_88 (lv_at hl 4 rfl) ?_
                refine lv_iload_n hx hb dX0_sortRows_90 rfl (lv_at hl 2 rfl) ?_
                refine pn_iast C Z 4 3 rfl rfl (by omega) (by decide) dX0_sortRows_91 (fun H locs Z => ?_)
                have Z : pl_Zx D A st (pl_X h k n a b d z V S K (updN O2 i r) (updN T2 i (pl_key V g r))) H locs := Z
                refine lv_iinc (v := (nI (r + 1))) (lv' := [(2, .int (nI (r + 1))), (0, .ref (h 0)), (1, .int (nI g)), (3, .int (nI (pl_key V g r))), (4, .int (nI i))]) hx hb dX0_sortRows_92 hl (k := 2) rfl (pn_i1 _) (by decide) rfl (fun ls hl => ?_)
                refine lv_goto (tgt := 2) hx hb dX0_sortRows_95 (by decide) ?_
                exact ih2 (r + 1) (updN O2 i r) (updN T2 i (pl_key V g r)) (by omega) (by omega) (pl_ins hs hi hh (by first | exact Or.inl c22 | exact Or.inr c35)) _ _ _ Z (lv_sub hl [1, 2, 0] rfl)
              · have c35 : (pl_key V g r) < (T2 (i - 1)) := Nat.lt_of_not_le (mt (nI_leI (by omega) (by omega)).mpr c35)
                refine lv_aload_n hx hb dX0_sortRows_38 rfl (lv_at hl 0 rfl) ?_
                refine px_get C Z 0 rfl 9 (by decide) q37 rfl dX0_sortRows_39 ?_
                refine lv_iload hx hb dX0_sortRows_42 (lv_at hl 4 rfl) ?_
                refine lv_aload_n hx hb dX0_sortRows_44 rfl (lv_at hl 0 rfl) ?_
                refine px_get C Z 0 rfl 9 (by decide) q37 rfl dX0_sortRows_45 ?_
                refine lv_iload hx hb dX0_sortRows_48 (lv_at hl 4 rfl) ?_
                refine lv_iconst (v := (nI 1)) hx hb dX0_sortRows_50 (by decide) ?_
                refine pn_sub hx hb (by omega) dX0_sortRows_51 ?_
                refine pn_iald C Z 5 4 rfl rfl (by omega) (by decide) dX0_sortRows_52 ?_
                refine pn_iast C Z 5 4 rfl rfl (by omega) (by decide) dX0_sortRows_53 (fun H locs Z => ?_)
                have Z : pl_Zx D A st (pl_X h k n a b d z V S K O2 (updN T2 i (T2 (i - 1)))) H locs := Z
                refine lv_aload_n hx hb dX0_sortRows_54 rfl (lv_at hl 0 rfl) ?_
                refine px_get C Z 0 rfl 8 (by decide) q36 rfl dX0_sortRows_55 ?_
                refine lv_iload hx hb dX0_sortRows_58 (lv_at hl 4 rfl) ?_
                refine lv_aload_n hx hb dX0_sortRows_60 rfl (lv_at hl 0 rfl) ?_
                refine px_get C Z 0 rfl 8 (by decide) q36 rfl dX0_sortRows_61 ?_
                refine lv_iload hx hb dX0_sortRows_64 (lv_at hl 4 rfl) ?_
                refine lv_iconst (v := (nI 1)) hx hb dX0_sortRows_66 (by decide) ?_
                refine pn_sub hx hb (by omega) dX0_sortRows_67 ?_
                refine pn_iald C Z 4 3 rfl rfl (by omega) (by decide) dX0_sortRows_68 ?_
                refine pn_iast C Z 4 3 rfl rfl (by omega) (by decide) dX0_sortRows_69 (fun H locs Z => ?_)
                have Z : pl_Zx D A st (pl_X h k n a b d z V S K (updN O2 i (O2 (i - 1))) (updN T2 i (T2 (i - 1)))) H locs := Z
                refine lv_iinc (v := (nI (i - 1))) (lv' := [(4, .int (nI (i - 1))), (0, .ref (h 0)), (1, .int (nI g)), (2, .int (nI r)), (3, .int (nI (pl_key V g r)))]) hx hb dX0_sortRows_70 hl (k := 4) rfl (pn_im (by omega)) (by decide) rfl (fun ls hl => ?_)
                refine lv_goto (tgt := 20) hx hb dX0_sortRows_73 (by decide) ?_
                exact ih20 (i - 1) (updN O2 i (O2 (i - 1))) (updN T2 i (T2 (i - 1))) (by omega) (by omega) (pl_hole_s (by omega) hi hh c35) _ _ _ Z (lv_sub hl [1, 2, 3, 4, 0] rfl)
        exact loop20 (r + 1) r O1 T1 (by omega) (Nat.le_refl _) (pl_hole_0 _ _ _ _) _ _ _ Z (lv_sub hl [2, 3, 4, 1, 0] rfl)
  exact loop2 (n + 1) 0 O T (by omega) (Nat.zero_le _) (pl_srt_0 _ _ _) _ _ _ Z (lv_sub hl [1, 2, 0] rfl)
set_option maxHeartbeats 4000000 in
set_option maxRecDepth 100000 in
theorem mX0_groupEnd (l : Launch) (D : va_G) (h : Nat → Nat) (k : Nat → ClassId) (n a b d z : Nat) (V S K O T : Nat → Nat) (q : Nat) (hq : q < n) (hn : n ≤ 16) (hT : ∀ j, j < n → T j < 4096) : pl_CI l yX0_groupEnd cX0_groupEnd 3 .int (rmD 0) D (pl_XT k) [.ref (h 0), .int (nI q)] (pl_X h k n a b d z V S K O T) (fun _ : Unit => pl_X h k n a b d z V S K O T) (fun v _ => ∃ w, v = nI w ∧ pl_grpE n T q w) := by
  refine pl_CI_of (by decide) (Nat.le_of_ble_eq_true rfl) ?_
  intro p e st m below meth c A Q ls C hret Z hl
  have hx := C.1
  have hb := C.2.1
  have hl : lv_has ls 3 [(0, .ref (h 0)), (1, .int (nI q))] := hl
  refine lv_iload_n hx hb dX0_groupEnd_0 rfl (lv_at hl 1 rfl) ?_
  refine lv_iconst (v := (nI 1)) hx hb dX0_groupEnd_1 (by decide) ?_
  refine pn_add hx hb dX0_groupEnd_2 ?_
  refine lv_istore_n (lv' := [(2, .int (nI (q + 1))), (0, .ref (h 0)), (1, .int (nI q))]) hx hb dX0_groupEnd_3 rfl hl (by decide) rfl (fun ls hl => ?_)
  have loop4 : ∀ (f : Nat) (i : Nat), n < i + f → (q < i) → (i ≤ n) → (∀ j, q ≤ j → j < i → T j = T q) → ∀ (H : Heap) (locs : List Loc) (ls : Array Slot), pl_Zx D A st (pl_X h k n a b d z V S K O T) H locs → lv_has ls 3 [(0, .ref (h 0)), (1, .int (nI q)), (2, .int (nI i))] → W p l e (rmD 0) st m ([.ref (h 0), .int (nI q)] : List Value).toArray below meth c H locs 0 0 Q (F0 m 4 ls []) := by
    intro f
    induction f with
    | zero =>
      intro i hf hi hi2 hv
      exact absurd hf (by omega)
    | succ f ih4 =>
      intro i hf hi hi2 hv H locs ls Z hl
      refine lv_iload_n hx hb dX0_groupEnd_4 rfl (lv_at hl 2 rfl) ?_
      refine lv_aload_n hx hb dX0_groupEnd_5 rfl (lv_at hl 0 rfl) ?_
      refine px_get C Z 0 rfl 0 (by decide) q28 rfl dX0_groupEnd_6 ?_
      refine lv_icmp_ge (tgt := 33) hx hb dX0_groupEnd_9 (by decide) (fun c9 => ?_) (fun c9 => ?_)
      · have c9 : n ≤ i := (nI_leI (by omega) (by omega)).mp c9
        refine lv_iload_n hx hb dX0_groupEnd_33 rfl (lv_at hl 2 rfl) ?_
        exact hret _ _ _ _ _ (()) dX0_groupEnd_34 (rfl) (⟨i, rfl, hi, hi2, hv, by first | exact (fun w => absurd w (by omega)) | exact (fun _ => c24)⟩) Z
      · have c9 : i < n := Nat.lt_of_not_le (mt (nI_leI (by omega) (by omega)).mpr c9)
        refine lv_aload_n hx hb dX0_groupEnd_12 rfl (lv_at hl 0 rfl) ?_
        refine px_get C Z 0 rfl 9 (by decide) q37 rfl dX0_groupEnd_13 ?_
        refine lv_iload_n hx hb dX0_groupEnd_16 rfl (lv_at hl 2 rfl) ?_
        refine pn_iald C Z 5 4 rfl rfl (by omega) (by decide) dX0_groupEnd_17 ?_
        refine lv_aload_n hx hb dX0_groupEnd_18 rfl (lv_at hl 0 rfl) ?_
        refine px_get C Z 0 rfl 9 (by decide) q37 rfl dX0_groupEnd_19 ?_
        refine lv_iload_n hx hb dX0_groupEnd_22 rfl (lv_at hl 1 rfl) ?_
        refine pn_iald C Z 5 4 rfl rfl (by omega) (by decide) dX0_groupEnd_23 ?_
        have t1 := hT i (by omega)
        have t2 := hT q hq
        refine lv_icmp_ne (tgt := 33) hx hb dX0_groupEnd_24 (by decide) (fun c24 => ?_) (fun c24 => ?_)
        · have c24 : ¬ (T i) = (T q) := mt (nI_eq (by omega) (by omega)).mpr c24
          refine lv_iload_n hx hb dX0_groupEnd_33 rfl (lv_at hl 2 rfl) ?_
          exact hret _ _ _ _ _ (()) dX0_groupEnd_34 (rfl) (⟨i, rfl, hi, hi2, hv, by first | exact (fun w => absurd w (by omega)) | exact (fun _ => c24)⟩) Z
        · have c24 : (T i) = (T q) := (nI_eq (by omega) (by omega)).mp c24
          refine lv_iinc (v := (nI (i + 1))) (lv' := [(2, .int (nI (i + 1))), (0, .ref (h 0)), (1, .int (nI q))]) hx hb dX0_groupEnd_27 hl (k := 2) rfl (pn_i1 _) (by decide) rfl (fun ls hl => ?_)
          refine lv_goto (tgt := 4) hx hb dX0_groupEnd_30 (by decide) ?_
          exact ih4 (i + 1) (by omega) (by omega) (by omega) (fun j h1 h2 => (Nat.lt_or_ge j i).elim (fun g1 => hv j h1 g1) (fun g1 => by rw [show j = i by omega]; exact c24)) _ _ _ Z (lv_sub hl [1, 2, 0] rfl)
  exact loop4 n (q + 1) (by omega) (by omega) (by omega) (fun j h1 h2 => by rw [show j = q by omega]) _ _ _ Z (lv_sub hl [1, 2, 0] rfl)
set_option maxHeartbeats 4000000 in
set_option maxRecDepth 100000 in
theorem mX0_secretKinds (l : Launch) (D : va_G) (h : Nat → Nat) (k : Nat → ClassId) (n a b d z : Nat) (V S K O T : Nat → Nat) (q w : Nat) (hqw : q ≤ w) (hw : w ≤ 16) (hO : ∀ j, j < w → O j < 16) (hS : ∀ i, S i < 8) : pl_CI l yX0_secretKinds cX0_secretKinds 6 .int (rmD 0) D (pl_XT k) [.ref (h 0), .int (nI q), .int (nI w)] (pl_X h k n a b d z V S K O T) (fun _ : Unit => pl_X h k n a b d z V S K O T) (fun v _ => ∃ mk : Nat, (∀ t, mk.testBit t = true ↔ ∃ j, q ≤ j ∧ j < w ∧ S (O j) = t) ∧ v = nI (pl_cnt mk.testBit 8)) := by
  refine pl_CI_of (by decide) (Nat.le_of_ble_eq_true rfl) ?_
  intro p e st m below meth c A Q ls C hret Z hl
  have hx := C.1
  have hb := C.2.1
  have hl : lv_has ls 6 [(0, .ref (h 0)), (1, .int (nI q)), (2, .int (nI w))] := hl
  refine lv_iconst (v := (nI 0)) hx hb dX0_secretKinds_0 (by decide) ?_
  refine lv_istore_n (lv' := [(3, .int (nI 0)), (0, .ref (h 0)), (1, .int (nI q)), (2, .int (nI w))]) hx hb dX0_secretKinds_1 rfl hl (by decide) rfl (fun ls hl => ?_)
  refine lv_iload_n hx hb dX0_secretKinds_2 rfl (lv_at hl 2 rfl) ?_
  refine lv_istore (lv' := [(4, .int (nI q)), (3, .int (nI 0)), (0, .ref (h 0)), (1, .int (nI q)), (2, .int (nI w))]) hx hb dX0_secretKinds_3 hl (by decide) rfl (fun ls hl => ?_)
  have loop5 : ∀ (f : Nat) (i : Nat) (mk : Nat), w < i + f → (q ≤ i) → (i ≤ w) → (mk < 2 ^ 8) → (∀ t, mk.testBit t = true ↔ ∃ j, q ≤ j ∧ j < i ∧ S (O j) = t) → ∀ (H : Heap) (locs : List Loc) (ls : Array Slot), pl_Zx D A st (pl_X h k n a b d z V S K O T) H locs → lv_has ls 6 [(0, .ref (h 0)), (1, .int (nI q)), (2, .int (nI w)), (3, .int (nI mk)), (4, .int (nI i))] → W p l e (rmD 0) st m ([.ref (h 0), .int (nI q), .int (nI w)] : List Value).toArray below meth c H locs 0 0 Q (F0 m 5 ls []) := by
    intro f
    induction f with
    | zero =>
      intro i mk hf hi hi2 hm hv
      exact absurd hf (by omega)
    | succ f ih5 =>
      intro i mk hf hi hi2 hm hv H locs ls Z hl
      refine lv_iload hx hb dX0_secretKinds_5 (lv_at hl 4 rfl) ?_
      refine lv_iload_n hx hb dX0_secretKinds_7 rfl (lv_at hl 2 rfl) ?_
      refine lv_icmp_ge (tgt := 34) hx hb dX0_secretKinds_8 (by decide) (fun c8 => ?_) (fun c8 => ?_)
      · have c8 : w ≤ i := (nI_leI (by omega) (by omega)).mp c8
        refine lv_iconst (v := (nI 0)) hx hb dX0_secretKinds_34 (by decide) ?_
        refine lv_istore (lv' := [(4, .int (nI 0)), (0, .ref (h 0)), (1, .int (nI q)), (2, .int (nI w)), (3, .int (nI mk))]) hx hb dX0_secretKinds_35 hl (by decide) rfl (fun ls hl => ?_)
        refine lv_iconst (v := (nI 0)) hx hb dX0_secretKinds_37 (by decide) ?_
        refine lv_istore (lv' := [(5, .int (nI 0)), (4, .int (nI 0)), (0, .ref (h 0)), (1, .int (nI q)), (2, .int (nI w)), (3, .int (nI mk))]) hx hb dX0_secretKinds_38 hl (by decide) rfl (fun ls hl => ?_)
        have loop40 : ∀ (f : Nat) (t : Nat), 8 < t + f → (t ≤ 8) → ∀ (H : Heap) (locs : List Loc) (ls : Array Slot), pl_Zx D A st (pl_X h k n a b d z V S K O T) H locs → lv_has ls 6 [(3, .int (nI mk)), (4, .int (nI (pl_cnt mk.testBit t))), (5, .int (nI t))] → W p l e (rmD 0) st m ([.ref (h 0), .int (nI q), .int (nI w)] : List Value).toArray below meth c H locs 0 0 Q (F0 m 40 ls []) := by
          intro f
          induction f with
          | zero =>
            intro t hf ht
            exact absurd hf (by omega)
          | succ f ih40 =>
            intro t hf ht H locs ls Z hl
            refine lv_iload hx hb dX0_secretKinds_40 (lv_at hl 2 rfl) ?_
            refine lv_bipush (v := (nI 8)) hx hb dX0_secretKinds_42 (by decide) ?_
            refine lv_icmp_ge (tgt := 64) hx hb dX0_secretKinds_44 (by decide) (fun c44 => ?_) (fun c44 => ?_)
            · have c44 : 8 ≤ t := (nI_leI (by omega) (by omega)).mp c44
              refine lv_iload hx hb dX0_secretKinds_64 (lv_at hl 1 rfl) ?_
              exact hret _ _ _ _ _ (()) dX0_secretKinds_66 (rfl) (⟨mk, by have e1 : i = w := (by omega); rw [← e1]; exact hv, by rw [show t = 8 by omega]⟩) Z
            · have c44 : t < 8 := Nat.lt_of_not_le (mt (nI_leI (by omega) (by omega)).mpr c44)
              refine lv_iload hx hb dX0_secretKinds_47 (lv_at hl 1 rfl) ?_
              refine lv_iload_n hx hb dX0_secretKinds_49 rfl (lv_at hl 0 rfl) ?_
              refine lv_iload hx hb dX0_secretKinds_50 (lv_at hl 2 rfl) ?_
              refine pn_shr hx hb (by omega) (by omega) dX0_secretKinds_52 ?_
              refine lv_iconst (v := (nI 1)) hx hb dX0_secretKinds_53 (by decide) ?_
              refine pn_and hx hb 1 (Nat.lt_of_le_of_lt (Nat.div_le_self _ _) (by omega)) (by decide) dX0_secretKinds_54 ?_
              refine pn_add hx hb dX0_secretKinds_55 ?_
              refine pn_top (y := (nI (pl_cnt mk.testBit (t + 1)))) (congrArg nI (pl_mask_s _ _)) ?_
              refine lv_istore (lv' := [(4, .int (nI (pl_cnt mk.testBit (t + 1)))), (3, .int (nI mk)), (5, .int (nI t))]) hx hb dX0_secretKinds_56 hl (by decide) rfl (fun ls hl => ?_)
              refine lv_iinc (v := (nI (t + 1))) (lv' := [(5, .int (nI (t + 1))), (4, .int (nI (pl_cnt mk.testBit (t + 1)))), (3, .int (nI mk))]) hx hb dX0_secretKinds_58 hl (k := 2) rfl (pn_i1 _) (by decide) rfl (fun ls hl => ?_)
              refine lv_goto (tgt := 40) hx hb dX0_secretKinds_61 (by decide) ?_
              exact ih40 (t + 1) (by omega) (by omega) _ _ _ Z (lv_sub hl [2, 1, 0] rfl)
        exact loop40 9 0 (by omega) (Nat.zero_le _) _ _ _ Z (lv_sub hl [5, 1, 0] rfl)
      · have c8 : i < w := Nat.lt_of_not_le (mt (nI_leI (by omega) (by omega)).mpr c8)
        have o1 := hO i c8
        have s1 := hS (O i)
        refine lv_iload_n hx hb dX0_secretKinds_11 rfl (lv_at hl 3 rfl) ?_
        refine lv_iconst (v := (nI 1)) hx hb dX0_secretKinds_12 (by decide) ?_
        refine lv_aload_n hx hb dX0_secretKinds_13 rfl (lv_at hl 0 rfl) ?_
        refine px_get C Z 0 rfl 2 (by decide) q30 rfl dX0_secretKinds_14 ?_
        refine lv_aload_n hx hb dX0_secretKinds_17 rfl (lv_at hl 0 rfl) ?_
        refine px_get C Z 0 rfl 8 (by decide) q36 rfl dX0_secretKinds_18 ?_
        refine lv_iload hx hb dX0_secretKinds_21 (lv_at hl 4 rfl) ?_
        refine pn_iald C Z 4 3 rfl rfl (by omega) (by decide) dX0_secretKinds_23 ?_
        refine pn_iald C Z 2 1 rfl rfl (by omega) (by decide) dX0_secretKinds_24 ?_
        refine pn_shl hx hb (by omega) (pl_1sh s1) dX0_secretKinds_25 ?_
        refine pn_or hx hb dX0_secretKinds_26 ?_
        refine lv_istore_n (lv' := [(3, .int (nI (mk ||| (1 * 2 ^ (S (O i)))))), (0, .ref (h 0)), (1, .int (nI q)), (2, .int (nI w)), (4, .int (nI i))]) hx hb dX0_secretKinds_27 rfl hl (by decide) rfl (fun ls hl => ?_)
        refine lv_iinc (v := (nI (i + 1))) (lv' := [(4, .int (nI (i + 1))), (3, .int (nI (mk ||| (1 * 2 ^ (S (O i)))))), (0, .ref (h 0)), (1, .int (nI q)), (2, .int (nI w))]) hx hb dX0_secretKinds_28 hl (k := 4) rfl (pn_i1 _) (by decide) rfl (fun ls hl => ?_)
        refine lv_goto (tgt := 5) hx hb dX0_secretKinds_31 (by decide) ?_
        exact ih5 (i + 1) (mk ||| 1 * 2 ^ S (O i)) (by omega) (by omega) (by omega) (pl_mask_lt hm s1) (pl_mask_y (F := fun j => S (O j)) hi hv) _ _ _ Z (lv_sub hl [2, 3, 4, 1, 0] rfl)
  exact loop5 (w + 1) q 0 (by omega) (Nat.le_refl _) (hqw) (by decide) (pl_mask_0 (F := fun j => S (O j))) _ _ _ Z (lv_sub hl [2, 3, 4, 1, 0] rfl)
end
section
set_option maxHeartbeats 4000000 in
set_option maxRecDepth 100000 in
theorem mX0_countLeftOut (l : Launch) (D : va_G) (h : Nat → Nat) (k : Nat → ClassId) (n a b d z : Nat) (V S K O T : Nat → Nat) (g : Nat) (hg : g < 125) (hn : n ≤ 16) (hV : ∀ i, V i < 4096) (hS : ∀ i, S i < 8) (ha8 : a ≤ 8) (hb8 : b ≤ 8) : pl_CI l yX0_countLeftOut cX0_countLeftOut 6 .int (rmD 3) D (pl_XT k) [.ref (h 0), .int (nI g)] (pl_X h k n a b d z V S K O T) (fun u : (Nat → Nat) × (Nat → Nat) => pl_X h k n a b d z V S K u.1 u.2) (fun v _ => v = nI (pl_lft n (pl_key V g) S a b)) := by
  refine pl_CI_of (by decide) (Nat.le_of_ble_eq_true rfl) ?_
  intro p e st m below meth c A Q ls C hret Z hl
  have hx := C.1
  have hb := C.2.1
  have hl : lv_has ls 6 [(0, .ref (h 0)), (1, .int (nI g))] := hl
  refine lv_aload_n hx hb dX0_countLeftOut_0 rfl (lv_at hl 0 rfl) ?_
  refine lv_iload_n hx hb dX0_countLeftOut_1 rfl (lv_at hl 1 rfl) ?_
  refine pl_callU (q0 := 0) (rest := []) (mX0_sortRows l D h k n a b d z V S K O T g hg hn hV) C Z rfl rfl rfl (lw_V q84 q86 qs1 q18 q87) 1 rfl (by decide +kernel) (by decide) ⟨rfl, rfl⟩ hl (Nat.le_of_ble_eq_true rfl) rfl dX0_countLeftOut_2 (fun u H locs hp Z => ?_)
  obtain ⟨O1, T1⟩ := u
  try dsimp only at hp
  have hs : pl_srt n (pl_key V g) O1 T1 := hp
  have hT1 := pl_srt_lt hs
  have Z : pl_Zx D A st (pl_X h k n a b d z V S K O1 T1) H locs := Z
  refine lv_iconst (v := (nI 0)) hx hb dX0_countLeftOut_5 (by decide) ?_
  refine lv_istore_n (lv' := [(2, .int (nI 0)), (0, .ref (h 0)), (1, .int (nI g))]) hx hb dX0_countLeftOut_6 rfl hl (by decide) rfl (fun ls hl => ?_)
  refine lv_iconst (v := (nI 0)) hx hb dX0_countLeftOut_7 (by decide) ?_
  refine lv_istore_n (lv' := [(3, .int (nI 0)), (2, .int (nI 0)), (0, .ref (h 0)), (1, .int (nI g))]) hx hb dX0_countLeftOut_8 rfl hl (by decide) rfl (fun ls hl => ?_)
  have loop9 : ∀ (f : Nat) (q : Nat), n < q + f → (pl_bnd n T1 q) → ∀ (H : Heap) (locs : List Loc) (ls : Array Slot), pl_Zx D A st (pl_X h k n a b d z V S K O1 T1) H locs → lv_has ls 6 [(0, .ref (h 0)), (1, .int (nI g)), (2, .int (nI (pl_cnt (fun j => !pl_hid n (pl_key V g) S a b (pl_key V g (O1 j))) q))), (3, .int (nI q))] → W p l e (rmD 3) st m ([.ref (h 0), .int (nI g)] : List Value).toArray below meth c H locs 0 0 Q (F0 m 9 ls []) := by
    intro f
    induction f with
    | zero =>
      intro q hf hq
      have hq1 := hq.1
      exact absurd hf (by omega)
    | succ f ih9 =>
      intro q hf hq H locs ls Z hl
      have hq1 := hq.1
      refine lv_iload_n hx hb dX0_countLeftOut_9 rfl (lv_at hl 3 rfl) ?_
      refine lv_aload_n hx hb dX0_countLeftOut_10 rfl (lv_at hl 0 rfl) ?_
      refine px_get C Z 0 rfl 0 (by decide) q28 rfl dX0_countLeftOut_11 ?_
      refine lv_icmp_ge (tgt := 66) hx hb dX0_countLeftOut_14 (by decide) (fun c14 => ?_) (fun c14 => ?_)
      · have c14 : n ≤ q := (nI_leI (by omega) (by omega)).mp c14
        refine lv_iload_n hx hb dX0_countLeftOut_66 rfl (lv_at hl 2 rfl) ?_
        exact hret _ _ _ _ _ ((O1, T1)) dX0_countLeftOut_67 (rfl) (by rw [show q = n by omega]; exact congrArg nI (pl_out_end hs)) Z
      · have c14 : q < n := Nat.lt_of_not_le (mt (nI_leI (by omega) (by omega)).mpr c14)
        refine lv_aload_n hx hb dX0_countLeftOut_17 rfl (lv_at hl 0 rfl) ?_
        refine lv_iload_n hx hb dX0_countLeftOut_18 rfl (lv_at hl 3 rfl) ?_
        refine pl_callV (q0 := 0) (rest := []) (mX0_groupEnd l D h k n a b d z V S K O1 T1 q c14 hn hT1) C Z rfl rfl rfl (lw_V q95 q97 qs3 q18 q98) 1 rfl (by decide +kernel) (by decide) ⟨rfl, rfl⟩ hl (Nat.le_of_ble_eq_true rfl) rfl dX0_countLeftOut_19 (fun v19 u H locs hp Z => ?_)
        obtain _ := u
        try dsimp only at hp
        obtain ⟨w, rfl, hgr⟩ := hp
        have g1 := hgr.1
        have g2 := hgr.2.1
        have hsz := pl_grp_sz hs hq hgr
        have Z : pl_Zx D A st (pl_X h k n a b d z V S K O1 T1) H locs := Z
        refine lv_istore (lv' := [(4, .int (nI w)), (0, .ref (h 0)), (1, .int (nI g)), (2, .int (nI (pl_cnt (fun j => !pl_hid n (pl_key V g) S a b (pl_key V g (O1 j))) q))), (3, .int (nI q))]) hx hb dX0_countLeftOut_22 hl (by decide) rfl (fun ls hl => ?_)
        refine lv_aload_n hx hb dX0_countLeftOut_24 rfl (lv_at hl 1 rfl) ?_
        refine lv_iload_n hx hb dX0_countLeftOut_25 rfl (lv_at hl 4 rfl) ?_
        refine lv_iload hx hb dX0_countLeftOut_26 (lv_at hl 0 rfl) ?_
        refine pl_callV (q0 := 0) (rest := []) (mX0_secretKinds l D h k n a b d z V S K O1 T1 q w (by omega) (by omega) (fun j hj => Nat.lt_of_lt_of_le (pl_perm_lt hs.2.1 (Nat.lt_of_lt_of_le hj g2)) hn) hS) C Z rfl rfl rfl (lw_V q99 q101 qs4 q18 q102) 2 rfl (by decide +kernel) (by decide) ⟨rfl, rfl⟩ hl (Nat.le_of_ble_eq_true rfl) rfl dX0_countLeftOut_28 (fun v28 u H locs hp Z => ?_)
        obtain _ := u
        try dsimp only at hp
        obtain ⟨mk, hmk, rfl⟩ := hp
        have kd8 := pl_kd_le n (pl_key V g) S (T1 q)
        have Z : pl_Zx D A st (pl_X h k n a b d z V S K O1 T1) H locs := Z
        refine pn_top (y := (nI (pl_kd n (pl_key V g) S (T1 q)))) (congrArg nI (pl_grp_kd hs hq hgr hmk)) ?_
        refine lv_istore (lv' := [(5, .int (nI (pl_kd n (pl_key V g) S (T1 q)))), (4, .int (nI w)), (0, .ref (h 0)), (1, .int (nI g)), (2, .int (nI (pl_cnt (fun j => !pl_hid n (pl_key V g) S a b (pl_key V g (O1 j))) q))), (3, .int (nI q))]) hx hb dX0_countLeftOut_31 hl (by decide) rfl (fun ls hl => ?_)
        refine lv_iload hx hb dX0_countLeftOut_33 (lv_at hl 1 rfl) ?_
        refine lv_iload_n hx hb dX0_countLeftOut_35 rfl (lv_at hl 5 rfl) ?_
        refine pn_sub hx hb (by omega) dX0_countLeftOut_36 ?_
        refine lv_aload_n hx hb dX0_countLeftOut_37 rfl (lv_at hl 2 rfl) ?_
        refine px_get C Z 0 rfl 3 (by decide) q31 rfl dX0_countLeftOut_38 ?_
        refine lv_icmp_lt (tgt := 53) hx hb dX0_countLeftOut_41 (by decide) (fun c41 => ?_) (fun c41 => ?_)
        · have c41 : (w - q) < a := (nI_ltI (by omega) (by omega)).mp c41
          have e1 := pl_out_y (S := S) (a := a) (b := b) hs hq hgr (by first | exact pl_hid_f1 (by omega) | exact pl_hid_f2 c50)
          refine lv_iload_n hx hb dX0_countLeftOut_53 rfl (lv_at hl 4 rfl) ?_
          refine lv_iload hx hb dX0_countLeftOut_54 (lv_at hl 1 rfl) ?_
          refine lv_iload_n hx hb dX0_countLeftOut_56 rfl (lv_at hl 5 rfl) ?_
          refine pn_sub hx hb (by omega) dX0_countLeftOut_57 ?_
          refine pn_add hx hb dX0_countLeftOut_58 ?_
          refine lv_istore_n (lv' := [(2, .int (nI ((pl_cnt (fun j => !pl_hid n (pl_key V g) S a b (pl_key V g (O1 j))) q) + (w - q)))), (5, .int (nI (pl_kd n (pl_key V g) S (T1 q)))), (4, .int (nI w)), (0, .ref (h 0)), (1, .int (nI g)), (3, .int (nI q))]) hx hb dX0_countLeftOut_59 rfl hl (by decide) rfl (fun ls hl => ?_)
          refine lv_iload hx hb dX0_countLeftOut_60 (lv_at hl 2 rfl) ?_
          refine lv_istore_n (lv' := [(3, .int (nI w)), (2, .int (nI ((pl_cnt (fun j => !pl_hid n (pl_key V g) S a b (pl_key V g (O1 j))) q) + (w - q)))), (5, .int (nI (pl_kd n (pl_key V g) S (T1 q)))), (4, .int (nI w)), (0, .ref (h 0)), (1, .int (nI g))]) hx hb dX0_countLeftOut_62 rfl hl (by decide) rfl (fun ls hl => ?_)
          refine lv_goto (tgt := 9) hx hb dX0_countLeftOut_63 (by decide) ?_
          exact ih9 w (by omega) (pl_bnd_s hs hq hgr) _ _ _ Z (by rw [e1]; exact lv_sub hl [4, 5, 1, 0] rfl)
        · have c41 : a ≤ (w - q) := Nat.le_of_not_lt (mt (nI_ltI (by omega) (by omega)).mpr c41)
          refine lv_iload hx hb dX0_countLeftOut_44 (lv_at hl 0 rfl) ?_
          refine lv_aload_n hx hb dX0_countLeftOut_46 rfl (lv_at hl 2 rfl) ?_
          refine px_get C Z 0 rfl 4 (by decide) q32 rfl dX0_countLeftOut_47 ?_
          refine lv_icmp_ge (tgt := 60) hx hb dX0_countLeftOut_50 (by decide) (fun c50 => ?_) (fun c50 => ?_)
          · have c50 : b ≤ (pl_kd n (pl_key V g) S (T1 q)) := (nI_leI (by omega) (by omega)).mp c50
            have e1 := pl_out_n (S := S) (a := a) (b := b) hs hq hgr (pl_hid_t (by omega) c50)
            refine lv_iload hx hb dX0_countLeftOut_60 (lv_at hl 1 rfl) ?_
            refine lv_istore_n (lv' := [(3, .int (nI w)), (5, .int (nI (pl_kd n (pl_key V g) S (T1 q)))), (4, .int (nI w)), (0, .ref (h 0)), (1, .int (nI g)), (2, .int (nI (pl_cnt (fun j => !pl_hid n (pl_key V g) S a b (pl_key V g (O1 j))) q)))]) hx hb dX0_countLeftOut_62 rfl hl (by decide) rfl (fun ls hl => ?_)
            refine lv_goto (tgt := 9) hx hb dX0_countLeftOut_63 (by decide) ?_
            exact ih9 w (by omega) (pl_bnd_s hs hq hgr) _ _ _ Z (by rw [e1]; exact lv_sub hl [3, 4, 5, 0] rfl)
          · have c50 : (pl_kd n (pl_key V g) S (T1 q)) < b := Nat.lt_of_not_le (mt (nI_leI (by omega) (by omega)).mpr c50)
            have e1 := pl_out_y (S := S) (a := a) (b := b) hs hq hgr (by first | exact pl_hid_f1 (by omega) | exact pl_hid_f2 c50)
            refine lv_iload_n hx hb dX0_countLeftOut_53 rfl (lv_at hl 4 rfl) ?_
            refine lv_iload hx hb dX0_countLeftOut_54 (lv_at hl 1 rfl) ?_
            refine lv_iload_n hx hb dX0_countLeftOut_56 rfl (lv_at hl 5 rfl) ?_
            refine pn_sub hx hb (by omega) dX0_countLeftOut_57 ?_
            refine pn_add hx hb dX0_countLeftOut_58 ?_
            refine lv_istore_n (lv' := [(2, .int (nI ((pl_cnt (fun j => !pl_hid n (pl_key V g) S a b (pl_key V g (O1 j))) q) + (w - q)))), (5, .int (nI (pl_kd n (pl_key V g) S (T1 q)))), (4, .int (nI w)), (0, .ref (h 0)), (1, .int (nI g)), (3, .int (nI q))]) hx hb dX0_countLeftOut_59 rfl hl (by decide) rfl (fun ls hl => ?_)
            refine lv_iload hx hb dX0_countLeftOut_60 (lv_at hl 2 rfl) ?_
            refine lv_istore_n (lv' := [(3, .int (nI w)), (2, .int (nI ((pl_cnt (fun j => !pl_hid n (pl_key V g) S a b (pl_key V g (O1 j))) q) + (w - q)))), (5, .int (nI (pl_kd n (pl_key V g) S (T1 q)))), (4, .int (nI w)), (0, .ref (h 0)), (1, .int (nI g))]) hx hb dX0_countLeftOut_62 rfl hl (by decide) rfl (fun ls hl => ?_)
            refine lv_goto (tgt := 9) hx hb dX0_countLeftOut_63 (by decide) ?_
            exact ih9 w (by omega) (pl_bnd_s hs hq hgr) _ _ _ Z (by rw [e1]; exact lv_sub hl [4, 5, 1, 0] rfl)
  exact loop9 (n + 1) 0 (by omega) (pl_bnd_0 _ _) _ _ _ Z (lv_sub hl [2, 3, 1, 0] rfl)
set_option maxHeartbeats 4000000 in
set_option maxRecDepth 100000 in
theorem mX0_judge (l : Launch) (D : va_G) (h : Nat → Nat) (k : Nat → ClassId) (n a b d z : Nat) (V S K O T : Nat → Nat) (g : Nat) (hg : g < 125) (hn : n ≤ 16) (hV : ∀ i, V i < 4096) (hS : ∀ i, S i < 8) (ha8 : a ≤ 8) (hb8 : b ≤ 8) (hd16 : d ≤ 16) : pl_CV l yX0_judge cX0_judge 6 (rmD 4) D (pl_XT k) [.ref (h 0), .int (nI g)] (pl_X h k n a b d z V S K O T) (fun u : (Nat → Nat) × (Nat → Nat) × (Nat → Nat) => pl_X h k n a b d z V S u.1 u.2.1 u.2.2) (fun u => ∀ t, t < 125 → u.1 t = if pl_jv (pl_gd n V S a b d g) g t = true then (if pl_gd n V S a b d g = true then 1 else 2) else K t) := by
  refine pl_CV_of (by decide) (Nat.le_of_ble_eq_true rfl) ?_
  intro p e st m below meth c A Q ls C hret Z hl
  have hx := C.1
  have hb := C.2.1
  have hl : lv_has ls 6 [(0, .ref (h 0)), (1, .int (nI g))] := hl
  refine lv_aload_n hx hb dX0_judge_0 rfl (lv_at hl 0 rfl) ?_
  refine lv_iload_n hx hb dX0_judge_1 rfl (lv_at hl 1 rfl) ?_
  refine pl_callV (q0 := 0) (rest := []) (mX0_countLeftOut l D h k n a b d z V S K O T g hg hn hV hS ha8 hb8) C Z rfl rfl rfl (lw_V q80 q82 qs0 q18 q83) 1 rfl (by decide +kernel) (by decide) ⟨rfl, rfl⟩ hl (Nat.le_of_ble_eq_true rfl) rfl dX0_judge_2 (fun v2 u H locs hp Z => ?_)
  obtain ⟨O1, T1⟩ := u
  try dsimp only at hp
  subst hp
  have lf := pl_lft_le n (pl_key V g) S a b
  have Z : pl_Zx D A st (pl_X h k n a b d z V S K O1 T1) H locs := Z
  refine lv_istore_n (lv' := [(2, .int (nI (pl_lft n (pl_key V g) S a b))), (0, .ref (h 0)), (1, .int (nI g))]) hx hb dX0_judge_5 rfl hl (by decide) rfl (fun ls hl => ?_)
  have loop23 : ∀ (f : Nat) (i : Nat) (K1 : Nat → Nat), 125 < i + f → (i ≤ 125) → (pl_jd (pl_gd n V S a b d g) g K K1 i) → ∀ (H : Heap) (locs : List Loc) (ls : Array Slot), pl_Zx D A st (pl_X h k n a b d z V S K1 O1 T1) H locs → lv_has ls 6 [(0, .ref (h 0)), (1, .int (nI g)), (3, .int (nI (pl_gd n V S a b d g).toNat)), (4, .int (nI i))] → W p l e (rmD 4) st m ([.ref (h 0), .int (nI g)] : List Value).toArray below meth c H locs 0 0 Q (F0 m 23 ls []) := by
    intro f
    induction f with
    | zero =>
      intro i K1 hf hi hk
      exact absurd hf (by omega)
    | succ f ih23 =>
      intro i K1 hf hi hk H locs ls Z hl
      refine lv_iload hx hb dX0_judge_23 (lv_at hl 3 rfl) ?_
      refine lv_bipush (v := (nI 125)) hx hb dX0_judge_25 (by decide) ?_
      refine lv_icmp_ge (tgt := 78) hx hb dX0_judge_27 (by decide) (fun c27 => ?_) (fun c27 => ?_)
      · have c27 : 125 ≤ i := (nI_leI (by omega) (by omega)).mp c27
        exact hret _ _ _ _ ((K1, O1, T1)) dX0_judge_78 (pl_jd_e hk c27) Z
      · have c27 : i < 125 := Nat.lt_of_not_le (mt (nI_leI (by omega) (by omega)).mpr c27)
        refine lv_iload_n hx hb dX0_judge_30 rfl (lv_at hl 2 rfl) ?_
        refine lv_if_eq (tgt := 43) hx hb dX0_judge_31 (by decide) (fun c31 => ?_) (fun c31 => ?_)
        · have c31 : (pl_gd n V S a b d g) = false := pn_b0.mp c31
          refine lv_iload_n hx hb dX0_judge_43 rfl (lv_at hl 1 rfl) ?_
          refine lv_iload hx hb dX0_judge_44 (lv_at hl 3 rfl) ?_
          refine pl_callS (rest := []) (mX0_atLeast l D g i hg c27) C Z (lw_S q122 q123 q18 q124) 2 rfl (by decide +kernel) (by decide) ⟨rfl, rfl⟩ hl (Nat.le_of_ble_eq_true rfl) rfl dX0_judge_46 (fun v46 H locs hp Z => ?_)
          subst hp
          refine pn_top (y := nI (pl_jv (pl_gd n V S a b d g) g i).toNat) (by rw [c31]; rfl) ?_
          refine lv_istore (lv' := [(5, .int (nI (pl_jv (pl_gd n V S a b d g) g i).toNat)), (0, .ref (h 0)), (1, .int (nI g)), (3, .int (nI (pl_gd n V S a b d g).toNat)), (4, .int (nI i))]) hx hb dX0_judge_49 hl (by decide) rfl (fun ls hl => ?_)
          refine lv_iload hx hb dX0_judge_51 (lv_at hl 0 rfl) ?_
          refine lv_if_eq (tgt := 72) hx hb dX0_judge_53 (by decide) (fun c53 => ?_) (fun c53 => ?_)
          · have c53 : (pl_jv (pl_gd n V S a b d g) g i) = false := pn_b0.mp c53
            refine lv_iinc (v := (nI (i + 1))) (lv' := [(4, .int (nI (i + 1))), (5, .int (nI (pl_jv (pl_gd n V S a b d g) g i).toNat)), (0, .ref (h 0)), (1, .int (nI g)), (3, .int (nI (pl_gd n V S a b d g).toNat))]) hx hb dX0_judge_72 hl (k := 4) rfl (pn_i1 _) (by decide) rfl (fun ls hl => ?_)
            refine lv_goto (tgt := 23) hx hb dX0_judge_75 (by decide) ?_
            exact ih23 (i + 1) K1 (by omega) (by omega) (pl_jd_n hk c53) _ _ _ Z (lv_sub hl [2, 3, 4, 0] rfl)
          · have c53 : (pl_jv (pl_gd n V S a b d g) g i) = true := pn_b1.mp c53
            refine lv_aload_n hx hb dX0_judge_56 rfl (lv_at hl 1 rfl) ?_
            refine px_get C Z 0 rfl 7 (by decide) q35 rfl dX0_judge_57 ?_
            refine lv_iload hx hb dX0_judge_60 (lv_at hl 4 rfl) ?_
            refine lv_iload_n hx hb dX0_judge_62 rfl (lv_at hl 3 rfl) ?_
            refine lv_if_eq (tgt := 70) hx hb dX0_judge_63 (by decide) (fun c63 => ?_) (fun c63 => ?_)
            · have c63 : (pl_gd n V S a b d g) = false := pn_b0.mp c63
              refine lv_iconst (v := (nI 2)) hx hb dX0_judge_70 (by decide) ?_
              refine pn_bast C Z 3 2 rfl rfl (by omega) (by decide) (by decide) dX0_judge_71 (fun H locs Z => ?_)
              have Z : pl_Zx D A st (pl_X h k n a b d z V S (updN K1 i 2) O1 T1) H locs := Z
              refine lv_iinc (v := (nI (i + 1))) (lv' := [(4, .int (nI (i + 1))), (5, .int (nI (pl_jv (pl_gd n V S a b d g) g i).toNat)), (0, .ref (h 0)), (1, .int (nI g)), (3, .int (nI (pl_gd n V S a b d g).toNat))]) hx hb dX0_judge_72 hl (k := 4) rfl (pn_i1 _) (by decide) rfl (fun ls hl => ?_)
              refine lv_goto (tgt := 23) hx hb dX0_judge_75 (by decide) ?_
              exact ih23 (i + 1) (updN K1 i 2) (by omega) (by omega) (pl_jd_y hk c53 (by rw [c63]; rfl)) _ _ _ Z (lv_sub hl [2, 3, 4, 0] rfl)
            · have c63 : (pl_gd n V S a b d g) = true := pn_b1.mp c63
              exact absurd (c31.symm.trans c63) (by decide)
        · have c31 : (pl_gd n V S a b d g) = true := pn_b1.mp c31
          refine lv_iload hx hb dX0_judge_34 (lv_at hl 3 rfl) ?_
          refine lv_iload_n hx hb dX0_judge_36 rfl (lv_at hl 1 rfl) ?_
          refine pl_callS (rest := []) (mX0_atLeast l D i g c27 hg) C Z (lw_S q122 q123 q18 q124) 2 rfl (by decide +kernel) (by decide) ⟨rfl, rfl⟩ hl (Nat.le_of_ble_eq_true rfl) rfl dX0_judge_37 (fun v37 H locs hp Z => ?_)
          subst hp
          refine lv_goto (tgt := 49) hx hb dX0_judge_40 (by decide) ?_
          refine pn_top (y := nI (pl_jv (pl_gd n V S a b d g) g i).toNat) (by rw [c31]; rfl) ?_
          refine lv_istore (lv' := [(5, .int (nI (pl_jv (pl_gd n V S a b d g) g i).toNat)), (0, .ref (h 0)), (1, .int (nI g)), (3, .int (nI (pl_gd n V S a b d g).toNat)), (4, .int (nI i))]) hx hb dX0_judge_49 hl (by decide) rfl (fun ls hl => ?_)
          refine lv_iload hx hb dX0_judge_51 (lv_at hl 0 rfl) ?_
          refine lv_if_eq (tgt := 72) hx hb dX0_judge_53 (by decide) (fun c53 => ?_) (fun c53 => ?_)
          · have c53 : (pl_jv (pl_gd n V S a b d g) g i) = false := pn_b0.mp c53
            refine lv_iinc (v := (nI (i + 1))) (lv' := [(4, .int (nI (i + 1))), (5, .int (nI (pl_jv (pl_gd n V S a b d g) g i).toNat)), (0, .ref (h 0)), (1, .int (nI g)), (3, .int (nI (pl_gd n V S a b d g).toNat))]) hx hb dX0_judge_72 hl (k := 4) rfl (pn_i1 _) (by decide) rfl (fun ls hl => ?_)
            refine lv_goto (tgt := 23) hx hb dX0_judge_75 (by decide) ?_
            exact ih23 (i + 1) K1 (by omega) (by omega) (pl_jd_n hk c53) _ _ _ Z (lv_sub hl [2, 3, 4, 0] rfl)
          · have c53 : (pl_jv (pl_gd n V S a b d g) g i) = true := pn_b1.mp c53
            refine lv_aload_n hx hb dX0_judge_56 rfl (lv_at hl 1 rfl) ?_
            refine px_get C Z 0 rfl 7 (by decide) q35 rfl dX0_judge_57 ?_
            refine lv_iload hx hb dX0_judge_60 (lv_at hl 4 rfl) ?_
            refine lv_iload_n hx hb dX0_judge_62 rfl (lv_at hl 3 rfl) ?_
            refine lv_if_eq (tgt := 70) hx hb dX0_judge_63 (by decide) (fun c63 => ?_) (fun c63 => ?_)
            · have c63 : (pl_gd n V S a b d g) = false := pn_b0.mp c63
              exact absurd (c31.symm.trans c63) (by decide)
            · have c63 : (pl_gd n V S a b d g) = true := pn_b1.mp c63
              refine lv_iconst (v := (nI 1)) hx hb dX0_judge_66 (by decide) ?_
              refine lv_goto (tgt := 71) hx hb dX0_judge_67 (by decide) ?_
              refine pn_bast C Z 3 2 rfl rfl (by omega) (by decide) (by decide) dX0_judge_71 (fun H locs Z => ?_)
              have Z : pl_Zx D A st (pl_X h k n a b d z V S (updN K1 i 1) O1 T1) H locs := Z
              refine lv_iinc (v := (nI (i + 1))) (lv' := [(4, .int (nI (i + 1))), (5, .int (nI (pl_jv (pl_gd n V S a b d g) g i).toNat)), (0, .ref (h 0)), (1, .int (nI g)), (3, .int (nI (pl_gd n V S a b d g).toNat))]) hx hb dX0_judge_72 hl (k := 4) rfl (pn_i1 _) (by decide) rfl (fun ls hl => ?_)
              refine lv_goto (tgt := 23) hx hb dX0_judge_75 (by decide) ?_
              exact ih23 (i + 1) (updN K1 i 1) (by omega) (by omega) (pl_jd_y hk c53 (by rw [c63]; rfl)) _ _ _ Z (lv_sub hl [2, 3, 4, 0] rfl)
  refine lv_iload_n hx hb dX0_judge_6 rfl (lv_at hl 0 rfl) ?_
  refine lv_aload_n hx hb dX0_judge_7 rfl (lv_at hl 1 rfl) ?_
  refine px_get C Z 0 rfl 5 (by decide) q33 rfl dX0_judge_8 ?_
  refine lv_icmp_gt (tgt := 18) hx hb dX0_judge_11 (by decide) (fun c11 => ?_) (fun c11 => ?_)
  · have c11 : d < (pl_lft n (pl_key V g) S a b) := (nI_ltI (by omega) (by omega)).mp c11
    refine lv_iconst (v := (nI 0)) hx hb dX0_judge_18 (by decide) ?_
    refine pn_top (y := (nI (pl_gd n V S a b d g).toNat)) (pn_t0 (fun q => absurd ((pl_gd_f c11).symm.trans q) (by decide))) ?_
    refine lv_istore_n (lv' := [(3, .int (nI (pl_gd n V S a b d g).toNat)), (2, .int (nI (pl_lft n (pl_key V g) S a b))), (0, .ref (h 0)), (1, .int (nI g))]) hx hb dX0_judge_19 rfl hl (by decide) rfl (fun ls hl => ?_)
    refine lv_iconst (v := (nI 0)) hx hb dX0_judge_20 (by decide) ?_
    refine lv_istore (lv' := [(4, .int (nI 0)), (3, .int (nI (pl_gd n V S a b d g).toNat)), (2, .int (nI (pl_lft n (pl_key V g) S a b))), (0, .ref (h 0)), (1, .int (nI g))]) hx hb dX0_judge_21 hl (by decide) rfl (fun ls hl => ?_)
    exact loop23 126 0 K (by omega) (Nat.zero_le _) (pl_jd_0 _ _ _) _ _ _ Z (lv_sub hl [3, 4, 1, 0] rfl)
  · have c11 : (pl_lft n (pl_key V g) S a b) ≤ d := Nat.le_of_not_lt (mt (nI_ltI (by omega) (by omega)).mpr c11)
    refine lv_iconst (v := (nI 1)) hx hb dX0_judge_14 (by decide) ?_
    refine pn_top (y := (nI (pl_gd n V S a b d g).toNat)) (pn_t1 (pl_gd_t c11)) ?_
    refine lv_goto (tgt := 19) hx hb dX0_judge_15 (by decide) ?_
    refine lv_istore_n (lv' := [(3, .int (nI (pl_gd n V S a b d g).toNat)), (2, .int (nI (pl_lft n (pl_key V g) S a b))), (0, .ref (h 0)), (1, .int (nI g))]) hx hb dX0_judge_19 rfl hl (by decide) rfl (fun ls hl => ?_)
    refine lv_iconst (v := (nI 0)) hx hb dX0_judge_20 (by decide) ?_
    refine lv_istore (lv' := [(4, .int (nI 0)), (3, .int (nI (pl_gd n V S a b d g).toNat)), (2, .int (nI (pl_lft n (pl_key V g) S a b))), (0, .ref (h 0)), (1, .int (nI g))]) hx hb dX0_judge_21 hl (by decide) rfl (fun ls hl => ?_)
    exact loop23 126 0 K (by omega) (Nat.zero_le _) (pl_jd_0 _ _ _) _ _ _ Z (lv_sub hl [3, 4, 1, 0] rfl)
set_option maxHeartbeats 4000000 in
set_option maxRecDepth 100000 in
theorem mX0_judgeSum (l : Launch) (D : va_G) (h : Nat → Nat) (k : Nat → ClassId) (n a b d z : Nat) (V S K O T : Nat → Nat) (y : Nat) (hy : y ≤ 12) (hn : n ≤ 16) (hV : ∀ i, V i < 4096) (hS : ∀ i, S i < 8) (ha8 : a ≤ 8) (hb8 : b ≤ 8) (hd16 : d ≤ 16) (hK : pl_snd (pl_gd n V S a b d) K) : pl_CV l yX0_judgeSum cX0_judgeSum 3 (rmD 5) D (pl_XT k) [.ref (h 0), .int (nI y)] (pl_X h k n a b d z V S K O T) (fun u : (Nat → Nat) × (Nat → Nat) × (Nat → Nat) => pl_X h k n a b d z V S u.1 u.2.1 u.2.2) (fun u => pl_snd (pl_gd n V S a b d) u.1 ∧ (∀ t, t < 125 → K t ≠ 0 → u.1 t ≠ 0) ∧ ∀ t, t < 125 → pl_sum t = y → u.1 t ≠ 0) := by
  refine pl_CV_of (by decide) (Nat.le_of_ble_eq_true rfl) ?_
  intro p e st m below meth c A Q ls C hret Z hl
  have hx := C.1
  have hb := C.2.1
  have hl : lv_has ls 3 [(0, .ref (h 0)), (1, .int (nI y))] := hl
  refine lv_iconst (v := (nI 0)) hx hb dX0_judgeSum_0 (by decide) ?_
  refine lv_istore_n (lv' := [(2, .int (nI 0)), (0, .ref (h 0)), (1, .int (nI y))]) hx hb dX0_judgeSum_1 rfl hl (by decide) rfl (fun ls hl => ?_)
  have loop2 : ∀ (f : Nat) (i : Nat) (K1 : Nat → Nat) (O1 : Nat → Nat) (T1 : Nat → Nat), 125 < i + f → (i ≤ 125) → (pl_snd (pl_gd n V S a b d) K1) → ((∀ t, t < 125 → K t ≠ 0 → K1 t ≠ 0)) → ((∀ t, t < i → pl_sum t = y → K1 t ≠ 0)) → ∀ (H : Heap) (locs : List Loc) (ls : Array Slot), pl_Zx D A st (pl_X h k n a b d z V S K1 O1 T1) H locs → lv_has ls 3 [(0, .ref (h 0)), (1, .int (nI y)), (2, .int (nI i))] → W p l e (rmD 5) st m ([.ref (h 0), .int (nI y)] : List Value).toArray below meth c H locs 0 0 Q (F0 m 2 ls []) := by
    intro f
    induction f with
    | zero =>
      intro i K1 O1 T1 hf hi h1 h2 h3
      exact absurd hf (by omega)
    | succ f ih2 =>
      intro i K1 O1 T1 hf hi h1 h2 h3 H locs ls Z hl
      refine lv_iload_n hx hb dX0_judgeSum_2 rfl (lv_at hl 2 rfl) ?_
      refine lv_bipush (v := (nI 125)) hx hb dX0_judgeSum_3 (by decide) ?_
      refine lv_icmp_ge (tgt := 36) hx hb dX0_judgeSum_5 (by decide) (fun c5 => ?_) (fun c5 => ?_)
      · have c5 : 125 ≤ i := (nI_leI (by omega) (by omega)).mp c5
        exact hret _ _ _ _ ((K1, O1, T1)) dX0_judgeSum_36 (⟨h1, h2, fun t ht => h3 t (by omega)⟩) Z
      · have c5 : i < 125 := Nat.lt_of_not_le (mt (nI_leI (by omega) (by omega)).mpr c5)
        refine lv_aload_n hx hb dX0_judgeSum_8 rfl (lv_at hl 0 rfl) ?_
        refine px_get C Z 0 rfl 7 (by decide) q35 rfl dX0_judgeSum_9 ?_
        refine lv_iload_n hx hb dX0_judgeSum_12 rfl (lv_at hl 2 rfl) ?_
        refine pn_bald C Z 3 2 rfl rfl (by omega) (by decide) dX0_judgeSum_13 ?_
        have kb := pl_snd_lt h1 c5
        refine lv_if_ne (tgt := 30) hx hb dX0_judgeSum_14 (by decide) (fun c14 => ?_) (fun c14 => ?_)
        · have c14 : ¬ (K1 i) = 0 := mt (pn_e0 (by omega)).mpr c14
          refine lv_iinc (v := (nI (i + 1))) (lv' := [(2, .int (nI (i + 1))), (0, .ref (h 0)), (1, .int (nI y))]) hx hb dX0_judgeSum_30 hl (k := 2) rfl (pn_i1 _) (by decide) rfl (fun ls hl => ?_)
          refine lv_goto (tgt := 2) hx hb dX0_judgeSum_33 (by decide) ?_
          exact ih2 (i + 1) K1 O1 T1 (by omega) (by omega) (h1) (h2) (by first | exact lt_s h3 (fun _ => c14) | exact lt_s h3 (fun q => absurd q c22)) _ _ _ Z (lv_sub hl [1, 2, 0] rfl)
        · have c14 : (K1 i) = 0 := (pn_e0 (by omega)).mp c14
          refine lv_iload_n hx hb dX0_judgeSum_17 rfl (lv_at hl 2 rfl) ?_
          refine pl_callS (rest := []) (mX0_sumOfLevels l D i c5) C Z (lw_S q115 q116 q18 q117) 1 rfl (by decide +kernel) (by decide) ⟨rfl, rfl⟩ hl (Nat.le_of_ble_eq_true rfl) rfl dX0_judgeSum_18 (fun v18 H locs hp Z => ?_)
          subst hp
          have sb := pl_sum_le c5
          refine lv_iload_n hx hb dX0_judgeSum_21 rfl (lv_at hl 1 rfl) ?_
          refine lv_icmp_ne (tgt := 30) hx hb dX0_judgeSum_22 (by decide) (fun c22 => ?_) (fun c22 => ?_)
          · have c22 : ¬ (pl_sum i) = y := mt (nI_eq (by omega) (by omega)).mpr c22
            refine lv_iinc (v := (nI (i + 1))) (lv' := [(2, .int (nI (i + 1))), (0, .ref (h 0)), (1, .int (nI y))]) hx hb dX0_judgeSum_30 hl (k := 2) rfl (pn_i1 _) (by decide) rfl (fun ls hl => ?_)
            refine lv_goto (tgt := 2) hx hb dX0_judgeSum_33 (by decide) ?_
            exact ih2 (i + 1) K1 O1 T1 (by omega) (by omega) (h1) (h2) (by first | exact lt_s h3 (fun _ => c14) | exact lt_s h3 (fun q => absurd q c22)) _ _ _ Z (lv_sub hl [1, 2, 0] rfl)
          · have c22 : (pl_sum i) = y := (nI_eq (by omega) (by omega)).mp c22
            refine lv_aload_n hx hb dX0_judgeSum_25 rfl (lv_at hl 0 rfl) ?_
            refine lv_iload_n hx hb dX0_judgeSum_26 rfl (lv_at hl 2 rfl) ?_
            refine pl_callU (q0 := 0) (rest := []) (mX0_judge l D h k n a b d z V S K1 O1 T1 i c5 hn hV hS ha8 hb8 hd16) C Z rfl rfl rfl (lw_V q118 q120 qs7 q18 q121) 1 rfl (by decide +kernel) (by decide) ⟨rfl, rfl⟩ hl (Nat.le_of_ble_eq_true rfl) rfl dX0_judgeSum_27 (fun u H locs hp Z => ?_)
            obtain ⟨K2, O2, T2⟩ := u
            try dsimp only at hp
            obtain ⟨j1, j2, j3⟩ := pl_jud (pl_gm n V S a b d) c5 h1 hp
            have Z : pl_Zx D A st (pl_X h k n a b d z V S K2 O2 T2) H locs := Z
            refine lv_iinc (v := (nI (i + 1))) (lv' := [(2, .int (nI (i + 1))), (0, .ref (h 0)), (1, .int (nI y))]) hx hb dX0_judgeSum_30 hl (k := 2) rfl (pn_i1 _) (by decide) rfl (fun ls hl => ?_)
            refine lv_goto (tgt := 2) hx hb dX0_judgeSum_33 (by decide) ?_
            exact ih2 (i + 1) K2 O2 T2 (by omega) (by omega) (j1) (fun t ht q => j2 t ht (h2 t ht q)) (lt_s (fun t ht q => j2 t (by omega) (h3 t ht q)) (fun _ => j3)) _ _ _ Z (lv_sub hl [1, 2, 0] rfl)
  exact loop2 126 0 K O T (by omega) (Nat.zero_le _) (hK) (fun _ _ q => q) (fun t ht => absurd ht (by omega)) _ _ _ Z (lv_sub hl [1, 2, 0] rfl)
end
section
set_option maxHeartbeats 4000000 in
set_option maxRecDepth 100000 in
theorem mX0_prepare (l : Launch) (D : va_G) (h : Nat → Nat) (k : Nat → ClassId) (n a b d z : Nat) (V S K O T : Nat → Nat) (hn : n ≤ 16) (hV : ∀ i, V i < 4096) (hS : ∀ i, S i < 8) (ha8 : a ≤ 8) (hb8 : b ≤ 8) (hd16 : d ≤ 16) (hrd : pl_rdy (pl_gd n V S a b d) z K) : pl_CV l yX0_prepare cX0_prepare 2 (rmD 6) D (pl_XT k) [.ref (h 0)] (pl_X h k n a b d z V S K O T) (fun u : Nat × (Nat → Nat) × (Nat → Nat) × (Nat → Nat) => pl_X h k n a b d u.1 V S u.2.1 u.2.2.1 u.2.2.2) (fun u => u.1 = 1 ∧ pl_all (pl_gd n V S a b d) u.2.1) := by
  refine pl_CV_of (by decide) (Nat.le_of_ble_eq_true rfl) ?_
  intro p e st m below meth c A Q ls C hret Z hl
  have hx := C.1
  have hb := C.2.1
  have hl : lv_has ls 2 [(0, .ref (h 0))] := hl
  refine lv_aload_n hx hb dX0_prepare_0 rfl (lv_at hl 0 rfl) ?_
  refine px_get C Z 0 rfl 6 (by decide) q34 rfl dX0_prepare_1 ?_
  have hz := hrd.1
  refine lv_if_eq (tgt := 8) hx hb dX0_prepare_4 (by decide) (fun c4 => ?_) (fun c4 => ?_)
  · have c4 : z = 0 := (pn_e0 (by omega)).mp c4
    refine lv_aload_n hx hb dX0_prepare_8 rfl (lv_at hl 0 rfl) ?_
    refine lv_iconst (v := (nI 1)) hx hb dX0_prepare_9 (by decide) ?_
    refine px_put (ty := .boolean) C Z 0 rfl 6 (by decide) q34 rfl (by decide +kernel) rfl rfl (Nat.le_of_ble_eq_true rfl) dX0_prepare_10 (fun H locs Z => ?_)
    have Z : pl_Zx D A st (pl_X h k n a b d 1 V S K O T) H locs := Z
    refine lv_iconst (v := (nI 0)) hx hb dX0_prepare_13 (by decide) ?_
    refine lv_istore_n (lv' := [(1, .int (nI 0)), (0, .ref (h 0))]) hx hb dX0_prepare_14 rfl hl (by decide) rfl (fun ls hl => ?_)
    have loop15 : ∀ (f : Nat) (i : Nat) (K1 : Nat → Nat), 125 < i + f → (i ≤ 125) → (∀ t, t < i → K1 t = 0) → ∀ (H : Heap) (locs : List Loc) (ls : Array Slot), pl_Zx D A st (pl_X h k n a b d 1 V S K1 O T) H locs → lv_has ls 2 [(0, .ref (h 0)), (1, .int (nI i))] → W p l e (rmD 6) st m ([.ref (h 0)] : List Value).toArray below meth c H locs 0 0 Q (F0 m 15 ls []) := by
      intro f
      induction f with
      | zero =>
        intro i K1 hf hi h0
        exact absurd hf (by omega)
      | succ f ih15 =>
        intro i K1 hf hi h0 H locs ls Z hl
        refine lv_iload_n hx hb dX0_prepare_15 rfl (lv_at hl 1 rfl) ?_
        refine lv_bipush (v := (nI 125)) hx hb dX0_prepare_16 (by decide) ?_
        refine lv_icmp_ge (tgt := 34) hx hb dX0_prepare_18 (by decide) (fun c18 => ?_) (fun c18 => ?_)
        · have c18 : 125 ≤ i := (nI_leI (by omega) (by omega)).mp c18
          refine lv_aload_n hx hb dX0_prepare_34 rfl (lv_at hl 0 rfl) ?_
          refine lv_bipush (v := (nI 6)) hx hb dX0_prepare_35 (by decide) ?_
          refine pl_callU (q0 := 0) (rest := []) (mX0_judgeSum l D h k n a b d 1 V S K1 O T (6) (by omega) hn hV hS ha8 hb8 hd16 (fun t ht => Or.inl (h0 t (by omega)))) C Z rfl rfl rfl (lw_V q111 q113 qs6 q18 q114) 1 rfl (by decide +kernel) (by decide) ⟨rfl, rfl⟩ hl (Nat.le_of_ble_eq_true rfl) rfl dX0_prepare_37 (fun u H locs hp Z => ?_)
          obtain ⟨K2, O2, T2⟩ := u
          try dsimp only at hp
          obtain ⟨k1, k2, k3⟩ := hp
          have Z : pl_Zx D A st (pl_X h k n a b d 1 V S K2 O2 T2) H locs := Z
          refine lv_iconst (v := (nI 1)) hx hb dX0_prepare_40 (by decide) ?_
          refine lv_istore_n (lv' := [(1, .int (nI 1)), (0, .ref (h 0))]) hx hb dX0_prepare_41 rfl hl (by decide) rfl (fun ls hl => ?_)
          have loop42 : ∀ (f : Nat) (x : Nat) (K3 : Nat → Nat) (O3 : Nat → Nat) (T3 : Nat → Nat), 7 < x + f → (1 ≤ x) → (x ≤ 7) → (pl_snd (pl_gd n V S a b d) K3) → ((∀ t, t < 125 → 6 < pl_sum t + x → pl_sum t < 6 + x → K3 t ≠ 0)) → ∀ (H : Heap) (locs : List Loc) (ls : Array Slot), pl_Zx D A st (pl_X h k n a b d 1 V S K3 O3 T3) H locs → lv_has ls 2 [(0, .ref (h 0)), (1, .int (nI x))] → W p l e (rmD 6) st m ([.ref (h 0)] : List Value).toArray below meth c H locs 0 0 Q (F0 m 42 ls []) := by
            intro f
            induction f with
            | zero =>
              intro x K3 O3 T3 hf y1 y2 h1 h3
              exact absurd hf (by omega)
            | succ f ih42 =>
              intro x K3 O3 T3 hf y1 y2 h1 h3 H locs ls Z hl
              refine lv_iload_n hx hb dX0_prepare_42 rfl (lv_at hl 1 rfl) ?_
              refine lv_bipush (v := (nI 6)) hx hb dX0_prepare_43 (by decide) ?_
              refine lv_icmp_gt (tgt := 70) hx hb dX0_prepare_45 (by decide) (fun c45 => ?_) (fun c45 => ?_)
              · have c45 : 6 < x := (nI_ltI (by omega) (by omega)).mp c45
                exact hret _ _ _ _ ((1, K3, O3, T3)) dX0_prepare_70 (⟨rfl, pl_prep h1 (by have e1 : x = 7 := (by omega); rw [← e1]; exact h3)⟩) Z
              · have c45 : x ≤ 6 := Nat.le_of_not_lt (mt (nI_ltI (by omega) (by omega)).mpr c45)
                refine lv_aload_n hx hb dX0_prepare_48 rfl (lv_at hl 0 rfl) ?_
                refine lv_bipush (v := (nI 6)) hx hb dX0_prepare_49 (by decide) ?_
                refine lv_iload_n hx hb dX0_prepare_51 rfl (lv_at hl 1 rfl) ?_
                refine pn_sub hx hb (by omega) dX0_prepare_52 ?_
                refine pl_callU (q0 := 0) (rest := []) (mX0_judgeSum l D h k n a b d 1 V S K3 O3 T3 (6 - x) (by omega) hn hV hS ha8 hb8 hd16 (h1)) C Z rfl rfl rfl (lw_V q111 q113 qs6 q18 q114) 1 rfl (by decide +kernel) (by decide) ⟨rfl, rfl⟩ hl (Nat.le_of_ble_eq_true rfl) rfl dX0_prepare_53 (fun u H locs hp Z => ?_)
                obtain ⟨K4, O4, T4⟩ := u
                try dsimp only at hp
                obtain ⟨j1, j2, j3⟩ := hp
                have Z : pl_Zx D A st (pl_X h k n a b d 1 V S K4 O4 T4) H locs := Z
                refine lv_aload_n hx hb dX0_prepare_56 rfl (lv_at hl 0 rfl) ?_
                refine lv_bipush (v := (nI 6)) hx hb dX0_prepare_57 (by decide) ?_
                refine lv_iload_n hx hb dX0_prepare_59 rfl (lv_at hl 1 rfl) ?_
                refine pn_add hx hb dX0_prepare_60 ?_
                refine pl_callU (q0 := 0) (rest := []) (mX0_judgeSum l D h k n a b d 1 V S K4 O4 T4 (6 + x) (by omega) hn hV hS ha8 hb8 hd16 (j1)) C Z rfl rfl rfl (lw_V q111 q113 qs6 q18 q114) 1 rfl (by decide +kernel) (by decide) ⟨rfl, rfl⟩ hl (Nat.le_of_ble_eq_true rfl) rfl dX0_prepare_61 (fun u H locs hp Z => ?_)
                obtain ⟨K5, O5, T5⟩ := u
                try dsimp only at hp
                obtain ⟨i1, i2, i3⟩ := hp
                have Z : pl_Zx D A st (pl_X h k n a b d 1 V S K5 O5 T5) H locs := Z
                refine lv_iinc (v := (nI (x + 1))) (lv' := [(1, .int (nI (x + 1))), (0, .ref (h 0))]) hx hb dX0_prepare_64 hl (k := 1) rfl (pn_i1 _) (by decide) rfl (fun ls hl => ?_)
                refine lv_goto (tgt := 42) hx hb dX0_prepare_67 (by decide) ?_
                exact ih42 (x + 1) K5 O5 T5 (by omega) (by omega) (by omega) (i1) (pl_prep_s y1 c45 h3 j2 j3 i2 i3) _ _ _ Z (lv_sub hl [1, 0] rfl)
          exact loop42 7 1 K2 O2 T2 (by omega) (by decide) (by decide) (k1) (fun t ht a1 a2 => k3 t ht (by omega)) _ _ _ Z (lv_sub hl [1, 0] rfl)
        · have c18 : i < 125 := Nat.lt_of_not_le (mt (nI_leI (by omega) (by omega)).mpr c18)
          refine lv_aload_n hx hb dX0_prepare_21 rfl (lv_at hl 0 rfl) ?_
          refine px_get C Z 0 rfl 7 (by decide) q35 rfl dX0_prepare_22 ?_
          refine lv_iload_n hx hb dX0_prepare_25 rfl (lv_at hl 1 rfl) ?_
          refine lv_iconst (v := (nI 0)) hx hb dX0_prepare_26 (by decide) ?_
          refine pn_bast C Z 3 2 rfl rfl (by omega) (by decide) (by decide) dX0_prepare_27 (fun H locs Z => ?_)
          have Z : pl_Zx D A st (pl_X h k n a b d 1 V S (updN K1 i 0) O T) H locs := Z
          refine lv_iinc (v := (nI (i + 1))) (lv' := [(1, .int (nI (i + 1))), (0, .ref (h 0))]) hx hb dX0_prepare_28 hl (k := 1) rfl (pn_i1 _) (by decide) rfl (fun ls hl => ?_)
          refine lv_goto (tgt := 15) hx hb dX0_prepare_31 (by decide) ?_
          exact ih15 (i + 1) (updN K1 i 0) (by omega) (by omega) (pl_zero_s h0) _ _ _ Z (lv_sub hl [1, 0] rfl)
    exact loop15 126 0 K (by omega) (Nat.zero_le _) (fun t ht => absurd ht (by omega)) _ _ _ Z (lv_sub hl [1, 0] rfl)
  · have c4 : ¬ z = 0 := mt (pn_e0 (by omega)).mpr c4
    exact hret _ _ _ _ ((z, K, O, T)) dX0_prepare_7 (⟨by show z = 1; omega, hrd.2 c4⟩) Z
set_option maxHeartbeats 4000000 in
set_option maxRecDepth 100000 in
theorem mX0_isFinest (l : Launch) (D : va_G) (h : Nat → Nat) (k : Nat → ClassId) (n a b d z : Nat) (V S K O T : Nat → Nat) (g : Nat) (hg : g < 125) (hK : ∀ t, t < 125 → K t < 3) : pl_CI l yX0_isFinest cX0_isFinest 2 .boolean (rmD 0) D (pl_XT k) [.ref (h 0), .int (nI g)] (pl_X h k n a b d z V S K O T) (fun _ : Unit => pl_X h k n a b d z V S K O T) (fun v _ => v = nI (pl_fin1 K g).toNat) := by
  refine pl_CI_of (by decide) (Nat.le_of_ble_eq_true rfl) ?_
  intro p e st m below meth c A Q ls C hret Z hl
  have hx := C.1
  have hb := C.2.1
  have hl : lv_has ls 2 [(0, .ref (h 0)), (1, .int (nI g))] := hl
  refine lv_aload_n hx hb dX0_isFinest_0 rfl (lv_at hl 0 rfl) ?_
  refine px_get C Z 0 rfl 7 (by decide) q35 rfl dX0_isFinest_1 ?_
  refine lv_iload_n hx hb dX0_isFinest_4 rfl (lv_at hl 1 rfl) ?_
  refine pn_bald C Z 3 2 rfl rfl (by omega) (by decide) dX0_isFinest_5 ?_
  have kb := hK g hg
  refine lv_iconst (v := (nI 1)) hx hb dX0_isFinest_6 (by decide) ?_
  refine lv_icmp_eq (tgt := 12) hx hb dX0_isFinest_7 (by decide) (fun c7 => ?_) (fun c7 => ?_)
  · have c7 : (K g) = 1 := (nI_eq (by omega) (by omega)).mp c7
    refine lv_iload_n hx hb dX0_isFinest_12 rfl (lv_at hl 1 rfl) ?_
    refine lv_iconst (v := (nI 5)) hx hb dX0_isFinest_13 (by decide) ?_
    refine pn_rem hx hb (by omega) (by omega) (by omega) dX0_isFinest_14 ?_
    refine lv_if_le (tgt := 32) hx hb dX0_isFinest_15 (by decide) (fun c15 => ?_) (fun c15 => ?_)
    · have c15 : (g % 5) = 0 := (pn_l0 (by omega)).mp c15
      refine lv_iload_n hx hb dX0_isFinest_32 rfl (lv_at hl 1 rfl) ?_
      refine lv_iconst (v := (nI 5)) hx hb dX0_isFinest_33 (by decide) ?_
      refine pn_div hx hb (by omega) (by omega) (by omega) dX0_isFinest_34 ?_
      refine lv_iconst (v := (nI 5)) hx hb dX0_isFinest_35 (by decide) ?_
      refine pn_rem hx hb (by omega) (by omega) (by omega) dX0_isFinest_36 ?_
      refine lv_if_le (tgt := 54) hx hb dX0_isFinest_37 (by decide) (fun c37 => ?_) (fun c37 => ?_)
      · have c37 : ((g / 5) % 5) = 0 := (pn_l0 (by omega)).mp c37
        refine lv_iload_n hx hb dX0_isFinest_54 rfl (lv_at hl 1 rfl) ?_
        refine lv_bipush (v := (nI 25)) hx hb dX0_isFinest_55 (by decide) ?_
        refine lv_icmp_lt (tgt := 73) hx hb dX0_isFinest_57 (by decide) (fun c57 => ?_) (fun c57 => ?_)
        · have c57 : g < 25 := (nI_ltI (by omega) (by omega)).mp c57
          refine lv_iconst (v := (nI 1)) hx hb dX0_isFinest_73 (by decide) ?_
          refine lv_goto (tgt := 78) hx hb dX0_isFinest_74 (by decide) ?_
          exact hret _ _ _ _ _ (()) dX0_isFinest_78 (rfl) (pn_t1 ((pl_fin1_iff _ _).mpr ⟨c7, by first | exact Or.inl c15 | exact Or.inr c27, by first | exact Or.inl c37 | exact Or.inr c49, by first | exact Or.inl c57 | exact Or.inr c70⟩)) Z
        · have c57 : 25 ≤ g := Nat.le_of_not_lt (mt (nI_ltI (by omega) (by omega)).mpr c57)
          refine lv_aload_n hx hb dX0_isFinest_60 rfl (lv_at hl 0 rfl) ?_
          refine px_get C Z 0 rfl 7 (by decide) q35 rfl dX0_isFinest_61 ?_
          refine lv_iload_n hx hb dX0_isFinest_64 rfl (lv_at hl 1 rfl) ?_
          refine lv_bipush (v := (nI 25)) hx hb dX0_isFinest_65 (by decide) ?_
          refine pn_sub hx hb (by omega) dX0_isFinest_67 ?_
          refine pn_bald C Z 3 2 rfl rfl (by omega) (by decide) dX0_isFinest_68 ?_
          have kb25 := hK (g - 25) (by omega)
          refine lv_iconst (v := (nI 1)) hx hb dX0_isFinest_69 (by decide) ?_
          refine lv_icmp_eq (tgt := 77) hx hb dX0_isFinest_70 (by decide) (fun c70 => ?_) (fun c70 => ?_)
          · have c70 : (K (g - 25)) = 1 := (nI_eq (by omega) (by omega)).mp c70
            refine lv_iconst (v := (nI 0)) hx hb dX0_isFinest_77 (by decide) ?_
            exact hret _ _ _ _ _ (()) dX0_isFinest_78 (rfl) (pn_t0 (fun q => by obtain ⟨q1, q2, q3, q4⟩ := (pl_fin1_iff _ _).mp q; omega)) Z
          · have c70 : ¬ (K (g - 25)) = 1 := mt (nI_eq (by omega) (by omega)).mpr c70
            refine lv_iconst (v := (nI 1)) hx hb dX0_isFinest_73 (by decide) ?_
            refine lv_goto (tgt := 78) hx hb dX0_isFinest_74 (by decide) ?_
            exact hret _ _ _ _ _ (()) dX0_isFinest_78 (rfl) (pn_t1 ((pl_fin1_iff _ _).mpr ⟨c7, by first | exact Or.inl c15 | exact Or.inr c27, by first | exact Or.inl c37 | exact Or.inr c49, by first | exact Or.inl c57 | exact Or.inr c70⟩)) Z
      · have c37 : ¬ ((g / 5) % 5) = 0 := mt (pn_l0 (by omega)).mpr c37
        refine lv_aload_n hx hb dX0_isFinest_40 rfl (lv_at hl 0 rfl) ?_
        refine px_get C Z 0 rfl 7 (by decide) q35 rfl dX0_isFinest_41 ?_
        refine lv_iload_n hx hb dX0_isFinest_44 rfl (lv_at hl 1 rfl) ?_
        refine lv_iconst (v := (nI 5)) hx hb dX0_isFinest_45 (by decide) ?_
        refine pn_sub hx hb (by omega) dX0_isFinest_46 ?_
        refine pn_bald C Z 3 2 rfl rfl (by omega) (by decide) dX0_isFinest_47 ?_
        have kb5 := hK (g - 5) (by omega)
        refine lv_iconst (v := (nI 1)) hx hb dX0_isFinest_48 (by decide) ?_
        refine lv_icmp_ne (tgt := 54) hx hb dX0_isFinest_49 (by decide) (fun c49 => ?_) (fun c49 => ?_)
        · have c49 : ¬ (K (g - 5)) = 1 := mt (nI_eq (by omega) (by omega)).mpr c49
          refine lv_iload_n hx hb dX0_isFinest_54 rfl (lv_at hl 1 rfl) ?_
          refine lv_bipush (v := (nI 25)) hx hb dX0_isFinest_55 (by decide) ?_
          refine lv_icmp_lt (tgt := 73) hx hb dX0_isFinest_57 (by decide) (fun c57 => ?_) (fun c57 => ?_)
          · have c57 : g < 25 := (nI_ltI (by omega) (by omega)).mp c57
            refine lv_iconst (v := (nI 1)) hx hb dX0_isFinest_73 (by decide) ?_
            refine lv_goto (tgt := 78) hx hb dX0_isFinest_74 (by decide) ?_
            exact hret _ _ _ _ _ (()) dX0_isFinest_78 (rfl) (pn_t1 ((pl_fin1_iff _ _).mpr ⟨c7, by first | exact Or.inl c15 | exact Or.inr c27, by first | exact Or.inl c37 | exact Or.inr c49, by first | exact Or.inl c57 | exact Or.inr c70⟩)) Z
          · have c57 : 25 ≤ g := Nat.le_of_not_lt (mt (nI_ltI (by omega) (by omega)).mpr c57)
            refine lv_aload_n hx hb dX0_isFinest_60 rfl (lv_at hl 0 rfl) ?_
            refine px_get C Z 0 rfl 7 (by decide) q35 rfl dX0_isFinest_61 ?_
            refine lv_iload_n hx hb dX0_isFinest_64 rfl (lv_at hl 1 rfl) ?_
            refine lv_bipush (v := (nI 25)) hx hb dX0_isFinest_65 (by decide) ?_
            refine pn_sub hx hb (by omega) dX0_isFinest_67 ?_
            refine pn_bald C Z 3 2 rfl rfl (by omega) (by decide) dX0_isFinest_68 ?_
            have kb25 := hK (g - 25) (by omega)
            refine lv_iconst (v := (nI 1)) hx hb dX0_isFinest_69 (by decide) ?_
            refine lv_icmp_eq (tgt := 77) hx hb dX0_isFinest_70 (by decide) (fun c70 => ?_) (fun c70 => ?_)
            · have c70 : (K (g - 25)) = 1 := (nI_eq (by omega) (by omega)).mp c70
              refine lv_iconst (v := (nI 0)) hx hb dX0_isFinest_77 (by decide) ?_
              exact hret _ _ _ _ _ (()) dX0_isFinest_78 (rfl) (pn_t0 (fun q => by obtain ⟨q1, q2, q3, q4⟩ := (pl_fin1_iff _ _).mp q; omega)) Z
            · have c70 : ¬ (K (g - 25)) = 1 := mt (nI_eq (by omega) (by omega)).mpr c70
              refine lv_iconst (v := (nI 1)) hx hb dX0_isFinest_73 (by decide) ?_
              refine lv_goto (tgt := 78) hx hb dX0_isFinest_74 (by decide) ?_
              exact hret _ _ _ _ _ (()) dX0_isFinest_78 (rfl) (pn_t1 ((pl_fin1_iff _ _).mpr ⟨c7, by first | exact Or.inl c15 | exact Or.inr c27, by first | exact Or.inl c37 | exact Or.inr c49, by first | exact Or.inl c57 | exact Or.inr c70⟩)) Z
        · have c49 : (K (g - 5)) = 1 := (nI_eq (by omega) (by omega)).mp c49
          refine lv_iconst (v := (nI 0)) hx hb dX0_isFinest_52 (by decide) ?_
          exact hret _ _ _ _ _ (()) dX0_isFinest_53 (rfl) (pn_t0 (fun q => by obtain ⟨q1, q2, q3, q4⟩ := (pl_fin1_iff _ _).mp q; omega)) Z
    · have c15 : ¬ (g % 5) = 0 := mt (pn_l0 (by omega)).mpr c15
      refine lv_aload_n hx hb dX0_isFinest_18 rfl (lv_at hl 0 rfl) ?_
      refine px_get C Z 0 rfl 7 (by decide) q35 rfl dX0_isFinest_19 ?_
      refine lv_iload_n hx hb dX0_isFinest_22 rfl (lv_at hl 1 rfl) ?_
      refine lv_iconst (v := (nI 1)) hx hb dX0_isFinest_23 (by decide) ?_
      refine pn_sub hx hb (by omega) dX0_isFinest_24 ?_
      refine pn_bald C Z 3 2 rfl rfl (by omega) (by decide) dX0_isFinest_25 ?_
      have kb1 := hK (g - 1) (by omega)
      refine lv_iconst (v := (nI 1)) hx hb dX0_isFinest_26 (by decide) ?_
      refine lv_icmp_ne (tgt := 32) hx hb dX0_isFinest_27 (by decide) (fun c27 => ?_) (fun c27 => ?_)
      · have c27 : ¬ (K (g - 1)) = 1 := mt (nI_eq (by omega) (by omega)).mpr c27
        refine lv_iload_n hx hb dX0_isFinest_32 rfl (lv_at hl 1 rfl) ?_
        refine lv_iconst (v := (nI 5)) hx hb dX0_isFinest_33 (by decide) ?_
        refine pn_div hx hb (by omega) (by omega) (by omega) dX0_isFinest_34 ?_
        refine lv_iconst (v := (nI 5)) hx hb dX0_isFinest_35 (by decide) ?_
        refine pn_rem hx hb (by omega) (by omega) (by omega) dX0_isFinest_36 ?_
        refine lv_if_le (tgt := 54) hx hb dX0_isFinest_37 (by decide) (fun c37 => ?_) (fun c37 => ?_)
        · have c37 : ((g / 5) % 5) = 0 := (pn_l0 (by omega)).mp c37
          refine lv_iload_n hx hb dX0_isFinest_54 rfl (lv_at hl 1 rfl) ?_
          refine lv_bipush (v := (nI 25)) hx hb dX0_isFinest_55 (by decide) ?_
          refine lv_icmp_lt (tgt := 73) hx hb dX0_isFinest_57 (by decide) (fun c57 => ?_) (fun c57 => ?_)
          · have c57 : g < 25 := (nI_ltI (by omega) (by omega)).mp c57
            refine lv_iconst (v := (nI 1)) hx hb dX0_isFinest_73 (by decide) ?_
            refine lv_goto (tgt := 78) hx hb dX0_isFinest_74 (by decide) ?_
            exact hret _ _ _ _ _ (()) dX0_isFinest_78 (rfl) (pn_t1 ((pl_fin1_iff _ _).mpr ⟨c7, by first | exact Or.inl c15 | exact Or.inr c27, by first | exact Or.inl c37 | exact Or.inr c49, by first | exact Or.inl c57 | exact Or.inr c70⟩)) Z
          · have c57 : 25 ≤ g := Nat.le_of_not_lt (mt (nI_ltI (by omega) (by omega)).mpr c57)
            refine lv_aload_n hx hb dX0_isFinest_60 rfl (lv_at hl 0 rfl) ?_
            refine px_get C Z 0 rfl 7 (by decide) q35 rfl dX0_isFinest_61 ?_
            refine lv_iload_n hx hb dX0_isFinest_64 rfl (lv_at hl 1 rfl) ?_
            refine lv_bipush (v := (nI 25)) hx hb dX0_isFinest_65 (by decide) ?_
            refine pn_sub hx hb (by omega) dX0_isFinest_67 ?_
            refine pn_bald C Z 3 2 rfl rfl (by omega) (by decide) dX0_isFinest_68 ?_
            have kb25 := hK (g - 25) (by omega)
            refine lv_iconst (v := (nI 1)) hx hb dX0_isFinest_69 (by decide) ?_
            refine lv_icmp_eq (tgt := 77) hx hb dX0_isFinest_70 (by decide) (fun c70 => ?_) (fun c70 => ?_)
            · have c70 : (K (g - 25)) = 1 := (nI_eq (by omega) (by omega)).mp c70
              refine lv_iconst (v := (nI 0)) hx hb dX0_isFinest_77 (by decide) ?_
              exact hret _ _ _ _ _ (()) dX0_isFinest_78 (rfl) (pn_t0 (fun q => by obtain ⟨q1, q2, q3, q4⟩ := (pl_fin1_iff _ _).mp q; omega)) Z
            · have c70 : ¬ (K (g - 25)) = 1 := mt (nI_eq (by omega) (by omega)).mpr c70
              refine lv_iconst (v := (nI 1)) hx hb dX0_isFinest_73 (by decide) ?_
              refine lv_goto (tgt := 78) hx hb dX0_isFinest_74 (by decide) ?_
              exact hret _ _ _ _ _ (()) dX0_isFinest_78 (rfl) (pn_t1 ((pl_fin1_iff _ _).mpr ⟨c7, by first | exact Or.inl c15 | exact Or.inr c27, by first | exact Or.inl c37 | exact Or.inr c49, by first | exact Or.inl c57 | exact Or.inr c70⟩)) Z
        · have c37 : ¬ ((g / 5) % 5) = 0 := mt (pn_l0 (by omega)).mpr c37
          refine lv_aload_n hx hb dX0_isFinest_40 rfl (lv_at hl 0 rfl) ?_
          refine px_get C Z 0 rfl 7 (by decide) q35 rfl dX0_isFinest_41 ?_
          refine lv_iload_n hx hb dX0_isFinest_44 rfl (lv_at hl 1 rfl) ?_
          refine lv_iconst (v := (nI 5)) hx hb dX0_isFinest_45 (by decide) ?_
          refine pn_sub hx hb (by omega) dX0_isFinest_46 ?_
          refine pn_bald C Z 3 2 rfl rfl (by omega) (by decide) dX0_isFinest_47 ?_
          have kb5 := hK (g - 5) (by omega)
          refine lv_iconst (v := (nI 1)) hx hb dX0_isFinest_48 (by decide) ?_
          refine lv_icmp_ne (tgt := 54) hx hb dX0_isFinest_49 (by decide) (fun c49 => ?_) (fun c49 => ?_)
          · have c49 : ¬ (K (g - 5)) = 1 := mt (nI_eq (by omega) (by omega)).mpr c49
            refine lv_iload_n hx hb dX0_isFinest_54 rfl (lv_at hl 1 rfl) ?_
            refine lv_bipush (v := (nI 25)) hx hb dX0_isFinest_55 (by decide) ?_
            refine lv_icmp_lt (tgt := 73) hx hb dX0_isFinest_57 (by decide) (fun c57 => ?_) (fun c57 => ?_)
            · have c57 : g < 25 := (nI_ltI (by omega) (by omega)).mp c57
              refine lv_iconst (v := (nI 1)) hx hb dX0_isFinest_73 (by decide) ?_
              refine lv_goto (tgt := 78) hx hb dX0_isFinest_74 (by decide) ?_
              exact hret _ _ _ _ _ (()) dX0_isFinest_78 (rfl) (pn_t1 ((pl_fin1_iff _ _).mpr ⟨c7, by first | exact Or.inl c15 | exact Or.inr c27, by first | exact Or.inl c37 | exact Or.inr c49, by first | exact Or.inl c57 | exact Or.inr c70⟩)) Z
            · have c57 : 25 ≤ g := Nat.le_of_not_lt (mt (nI_ltI (by omega) (by omega)).mpr c57)
              refine lv_aload_n hx hb dX0_isFinest_60 rfl (lv_at hl 0 rfl) ?_
              refine px_get C Z 0 rfl 7 (by decide) q35 rfl dX0_isFinest_61 ?_
              refine lv_iload_n hx hb dX0_isFinest_64 rfl (lv_at hl 1 rfl) ?_
              refine lv_bipush (v := (nI 25)) hx hb dX0_isFinest_65 (by decide) ?_
              refine pn_sub hx hb (by omega) dX0_isFinest_67 ?_
              refine pn_bald C Z 3 2 rfl rfl (by omega) (by decide) dX0_isFinest_68 ?_
              have kb25 := hK (g - 25) (by omega)
              refine lv_iconst (v := (nI 1)) hx hb dX0_isFinest_69 (by decide) ?_
              refine lv_icmp_eq (tgt := 77) hx hb dX0_isFinest_70 (by decide) (fun c70 => ?_) (fun c70 => ?_)
              · have c70 : (K (g - 25)) = 1 := (nI_eq (by omega) (by omega)).mp c70
                refine lv_iconst (v := (nI 0)) hx hb dX0_isFinest_77 (by decide) ?_
                exact hret _ _ _ _ _ (()) dX0_isFinest_78 (rfl) (pn_t0 (fun q => by obtain ⟨q1, q2, q3, q4⟩ := (pl_fin1_iff _ _).mp q; omega)) Z
              · have c70 : ¬ (K (g - 25)) = 1 := mt (nI_eq (by omega) (by omega)).mpr c70
                refine lv_iconst (v := (nI 1)) hx hb dX0_isFinest_73 (by decide) ?_
                refine lv_goto (tgt := 78) hx hb dX0_isFinest_74 (by decide) ?_
                exact hret _ _ _ _ _ (()) dX0_isFinest_78 (rfl) (pn_t1 ((pl_fin1_iff _ _).mpr ⟨c7, by first | exact Or.inl c15 | exact Or.inr c27, by first | exact Or.inl c37 | exact Or.inr c49, by first | exact Or.inl c57 | exact Or.inr c70⟩)) Z
          · have c49 : (K (g - 5)) = 1 := (nI_eq (by omega) (by omega)).mp c49
            refine lv_iconst (v := (nI 0)) hx hb dX0_isFinest_52 (by decide) ?_
            exact hret _ _ _ _ _ (()) dX0_isFinest_53 (rfl) (pn_t0 (fun q => by obtain ⟨q1, q2, q3, q4⟩ := (pl_fin1_iff _ _).mp q; omega)) Z
      · have c27 : (K (g - 1)) = 1 := (nI_eq (by omega) (by omega)).mp c27
        refine lv_iconst (v := (nI 0)) hx hb dX0_isFinest_30 (by decide) ?_
        exact hret _ _ _ _ _ (()) dX0_isFinest_31 (rfl) (pn_t0 (fun q => by obtain ⟨q1, q2, q3, q4⟩ := (pl_fin1_iff _ _).mp q; omega)) Z
  · have c7 : ¬ (K g) = 1 := mt (nI_eq (by omega) (by omega)).mpr c7
    refine lv_iconst (v := (nI 0)) hx hb dX0_isFinest_10 (by decide) ?_
    exact hret _ _ _ _ _ (()) dX0_isFinest_11 (rfl) (pn_t0 (fun q => by obtain ⟨q1, q2, q3, q4⟩ := (pl_fin1_iff _ _).mp q; omega)) Z
end
section
set_option maxHeartbeats 4000000 in
set_option maxRecDepth 100000 in
theorem mX0_leftOut (l : Launch) (D : va_G) (h : Nat → Nat) (k : Nat → ClassId) (n a b d z : Nat) (V S K O T : Nat → Nat) (x : Int32) (hn : n ≤ 16) (hV : ∀ i, V i < 4096) (hS : ∀ i, S i < 8) (ha8 : a ≤ 8) (hb8 : b ≤ 8) : pl_CI l yX0_leftOut cX0_leftOut 2 .int (rmD 4) D (pl_XT k) [.ref (h 0), .int x] (pl_X h k n a b d z V S K O T) (fun u : (Nat → Nat) × (Nat → Nat) => pl_X h k n a b d z V S K u.1 u.2) (fun v _ => v = sp_leftOut n V S a b x) := by
  refine pl_CI_of (by decide) (Nat.le_of_ble_eq_true rfl) ?_
  intro p e st m below meth c A Q ls C hret Z hl
  have hx := C.1
  have hb := C.2.1
  have hl : lv_has ls 2 [(0, .ref (h 0)), (1, .int x)] := hl
  refine lv_iload_n hx hb dX0_leftOut_0 rfl (lv_at hl 1 rfl) ?_
  refine pl_callS (rest := []) (mX0_badSetting l D x) C Z (lw_S q77 q78 q18 q79) 1 rfl (by decide +kernel) (by decide) ⟨rfl, rfl⟩ hl (Nat.le_of_ble_eq_true rfl) rfl dX0_leftOut_1 (fun v1 H locs hp Z => ?_)
  rcases hp with hp | hp
  · obtain ⟨rfl, hbad⟩ := hp
    refine lv_if_eq (tgt := 12) hx hb dX0_leftOut_4 (by decide) (fun c4 => ?_) (fun c4 => ?_)
    · have c4 : 1 = 0 := (pn_e0 (by omega)).mp c4
      exact absurd c4 (by decide)
    · have c4 : ¬ 1 = 0 := mt (pn_e0 (by omega)).mpr c4
      refine lv_bipush (v := ((-4))) hx hb dX0_leftOut_7 (by decide) ?_
      refine lv_goto (tgt := 17) hx hb dX0_leftOut_9 (by decide) ?_
      exact hret _ _ _ _ _ ((O, T)) dX0_leftOut_17 (rfl) (by first | exact (sp_leftOut_b hbad).symm | exact (sp_leftOut_j hj).symm) Z
  · obtain ⟨rfl, j, hj, rfl⟩ := hp
    refine lv_if_eq (tgt := 12) hx hb dX0_leftOut_4 (by decide) (fun c4 => ?_) (fun c4 => ?_)
    · have c4 : 0 = 0 := (pn_e0 (by omega)).mp c4
      refine lv_aload_n hx hb dX0_leftOut_12 rfl (lv_at hl 0 rfl) ?_
      refine lv_iload_n hx hb dX0_leftOut_13 rfl (lv_at hl 1 rfl) ?_
      refine pl_callV (q0 := 0) (rest := []) (mX0_countLeftOut l D h k n a b d z V S K O T j hj hn hV hS ha8 hb8) C Z rfl rfl rfl (lw_V q80 q82 qs0 q18 q83) 1 rfl (by decide +kernel) (by decide) ⟨rfl, rfl⟩ hl (Nat.le_of_ble_eq_true rfl) rfl dX0_leftOut_14 (fun v14 u H locs hp Z => ?_)
      obtain ⟨O1, T1⟩ := u
      try dsimp only at hp
      subst hp
      have Z : pl_Zx D A st (pl_X h k n a b d z V S K O1 T1) H locs := Z
      exact hret _ _ _ _ _ ((O1, T1)) dX0_leftOut_17 (rfl) (by first | exact (sp_leftOut_b hbad).symm | exact (sp_leftOut_j hj).symm) Z
    · have c4 : ¬ 0 = 0 := mt (pn_e0 (by omega)).mpr c4
      exact absurd c4 (by decide)
set_option maxHeartbeats 4000000 in
set_option maxRecDepth 100000 in
theorem mX0_good (l : Launch) (D : va_G) (h : Nat → Nat) (k : Nat → ClassId) (n a b d z : Nat) (V S K O T : Nat → Nat) (x : Int32) (hn : n ≤ 16) (hV : ∀ i, V i < 4096) (hS : ∀ i, S i < 8) (ha8 : a ≤ 8) (hb8 : b ≤ 8) (hd16 : d ≤ 16) (hrd : pl_rdy (pl_gd n V S a b d) z K) : pl_CI l yX0_good cX0_good 2 .boolean (rmD 7) D (pl_XT k) [.ref (h 0), .int x] (pl_X h k n a b d z V S K O T) (fun u : Nat × (Nat → Nat) × (Nat → Nat) × (Nat → Nat) => pl_X h k n a b d u.1 V S u.2.1 u.2.2.1 u.2.2.2) (fun v u => v = sp_good n V S a b d x ∧ pl_rdy (pl_gd n V S a b d) u.1 u.2.1) := by
  refine pl_CI_of (by decide) (Nat.le_of_ble_eq_true rfl) ?_
  intro p e st m below meth c A Q ls C hret Z hl
  have hx := C.1
  have hb := C.2.1
  have hl : lv_has ls 2 [(0, .ref (h 0)), (1, .int x)] := hl
  refine lv_iload_n hx hb dX0_good_0 rfl (lv_at hl 1 rfl) ?_
  refine pl_callS (rest := []) (mX0_badSetting l D x) C Z (lw_S q77 q78 q18 q79) 1 rfl (by decide +kernel) (by decide) ⟨rfl, rfl⟩ hl (Nat.le_of_ble_eq_true rfl) rfl dX0_good_1 (fun v1 H locs hp Z => ?_)
  rcases hp with hp | hp
  · obtain ⟨rfl, hbad⟩ := hp
    refine lv_if_eq (tgt := 9) hx hb dX0_good_4 (by decide) (fun c4 => ?_) (fun c4 => ?_)
    · have c4 : 1 = 0 := (pn_e0 (by omega)).mp c4
      exact absurd c4 (by decide)
    · have c4 : ¬ 1 = 0 := mt (pn_e0 (by omega)).mpr c4
      refine lv_iconst (v := (nI 0)) hx hb dX0_good_7 (by decide) ?_
      exact hret _ _ _ _ _ ((z, K, O, T)) dX0_good_8 (rfl) (⟨(sp_good_b hbad).symm, hrd⟩) Z
  · obtain ⟨rfl, j, hj, rfl⟩ := hp
    refine lv_if_eq (tgt := 9) hx hb dX0_good_4 (by decide) (fun c4 => ?_) (fun c4 => ?_)
    · have c4 : 0 = 0 := (pn_e0 (by omega)).mp c4
      refine lv_aload_n hx hb dX0_good_9 rfl (lv_at hl 0 rfl) ?_
      refine pl_callU (q0 := 0) (rest := []) (mX0_prepare l D h k n a b d z V S K O T hn hV hS ha8 hb8 hd16 hrd) C Z rfl rfl rfl (lw_V q107 q109 qs5 q18 q110) 0 rfl (by decide +kernel) (by decide) ⟨rfl, rfl⟩ hl (Nat.le_of_ble_eq_true rfl) rfl dX0_good_10 (fun u H locs hp Z => ?_)
      obtain ⟨z1, K1, O1, T1⟩ := u
      try dsimp only at hp
      obtain ⟨hz1, hK1⟩ := hp
      have hrd1 := pl_rdy_1 hz1 hK1
      have Z : pl_Zx D A st (pl_X h k n a b d z1 V S K1 O1 T1) H locs := Z
      refine lv_aload_n hx hb dX0_good_13 rfl (lv_at hl 0 rfl) ?_
      refine px_get C Z 0 rfl 7 (by decide) q35 rfl dX0_good_14 ?_
      refine lv_iload_n hx hb dX0_good_17 rfl (lv_at hl 1 rfl) ?_
      refine pn_bald C Z 3 2 rfl rfl (by omega) (by decide) dX0_good_18 ?_
      have kb := pl_all_lt hK1 j hj
      refine lv_iconst (v := (nI 1)) hx hb dX0_good_19 (by decide) ?_
      refine lv_icmp_ne (tgt := 27) hx hb dX0_good_20 (by decide) (fun c20 => ?_) (fun c20 => ?_)
      · have c20 : ¬ (K1 j) = 1 := mt (nI_eq (by omega) (by omega)).mpr c20
        refine lv_iconst (v := (nI 0)) hx hb dX0_good_27 (by decide) ?_
        exact hret _ _ _ _ _ ((z1, K1, O1, T1)) dX0_good_28 (rfl) (⟨(pn_t0 (fun q => absurd ((pl_k0 hK1 hj c20).symm.trans q) (by decide))).trans (sp_good_j hj).symm, hrd1⟩) Z
      · have c20 : (K1 j) = 1 := (nI_eq (by omega) (by omega)).mp c20
        refine lv_iconst (v := (nI 1)) hx hb dX0_good_23 (by decide) ?_
        refine lv_goto (tgt := 28) hx hb dX0_good_24 (by decide) ?_
        exact hret _ _ _ _ _ ((z1, K1, O1, T1)) dX0_good_28 (rfl) (⟨(pn_t1 (pl_k1 hK1 hj c20)).trans (sp_good_j hj).symm, hrd1⟩) Z
    · have c4 : ¬ 0 = 0 := mt (pn_e0 (by omega)).mpr c4
      exact absurd c4 (by decide)
set_option maxHeartbeats 4000000 in
set_option maxRecDepth 100000 in
theorem mX0_goodSettings (l : Launch) (D : va_G) (h : Nat → Nat) (k : Nat → ClassId) (n a b d z : Nat) (V S K O T : Nat → Nat) (hn : n ≤ 16) (hV : ∀ i, V i < 4096) (hS : ∀ i, S i < 8) (ha8 : a ≤ 8) (hb8 : b ≤ 8) (hd16 : d ≤ 16) (hrd : pl_rdy (pl_gd n V S a b d) z K) : pl_CI l yX0_goodSettings cX0_goodSettings 3 .int (rmD 7) D (pl_XT k) [.ref (h 0)] (pl_X h k n a b d z V S K O T) (fun u : Nat × (Nat → Nat) × (Nat → Nat) × (Nat → Nat) => pl_X h k n a b d u.1 V S u.2.1 u.2.2.1 u.2.2.2) (fun v u => v = sp_goodSettings n V S a b d ∧ pl_rdy (pl_gd n V S a b d) u.1 u.2.1) := by
  refine pl_CI_of (by decide) (Nat.le_of_ble_eq_true rfl) ?_
  intro p e st m below meth c A Q ls C hret Z hl
  have hx := C.1
  have hb := C.2.1
  have hl : lv_has ls 3 [(0, .ref (h 0))] := hl
  refine lv_aload_n hx hb dX0_goodSettings_0 rfl (lv_at hl 0 rfl) ?_
  refine pl_callU (q0 := 0) (rest := []) (mX0_prepare l D h k n a b d z V S K O T hn hV hS ha8 hb8 hd16 hrd) C Z rfl rfl rfl (lw_V q107 q109 qs5 q18 q110) 0 rfl (by decide +kernel) (by decide) ⟨rfl, rfl⟩ hl (Nat.le_of_ble_eq_true rfl) rfl dX0_goodSettings_1 (fun u H locs hp Z => ?_)
  obtain ⟨z1, K1, O1, T1⟩ := u
  try dsimp only at hp
  obtain ⟨hz1, hK1⟩ := hp
  have hrd1 := pl_rdy_1 hz1 hK1
  have Z : pl_Zx D A st (pl_X h k n a b d z1 V S K1 O1 T1) H locs := Z
  refine lv_iconst (v := (nI 0)) hx hb dX0_goodSettings_4 (by decide) ?_
  refine lv_istore_n (lv' := [(1, .int (nI 0)), (0, .ref (h 0))]) hx hb dX0_goodSettings_5 rfl hl (by decide) rfl (fun ls hl => ?_)
  refine lv_iconst (v := (nI 0)) hx hb dX0_goodSettings_6 (by decide) ?_
  refine lv_istore_n (lv' := [(2, .int (nI 0)), (1, .int (nI 0)), (0, .ref (h 0))]) hx hb dX0_goodSettings_7 rfl hl (by decide) rfl (fun ls hl => ?_)
  have loop8 : ∀ (f : Nat) (i : Nat), 125 < i + f → (i ≤ 125) → ∀ (H : Heap) (locs : List Loc) (ls : Array Slot), pl_Zx D A st (pl_X h k n a b d z1 V S K1 O1 T1) H locs → lv_has ls 3 [(0, .ref (h 0)), (1, .int (nI (pl_cnt (pl_gd n V S a b d) i))), (2, .int (nI i))] → W p l e (rmD 7) st m ([.ref (h 0)] : List Value).toArray below meth c H locs 0 0 Q (F0 m 8 ls []) := by
    intro f
    induction f with
    | zero =>
      intro i hf hi
      exact absurd hf (by omega)
    | succ f ih8 =>
      intro i hf hi H locs ls Z hl
      refine lv_iload_n hx hb dX0_goodSettings_8 rfl (lv_at hl 2 rfl) ?_
      refine lv_bipush (v := (nI 125)) hx hb dX0_goodSettings_9 (by decide) ?_
      refine lv_icmp_ge (tgt := 33) hx hb dX0_goodSettings_11 (by decide) (fun c11 => ?_) (fun c11 => ?_)
      · have c11 : 125 ≤ i := (nI_leI (by omega) (by omega)).mp c11
        refine lv_iload_n hx hb dX0_goodSettings_33 rfl (lv_at hl 1 rfl) ?_
        exact hret _ _ _ _ _ ((z1, K1, O1, T1)) dX0_goodSettings_34 (rfl) (⟨by rw [show i = 125 by omega]; rfl, hrd1⟩) Z
      · have c11 : i < 125 := Nat.lt_of_not_le (mt (nI_leI (by omega) (by omega)).mpr c11)
        refine lv_aload_n hx hb dX0_goodSettings_14 rfl (lv_at hl 0 rfl) ?_
        refine px_get C Z 0 rfl 7 (by decide) q35 rfl dX0_goodSettings_15 ?_
        refine lv_iload_n hx hb dX0_goodSettings_18 rfl (lv_at hl 2 rfl) ?_
        refine pn_bald C Z 3 2 rfl rfl (by omega) (by decide) dX0_goodSettings_19 ?_
        have kb := pl_all_lt hK1 i c11
        refine lv_iconst (v := (nI 1)) hx hb dX0_goodSettings_20 (by decide) ?_
        refine lv_icmp_ne (tgt := 27) hx hb dX0_goodSettings_21 (by decide) (fun c21 => ?_) (fun c21 => ?_)
        · have c21 : ¬ (K1 i) = 1 := mt (nI_eq (by omega) (by omega)).mpr c21
          have e1 := pl_cnt_f (pl_k0 hK1 c11 c21)
          refine lv_iinc (v := (nI (i + 1))) (lv' := [(2, .int (nI (i + 1))), (0, .ref (h 0)), (1, .int (nI (pl_cnt (pl_gd n V S a b d) i)))]) hx hb dX0_goodSettings_27 hl (k := 2) rfl (pn_i1 _) (by decide) rfl (fun ls hl => ?_)
          refine lv_goto (tgt := 8) hx hb dX0_goodSettings_30 (by decide) ?_
          exact ih8 (i + 1) (by omega) (by omega) _ _ _ Z (by rw [e1]; exact lv_sub hl [1, 2, 0] rfl)
        · have c21 : (K1 i) = 1 := (nI_eq (by omega) (by omega)).mp c21
          have e1 := pl_cnt_t (pl_k1 hK1 c11 c21)
          refine lv_iinc (v := (nI ((pl_cnt (pl_gd n V S a b d) i) + 1))) (lv' := [(1, .int (nI ((pl_cnt (pl_gd n V S a b d) i) + 1))), (0, .ref (h 0)), (2, .int (nI i))]) hx hb dX0_goodSettings_24 hl (k := 1) rfl (pn_i1 _) (by decide) rfl (fun ls hl => ?_)
          refine lv_iinc (v := (nI (i + 1))) (lv' := [(2, .int (nI (i + 1))), (1, .int (nI ((pl_cnt (pl_gd n V S a b d) i) + 1))), (0, .ref (h 0))]) hx hb dX0_goodSettings_27 hl (k := 2) rfl (pn_i1 _) (by decide) rfl (fun ls hl => ?_)
          refine lv_goto (tgt := 8) hx hb dX0_goodSettings_30 (by decide) ?_
          exact ih8 (i + 1) (by omega) (by omega) _ _ _ Z (by rw [e1]; exact lv_sub hl [2, 1, 0] rfl)
  exact loop8 126 0 (by omega) (Nat.zero_le _) _ _ _ Z (lv_sub hl [2, 1, 0] rfl)
set_option maxHeartbeats 4000000 in
set_option maxRecDepth 100000 in
theorem mX0_finest (l : Launch) (D : va_G) (h : Nat → Nat) (k : Nat → ClassId) (n a b d z : Nat) (V S K O T : Nat → Nat) (hn : n ≤ 16) (hV : ∀ i, V i < 4096) (hS : ∀ i, S i < 8) (ha8 : a ≤ 8) (hb8 : b ≤ 8) (hd16 : d ≤ 16) (hrd : pl_rdy (pl_gd n V S a b d) z K) : pl_CI l yX0_finest cX0_finest 4 .int (rmD 7) D (pl_XT k) [.ref (h 0)] (pl_X h k n a b d z V S K O T) (fun u : Nat × (Nat → Nat) × (Nat → Nat) × (Nat → Nat) => pl_X h k n a b d u.1 V S u.2.1 u.2.2.1 u.2.2.2) (fun v u => v = sp_finest n V S a b d ∧ pl_rdy (pl_gd n V S a b d) u.1 u.2.1) := by
  refine pl_CI_of (by decide) (Nat.le_of_ble_eq_true rfl) ?_
  intro p e st m below meth c A Q ls C hret Z hl
  have hx := C.1
  have hb := C.2.1
  have hl : lv_has ls 4 [(0, .ref (h 0))] := hl
  refine lv_aload_n hx hb dX0_finest_0 rfl (lv_at hl 0 rfl) ?_
  refine pl_callU (q0 := 0) (rest := []) (mX0_prepare l D h k n a b d z V S K O T hn hV hS ha8 hb8 hd16 hrd) C Z rfl rfl rfl (lw_V q107 q109 qs5 q18 q110) 0 rfl (by decide +kernel) (by decide) ⟨rfl, rfl⟩ hl (Nat.le_of_ble_eq_true rfl) rfl dX0_finest_1 (fun u H locs hp Z => ?_)
  obtain ⟨z1, K1, O1, T1⟩ := u
  try dsimp only at hp
  obtain ⟨hz1, hK1⟩ := hp
  have hrd1 := pl_rdy_1 hz1 hK1
  have Z : pl_Zx D A st (pl_X h k n a b d z1 V S K1 O1 T1) H locs := Z
  refine lv_iconst (v := (nI 0)) hx hb dX0_finest_4 (by decide) ?_
  refine lv_istore_n (lv' := [(1, .int (nI 0)), (0, .ref (h 0))]) hx hb dX0_finest_5 rfl hl (by decide) rfl (fun ls hl => ?_)
  refine lv_iconst (v := (nI 0)) hx hb dX0_finest_6 (by decide) ?_
  refine lv_istore_n (lv' := [(2, .int (nI 0)), (1, .int (nI 0)), (0, .ref (h 0))]) hx hb dX0_finest_7 rfl hl (by decide) rfl (fun ls hl => ?_)
  have loop8 : ∀ (f : Nat) (i : Nat), 125 < i + f → (i ≤ 125) → ∀ (H : Heap) (locs : List Loc) (ls : Array Slot), pl_Zx D A st (pl_X h k n a b d z1 V S K1 O1 T1) H locs → lv_has ls 4 [(0, .ref (h 0)), (1, .int (nI (pl_cnt (pl_fin (pl_gd n V S a b d)) i))), (2, .int (nI i))] → W p l e (rmD 7) st m ([.ref (h 0)] : List Value).toArray below meth c H locs 0 0 Q (F0 m 8 ls []) := by
    intro f
    induction f with
    | zero =>
      intro i hf hi
      exact absurd hf (by omega)
    | succ f ih8 =>
      intro i hf hi H locs ls Z hl
      refine lv_iload_n hx hb dX0_finest_8 rfl (lv_at hl 2 rfl) ?_
      refine lv_bipush (v := (nI 125)) hx hb dX0_finest_9 (by decide) ?_
      refine lv_icmp_ge (tgt := 33) hx hb dX0_finest_11 (by decide) (fun c11 => ?_) (fun c11 => ?_)
      · have c11 : 125 ≤ i := (nI_leI (by omega) (by omega)).mp c11
        refine lv_iload_n hx hb dX0_finest_33 rfl (lv_at hl 1 rfl) ?_
        exact hret _ _ _ _ _ ((z1, K1, O1, T1)) dX0_finest_34 (rfl) (⟨by rw [show i = 125 by omega]; rfl, hrd1⟩) Z
      · have c11 : i < 125 := Nat.lt_of_not_le (mt (nI_leI (by omega) (by omega)).mpr c11)
        refine lv_aload_n hx hb dX0_finest_14 rfl (lv_at hl 0 rfl) ?_
        refine lv_iload_n hx hb dX0_finest_15 rfl (lv_at hl 2 rfl) ?_
        refine pl_callV (q0 := 0) (rest := []) (mX0_isFinest l D h k n a b d z1 V S K1 O1 T1 i c11 (pl_all_lt hK1)) C Z rfl rfl rfl (lw_V q133 q135 qs8 q18 q136) 1 rfl (by decide +kernel) (by decide) ⟨rfl, rfl⟩ hl (Nat.le_of_ble_eq_true rfl) rfl dX0_finest_16 (fun v16 u H locs hp Z => ?_)
        obtain _ := u
        try dsimp only at hp
        subst hp
        have Z : pl_Zx D A st (pl_X h k n a b d z1 V S K1 O1 T1) H locs := Z
        refine pn_top (y := (nI (pl_fin (pl_gd n V S a b d) i).toNat)) (congrArg (fun q : Bool => nI q.toNat) (pl_fin_eq (pl_gm n V S a b d) hK1 c11)) ?_
        refine lv_istore_n (lv' := [(3, .int (nI (pl_fin (pl_gd n V S a b d) i).toNat)), (0, .ref (h 0)), (1, .int (nI (pl_cnt (pl_fin (pl_gd n V S a b d)) i))), (2, .int (nI i))]) hx hb dX0_finest_19 rfl hl (by decide) rfl (fun ls hl => ?_)
        refine lv_iload_n hx hb dX0_finest_20 rfl (lv_at hl 0 rfl) ?_
        refine lv_if_eq (tgt := 27) hx hb dX0_finest_21 (by decide) (fun c21 => ?_) (fun c21 => ?_)
        · have c21 : (pl_fin (pl_gd n V S a b d) i) = false := pn_b0.mp c21
          have e1 := pl_cnt_f c21
          refine lv_iinc (v := (nI (i + 1))) (lv' := [(2, .int (nI (i + 1))), (3, .int (nI (pl_fin (pl_gd n V S a b d) i).toNat)), (0, .ref (h 0)), (1, .int (nI (pl_cnt (pl_fin (pl_gd n V S a b d)) i)))]) hx hb dX0_finest_27 hl (k := 3) rfl (pn_i1 _) (by decide) rfl (fun ls hl => ?_)
          refine lv_goto (tgt := 8) hx hb dX0_finest_30 (by decide) ?_
          exact ih8 (i + 1) (by omega) (by omega) _ _ _ Z (by rw [e1]; exact lv_sub hl [2, 3, 0] rfl)
        · have c21 : (pl_fin (pl_gd n V S a b d) i) = true := pn_b1.mp c21
          have e1 := pl_cnt_t c21
          refine lv_iinc (v := (nI ((pl_cnt (pl_fin (pl_gd n V S a b d)) i) + 1))) (lv' := [(1, .int (nI ((pl_cnt (pl_fin (pl_gd n V S a b d)) i) + 1))), (3, .int (nI (pl_fin (pl_gd n V S a b d) i).toNat)), (0, .ref (h 0)), (2, .int (nI i))]) hx hb dX0_finest_24 hl (k := 2) rfl (pn_i1 _) (by decide) rfl (fun ls hl => ?_)
          refine lv_iinc (v := (nI (i + 1))) (lv' := [(2, .int (nI (i + 1))), (1, .int (nI ((pl_cnt (pl_fin (pl_gd n V S a b d)) i) + 1))), (3, .int (nI (pl_fin (pl_gd n V S a b d) i).toNat)), (0, .ref (h 0))]) hx hb dX0_finest_27 hl (k := 3) rfl (pn_i1 _) (by decide) rfl (fun ls hl => ?_)
          refine lv_goto (tgt := 8) hx hb dX0_finest_30 (by decide) ?_
          exact ih8 (i + 1) (by omega) (by omega) _ _ _ Z (by rw [e1]; exact lv_sub hl [3, 1, 0] rfl)
  exact loop8 126 0 (by omega) (Nat.zero_le _) _ _ _ Z (lv_sub hl [2, 1, 0] rfl)
set_option maxHeartbeats 4000000 in
set_option maxRecDepth 100000 in
theorem mX0_finestAt (l : Launch) (D : va_G) (h : Nat → Nat) (k : Nat → ClassId) (n a b d z : Nat) (V S K O T : Nat → Nat) (x : Int32) (hn : n ≤ 16) (hV : ∀ i, V i < 4096) (hS : ∀ i, S i < 8) (ha8 : a ≤ 8) (hb8 : b ≤ 8) (hd16 : d ≤ 16) (hrd : pl_rdy (pl_gd n V S a b d) z K) : pl_CI l yX0_finestAt cX0_finestAt 5 .int (rmD 7) D (pl_XT k) [.ref (h 0), .int x] (pl_X h k n a b d z V S K O T) (fun u : Nat × (Nat → Nat) × (Nat → Nat) × (Nat → Nat) => pl_X h k n a b d u.1 V S u.2.1 u.2.2.1 u.2.2.2) (fun v u => v = sp_finestAt n V S a b d x ∧ pl_rdy (pl_gd n V S a b d) u.1 u.2.1) := by
  refine pl_CI_of (by decide) (Nat.le_of_ble_eq_true rfl) ?_
  intro p e st m below meth c A Q ls C hret Z hl
  have hx := C.1
  have hb := C.2.1
  have hl : lv_has ls 5 [(0, .ref (h 0)), (1, .int x)] := hl
  refine lv_iload_n hx hb dX0_finestAt_0 rfl (lv_at hl 1 rfl) ?_
  refine lv_if_ge (tgt := 7) hx hb dX0_finestAt_1 (by decide) (fun c1 => ?_) (fun c1 => ?_)
  · have c1 := c1
    refine lv_aload_n hx hb dX0_finestAt_7 rfl (lv_at hl 0 rfl) ?_
    refine pl_callU (q0 := 0) (rest := []) (mX0_prepare l D h k n a b d z V S K O T hn hV hS ha8 hb8 hd16 hrd) C Z rfl rfl rfl (lw_V q107 q109 qs5 q18 q110) 0 rfl (by decide +kernel) (by decide) ⟨rfl, rfl⟩ hl (Nat.le_of_ble_eq_true rfl) rfl dX0_finestAt_8 (fun u H locs hp Z => ?_)
    obtain ⟨z1, K1, O1, T1⟩ := u
    try dsimp only at hp
    obtain ⟨hz1, hK1⟩ := hp
    have hrd1 := pl_rdy_1 hz1 hK1
    have Z : pl_Zx D A st (pl_X h k n a b d z1 V S K1 O1 T1) H locs := Z
    refine lv_iconst (v := (nI 0)) hx hb dX0_finestAt_11 (by decide) ?_
    refine lv_istore_n (lv' := [(2, .int (nI 0)), (0, .ref (h 0)), (1, .int x)]) hx hb dX0_finestAt_12 rfl hl (by decide) rfl (fun ls hl => ?_)
    refine lv_iconst (v := (nI 0)) hx hb dX0_finestAt_13 (by decide) ?_
    refine lv_istore_n (lv' := [(3, .int (nI 0)), (2, .int (nI 0)), (0, .ref (h 0)), (1, .int x)]) hx hb dX0_finestAt_14 rfl hl (by decide) rfl (fun ls hl => ?_)
    have loop15 : ∀ (f : Nat) (i : Nat), 125 < i + f → (i ≤ 125) → (pl_fat (pl_fin (pl_gd n V S a b d)) x (125 - i) i = pl_fat (pl_fin (pl_gd n V S a b d)) x 125 0) → ∀ (H : Heap) (locs : List Loc) (ls : Array Slot), pl_Zx D A st (pl_X h k n a b d z1 V S K1 O1 T1) H locs → lv_has ls 5 [(0, .ref (h 0)), (1, .int x), (2, .int (nI (pl_cnt (pl_fin (pl_gd n V S a b d)) i))), (3, .int (nI i))] → W p l e (rmD 7) st m ([.ref (h 0), .int x] : List Value).toArray below meth c H locs 0 0 Q (F0 m 15 ls []) := by
      intro f
      induction f with
      | zero =>
        intro i hf hi hv
        exact absurd hf (by omega)
      | succ f ih15 =>
        intro i hf hi hv H locs ls Z hl
        refine lv_iload_n hx hb dX0_finestAt_15 rfl (lv_at hl 3 rfl) ?_
        refine lv_bipush (v := (nI 125)) hx hb dX0_finestAt_16 (by decide) ?_
        refine lv_icmp_ge (tgt := 54) hx hb dX0_finestAt_18 (by decide) (fun c18 => ?_) (fun c18 => ?_)
        · have c18 : 125 ≤ i := (nI_leI (by omega) (by omega)).mp c18
          refine lv_bipush (v := ((-5))) hx hb dX0_finestAt_54 (by decide) ?_
          exact hret _ _ _ _ _ ((z1, K1, O1, T1)) dX0_finestAt_56 (rfl) (⟨(pl_fat_end c18).symm.trans hv, hrd1⟩) Z
        · have c18 : i < 125 := Nat.lt_of_not_le (mt (nI_leI (by omega) (by omega)).mpr c18)
          refine lv_aload_n hx hb dX0_finestAt_21 rfl (lv_at hl 0 rfl) ?_
          refine lv_iload_n hx hb dX0_finestAt_22 rfl (lv_at hl 3 rfl) ?_
          refine pl_callV (q0 := 0) (rest := []) (mX0_isFinest l D h k n a b d z1 V S K1 O1 T1 i c18 (pl_all_lt hK1)) C Z rfl rfl rfl (lw_V q133 q135 qs8 q18 q136) 1 rfl (by decide +kernel) (by decide) ⟨rfl, rfl⟩ hl (Nat.le_of_ble_eq_true rfl) rfl dX0_finestAt_23 (fun v23 u H locs hp Z => ?_)
          obtain _ := u
          try dsimp only at hp
          subst hp
          have Z : pl_Zx D A st (pl_X h k n a b d z1 V S K1 O1 T1) H locs := Z
          refine pn_top (y := (nI (pl_fin (pl_gd n V S a b d) i).toNat)) (congrArg (fun q : Bool => nI q.toNat) (pl_fin_eq (pl_gm n V S a b d) hK1 c18)) ?_
          refine lv_istore (lv' := [(4, .int (nI (pl_fin (pl_gd n V S a b d) i).toNat)), (0, .ref (h 0)), (1, .int x), (2, .int (nI (pl_cnt (pl_fin (pl_gd n V S a b d)) i))), (3, .int (nI i))]) hx hb dX0_finestAt_26 hl (by decide) rfl (fun ls hl => ?_)
          refine lv_iload hx hb dX0_finestAt_28 (lv_at hl 0 rfl) ?_
          refine lv_if_eq (tgt := 40) hx hb dX0_finestAt_30 (by decide) (fun c30 => ?_) (fun c30 => ?_)
          · have c30 : (pl_fin (pl_gd n V S a b d) i) = false := pn_b0.mp c30
            refine lv_iload hx hb dX0_finestAt_40 (lv_at hl 0 rfl) ?_
            refine lv_if_eq (tgt := 48) hx hb dX0_finestAt_42 (by decide) (fun c42 => ?_) (fun c42 => ?_)
            · have c42 : (pl_fin (pl_gd n V S a b d) i) = false := pn_b0.mp c42
              have e1 := pl_cnt_f c42
              refine lv_iinc (v := (nI (i + 1))) (lv' := [(3, .int (nI (i + 1))), (4, .int (nI (pl_fin (pl_gd n V S a b d) i).toNat)), (0, .ref (h 0)), (1, .int x), (2, .int (nI (pl_cnt (pl_fin (pl_gd n V S a b d)) i)))]) hx hb dX0_finestAt_48 hl (k := 4) rfl (pn_i1 _) (by decide) rfl (fun ls hl => ?_)
              refine lv_goto (tgt := 15) hx hb dX0_finestAt_51 (by decide) ?_
              exact ih15 (i + 1) (by omega) (by omega) ((pl_fat_next c18 (by first | exact (fun q => c35 q.2) | exact (fun q => absurd (c30.symm.trans q.1) (by decide)))).trans hv) _ _ _ Z (by rw [e1]; exact lv_sub hl [2, 3, 4, 0] rfl)
            · have c42 : (pl_fin (pl_gd n V S a b d) i) = true := pn_b1.mp c42
              have e1 := pl_cnt_t c42
              exact absurd (c30.symm.trans c42) (by decide)
          · have c30 : (pl_fin (pl_gd n V S a b d) i) = true := pn_b1.mp c30
            refine lv_iload_n hx hb dX0_finestAt_33 rfl (lv_at hl 3 rfl) ?_
            refine lv_iload_n hx hb dX0_finestAt_34 rfl (lv_at hl 2 rfl) ?_
            refine lv_icmp_ne (tgt := 40) hx hb dX0_finestAt_35 (by decide) (fun c35 => ?_) (fun c35 => ?_)
            · have c35 := c35
              refine lv_iload hx hb dX0_finestAt_40 (lv_at hl 0 rfl) ?_
              refine lv_if_eq (tgt := 48) hx hb dX0_finestAt_42 (by decide) (fun c42 => ?_) (fun c42 => ?_)
              · have c42 : (pl_fin (pl_gd n V S a b d) i) = false := pn_b0.mp c42
                have e1 := pl_cnt_f c42
                exact absurd (c30.symm.trans c42) (by decide)
              · have c42 : (pl_fin (pl_gd n V S a b d) i) = true := pn_b1.mp c42
                have e1 := pl_cnt_t c42
                refine lv_iinc (v := (nI ((pl_cnt (pl_fin (pl_gd n V S a b d)) i) + 1))) (lv' := [(2, .int (nI ((pl_cnt (pl_fin (pl_gd n V S a b d)) i) + 1))), (4, .int (nI (pl_fin (pl_gd n V S a b d) i).toNat)), (0, .ref (h 0)), (1, .int x), (3, .int (nI i))]) hx hb dX0_finestAt_45 hl (k := 3) rfl (pn_i1 _) (by decide) rfl (fun ls hl => ?_)
                refine lv_iinc (v := (nI (i + 1))) (lv' := [(3, .int (nI (i + 1))), (2, .int (nI ((pl_cnt (pl_fin (pl_gd n V S a b d)) i) + 1))), (4, .int (nI (pl_fin (pl_gd n V S a b d) i).toNat)), (0, .ref (h 0)), (1, .int x)]) hx hb dX0_finestAt_48 hl (k := 4) rfl (pn_i1 _) (by decide) rfl (fun ls hl => ?_)
                refine lv_goto (tgt := 15) hx hb dX0_finestAt_51 (by decide) ?_
                exact ih15 (i + 1) (by omega) (by omega) ((pl_fat_next c18 (by first | exact (fun q => c35 q.2) | exact (fun q => absurd (c30.symm.trans q.1) (by decide)))).trans hv) _ _ _ Z (by rw [e1]; exact lv_sub hl [3, 4, 1, 0] rfl)
            · have c35 := c35
              refine lv_iload_n hx hb dX0_finestAt_38 rfl (lv_at hl 4 rfl) ?_
              exact hret _ _ _ _ _ ((z1, K1, O1, T1)) dX0_finestAt_39 (rfl) (⟨(pl_fat_hit c18 c30 c35).symm.trans hv, hrd1⟩) Z
    exact loop15 126 0 (by omega) (Nat.zero_le _) (rfl) _ _ _ Z (lv_sub hl [2, 3, 1, 0] rfl)
  · have c1 := c1
    refine lv_bipush (v := ((-5))) hx hb dX0_finestAt_4 (by decide) ?_
    exact hret _ _ _ _ _ ((z, K, O, T)) dX0_finestAt_6 (rfl) (⟨(pl_fat_neg (Int32.not_le.mp c1) 125 0 (by decide)).symm, hrd⟩) Z
set_option maxHeartbeats 4000000 in
set_option maxRecDepth 100000 in
theorem mX0_best (l : Launch) (D : va_G) (h : Nat → Nat) (k : Nat → ClassId) (n a b d z : Nat) (V S K O T : Nat → Nat) (hn : n ≤ 16) (hV : ∀ i, V i < 4096) (hS : ∀ i, S i < 8) (ha8 : a ≤ 8) (hb8 : b ≤ 8) (hd16 : d ≤ 16) (hrd : pl_rdy (pl_gd n V S a b d) z K) : pl_CI l yX0_best cX0_best 5 .int (rmD 7) D (pl_XT k) [.ref (h 0)] (pl_X h k n a b d z V S K O T) (fun u : Nat × (Nat → Nat) × (Nat → Nat) × (Nat → Nat) => pl_X h k n a b d u.1 V S u.2.1 u.2.2.1 u.2.2.2) (fun v u => v = sp_best n V S a b d ∧ pl_rdy (pl_gd n V S a b d) u.1 u.2.1) := by
  refine pl_CI_of (by decide) (Nat.le_of_ble_eq_true rfl) ?_
  intro p e st m below meth c A Q ls C hret Z hl
  have hx := C.1
  have hb := C.2.1
  have hl : lv_has ls 5 [(0, .ref (h 0))] := hl
  refine lv_aload_n hx hb dX0_best_0 rfl (lv_at hl 0 rfl) ?_
  refine pl_callU (q0 := 0) (rest := []) (mX0_prepare l D h k n a b d z V S K O T hn hV hS ha8 hb8 hd16 hrd) C Z rfl rfl rfl (lw_V q107 q109 qs5 q18 q110) 0 rfl (by decide +kernel) (by decide) ⟨rfl, rfl⟩ hl (Nat.le_of_ble_eq_true rfl) rfl dX0_best_1 (fun u H locs hp Z => ?_)
  obtain ⟨z1, K1, O1, T1⟩ := u
  try dsimp only at hp
  obtain ⟨hz1, hK1⟩ := hp
  have hrd1 := pl_rdy_1 hz1 hK1
  have Z : pl_Zx D A st (pl_X h k n a b d z1 V S K1 O1 T1) H locs := Z
  refine lv_bipush (v := ((-5))) hx hb dX0_best_4 (by decide) ?_
  refine lv_istore_n (lv' := [(1, .int ((-5))), (0, .ref (h 0))]) hx hb dX0_best_6 rfl hl (by decide) rfl (fun ls hl => ?_)
  refine lv_bipush (v := (nI 13)) hx hb dX0_best_7 (by decide) ?_
  refine lv_istore_n (lv' := [(2, .int (nI 13)), (1, .int ((-5))), (0, .ref (h 0))]) hx hb dX0_best_9 rfl hl (by decide) rfl (fun ls hl => ?_)
  refine lv_iconst (v := (nI 0)) hx hb dX0_best_10 (by decide) ?_
  refine lv_istore_n (lv' := [(3, .int (nI 0)), (2, .int (nI 13)), (1, .int ((-5))), (0, .ref (h 0))]) hx hb dX0_best_11 rfl hl (by decide) rfl (fun ls hl => ?_)
  have loop12 : ∀ (f : Nat) (i : Nat), 125 < i + f → (i ≤ 125) → ∀ (H : Heap) (locs : List Loc) (ls : Array Slot), pl_Zx D A st (pl_X h k n a b d z1 V S K1 O1 T1) H locs → lv_has ls 5 [(0, .ref (h 0)), (1, .int (pl_bv (pl_bst (pl_gd n V S a b d) i))), (2, .int (nI (pl_bl (pl_bst (pl_gd n V S a b d) i)))), (3, .int (nI i))] → W p l e (rmD 7) st m ([.ref (h 0)] : List Value).toArray below meth c H locs 0 0 Q (F0 m 12 ls []) := by
    intro f
    induction f with
    | zero =>
      intro i hf hi
      exact absurd hf (by omega)
    | succ f ih12 =>
      intro i hf hi H locs ls Z hl
      refine lv_iload_n hx hb dX0_best_12 rfl (lv_at hl 3 rfl) ?_
      refine lv_bipush (v := (nI 125)) hx hb dX0_best_13 (by decide) ?_
      refine lv_icmp_ge (tgt := 51) hx hb dX0_best_15 (by decide) (fun c15 => ?_) (fun c15 => ?_)
      · have c15 : 125 ≤ i := (nI_leI (by omega) (by omega)).mp c15
        refine lv_iload_n hx hb dX0_best_51 rfl (lv_at hl 1 rfl) ?_
        exact hret _ _ _ _ _ ((z1, K1, O1, T1)) dX0_best_52 (rfl) (⟨by rw [show i = 125 by omega]; rfl, hrd1⟩) Z
      · have c15 : i < 125 := Nat.lt_of_not_le (mt (nI_leI (by omega) (by omega)).mpr c15)
        refine lv_iload_n hx hb dX0_best_18 rfl (lv_at hl 3 rfl) ?_
        refine pl_callS (rest := []) (mX0_sumOfLevels l D i c15) C Z (lw_S q115 q116 q18 q117) 1 rfl (by decide +kernel) (by decide) ⟨rfl, rfl⟩ hl (Nat.le_of_ble_eq_true rfl) rfl dX0_best_19 (fun v19 H locs hp Z => ?_)
        subst hp
        have sb := pl_sum_le c15
        have lb := pl_bl_le (g := (pl_gd n V S a b d)) hi
        refine lv_istore (lv' := [(4, .int (nI (pl_sum i))), (0, .ref (h 0)), (1, .int (pl_bv (pl_bst (pl_gd n V S a b d) i))), (2, .int (nI (pl_bl (pl_bst (pl_gd n V S a b d) i)))), (3, .int (nI i))]) hx hb dX0_best_22 hl (by decide) rfl (fun ls hl => ?_)
        refine lv_aload_n hx hb dX0_best_24 rfl (lv_at hl 1 rfl) ?_
        refine px_get C Z 0 rfl 7 (by decide) q35 rfl dX0_best_25 ?_
        refine lv_iload_n hx hb dX0_best_28 rfl (lv_at hl 4 rfl) ?_
        refine pn_bald C Z 3 2 rfl rfl (by omega) (by decide) dX0_best_29 ?_
        have kb := pl_all_lt hK1 i c15
        refine lv_iconst (v := (nI 1)) hx hb dX0_best_30 (by decide) ?_
        refine lv_icmp_ne (tgt := 45) hx hb dX0_best_31 (by decide) (fun c31 => ?_) (fun c31 => ?_)
        · have c31 : ¬ (K1 i) = 1 := mt (nI_eq (by omega) (by omega)).mpr c31
          have e1 := pl_bst_n1 (pl_k0 hK1 c15 c31)
          refine lv_iinc (v := (nI (i + 1))) (lv' := [(3, .int (nI (i + 1))), (4, .int (nI (pl_sum i))), (0, .ref (h 0)), (1, .int (pl_bv (pl_bst (pl_gd n V S a b d) i))), (2, .int (nI (pl_bl (pl_bst (pl_gd n V S a b d) i))))]) hx hb dX0_best_45 hl (k := 4) rfl (pn_i1 _) (by decide) rfl (fun ls hl => ?_)
          refine lv_goto (tgt := 12) hx hb dX0_best_48 (by decide) ?_
          exact ih12 (i + 1) (by omega) (by omega) _ _ _ Z (by rw [e1]; exact lv_sub hl [2, 3, 4, 0] rfl)
        · have c31 : (K1 i) = 1 := (nI_eq (by omega) (by omega)).mp c31
          refine lv_iload hx hb dX0_best_34 (lv_at hl 0 rfl) ?_
          refine lv_iload_n hx hb dX0_best_36 rfl (lv_at hl 3 rfl) ?_
          refine lv_icmp_ge (tgt := 45) hx hb dX0_best_37 (by decide) (fun c37 => ?_) (fun c37 => ?_)
          · have c37 : (pl_bl (pl_bst (pl_gd n V S a b d) i)) ≤ (pl_sum i) := (nI_leI (by omega) (by omega)).mp c37
            have e1 := pl_bst_n2 c37
            refine lv_iinc (v := (nI (i + 1))) (lv' := [(3, .int (nI (i + 1))), (4, .int (nI (pl_sum i))), (0, .ref (h 0)), (1, .int (pl_bv (pl_bst (pl_gd n V S a b d) i))), (2, .int (nI (pl_bl (pl_bst (pl_gd n V S a b d) i))))]) hx hb dX0_best_45 hl (k := 4) rfl (pn_i1 _) (by decide) rfl (fun ls hl => ?_)
            refine lv_goto (tgt := 12) hx hb dX0_best_48 (by decide) ?_
            exact ih12 (i + 1) (by omega) (by omega) _ _ _ Z (by rw [e1]; exact lv_sub hl [2, 3, 4, 0] rfl)
          · have c37 : (pl_sum i) < (pl_bl (pl_bst (pl_gd n V S a b d) i)) := Nat.lt_of_not_le (mt (nI_leI (by omega) (by omega)).mpr c37)
            have e1 := pl_bst_y (pl_k1 hK1 c15 c31) c37
            refine lv_iload_n hx hb dX0_best_40 rfl (lv_at hl 4 rfl) ?_
            refine lv_istore_n (lv' := [(1, .int (nI i)), (4, .int (nI (pl_sum i))), (0, .ref (h 0)), (2, .int (nI (pl_bl (pl_bst (pl_gd n V S a b d) i)))), (3, .int (nI i))]) hx hb dX0_best_41 rfl hl (by decide) rfl (fun ls hl => ?_)
            refine lv_iload hx hb dX0_best_42 (lv_at hl 1 rfl) ?_
            refine lv_istore_n (lv' := [(2, .int (nI (pl_sum i))), (1, .int (nI i)), (4, .int (nI (pl_sum i))), (0, .ref (h 0)), (3, .int (nI i))]) hx hb dX0_best_44 rfl hl (by decide) rfl (fun ls hl => ?_)
            refine lv_iinc (v := (nI (i + 1))) (lv' := [(3, .int (nI (i + 1))), (2, .int (nI (pl_sum i))), (1, .int (nI i)), (4, .int (nI (pl_sum i))), (0, .ref (h 0))]) hx hb dX0_best_45 hl (k := 4) rfl (pn_i1 _) (by decide) rfl (fun ls hl => ?_)
            refine lv_goto (tgt := 12) hx hb dX0_best_48 (by decide) ?_
            exact ih12 (i + 1) (by omega) (by omega) _ _ _ Z (by rw [e1]; exact lv_sub hl [4, 2, 1, 0] rfl)
  exact loop12 126 0 (by omega) (Nat.zero_le _) _ _ _ Z (lv_sub hl [3, 2, 1, 0] rfl)
set_option maxHeartbeats 4000000 in
set_option maxRecDepth 100000 in
theorem mX0_groups (l : Launch) (D : va_G) (h : Nat → Nat) (k : Nat → ClassId) (n a b d z : Nat) (V S K O T : Nat → Nat) (x : Int32) (hn : n ≤ 16) (hV : ∀ i, V i < 4096) : pl_CI l yX0_groups cX0_groups 4 .int (rmD 3) D (pl_XT k) [.ref (h 0), .int x] (pl_X h k n a b d z V S K O T) (fun u : (Nat → Nat) × (Nat → Nat) => pl_X h k n a b d z V S K u.1 u.2) (fun v _ => v = sp_groups n V x) := by
  refine pl_CI_of (by decide) (Nat.le_of_ble_eq_true rfl) ?_
  intro p e st m below meth c A Q ls C hret Z hl
  have hx := C.1
  have hb := C.2.1
  have hl : lv_has ls 4 [(0, .ref (h 0)), (1, .int x)] := hl
  refine lv_iload_n hx hb dX0_groups_0 rfl (lv_at hl 1 rfl) ?_
  refine pl_callS (rest := []) (mX0_badSetting l D x) C Z (lw_S q77 q78 q18 q79) 1 rfl (by decide +kernel) (by decide) ⟨rfl, rfl⟩ hl (Nat.le_of_ble_eq_true rfl) rfl dX0_groups_1 (fun v1 H locs hp Z => ?_)
  rcases hp with hp | hp
  · obtain ⟨rfl, hbad⟩ := hp
    refine lv_if_eq (tgt := 10) hx hb dX0_groups_4 (by decide) (fun c4 => ?_) (fun c4 => ?_)
    · have c4 : 1 = 0 := (pn_e0 (by omega)).mp c4
      exact absurd c4 (by decide)
    · have c4 : ¬ 1 = 0 := mt (pn_e0 (by omega)).mpr c4
      refine lv_bipush (v := ((-4))) hx hb dX0_groups_7 (by decide) ?_
      exact hret _ _ _ _ _ ((O, T)) dX0_groups_9 (rfl) ((sp_groups_b hbad).symm) Z
  · obtain ⟨rfl, j, hj, rfl⟩ := hp
    refine lv_if_eq (tgt := 10) hx hb dX0_groups_4 (by decide) (fun c4 => ?_) (fun c4 => ?_)
    · have c4 : 0 = 0 := (pn_e0 (by omega)).mp c4
      refine lv_aload_n hx hb dX0_groups_10 rfl (lv_at hl 0 rfl) ?_
      refine lv_iload_n hx hb dX0_groups_11 rfl (lv_at hl 1 rfl) ?_
      refine pl_callU (q0 := 0) (rest := []) (mX0_sortRows l D h k n a b d z V S K O T j hj hn hV) C Z rfl rfl rfl (lw_V q84 q86 qs1 q18 q87) 1 rfl (by decide +kernel) (by decide) ⟨rfl, rfl⟩ hl (Nat.le_of_ble_eq_true rfl) rfl dX0_groups_12 (fun u H locs hp Z => ?_)
      obtain ⟨O1, T1⟩ := u
      try dsimp only at hp
      have hs : pl_srt n (pl_key V j) O1 T1 := hp
      have hT1 := pl_srt_lt hs
      have Z : pl_Zx D A st (pl_X h k n a b d z V S K O1 T1) H locs := Z
      refine lv_iconst (v := (nI 0)) hx hb dX0_groups_15 (by decide) ?_
      refine lv_istore_n (lv' := [(2, .int (nI 0)), (0, .ref (h 0)), (1, .int (nI j))]) hx hb dX0_groups_16 rfl hl (by decide) rfl (fun ls hl => ?_)
      refine lv_iconst (v := (nI 0)) hx hb dX0_groups_17 (by decide) ?_
      refine lv_istore_n (lv' := [(3, .int (nI 0)), (2, .int (nI 0)), (0, .ref (h 0)), (1, .int (nI j))]) hx hb dX0_groups_18 rfl hl (by decide) rfl (fun ls hl => ?_)
      have loop19 : ∀ (f : Nat) (q : Nat), n < q + f → (pl_bnd n T1 q) → ∀ (H : Heap) (locs : List Loc) (ls : Array Slot), pl_Zx D A st (pl_X h k n a b d z V S K O1 T1) H locs → lv_has ls 4 [(0, .ref (h 0)), (2, .int (nI (pl_ds T1 q))), (3, .int (nI q))] → W p l e (rmD 3) st m ([.ref (h 0), .int (nI j)] : List Value).toArray below meth c H locs 0 0 Q (F0 m 19 ls []) := by
        intro f
        induction f with
        | zero =>
          intro q hf hq
          have hq1 := hq.1
          exact absurd hf (by omega)
        | succ f ih19 =>
          intro q hf hq H locs ls Z hl
          have hq1 := hq.1
          refine lv_iload_n hx hb dX0_groups_19 rfl (lv_at hl 2 rfl) ?_
          refine lv_aload_n hx hb dX0_groups_20 rfl (lv_at hl 0 rfl) ?_
          refine px_get C Z 0 rfl 0 (by decide) q28 rfl dX0_groups_21 ?_
          refine lv_icmp_ge (tgt := 39) hx hb dX0_groups_24 (by decide) (fun c24 => ?_) (fun c24 => ?_)
          · have c24 : n ≤ q := (nI_leI (by omega) (by omega)).mp c24
            refine lv_iload_n hx hb dX0_groups_39 rfl (lv_at hl 1 rfl) ?_
            exact hret _ _ _ _ _ ((O1, T1)) dX0_groups_40 (rfl) (by rw [sp_groups_j hj, pl_grp_ds (fun r => pl_key_lt V j r), ← pl_ds_perm hs, show q = n by omega]) Z
          · have c24 : q < n := Nat.lt_of_not_le (mt (nI_leI (by omega) (by omega)).mpr c24)
            refine lv_aload_n hx hb dX0_groups_27 rfl (lv_at hl 0 rfl) ?_
            refine lv_iload_n hx hb dX0_groups_28 rfl (lv_at hl 2 rfl) ?_
            refine pl_callV (q0 := 0) (rest := []) (mX0_groupEnd l D h k n a b d z V S K O1 T1 q c24 hn hT1) C Z rfl rfl rfl (lw_V q95 q97 qs3 q18 q98) 1 rfl (by decide +kernel) (by decide) ⟨rfl, rfl⟩ hl (Nat.le_of_ble_eq_true rfl) rfl dX0_groups_29 (fun v29 u H locs hp Z => ?_)
            obtain _ := u
            try dsimp only at hp
            obtain ⟨w, rfl, hgr⟩ := hp
            have g1 := hgr.1
            have e1 := pl_ds_s hgr.1 hgr.2.2.1 (fun i hi => Nat.ne_of_lt (hq.2 i hi c24)) (hT1 q c24)
            have Z : pl_Zx D A st (pl_X h k n a b d z V S K O1 T1) H locs := Z
            refine lv_istore_n (lv' := [(3, .int (nI w)), (0, .ref (h 0)), (2, .int (nI (pl_ds T1 q)))]) hx hb dX0_groups_32 rfl hl (by decide) rfl (fun ls hl => ?_)
            refine lv_iinc (v := (nI ((pl_ds T1 q) + 1))) (lv' := [(2, .int (nI ((pl_ds T1 q) + 1))), (3, .int (nI w)), (0, .ref (h 0))]) hx hb dX0_groups_33 hl (k := 2) rfl (pn_i1 _) (by decide) rfl (fun ls hl => ?_)
            refine lv_goto (tgt := 19) hx hb dX0_groups_36 (by decide) ?_
            exact ih19 w (by omega) (pl_bnd_s hs hq hgr) _ _ _ Z (by rw [e1]; exact lv_sub hl [2, 0, 1] rfl)
      exact loop19 (n + 1) 0 (by omega) (pl_bnd_0 _ _) _ _ _ Z (by rw [pl_ds_0]; exact lv_sub hl [2, 1, 0] rfl)
    · have c4 : ¬ 0 = 0 := mt (pn_e0 (by omega)).mpr c4
      exact absurd c4 (by decide)
set_option maxHeartbeats 4000000 in
set_option maxRecDepth 100000 in
theorem mX0_lookAlike (l : Launch) (D : va_G) (h : Nat → Nat) (k : Nat → ClassId) (n a b d z : Nat) (V S K O T : Nat → Nat) (x y : Int32) (hn : n ≤ 16) (hV : ∀ i, V i < 4096) : pl_CI l yX0_lookAlike cX0_lookAlike 7 .int (rmD 2) D (pl_XT k) [.ref (h 0), .int x, .int y] (pl_X h k n a b d z V S K O T) (fun _ : Unit => pl_X h k n a b d z V S K O T) (fun v _ => v = sp_lookAlike n V x y) := by
  refine pl_CI_of (by decide) (Nat.le_of_ble_eq_true rfl) ?_
  intro p e st m below meth c A Q ls C hret Z hl
  have hx := C.1
  have hb := C.2.1
  have hl : lv_has ls 7 [(0, .ref (h 0)), (1, .int x), (2, .int y)] := hl
  refine lv_iload_n hx hb dX0_lookAlike_0 rfl (lv_at hl 1 rfl) ?_
  refine pl_callS (rest := []) (mX0_badSetting l D x) C Z (lw_S q77 q78 q18 q79) 1 rfl (by decide +kernel) (by decide) ⟨rfl, rfl⟩ hl (Nat.le_of_ble_eq_true rfl) rfl dX0_lookAlike_1 (fun v1 H locs hp Z => ?_)
  rcases hp with hp | hp
  · obtain ⟨rfl, hbad⟩ := hp
    refine lv_if_eq (tgt := 10) hx hb dX0_lookAlike_4 (by decide) (fun c4 => ?_) (fun c4 => ?_)
    · have c4 : 1 = 0 := (pn_e0 (by omega)).mp c4
      exact absurd c4 (by decide)
    · have c4 : ¬ 1 = 0 := mt (pn_e0 (by omega)).mpr c4
      refine lv_bipush (v := ((-4))) hx hb dX0_lookAlike_7 (by decide) ?_
      exact hret _ _ _ _ _ (()) dX0_lookAlike_9 (rfl) ((sp_lookAlike_b hbad).symm) Z
  · obtain ⟨rfl, j, hj, rfl⟩ := hp
    refine lv_if_eq (tgt := 10) hx hb dX0_lookAlike_4 (by decide) (fun c4 => ?_) (fun c4 => ?_)
    · have c4 : 0 = 0 := (pn_e0 (by omega)).mp c4
      refine lv_iload_n hx hb dX0_lookAlike_10 rfl (lv_at hl 2 rfl) ?_
      refine lv_if_lt (tgt := 22) hx hb dX0_lookAlike_11 (by decide) (fun c11 => ?_) (fun c11 => ?_)
      · have c11 := c11
        refine lv_bipush (v := ((-3))) hx hb dX0_lookAlike_22 (by decide) ?_
        exact hret _ _ _ _ _ (()) dX0_lookAlike_24 (rfl) ((sp_lookAlike_r hj (by first | exact Or.inl c11 | exact Or.inr (Int32.not_lt.mp c19))).symm) Z
      · have c11 := c11
        refine lv_iload_n hx hb dX0_lookAlike_14 rfl (lv_at hl 2 rfl) ?_
        refine lv_aload_n hx hb dX0_lookAlike_15 rfl (lv_at hl 0 rfl) ?_
        refine px_get C Z 0 rfl 0 (by decide) q28 rfl dX0_lookAlike_16 ?_
        refine lv_icmp_lt (tgt := 25) hx hb dX0_lookAlike_19 (by decide) (fun c19 => ?_) (fun c19 => ?_)
        · have c19 := c19
          obtain ⟨r, hr, rfl⟩ := pl_yin hn c11 c19
          have k1 := pl_key_lt V j r
          refine lv_aload_n hx hb dX0_lookAlike_25 rfl (lv_at hl 0 rfl) ?_
          refine lv_iload_n hx hb dX0_lookAlike_26 rfl (lv_at hl 2 rfl) ?_
          refine lv_iload_n hx hb dX0_lookAlike_27 rfl (lv_at hl 1 rfl) ?_
          refine pl_callV (q0 := 0) (rest := []) (mX0_keyOf l D h k n a b d z V S K O T r j (by omega) hj hV) C Z rfl rfl rfl (lw_V q88 q90 qs2 q18 q91) 2 rfl (by decide +kernel) (by decide) ⟨rfl, rfl⟩ hl (Nat.le_of_ble_eq_true rfl) rfl dX0_lookAlike_28 (fun v28 u H locs hp Z => ?_)
          obtain _ := u
          try dsimp only at hp
          subst hp
          have Z : pl_Zx D A st (pl_X h k n a b d z V S K O T) H locs := Z
          refine lv_istore_n (lv' := [(3, .int (nI (pl_key V j r))), (0, .ref (h 0)), (1, .int (nI j)), (2, .int (nI r))]) hx hb dX0_lookAlike_31 rfl hl (by decide) rfl (fun ls hl => ?_)
          refine lv_iconst (v := (nI 0)) hx hb dX0_lookAlike_32 (by decide) ?_
          refine lv_istore (lv' := [(4, .int (nI 0)), (3, .int (nI (pl_key V j r))), (0, .ref (h 0)), (1, .int (nI j)), (2, .int (nI r))]) hx hb dX0_lookAlike_33 hl (by decide) rfl (fun ls hl => ?_)
          refine lv_iconst (v := (nI 0)) hx hb dX0_lookAlike_35 (by decide) ?_
          refine lv_istore (lv' := [(5, .int (nI 0)), (4, .int (nI 0)), (3, .int (nI (pl_key V j r))), (0, .ref (h 0)), (1, .int (nI j)), (2, .int (nI r))]) hx hb dX0_lookAlike_36 hl (by decide) rfl (fun ls hl => ?_)
          have loop38 : ∀ (f : Nat) (i : Nat), n < i + f → (i ≤ n) → ∀ (H : Heap) (locs : List Loc) (ls : Array Slot), pl_Zx D A st (pl_X h k n a b d z V S K O T) H locs → lv_has ls 7 [(0, .ref (h 0)), (1, .int (nI j)), (3, .int (nI (pl_key V j r))), (4, .int (nI (pl_cnt (fun q => pl_key V j r == pl_key V j q) i))), (5, .int (nI i))] → W p l e (rmD 2) st m ([.ref (h 0), .int (nI j), .int (nI r)] : List Value).toArray below meth c H locs 0 0 Q (F0 m 38 ls []) := by
            intro f
            induction f with
            | zero =>
              intro i hf hi
              exact absurd hf (by omega)
            | succ f ih38 =>
              intro i hf hi H locs ls Z hl
              refine lv_iload hx hb dX0_lookAlike_38 (lv_at hl 4 rfl) ?_
              refine lv_aload_n hx hb dX0_lookAlike_40 rfl (lv_at hl 0 rfl) ?_
              refine px_get C Z 0 rfl 0 (by decide) q28 rfl dX0_lookAlike_41 ?_
              refine lv_icmp_ge (tgt := 71) hx hb dX0_lookAlike_44 (by decide) (fun c44 => ?_) (fun c44 => ?_)
              · have c44 : n ≤ i := (nI_leI (by omega) (by omega)).mp c44
                refine lv_iload hx hb dX0_lookAlike_71 (lv_at hl 3 rfl) ?_
                exact hret _ _ _ _ _ (()) dX0_lookAlike_73 (rfl) (by rw [sp_lookAlike_j hj hr hn, show i = n by omega]; rfl) Z
              · have c44 : i < n := Nat.lt_of_not_le (mt (nI_leI (by omega) (by omega)).mpr c44)
                refine lv_aload_n hx hb dX0_lookAlike_47 rfl (lv_at hl 0 rfl) ?_
                refine lv_iload hx hb dX0_lookAlike_48 (lv_at hl 4 rfl) ?_
                refine lv_iload_n hx hb dX0_lookAlike_50 rfl (lv_at hl 1 rfl) ?_
                refine pl_callV (q0 := 0) (rest := []) (mX0_keyOf l D h k n a b d z V S K O T i j (by omega) hj hV) C Z rfl rfl rfl (lw_V q88 q90 qs2 q18 q91) 2 rfl (by decide +kernel) (by decide) ⟨rfl, rfl⟩ hl (Nat.le_of_ble_eq_true rfl) rfl dX0_lookAlike_51 (fun v51 u H locs hp Z => ?_)
                obtain _ := u
                try dsimp only at hp
                subst hp
                have k2 := pl_key_lt V j i
                have Z : pl_Zx D A st (pl_X h k n a b d z V S K O T) H locs := Z
                refine lv_istore (lv' := [(6, .int (nI (pl_key V j i))), (0, .ref (h 0)), (1, .int (nI j)), (3, .int (nI (pl_key V j r))), (4, .int (nI (pl_cnt (fun q => pl_key V j r == pl_key V j q) i))), (5, .int (nI i))]) hx hb dX0_lookAlike_54 hl (by decide) rfl (fun ls hl => ?_)
                refine lv_iload hx hb dX0_lookAlike_56 (lv_at hl 0 rfl) ?_
                refine lv_iload_n hx hb dX0_lookAlike_58 rfl (lv_at hl 3 rfl) ?_
                refine lv_icmp_ne (tgt := 65) hx hb dX0_lookAlike_59 (by decide) (fun c59 => ?_) (fun c59 => ?_)
                · have c59 : ¬ (pl_key V j i) = (pl_key V j r) := mt (nI_eq (by omega) (by omega)).mpr c59
                  have e1 := pl_cnt_f (P := fun q => pl_key V j r == pl_key V j q) (i := i) (beq_eq_false_iff_ne.mpr (fun q => c59 q.symm))
                  refine lv_iinc (v := (nI (i + 1))) (lv' := [(5, .int (nI (i + 1))), (6, .int (nI (pl_key V j i))), (0, .ref (h 0)), (1, .int (nI j)), (3, .int (nI (pl_key V j r))), (4, .int (nI (pl_cnt (fun q => pl_key V j r == pl_key V j q) i)))]) hx hb dX0_lookAlike_65 hl (k := 5) rfl (pn_i1 _) (by decide) rfl (fun ls hl => ?_)
                  refine lv_goto (tgt := 38) hx hb dX0_lookAlike_68 (by decide) ?_
                  exact ih38 (i + 1) (by omega) (by omega) _ _ _ Z (by rw [e1]; exact lv_sub hl [2, 3, 4, 5, 0] rfl)
                · have c59 : (pl_key V j i) = (pl_key V j r) := (nI_eq (by omega) (by omega)).mp c59
                  have e1 := pl_cnt_t (P := fun q => pl_key V j r == pl_key V j q) (i := i) (beq_iff_eq.mpr c59.symm)
                  refine lv_iinc (v := (nI ((pl_cnt (fun q => pl_key V j r == pl_key V j q) i) + 1))) (lv' := [(4, .int (nI ((pl_cnt (fun q => pl_key V j r == pl_key V j q) i) + 1))), (6, .int (nI (pl_key V j i))), (0, .ref (h 0)), (1, .int (nI j)), (3, .int (nI (pl_key V j r))), (5, .int (nI i))]) hx hb dX0_lookAlike_62 hl (k := 4) rfl (pn_i1 _) (by decide) rfl (fun ls hl => ?_)
                  refine lv_iinc (v := (nI (i + 1))) (lv' := [(5, .int (nI (i + 1))), (4, .int (nI ((pl_cnt (fun q => pl_key V j r == pl_key V j q) i) + 1))), (6, .int (nI (pl_key V j i))), (0, .ref (h 0)), (1, .int (nI j)), (3, .int (nI (pl_key V j r)))]) hx hb dX0_lookAlike_65 hl (k := 5) rfl (pn_i1 _) (by decide) rfl (fun ls hl => ?_)
                  refine lv_goto (tgt := 38) hx hb dX0_lookAlike_68 (by decide) ?_
                  exact ih38 (i + 1) (by omega) (by omega) _ _ _ Z (by rw [e1]; exact lv_sub hl [3, 4, 5, 1, 0] rfl)
          exact loop38 (n + 1) 0 (by omega) (Nat.zero_le _) _ _ _ Z (lv_sub hl [3, 4, 2, 1, 0] rfl)
        · have c19 := c19
          refine lv_bipush (v := ((-3))) hx hb dX0_lookAlike_22 (by decide) ?_
          exact hret _ _ _ _ _ (()) dX0_lookAlike_24 (rfl) ((sp_lookAlike_r hj (by first | exact Or.inl c11 | exact Or.inr (Int32.not_lt.mp c19))).symm) Z
    · have c4 : ¬ 0 = 0 := mt (pn_e0 (by omega)).mpr c4
      exact absurd c4 (by decide)
end
section
set_option maxHeartbeats 4000000 in
set_option maxRecDepth 100000 in
theorem mX0_row (l : Launch) (D : va_G) (h : Nat → Nat) (k : Nat → ClassId) (n a b d z : Nat) (V S K O T : Nat → Nat) (x y : Int32) (hn : n ≤ 16) : pl_CI l yX0_row cX0_row 3 .int (rmD 0) D (pl_XT k) [.ref (h 0), .int x, .int y] (pl_X h k n a b d z V S K O T) (fun u : Nat => pl_X h k (sp_row n V S x y).2.1 a b d u (sp_row n V S x y).2.2.1 (sp_row n V S x y).2.2.2 K O T) (fun v u => v = (sp_row n V S x y).1 ∧ (u = 0 ∨ (u = z ∧ (sp_row n V S x y).2 = (n, V, S)))) := by
  refine pl_CI_of (by decide) (Nat.le_of_ble_eq_true rfl) ?_
  intro p e st m below meth c A Q ls C hret Z hl
  have hx := C.1
  have hb := C.2.1
  have hl : lv_has ls 3 [(0, .ref (h 0)), (1, .int x), (2, .int y)] := hl
  refine lv_iload_n hx hb dX0_row_0 rfl (lv_at hl 2 rfl) ?_
  refine lv_if_lt (tgt := 10) hx hb dX0_row_1 (by decide) (fun c1 => ?_) (fun c1 => ?_)
  · have c1 := c1
    refine lv_iconst (v := ((-1))) hx hb dX0_row_10 (by decide) ?_
    have e1 : sp_row n V S x y = (-1, n, V, S) := sp_row_1 (by first | exact Or.inl c1 | exact Or.inr (Int32.not_le.mp c7))
    exact hret _ _ _ _ _ z dX0_row_11 (rfl) (by rw [e1]; exact ⟨rfl, Or.inr ⟨rfl, rfl⟩⟩) (by rw [e1]; exact Z)
  · have c1 := c1
    refine lv_iload_n hx hb dX0_row_4 rfl (lv_at hl 2 rfl) ?_
    refine lv_bipush (v := (nI 7)) hx hb dX0_row_5 (by decide) ?_
    refine lv_icmp_le (tgt := 12) hx hb dX0_row_7 (by decide) (fun c7 => ?_) (fun c7 => ?_)
    · have c7 := c7
      obtain ⟨t, ht, rfl⟩ := pl_y8 (n := 7) (by decide) c1 c7
      refine lv_aload_n hx hb dX0_row_12 rfl (lv_at hl 0 rfl) ?_
      refine px_get C Z 0 rfl 0 (by decide) q28 rfl dX0_row_13 ?_
      refine lv_bipush (v := (nI 16)) hx hb dX0_row_16 (by decide) ?_
      refine lv_icmp_lt (tgt := 24) hx hb dX0_row_18 (by decide) (fun c18 => ?_) (fun c18 => ?_)
      · have c18 : n < 16 := (nI_ltI (by omega) (by omega)).mp c18
        refine lv_aload_n hx hb dX0_row_24 rfl (lv_at hl 0 rfl) ?_
        refine px_get C Z 0 rfl 1 (by decide) q29 rfl dX0_row_25 ?_
        refine lv_aload_n hx hb dX0_row_28 rfl (lv_at hl 0 rfl) ?_
        refine px_get C Z 0 rfl 0 (by decide) q28 rfl dX0_row_29 ?_
        refine lv_iload_n hx hb dX0_row_32 rfl (lv_at hl 1 rfl) ?_
        refine lv_sipush (v := (nI 4095)) hx hb dX0_row_33 (by decide) ?_
        refine lv_iand hx hb dX0_row_36 ?_
        refine pn_top (y := (nI (x.toBitVec.toNat % 2 ^ 12))) (pk_and x 12 (by decide)) ?_
        refine pn_iast C Z 1 0 rfl rfl (by omega) (by decide) dX0_row_37 (fun H locs Z => ?_)
        have Z : pl_Zx D A st (pl_X h k n a b d z (updN V n (x.toBitVec.toNat % 2 ^ 12)) S K O T) H locs := Z
        refine lv_aload_n hx hb dX0_row_38 rfl (lv_at hl 0 rfl) ?_
        refine px_get C Z 0 rfl 2 (by decide) q30 rfl dX0_row_39 ?_
        refine lv_aload_n hx hb dX0_row_42 rfl (lv_at hl 0 rfl) ?_
        refine px_get C Z 0 rfl 0 (by decide) q28 rfl dX0_row_43 ?_
        refine lv_iload_n hx hb dX0_row_46 rfl (lv_at hl 2 rfl) ?_
        refine pn_iast C Z 2 1 rfl rfl (by omega) (by decide) dX0_row_47 (fun H locs Z => ?_)
        have Z : pl_Zx D A st (pl_X h k n a b d z (updN V n (x.toBitVec.toNat % 2 ^ 12)) (updN S n t) K O T) H locs := Z
        refine lv_aload_n hx hb dX0_row_48 rfl (lv_at hl 0 rfl) ?_
        refine lv_dup hx hb dX0_row_49 rfl ?_
        refine px_get C Z 0 rfl 0 (by decide) q28 rfl dX0_row_50 ?_
        refine lv_iconst (v := (nI 1)) hx hb dX0_row_53 (by decide) ?_
        refine pn_add hx hb dX0_row_54 ?_
        refine px_put (ty := .int) C Z 0 rfl 0 (by decide) q28 rfl (by decide +kernel) rfl rfl (Nat.le_of_ble_eq_true rfl) dX0_row_55 (fun H locs Z => ?_)
        have Z : pl_Zx D A st (pl_X h k (n + 1) a b d z (updN V n (x.toBitVec.toNat % 2 ^ 12)) (updN S n t) K O T) H locs := Z
        refine lv_aload_n hx hb dX0_row_58 rfl (lv_at hl 0 rfl) ?_
        refine lv_iconst (v := (nI 0)) hx hb dX0_row_59 (by decide) ?_
        refine px_put (ty := .boolean) C Z 0 rfl 6 (by decide) q34 rfl (by decide +kernel) rfl rfl (Nat.le_of_ble_eq_true rfl) dX0_row_60 (fun H locs Z => ?_)
        have Z : pl_Zx D A st (pl_X h k (n + 1) a b d 0 (updN V n (x.toBitVec.toNat % 2 ^ 12)) (updN S n t) K O T) H locs := Z
        refine lv_aload_n hx hb dX0_row_63 rfl (lv_at hl 0 rfl) ?_
        refine px_get C Z 0 rfl 0 (by decide) q28 rfl dX0_row_64 ?_
        refine lv_iconst (v := (nI 1)) hx hb dX0_row_67 (by decide) ?_
        refine pn_sub hx hb (by omega) dX0_row_68 ?_
        have e1 := sp_row_3 (V := V) (S := S) (x := x) ht c18
        exact hret _ _ _ _ _ 0 dX0_row_69 (rfl) (by rw [e1]; exact ⟨congrArg nI (by omega), Or.inl rfl⟩) (by rw [e1]; exact Z)
      · have c18 : 16 ≤ n := Nat.le_of_not_lt (mt (nI_ltI (by omega) (by omega)).mpr c18)
        refine lv_bipush (v := ((-2))) hx hb dX0_row_21 (by decide) ?_
        have e1 : sp_row n V S x (nI t) = (-2, n, V, S) := sp_row_2 ht c18
        exact hret _ _ _ _ _ z dX0_row_23 (rfl) (by rw [e1]; exact ⟨rfl, Or.inr ⟨rfl, rfl⟩⟩) (by rw [e1]; exact Z)
    · have c7 := c7
      refine lv_iconst (v := ((-1))) hx hb dX0_row_10 (by decide) ?_
      have e1 : sp_row n V S x y = (-1, n, V, S) := sp_row_1 (by first | exact Or.inl c1 | exact Or.inr (Int32.not_le.mp c7))
      exact hret _ _ _ _ _ z dX0_row_11 (rfl) (by rw [e1]; exact ⟨rfl, Or.inr ⟨rfl, rfl⟩⟩) (by rw [e1]; exact Z)
set_option maxHeartbeats 4000000 in
set_option maxRecDepth 100000 in
theorem mX0_drop (l : Launch) (D : va_G) (h : Nat → Nat) (k : Nat → ClassId) (n a b d z : Nat) (V S K O T : Nat → Nat) (hn : n ≤ 16) : pl_CI l yX0_drop cX0_drop 1 .int (rmD 0) D (pl_XT k) [.ref (h 0)] (pl_X h k n a b d z V S K O T) (fun u : Nat => pl_X h k (sp_drop n).2 a b d u V S K O T) (fun v u => v = (sp_drop n).1 ∧ (u = 0 ∨ (u = z ∧ (sp_drop n).2 = n))) := by
  refine pl_CI_of (by decide) (Nat.le_of_ble_eq_true rfl) ?_
  intro p e st m below meth c A Q ls C hret Z hl
  have hx := C.1
  have hb := C.2.1
  have hl : lv_has ls 1 [(0, .ref (h 0))] := hl
  refine lv_aload_n hx hb dX0_drop_0 rfl (lv_at hl 0 rfl) ?_
  refine px_get C Z 0 rfl 0 (by decide) q28 rfl dX0_drop_1 ?_
  refine lv_if_ne (tgt := 10) hx hb dX0_drop_4 (by decide) (fun c4 => ?_) (fun c4 => ?_)
  · have c4 : ¬ n = 0 := mt (pn_e0 (by omega)).mpr c4
    refine lv_aload_n hx hb dX0_drop_10 rfl (lv_at hl 0 rfl) ?_
    refine lv_dup hx hb dX0_drop_11 rfl ?_
    refine px_get C Z 0 rfl 0 (by decide) q28 rfl dX0_drop_12 ?_
    refine lv_iconst (v := (nI 1)) hx hb dX0_drop_15 (by decide) ?_
    refine pn_sub hx hb (by omega) dX0_drop_16 ?_
    refine px_put (ty := .int) C Z 0 rfl 0 (by decide) q28 rfl (by decide +kernel) rfl rfl (Nat.le_of_ble_eq_true rfl) dX0_drop_17 (fun H locs Z => ?_)
    have Z : pl_Zx D A st (pl_X h k (n - 1) a b d z V S K O T) H locs := Z
    refine lv_aload_n hx hb dX0_drop_20 rfl (lv_at hl 0 rfl) ?_
    refine lv_iconst (v := (nI 0)) hx hb dX0_drop_21 (by decide) ?_
    refine px_put (ty := .boolean) C Z 0 rfl 6 (by decide) q34 rfl (by decide +kernel) rfl rfl (Nat.le_of_ble_eq_true rfl) dX0_drop_22 (fun H locs Z => ?_)
    have Z : pl_Zx D A st (pl_X h k (n - 1) a b d 0 V S K O T) H locs := Z
    refine lv_aload_n hx hb dX0_drop_25 rfl (lv_at hl 0 rfl) ?_
    refine px_get C Z 0 rfl 0 (by decide) q28 rfl dX0_drop_26 ?_
    have e1 := sp_drop_1 c4
    exact hret _ _ _ _ _ 0 dX0_drop_29 (rfl) (by rw [e1]; exact ⟨rfl, Or.inl rfl⟩) (by rw [e1]; exact Z)
  · have c4 : n = 0 := (pn_e0 (by omega)).mp c4
    refine lv_bipush (v := ((-3))) hx hb dX0_drop_7 (by decide) ?_
    have e1 := sp_drop_0 c4
    exact hret _ _ _ _ _ z dX0_drop_9 (rfl) (by rw [e1]; exact ⟨rfl, Or.inr ⟨rfl, rfl⟩⟩) (by rw [e1]; exact Z)
set_option maxHeartbeats 4000000 in
set_option maxRecDepth 100000 in
theorem mX0_demand (l : Launch) (D : va_G) (h : Nat → Nat) (k : Nat → ClassId) (n a b d z : Nat) (V S K O T : Nat → Nat) (x y w : Int32)  : pl_CI l yX0_demand cX0_demand 4 .int (rmD 0) D (pl_XT k) [.ref (h 0), .int x, .int y, .int w] (pl_X h k n a b d z V S K O T) (fun u : Nat => pl_X h k n (sp_demand a b d x y w).2.1 (sp_demand a b d x y w).2.2.1 (sp_demand a b d x y w).2.2.2 u V S K O T) (fun v u => v = (sp_demand a b d x y w).1 ∧ (u = 0 ∨ (u = z ∧ (sp_demand a b d x y w).2 = (a, b, d)))) := by
  refine pl_CI_of (by decide) (Nat.le_of_ble_eq_true rfl) ?_
  intro p e st m below meth c A Q ls C hret Z hl
  have hx := C.1
  have hb := C.2.1
  have hl : lv_has ls 4 [(0, .ref (h 0)), (1, .int x), (2, .int y), (3, .int w)] := hl
  refine lv_iload_n hx hb dX0_demand_0 rfl (lv_at hl 1 rfl) ?_
  refine lv_iconst (v := (nI 1)) hx hb dX0_demand_1 (by decide) ?_
  refine lv_icmp_lt (tgt := 32) hx hb dX0_demand_2 (by decide) (fun c2 => ?_) (fun c2 => ?_)
  · have c2 := c2
    refine lv_iconst (v := ((-1))) hx hb dX0_demand_32 (by decide) ?_
    have e1 : sp_demand a b d x y w = (-1, a, b, d) := sp_demand_0 (by first | exact Or.inl c2 | exact Or.inr (Or.inl c8) | exact Or.inr (Or.inr (Or.inl c13)) | exact Or.inr (Or.inr (Or.inr (Or.inl c19))) | exact Or.inr (Or.inr (Or.inr (Or.inr (Or.inl c23)))) | exact Or.inr (Or.inr (Or.inr (Or.inr (Or.inr (Int32.not_le.mp c29))))))
    exact hret _ _ _ _ _ z dX0_demand_33 (rfl) (by rw [e1]; exact ⟨rfl, Or.inr ⟨rfl, rfl⟩⟩) (by rw [e1]; exact Z)
  · have c2 := c2
    refine lv_iload_n hx hb dX0_demand_5 rfl (lv_at hl 1 rfl) ?_
    refine lv_bipush (v := (nI 8)) hx hb dX0_demand_6 (by decide) ?_
    refine lv_icmp_gt (tgt := 32) hx hb dX0_demand_8 (by decide) (fun c8 => ?_) (fun c8 => ?_)
    · have c8 := c8
      refine lv_iconst (v := ((-1))) hx hb dX0_demand_32 (by decide) ?_
      have e1 : sp_demand a b d x y w = (-1, a, b, d) := sp_demand_0 (by first | exact Or.inl c2 | exact Or.inr (Or.inl c8) | exact Or.inr (Or.inr (Or.inl c13)) | exact Or.inr (Or.inr (Or.inr (Or.inl c19))) | exact Or.inr (Or.inr (Or.inr (Or.inr (Or.inl c23)))) | exact Or.inr (Or.inr (Or.inr (Or.inr (Or.inr (Int32.not_le.mp c29))))))
      exact hret _ _ _ _ _ z dX0_demand_33 (rfl) (by rw [e1]; exact ⟨rfl, Or.inr ⟨rfl, rfl⟩⟩) (by rw [e1]; exact Z)
    · have c8 := c8
      refine lv_iload_n hx hb dX0_demand_11 rfl (lv_at hl 2 rfl) ?_
      refine lv_iconst (v := (nI 1)) hx hb dX0_demand_12 (by decide) ?_
      refine lv_icmp_lt (tgt := 32) hx hb dX0_demand_13 (by decide) (fun c13 => ?_) (fun c13 => ?_)
      · have c13 := c13
        refine lv_iconst (v := ((-1))) hx hb dX0_demand_32 (by decide) ?_
        have e1 : sp_demand a b d x y w = (-1, a, b, d) := sp_demand_0 (by first | exact Or.inl c2 | exact Or.inr (Or.inl c8) | exact Or.inr (Or.inr (Or.inl c13)) | exact Or.inr (Or.inr (Or.inr (Or.inl c19))) | exact Or.inr (Or.inr (Or.inr (Or.inr (Or.inl c23)))) | exact Or.inr (Or.inr (Or.inr (Or.inr (Or.inr (Int32.not_le.mp c29))))))
        exact hret _ _ _ _ _ z dX0_demand_33 (rfl) (by rw [e1]; exact ⟨rfl, Or.inr ⟨rfl, rfl⟩⟩) (by rw [e1]; exact Z)
      · have c13 := c13
        refine lv_iload_n hx hb dX0_demand_16 rfl (lv_at hl 2 rfl) ?_
        refine lv_bipush (v := (nI 8)) hx hb dX0_demand_17 (by decide) ?_
        refine lv_icmp_gt (tgt := 32) hx hb dX0_demand_19 (by decide) (fun c19 => ?_) (fun c19 => ?_)
        · have c19 := c19
          refine lv_iconst (v := ((-1))) hx hb dX0_demand_32 (by decide) ?_
          have e1 : sp_demand a b d x y w = (-1, a, b, d) := sp_demand_0 (by first | exact Or.inl c2 | exact Or.inr (Or.inl c8) | exact Or.inr (Or.inr (Or.inl c13)) | exact Or.inr (Or.inr (Or.inr (Or.inl c19))) | exact Or.inr (Or.inr (Or.inr (Or.inr (Or.inl c23)))) | exact Or.inr (Or.inr (Or.inr (Or.inr (Or.inr (Int32.not_le.mp c29))))))
          exact hret _ _ _ _ _ z dX0_demand_33 (rfl) (by rw [e1]; exact ⟨rfl, Or.inr ⟨rfl, rfl⟩⟩) (by rw [e1]; exact Z)
        · have c19 := c19
          refine lv_iload_n hx hb dX0_demand_22 rfl (lv_at hl 3 rfl) ?_
          refine lv_if_lt (tgt := 32) hx hb dX0_demand_23 (by decide) (fun c23 => ?_) (fun c23 => ?_)
          · have c23 := c23
            refine lv_iconst (v := ((-1))) hx hb dX0_demand_32 (by decide) ?_
            have e1 : sp_demand a b d x y w = (-1, a, b, d) := sp_demand_0 (by first | exact Or.inl c2 | exact Or.inr (Or.inl c8) | exact Or.inr (Or.inr (Or.inl c13)) | exact Or.inr (Or.inr (Or.inr (Or.inl c19))) | exact Or.inr (Or.inr (Or.inr (Or.inr (Or.inl c23)))) | exact Or.inr (Or.inr (Or.inr (Or.inr (Or.inr (Int32.not_le.mp c29))))))
            exact hret _ _ _ _ _ z dX0_demand_33 (rfl) (by rw [e1]; exact ⟨rfl, Or.inr ⟨rfl, rfl⟩⟩) (by rw [e1]; exact Z)
          · have c23 := c23
            refine lv_iload_n hx hb dX0_demand_26 rfl (lv_at hl 3 rfl) ?_
            refine lv_bipush (v := (nI 16)) hx hb dX0_demand_27 (by decide) ?_
            refine lv_icmp_le (tgt := 34) hx hb dX0_demand_29 (by decide) (fun c29 => ?_) (fun c29 => ?_)
            · have c29 := c29
              obtain ⟨x1, hx1, hx2, rfl⟩ := pl_y18 c2 c8
              obtain ⟨y1, hy1, hy2, rfl⟩ := pl_y18 c13 c19
              obtain ⟨w1, hw1, rfl⟩ := pl_y8 (n := 16) (by decide) c23 c29
              refine lv_aload_n hx hb dX0_demand_34 rfl (lv_at hl 0 rfl) ?_
              refine lv_iload_n hx hb dX0_demand_35 rfl (lv_at hl 1 rfl) ?_
              refine px_put (ty := .int) C Z 0 rfl 3 (by decide) q31 rfl (by decide +kernel) rfl rfl (Nat.le_of_ble_eq_true rfl) dX0_demand_36 (fun H locs Z => ?_)
              have Z : pl_Zx D A st (pl_X h k n x1 b d z V S K O T) H locs := Z
              refine lv_aload_n hx hb dX0_demand_39 rfl (lv_at hl 0 rfl) ?_
              refine lv_iload_n hx hb dX0_demand_40 rfl (lv_at hl 2 rfl) ?_
              refine px_put (ty := .int) C Z 0 rfl 4 (by decide) q32 rfl (by decide +kernel) rfl rfl (Nat.le_of_ble_eq_true rfl) dX0_demand_41 (fun H locs Z => ?_)
              have Z : pl_Zx D A st (pl_X h k n x1 y1 d z V S K O T) H locs := Z
              refine lv_aload_n hx hb dX0_demand_44 rfl (lv_at hl 0 rfl) ?_
              refine lv_iload_n hx hb dX0_demand_45 rfl (lv_at hl 3 rfl) ?_
              refine px_put (ty := .int) C Z 0 rfl 5 (by decide) q33 rfl (by decide +kernel) rfl rfl (Nat.le_of_ble_eq_true rfl) dX0_demand_46 (fun H locs Z => ?_)
              have Z : pl_Zx D A st (pl_X h k n x1 y1 w1 z V S K O T) H locs := Z
              refine lv_aload_n hx hb dX0_demand_49 rfl (lv_at hl 0 rfl) ?_
              refine lv_iconst (v := (nI 0)) hx hb dX0_demand_50 (by decide) ?_
              refine px_put (ty := .boolean) C Z 0 rfl 6 (by decide) q34 rfl (by decide +kernel) rfl rfl (Nat.le_of_ble_eq_true rfl) dX0_demand_51 (fun H locs Z => ?_)
              have Z : pl_Zx D A st (pl_X h k n x1 y1 w1 0 V S K O T) H locs := Z
              refine lv_iconst (v := (nI 0)) hx hb dX0_demand_54 (by decide) ?_
              have e1 := sp_demand_1 (a := a) (b := b) (d := d) hx1 hx2 hy1 hy2 hw1
              exact hret _ _ _ _ _ 0 dX0_demand_55 (rfl) (by rw [e1]; exact ⟨rfl, Or.inl rfl⟩) (by rw [e1]; exact Z)
            · have c29 := c29
              refine lv_iconst (v := ((-1))) hx hb dX0_demand_32 (by decide) ?_
              have e1 : sp_demand a b d x y w = (-1, a, b, d) := sp_demand_0 (by first | exact Or.inl c2 | exact Or.inr (Or.inl c8) | exact Or.inr (Or.inr (Or.inl c13)) | exact Or.inr (Or.inr (Or.inr (Or.inl c19))) | exact Or.inr (Or.inr (Or.inr (Or.inr (Or.inl c23)))) | exact Or.inr (Or.inr (Or.inr (Or.inr (Or.inr (Int32.not_le.mp c29))))))
              exact hret _ _ _ _ _ z dX0_demand_33 (rfl) (by rw [e1]; exact ⟨rfl, Or.inr ⟨rfl, rfl⟩⟩) (by rw [e1]; exact Z)
end
section
theorem pl_bv_neg {g : Nat → Bool} {i : Nat} (hi : i ≤ 125) (h : pl_bv (pl_bst g i) < 0) (hs : i < 125) : pl_sum i < pl_bl (pl_bst g i) := by
  cases e : pl_bst g i with
  | none =>
    have := pl_sum_le hs
    show pl_sum i < 13
    omega
  | some w =>
    have hw := pl_bst_lt g i w e
    rw [e] at h
    exact absurd h (nI_pos (by omega))
theorem pl_bv_pos {g : Nat → Bool} {i : Nat} (hi : i ≤ 125) (h : ¬ pl_bv (pl_bst g i) < 0) : ∃ w, pl_bst g i = some w ∧ w < 125 := by
  cases e : pl_bst g i with
  | none =>
    rw [e] at h
    exact absurd (show (-5 : Int32) < 0 by decide) h
  | some w =>
    have hw := pl_bst_lt g i w e
    exact ⟨w, rfl, by omega⟩
end
section
set_option maxHeartbeats 4000000 in
set_option maxRecDepth 100000 in
theorem mX1_isSetting (l : Launch) (D : va_G) (h : Nat → Nat) (k : Nat → ClassId) (n a b d : Nat) (V S F : Nat → Nat) (x : Int32)  : pl_CI l yX1_isSetting cX1_isSetting 2 .boolean (rmD 0) D (pl_MT k) [.ref (h 0), .int x] (pl_M h k n a b d (pl_at V) S F) (fun _ : Unit => pl_M h k n a b d (pl_at V) S F) (fun v _ => (v = nI 0 ∧ (x < 0 ∨ nI 125 ≤ x)) ∨ (v = nI 1 ∧ ∃ j, j < 125 ∧ x = nI j)) := by
  refine pl_CI_of (by decide) (Nat.le_of_ble_eq_true rfl) ?_
  intro p e st m below meth c A Q ls C hret Z hl
  have hx := C.1
  have hb := C.2.1
  have hl : lv_has ls 2 [(0, .ref (h 0)), (1, .int x)] := hl
  refine lv_iload_n hx hb dX1_isSetting_0 rfl (lv_at hl 1 rfl) ?_
  refine lv_if_lt (tgt := 14) hx hb dX1_isSetting_1 (by decide) (fun c1 => ?_) (fun c1 => ?_)
  · have c1 := c1
    refine lv_iconst (v := (nI 0)) hx hb dX1_isSetting_14 (by decide) ?_
    exact hret _ _ _ _ _ (()) dX1_isSetting_15 (rfl) (by first | exact Or.inl ⟨rfl, Or.inl c1⟩ | exact Or.inl ⟨rfl, Or.inr c7⟩ | exact Or.inr ⟨rfl, sp_in (fun q => q.elim c1 c7)⟩) Z
  · have c1 := c1
    refine lv_iload_n hx hb dX1_isSetting_4 rfl (lv_at hl 1 rfl) ?_
    refine lv_bipush (v := (nI 125)) hx hb dX1_isSetting_5 (by decide) ?_
    refine lv_icmp_ge (tgt := 14) hx hb dX1_isSetting_7 (by decide) (fun c7 => ?_) (fun c7 => ?_)
    · have c7 := c7
      refine lv_iconst (v := (nI 0)) hx hb dX1_isSetting_14 (by decide) ?_
      exact hret _ _ _ _ _ (()) dX1_isSetting_15 (rfl) (by first | exact Or.inl ⟨rfl, Or.inl c1⟩ | exact Or.inl ⟨rfl, Or.inr c7⟩ | exact Or.inr ⟨rfl, sp_in (fun q => q.elim c1 c7)⟩) Z
    · have c7 := c7
      refine lv_iconst (v := (nI 1)) hx hb dX1_isSetting_10 (by decide) ?_
      refine lv_goto (tgt := 15) hx hb dX1_isSetting_11 (by decide) ?_
      exact hret _ _ _ _ _ (()) dX1_isSetting_15 (rfl) (by first | exact Or.inl ⟨rfl, Or.inl c1⟩ | exact Or.inl ⟨rfl, Or.inr c7⟩ | exact Or.inr ⟨rfl, sp_in (fun q => q.elim c1 c7)⟩) Z
set_option maxHeartbeats 4000000 in
set_option maxRecDepth 100000 in
theorem mX1_level (l : Launch) (D : va_G) (h : Nat → Nat) (k : Nat → ClassId) (n a b d : Nat) (V S F : Nat → Nat) (g j : Nat) (hg : g < 125) (hj : j < 3) : pl_CI l yX1_level cX1_level 3 .int (rmD 0) D (pl_MT k) [.ref (h 0), .int (nI g), .int (nI j)] (pl_M h k n a b d (pl_at V) S F) (fun _ : Unit => pl_M h k n a b d (pl_at V) S F) (fun v _ => v = nI (pl_lev g j)) := by
  refine pl_CI_of (by decide) (Nat.le_of_ble_eq_true rfl) ?_
  intro p e st m below meth c A Q ls C hret Z hl
  have hx := C.1
  have hb := C.2.1
  have hl : lv_has ls 3 [(0, .ref (h 0)), (1, .int (nI g)), (2, .int (nI j))] := hl
  refine lv_iload_n hx hb dX1_level_0 rfl (lv_at hl 2 rfl) ?_
  refine lv_if_ne (tgt := 10) hx hb dX1_level_1 (by decide) (fun c1 => ?_) (fun c1 => ?_)
  · have c1 : ¬ j = 0 := mt (pn_e0 (by omega)).mpr c1
    refine lv_iload_n hx hb dX1_level_10 rfl (lv_at hl 2 rfl) ?_
    refine lv_iconst (v := (nI 1)) hx hb dX1_level_11 (by decide) ?_
    refine lv_icmp_ne (tgt := 23) hx hb dX1_level_12 (by decide) (fun c12 => ?_) (fun c12 => ?_)
    · have c12 : ¬ j = 1 := mt (nI_eq (by omega) (by omega)).mpr c12
      refine lv_iload_n hx hb dX1_level_23 rfl (lv_at hl 1 rfl) ?_
      refine lv_bipush (v := (nI 25)) hx hb dX1_level_24 (by decide) ?_
      refine pn_div hx hb (by omega) (by omega) (by omega) dX1_level_26 ?_
      exact hret _ _ _ _ _ (()) dX1_level_27 (rfl) (by first | (subst c1; rfl) | (subst c11; rfl) | (subst c12; rfl) | (unfold pl_lev; rw [if_neg c1, if_neg c12])) Z
    · have c12 : j = 1 := (nI_eq (by omega) (by omega)).mp c12
      refine lv_iload_n hx hb dX1_level_15 rfl (lv_at hl 1 rfl) ?_
      refine lv_iconst (v := (nI 5)) hx hb dX1_level_16 (by decide) ?_
      refine pn_div hx hb (by omega) (by omega) (by omega) dX1_level_17 ?_
      refine lv_iconst (v := (nI 5)) hx hb dX1_level_18 (by decide) ?_
      refine pn_rem hx hb (by omega) (by omega) (by omega) dX1_level_19 ?_
      refine lv_goto (tgt := 27) hx hb dX1_level_20 (by decide) ?_
      exact hret _ _ _ _ _ (()) dX1_level_27 (rfl) (by first | (subst c1; rfl) | (subst c11; rfl) | (subst c12; rfl) | (unfold pl_lev; rw [if_neg c1, if_neg c12])) Z
  · have c1 : j = 0 := (pn_e0 (by omega)).mp c1
    refine lv_iload_n hx hb dX1_level_4 rfl (lv_at hl 1 rfl) ?_
    refine lv_iconst (v := (nI 5)) hx hb dX1_level_5 (by decide) ?_
    refine pn_rem hx hb (by omega) (by omega) (by omega) dX1_level_6 ?_
    refine lv_goto (tgt := 27) hx hb dX1_level_7 (by decide) ?_
    exact hret _ _ _ _ _ (()) dX1_level_27 (rfl) (by first | (subst c1; rfl) | (subst c11; rfl) | (subst c12; rfl) | (unfold pl_lev; rw [if_neg c1, if_neg c12])) Z
set_option maxHeartbeats 4000000 in
set_option maxRecDepth 100000 in
theorem mX1_alike (l : Launch) (D : va_G) (h : Nat → Nat) (k : Nat → ClassId) (n a b d : Nat) (V S F : Nat → Nat) (g r q : Nat) (hg : g < 125) (hr : r < 16) (hq : q < 16) : pl_CI l yX1_alike cX1_alike 6 .boolean (rmD 1) D (pl_MT k) [.ref (h 0), .int (nI g), .int (nI r), .int (nI q)] (pl_M h k n a b d (pl_at V) S F) (fun _ : Unit => pl_M h k n a b d (pl_at V) S F) (fun v _ => v = nI (pl_key V g r == pl_key V g q).toNat) := by
  refine pl_CI_of (by decide) (Nat.le_of_ble_eq_true rfl) ?_
  intro p e st m below meth c A Q ls C hret Z hl
  have hx := C.1
  have hb := C.2.1
  have hl : lv_has ls 6 [(0, .ref (h 0)), (1, .int (nI g)), (2, .int (nI r)), (3, .int (nI q))] := hl
  refine lv_iconst (v := (nI 0)) hx hb dX1_alike_0 (by decide) ?_
  refine lv_istore (lv' := [(4, .int (nI 0)), (0, .ref (h 0)), (1, .int (nI g)), (2, .int (nI r)), (3, .int (nI q))]) hx hb dX1_alike_1 hl (by decide) rfl (fun ls hl => ?_)
  have loop3 : ∀ (f : Nat) (i : Nat), 3 < i + f → (i ≤ 3) → (∀ a, a < i → pl_D (V r) g a = pl_D (V q) g a) → ∀ (H : Heap) (locs : List Loc) (ls : Array Slot), pl_Zx D A st (pl_M h k n a b d (pl_at V) S F) H locs → lv_has ls 6 [(0, .ref (h 0)), (1, .int (nI g)), (2, .int (nI r)), (3, .int (nI q)), (4, .int (nI i))] → W p l e (rmD 1) st m ([.ref (h 0), .int (nI g), .int (nI r), .int (nI q)] : List Value).toArray below meth c H locs 0 0 Q (F0 m 3 ls []) := by
    intro f
    induction f with
    | zero =>
      intro i hf hi hv
      exact absurd hf (by omega)
    | succ f ih3 =>
      intro i hf hi hv H locs ls Z hl
      refine lv_iload hx hb dX1_alike_3 (lv_at hl 4 rfl) ?_
      refine lv_iconst (v := (nI 3)) hx hb dX1_alike_5 (by decide) ?_
      refine lv_icmp_ge (tgt := 59) hx hb dX1_alike_6 (by decide) (fun c6 => ?_) (fun c6 => ?_)
      · have c6 : 3 ≤ i := (nI_leI (by omega) (by omega)).mp c6
        refine lv_iconst (v := (nI 1)) hx hb dX1_alike_59 (by decide) ?_
        exact hret _ _ _ _ _ (()) dX1_alike_60 (rfl) (pn_t1 (pl_al_y (fun a ha => hv a (by omega)))) Z
      · have c6 : i < 3 := Nat.lt_of_not_le (mt (nI_leI (by omega) (by omega)).mpr c6)
        refine lv_iconst (v := (nI 1)) hx hb dX1_alike_9 (by decide) ?_
        refine lv_aload_n hx hb dX1_alike_10 rfl (lv_at hl 0 rfl) ?_
        refine lv_iload_n hx hb dX1_alike_11 rfl (lv_at hl 1 rfl) ?_
        refine lv_iload hx hb dX1_alike_12 (lv_at hl 4 rfl) ?_
        refine pl_callV (q0 := 0) (rest := [.int (nI 1)]) (mX1_level l D h k n a b d V S F g i hg c6) C Z rfl rfl rfl (lw_V q210 q212 qs12 q19 q213) 2 rfl (by decide +kernel) (by decide) ⟨rfl, rfl⟩ hl (Nat.le_of_ble_eq_true rfl) rfl dX1_alike_14 (fun v14 u H locs hp Z => ?_)
        obtain _ := u
        try dsimp only at hp
        subst hp
        have Z : pl_Zx D A st (pl_M h k n a b d (pl_at V) S F) H locs := Z
        have l1 := pl_lev_le hg i
        have l2 : 2 ^ pl_lev g i ≤ 2 ^ 4 := Nat.pow_le_pow_right (by decide) l1
        have l3 : 0 < 2 ^ pl_lev g i := Nat.pow_pos (by decide)
        have r1 : V r / 2 ^ (4 * i) % 2 ^ 4 < 2 ^ 4 := Nat.mod_lt _ (by decide)
        have q1 : V q / 2 ^ (4 * i) % 2 ^ 4 < 2 ^ 4 := Nat.mod_lt _ (by decide)
        refine pn_shl hx hb (by omega) (by omega) dX1_alike_17 ?_
        refine pn_top (y := (nI (2 ^ pl_lev g i))) (by rw [Nat.one_mul]) ?_
        refine lv_istore (lv' := [(5, .int (nI (2 ^ pl_lev g i))), (0, .ref (h 0)), (1, .int (nI g)), (2, .int (nI r)), (3, .int (nI q)), (4, .int (nI i))]) hx hb dX1_alike_18 hl (by decide) rfl (fun ls hl => ?_)
        refine lv_aload_n hx hb dX1_alike_20 rfl (lv_at hl 1 rfl) ?_
        refine pm_get C Z 0 rfl 0 (by decide) q159 rfl dX1_alike_21 ?_
        refine lv_iload_n hx hb dX1_alike_24 rfl (lv_at hl 3 rfl) ?_
        refine lv_iconst (v := (nI 3)) hx hb dX1_alike_25 (by decide) ?_
        refine pn_mul hx hb dX1_alike_26 ?_
        refine lv_iload hx hb dX1_alike_27 (lv_at hl 5 rfl) ?_
        refine pn_add hx hb dX1_alike_29 ?_
        refine pn_iald C Z 1 0 rfl rfl (by omega) (by decide) dX1_alike_30 ?_
        refine pn_top (y := (nI (V r / 2 ^ (4 * i) % 2 ^ 4))) (congrArg nI (pl_at_ri V r i c6)) ?_
        refine lv_iload hx hb dX1_alike_31 (lv_at hl 0 rfl) ?_
        refine pn_div hx hb (by omega) (by omega) (by omega) dX1_alike_33 ?_
        refine pn_top (y := (nI (pl_D (V r) g i))) (rfl) ?_
        refine lv_aload_n hx hb dX1_alike_34 rfl (lv_at hl 1 rfl) ?_
        refine pm_get C Z 0 rfl 0 (by decide) q159 rfl dX1_alike_35 ?_
        refine lv_iload_n hx hb dX1_alike_38 rfl (lv_at hl 4 rfl) ?_
        refine lv_iconst (v := (nI 3)) hx hb dX1_alike_39 (by decide) ?_
        refine pn_mul hx hb dX1_alike_40 ?_
        refine lv_iload hx hb dX1_alike_41 (lv_at hl 5 rfl) ?_
        refine pn_add hx hb dX1_alike_43 ?_
        refine pn_iald C Z 1 0 rfl rfl (by omega) (by decide) dX1_alike_44 ?_
        refine pn_top (y := (nI (V q / 2 ^ (4 * i) % 2 ^ 4))) (congrArg nI (pl_at_ri V q i c6)) ?_
        refine lv_iload hx hb dX1_alike_45 (lv_at hl 0 rfl) ?_
        refine pn_div hx hb (by omega) (by omega) (by omega) dX1_alike_47 ?_
        refine pn_top (y := (nI (pl_D (V q) g i))) (rfl) ?_
        have d1 := pl_D_lt (V r) g i
        have d2 := pl_D_lt (V q) g i
        refine lv_icmp_eq (tgt := 53) hx hb dX1_alike_48 (by decide) (fun c48 => ?_) (fun c48 => ?_)
        · have c48 : (pl_D (V r) g i) = (pl_D (V q) g i) := (nI_eq (by omega) (by omega)).mp c48
          refine lv_iinc (v := (nI (i + 1))) (lv' := [(4, .int (nI (i + 1))), (5, .int (nI (2 ^ pl_lev g i))), (0, .ref (h 0)), (1, .int (nI g)), (2, .int (nI r)), (3, .int (nI q))]) hx hb dX1_alike_53 hl (k := 5) rfl (pn_i1 _) (by decide) rfl (fun ls hl => ?_)
          refine lv_goto (tgt := 3) hx hb dX1_alike_56 (by decide) ?_
          exact ih3 (i + 1) (by omega) (by omega) (lt_s hv c48) _ _ _ Z (lv_sub hl [2, 3, 4, 5, 0] rfl)
        · have c48 : ¬ (pl_D (V r) g i) = (pl_D (V q) g i) := mt (nI_eq (by omega) (by omega)).mpr c48
          refine lv_iconst (v := (nI 0)) hx hb dX1_alike_51 (by decide) ?_
          exact hret _ _ _ _ _ (()) dX1_alike_52 (rfl) (pn_t0 (pl_al_n c6 c48)) Z
  exact loop3 4 0 (by omega) (by omega) (fun a ha => absurd ha (by omega)) _ _ _ Z (lv_sub hl [1, 2, 3, 4, 0] rfl)
end
section
set_option maxHeartbeats 4000000 in
set_option maxRecDepth 100000 in
theorem mX1_hidden (l : Launch) (D : va_G) (h : Nat → Nat) (k : Nat → ClassId) (n a b d : Nat) (V S F : Nat → Nat) (g r : Nat) (hg : g < 125) (hr : r < 16) (hn : n ≤ 16) (hS : ∀ i, S i < 8) (ha8 : a ≤ 8) (hb8 : b ≤ 8) : pl_CI l yX1_hidden cX1_hidden 7 .boolean (rmD 2) D (pl_MT k) [.ref (h 0), .int (nI g), .int (nI r)] (pl_M h k n a b d (pl_at V) S F) (fun _ : Unit => pl_M h k n a b d (pl_at V) S F) (fun v _ => v = nI (pl_hid n (pl_key V g) S a b (pl_key V g r)).toNat) := by
  refine pl_CI_of (by decide) (Nat.le_of_ble_eq_true rfl) ?_
  intro p e st m below meth c A Q ls C hret Z hl
  have hx := C.1
  have hb := C.2.1
  have hl : lv_has ls 7 [(0, .ref (h 0)), (1, .int (nI g)), (2, .int (nI r))] := hl
  refine lv_iconst (v := (nI 0)) hx hb dX1_hidden_0 (by decide) ?_
  refine lv_istore_n (lv' := [(3, .int (nI 0)), (0, .ref (h 0)), (1, .int (nI g)), (2, .int (nI r))]) hx hb dX1_hidden_1 rfl hl (by decide) rfl (fun ls hl => ?_)
  refine lv_iconst (v := (nI 0)) hx hb dX1_hidden_2 (by decide) ?_
  refine lv_istore (lv' := [(4, .int (nI 0)), (3, .int (nI 0)), (0, .ref (h 0)), (1, .int (nI g)), (2, .int (nI r))]) hx hb dX1_hidden_3 hl (by decide) rfl (fun ls hl => ?_)
  refine lv_iconst (v := (nI 0)) hx hb dX1_hidden_5 (by decide) ?_
  refine lv_istore (lv' := [(5, .int (nI 0)), (4, .int (nI 0)), (3, .int (nI 0)), (0, .ref (h 0)), (1, .int (nI g)), (2, .int (nI r))]) hx hb dX1_hidden_6 hl (by decide) rfl (fun ls hl => ?_)
  have loop8 : ∀ (f : Nat) (i : Nat) (mk : Nat), n < i + f → (i ≤ n) → (mk < 2 ^ 8) → ((∀ t, mk.testBit t = pl_ex (fun q => ((pl_key V g r) == (pl_key V g) q) && (S q == t)) i)) → ∀ (H : Heap) (locs : List Loc) (ls : Array Slot), pl_Zx D A st (pl_M h k n a b d (pl_at V) S F) H locs → lv_has ls 7 [(0, .ref (h 0)), (1, .int (nI g)), (2, .int (nI r)), (3, .int (nI (pl_cnt (fun q => (pl_key V g r) == (pl_key V g) q) i))), (4, .int (nI mk)), (5, .int (nI i))] → W p l e (rmD 2) st m ([.ref (h 0), .int (nI g), .int (nI r)] : List Value).toArray below meth c H locs 0 0 Q (F0 m 8 ls []) := by
    intro f
    induction f with
    | zero =>
      intro i mk hf hi hm hv
      exact absurd hf (by omega)
    | succ f ih8 =>
      intro i mk hf hi hm hv H locs ls Z hl
      refine lv_iload hx hb dX1_hidden_8 (lv_at hl 5 rfl) ?_
      refine lv_aload_n hx hb dX1_hidden_10 rfl (lv_at hl 0 rfl) ?_
      refine pm_get C Z 0 rfl 2 (by decide) q161 rfl dX1_hidden_11 ?_
      refine lv_icmp_ge (tgt := 51) hx hb dX1_hidden_14 (by decide) (fun c14 => ?_) (fun c14 => ?_)
      · have c14 : n ≤ i := (nI_leI (by omega) (by omega)).mp c14
        refine lv_iconst (v := (nI 0)) hx hb dX1_hidden_51 (by decide) ?_
        refine lv_istore (lv' := [(5, .int (nI 0)), (0, .ref (h 0)), (1, .int (nI g)), (2, .int (nI r)), (3, .int (nI (pl_cnt (fun q => (pl_key V g r) == (pl_key V g) q) i))), (4, .int (nI mk))]) hx hb dX1_hidden_52 hl (by decide) rfl (fun ls hl => ?_)
        refine lv_iconst (v := (nI 0)) hx hb dX1_hidden_54 (by decide) ?_
        refine lv_istore (lv' := [(6, .int (nI 0)), (5, .int (nI 0)), (0, .ref (h 0)), (1, .int (nI g)), (2, .int (nI r)), (3, .int (nI (pl_cnt (fun q => (pl_key V g r) == (pl_key V g) q) i))), (4, .int (nI mk))]) hx hb dX1_hidden_55 hl (by decide) rfl (fun ls hl => ?_)
        have loop57 : ∀ (f : Nat) (t : Nat), 8 < t + f → (t ≤ 8) → ∀ (H : Heap) (locs : List Loc) (ls : Array Slot), pl_Zx D A st (pl_M h k n a b d (pl_at V) S F) H locs → lv_has ls 7 [(0, .ref (h 0)), (3, .int (nI (pl_cnt (fun q => (pl_key V g r) == (pl_key V g) q) i))), (4, .int (nI mk)), (5, .int (nI (pl_cnt mk.testBit t))), (6, .int (nI t))] → W p l e (rmD 2) st m ([.ref (h 0), .int (nI g), .int (nI r)] : List Value).toArray below meth c H locs 0 0 Q (F0 m 57 ls []) := by
          intro f
          induction f with
          | zero =>
            intro t hf ht
            exact absurd hf (by omega)
          | succ f ih57 =>
            intro t hf ht H locs ls Z hl
            refine lv_iload hx hb dX1_hidden_57 (lv_at hl 4 rfl) ?_
            refine lv_bipush (v := (nI 8)) hx hb dX1_hidden_59 (by decide) ?_
            refine lv_icmp_ge (tgt := 82) hx hb dX1_hidden_61 (by decide) (fun c61 => ?_) (fun c61 => ?_)
            · have c61 : 8 ≤ t := (nI_leI (by omega) (by omega)).mp c61
              have ei : i = n := by omega
              have et : t = 8 := by omega
              have ek := pl_exs_e hv
              rw [← et] at ek
              have es : pl_cnt (fun q => (pl_key V g r) == (pl_key V g) q) i = pl_sz i (pl_key V g) (pl_key V g r) := rfl
              have sl := pl_sz_le i (pl_key V g) (pl_key V g r)
              have kl := pl_kd_le i (pl_key V g) S (pl_key V g r)
              refine lv_iload_n hx hb dX1_hidden_82 rfl (lv_at hl 1 rfl) ?_
              refine lv_aload_n hx hb dX1_hidden_83 rfl (lv_at hl 0 rfl) ?_
              refine pm_get C Z 0 rfl 3 (by decide) q162 rfl dX1_hidden_84 ?_
              refine lv_icmp_lt (tgt := 103) hx hb dX1_hidden_87 (by decide) (fun c87 => ?_) (fun c87 => ?_)
              · have c87 : (pl_cnt (fun q => (pl_key V g r) == (pl_key V g) q) i) < a := (nI_ltI (by omega) (by omega)).mp c87
                refine lv_iconst (v := (nI 0)) hx hb dX1_hidden_103 (by decide) ?_
                have eh : pl_hid i (pl_key V g) S a b (pl_key V g r) = false := by first | exact pl_hid_f1 (by omega) | exact pl_hid_f2 (by omega)
                exact hret _ _ _ _ _ (()) dX1_hidden_104 (rfl) (pn_t0 (fun q => by rw [← ei, eh] at q; cases q)) Z
              · have c87 : a ≤ (pl_cnt (fun q => (pl_key V g r) == (pl_key V g) q) i) := Nat.le_of_not_lt (mt (nI_ltI (by omega) (by omega)).mpr c87)
                refine lv_iload hx hb dX1_hidden_90 (lv_at hl 3 rfl) ?_
                refine lv_aload_n hx hb dX1_hidden_92 rfl (lv_at hl 0 rfl) ?_
                refine pm_get C Z 0 rfl 4 (by decide) q163 rfl dX1_hidden_93 ?_
                refine lv_icmp_lt (tgt := 103) hx hb dX1_hidden_96 (by decide) (fun c96 => ?_) (fun c96 => ?_)
                · have c96 : (pl_cnt mk.testBit t) < b := (nI_ltI (by omega) (by omega)).mp c96
                  refine lv_iconst (v := (nI 0)) hx hb dX1_hidden_103 (by decide) ?_
                  have eh : pl_hid i (pl_key V g) S a b (pl_key V g r) = false := by first | exact pl_hid_f1 (by omega) | exact pl_hid_f2 (by omega)
                  exact hret _ _ _ _ _ (()) dX1_hidden_104 (rfl) (pn_t0 (fun q => by rw [← ei, eh] at q; cases q)) Z
                · have c96 : b ≤ (pl_cnt mk.testBit t) := Nat.le_of_not_lt (mt (nI_ltI (by omega) (by omega)).mpr c96)
                  refine lv_iconst (v := (nI 1)) hx hb dX1_hidden_99 (by decide) ?_
                  refine lv_goto (tgt := 104) hx hb dX1_hidden_100 (by decide) ?_
                  exact hret _ _ _ _ _ (()) dX1_hidden_104 (rfl) (pn_t1 (by rw [← ei]; exact pl_hid_t (by omega) (by omega))) Z
            · have c61 : t < 8 := Nat.lt_of_not_le (mt (nI_leI (by omega) (by omega)).mpr c61)
              refine lv_iload hx hb dX1_hidden_64 (lv_at hl 3 rfl) ?_
              refine lv_iload hx hb dX1_hidden_66 (lv_at hl 2 rfl) ?_
              refine lv_iload hx hb dX1_hidden_68 (lv_at hl 4 rfl) ?_
              refine pn_shr hx hb (by omega) (by omega) dX1_hidden_70 ?_
              refine lv_iconst (v := (nI 1)) hx hb dX1_hidden_71 (by decide) ?_
              refine pn_and hx hb 1 (Nat.lt_of_le_of_lt (Nat.div_le_self _ _) (by omega)) (by decide) dX1_hidden_72 ?_
              refine pn_add hx hb dX1_hidden_73 ?_
              refine pn_top (y := (nI (pl_cnt mk.testBit (t + 1)))) (congrArg nI (pl_mask_s _ _)) ?_
              refine lv_istore (lv' := [(5, .int (nI (pl_cnt mk.testBit (t + 1)))), (0, .ref (h 0)), (3, .int (nI (pl_cnt (fun q => (pl_key V g r) == (pl_key V g) q) i))), (4, .int (nI mk)), (6, .int (nI t))]) hx hb dX1_hidden_74 hl (by decide) rfl (fun ls hl => ?_)
              refine lv_iinc (v := (nI (t + 1))) (lv' := [(6, .int (nI (t + 1))), (5, .int (nI (pl_cnt mk.testBit (t + 1)))), (0, .ref (h 0)), (3, .int (nI (pl_cnt (fun q => (pl_key V g r) == (pl_key V g) q) i))), (4, .int (nI mk))]) hx hb dX1_hidden_76 hl (k := 4) rfl (pn_i1 _) (by decide) rfl (fun ls hl => ?_)
              refine lv_goto (tgt := 57) hx hb dX1_hidden_79 (by decide) ?_
              exact ih57 (t + 1) (by omega) (by omega) _ _ _ Z (lv_sub hl [2, 3, 4, 1, 0] rfl)
        exact loop57 9 0 (by omega) (Nat.zero_le _) _ _ _ Z (lv_sub hl [2, 5, 6, 1, 0] rfl)
      · have c14 : i < n := Nat.lt_of_not_le (mt (nI_leI (by omega) (by omega)).mpr c14)
        refine lv_aload_n hx hb dX1_hidden_17 rfl (lv_at hl 0 rfl) ?_
        refine lv_iload_n hx hb dX1_hidden_18 rfl (lv_at hl 1 rfl) ?_
        refine lv_iload_n hx hb dX1_hidden_19 rfl (lv_at hl 2 rfl) ?_
        refine lv_iload hx hb dX1_hidden_20 (lv_at hl 5 rfl) ?_
        refine pl_callV (q0 := 0) (rest := []) (mX1_alike l D h k n a b d V S F g r i hg hr (by omega)) C Z rfl rfl rfl (lw_V q206 q208 qs11 q19 q209) 3 rfl (by decide +kernel) (by decide) ⟨rfl, rfl⟩ hl (Nat.le_of_ble_eq_true rfl) rfl dX1_hidden_22 (fun v22 u H locs hp Z => ?_)
        obtain _ := u
        try dsimp only at hp
        subst hp
        have Z : pl_Zx D A st (pl_M h k n a b d (pl_at V) S F) H locs := Z
        refine lv_if_eq (tgt := 45) hx hb dX1_hidden_25 (by decide) (fun c25 => ?_) (fun c25 => ?_)
        · have c25 : (pl_key V g r == pl_key V g i) = false := pn_b0.mp c25
          have e1 := pl_cnt_f (P := fun q => (pl_key V g r) == (pl_key V g) q) (i := i) c25
          refine lv_iinc (v := (nI (i + 1))) (lv' := [(5, .int (nI (i + 1))), (0, .ref (h 0)), (1, .int (nI g)), (2, .int (nI r)), (3, .int (nI (pl_cnt (fun q => (pl_key V g r) == (pl_key V g) q) i))), (4, .int (nI mk))]) hx hb dX1_hidden_45 hl (k := 5) rfl (pn_i1 _) (by decide) rfl (fun ls hl => ?_)
          refine lv_goto (tgt := 8) hx hb dX1_hidden_48 (by decide) ?_
          exact ih8 (i + 1) mk (by omega) (by omega) (hm) (pl_exs_n hv c25) _ _ _ Z (by rw [e1]; exact lv_sub hl [1, 2, 3, 4, 5, 0] rfl)
        · have c25 : (pl_key V g r == pl_key V g i) = true := pn_b1.mp c25
          have e1 := pl_cnt_t (P := fun q => (pl_key V g r) == (pl_key V g) q) (i := i) c25
          have s1 := hS i
          refine lv_iinc (v := (nI ((pl_cnt (fun q => (pl_key V g r) == (pl_key V g) q) i) + 1))) (lv' := [(3, .int (nI ((pl_cnt (fun q => (pl_key V g r) == (pl_key V g) q) i) + 1))), (0, .ref (h 0)), (1, .int (nI g)), (2, .int (nI r)), (4, .int (nI mk)), (5, .int (nI i))]) hx hb dX1_hidden_28 hl (k := 3) rfl (pn_i1 _) (by decide) rfl (fun ls hl => ?_)
          refine lv_iload hx hb dX1_hidden_31 (lv_at hl 4 rfl) ?_
          refine lv_iconst (v := (nI 1)) hx hb dX1_hidden_33 (by decide) ?_
          refine lv_aload_n hx hb dX1_hidden_34 rfl (lv_at hl 1 rfl) ?_
          refine pm_get C Z 0 rfl 1 (by decide) q160 rfl dX1_hidden_35 ?_
          refine lv_iload hx hb dX1_hidden_38 (lv_at hl 5 rfl) ?_
          refine pn_iald C Z 2 1 rfl rfl (by omega) (by decide) dX1_hidden_40 ?_
          refine pn_shl hx hb (by omega) (pl_1sh s1) dX1_hidden_41 ?_
          refine pn_or hx hb dX1_hidden_42 ?_
          refine lv_istore (lv' := [(4, .int (nI (mk ||| (1 * 2 ^ (S i))))), (3, .int (nI ((pl_cnt (fun q => (pl_key V g r) == (pl_key V g) q) i) + 1))), (0, .ref (h 0)), (1, .int (nI g)), (2, .int (nI r)), (5, .int (nI i))]) hx hb dX1_hidden_43 hl (by decide) rfl (fun ls hl => ?_)
          refine lv_iinc (v := (nI (i + 1))) (lv' := [(5, .int (nI (i + 1))), (4, .int (nI (mk ||| (1 * 2 ^ (S i))))), (3, .int (nI ((pl_cnt (fun q => (pl_key V g r) == (pl_key V g) q) i) + 1))), (0, .ref (h 0)), (1, .int (nI g)), (2, .int (nI r))]) hx hb dX1_hidden_45 hl (k := 5) rfl (pn_i1 _) (by decide) rfl (fun ls hl => ?_)
          refine lv_goto (tgt := 8) hx hb dX1_hidden_48 (by decide) ?_
          exact ih8 (i + 1) (mk ||| (1 * 2 ^ (S i))) (by omega) (by omega) (pl_mask_lt hm s1) (pl_exs_y hv c25) _ _ _ Z (by rw [e1]; exact lv_sub hl [3, 4, 5, 2, 1, 0] rfl)
  exact loop8 (n + 1) 0 0 (by omega) (by omega) (by decide) (fun t => by rw [Nat.zero_testBit]; rfl) _ _ _ Z (lv_sub hl [3, 4, 5, 2, 1, 0] rfl)
set_option maxHeartbeats 4000000 in
set_option maxRecDepth 100000 in
theorem mX1_leftOut (l : Launch) (D : va_G) (h : Nat → Nat) (k : Nat → ClassId) (n a b d : Nat) (V S F : Nat → Nat) (x : Int32) (hn : n ≤ 16) (hS : ∀ i, S i < 8) (ha8 : a ≤ 8) (hb8 : b ≤ 8) : pl_CI l yX1_leftOut cX1_leftOut 4 .int (rmD 3) D (pl_MT k) [.ref (h 0), .int x] (pl_M h k n a b d (pl_at V) S F) (fun _ : Unit => pl_M h k n a b d (pl_at V) S F) (fun v _ => v = sp_leftOut n V S a b x) := by
  refine pl_CI_of (by decide) (Nat.le_of_ble_eq_true rfl) ?_
  intro p e st m below meth c A Q ls C hret Z hl
  have hx := C.1
  have hb := C.2.1
  have hl : lv_has ls 4 [(0, .ref (h 0)), (1, .int x)] := hl
  refine lv_aload_n hx hb dX1_leftOut_0 rfl (lv_at hl 0 rfl) ?_
  refine lv_iload_n hx hb dX1_leftOut_1 rfl (lv_at hl 1 rfl) ?_
  refine pl_callV (q0 := 0) (rest := []) (mX1_isSetting l D h k n a b d V S F x) C Z rfl rfl rfl (lw_V q198 q200 qs9 q19 q201) 1 rfl (by decide +kernel) (by decide) ⟨rfl, rfl⟩ hl (Nat.le_of_ble_eq_true rfl) rfl dX1_leftOut_2 (fun v2 u H locs hp Z => ?_)
  rcases hp with hp | hp
  · obtain ⟨rfl, hbad⟩ := hp
    have Z : pl_Zx D A st (pl_M h k n a b d (pl_at V) S F) H locs := Z
    refine lv_if_ne (tgt := 11) hx hb dX1_leftOut_5 (by decide) (fun c5 => ?_) (fun c5 => ?_)
    · have c5 : ¬ 0 = 0 := mt (pn_e0 (by omega)).mpr c5
      exact absurd c5 (by decide)
    · have c5 : 0 = 0 := (pn_e0 (by omega)).mp c5
      refine lv_bipush (v := ((-4))) hx hb dX1_leftOut_8 (by decide) ?_
      exact hret _ _ _ _ _ (()) dX1_leftOut_10 (rfl) ((sp_leftOut_b hbad).symm) Z
  · obtain ⟨rfl, j, hj, rfl⟩ := hp
    have Z : pl_Zx D A st (pl_M h k n a b d (pl_at V) S F) H locs := Z
    refine lv_if_ne (tgt := 11) hx hb dX1_leftOut_5 (by decide) (fun c5 => ?_) (fun c5 => ?_)
    · have c5 : ¬ 1 = 0 := mt (pn_e0 (by omega)).mpr c5
      refine lv_iconst (v := (nI 0)) hx hb dX1_leftOut_11 (by decide) ?_
      refine lv_istore_n (lv' := [(2, .int (nI 0)), (0, .ref (h 0)), (1, .int (nI j))]) hx hb dX1_leftOut_12 rfl hl (by decide) rfl (fun ls hl => ?_)
      refine lv_iconst (v := (nI 0)) hx hb dX1_leftOut_13 (by decide) ?_
      refine lv_istore_n (lv' := [(3, .int (nI 0)), (2, .int (nI 0)), (0, .ref (h 0)), (1, .int (nI j))]) hx hb dX1_leftOut_14 rfl hl (by decide) rfl (fun ls hl => ?_)
      have loop15 : ∀ (f : Nat) (i : Nat), n < i + f → (i ≤ n) → ∀ (H : Heap) (locs : List Loc) (ls : Array Slot), pl_Zx D A st (pl_M h k n a b d (pl_at V) S F) H locs → lv_has ls 4 [(0, .ref (h 0)), (1, .int (nI j)), (2, .int (nI (pl_cnt (fun r => !pl_hid n (pl_key V j) S a b ((pl_key V j) r)) i))), (3, .int (nI i))] → W p l e (rmD 3) st m ([.ref (h 0), .int (nI j)] : List Value).toArray below meth c H locs 0 0 Q (F0 m 15 ls []) := by
        intro f
        induction f with
        | zero =>
          intro i hf hi
          exact absurd hf (by omega)
        | succ f ih15 =>
          intro i hf hi H locs ls Z hl
          refine lv_iload_n hx hb dX1_leftOut_15 rfl (lv_at hl 3 rfl) ?_
          refine lv_aload_n hx hb dX1_leftOut_16 rfl (lv_at hl 0 rfl) ?_
          refine pm_get C Z 0 rfl 2 (by decide) q161 rfl dX1_leftOut_17 ?_
          refine lv_icmp_ge (tgt := 41) hx hb dX1_leftOut_20 (by decide) (fun c20 => ?_) (fun c20 => ?_)
          · have c20 : n ≤ i := (nI_leI (by omega) (by omega)).mp c20
            refine lv_iload_n hx hb dX1_leftOut_41 rfl (lv_at hl 2 rfl) ?_
            exact hret _ _ _ _ _ (()) dX1_leftOut_42 (rfl) (by rw [sp_leftOut_j hj, show i = n by omega]; rfl) Z
          · have c20 : i < n := Nat.lt_of_not_le (mt (nI_leI (by omega) (by omega)).mpr c20)
            refine lv_aload_n hx hb dX1_leftOut_23 rfl (lv_at hl 0 rfl) ?_
            refine lv_iload_n hx hb dX1_leftOut_24 rfl (lv_at hl 1 rfl) ?_
            refine lv_iload_n hx hb dX1_leftOut_25 rfl (lv_at hl 3 rfl) ?_
            refine pl_callV (q0 := 0) (rest := []) (mX1_hidden l D h k n a b d V S F j i hj (by omega) hn hS ha8 hb8) C Z rfl rfl rfl (lw_V q202 q204 qs10 q19 q205) 2 rfl (by decide +kernel) (by decide) ⟨rfl, rfl⟩ hl (Nat.le_of_ble_eq_true rfl) rfl dX1_leftOut_26 (fun v26 u H locs hp Z => ?_)
            obtain _ := u
            try dsimp only at hp
            subst hp
            have Z : pl_Zx D A st (pl_M h k n a b d (pl_at V) S F) H locs := Z
            refine lv_if_ne (tgt := 35) hx hb dX1_leftOut_29 (by decide) (fun c29 => ?_) (fun c29 => ?_)
            · have c29 : (pl_hid n (pl_key V j) S a b (pl_key V j i)) = true := pn_b1.mp c29
              have e1 := pl_cnt_f (P := fun r => !pl_hid n (pl_key V j) S a b ((pl_key V j) r)) (i := i) (by show (!pl_hid n (pl_key V j) S a b (pl_key V j i)) = false; rw [c29]; rfl)
              refine lv_iinc (v := (nI (i + 1))) (lv' := [(3, .int (nI (i + 1))), (0, .ref (h 0)), (1, .int (nI j)), (2, .int (nI (pl_cnt (fun r => !pl_hid n (pl_key V j) S a b ((pl_key V j) r)) i)))]) hx hb dX1_leftOut_35 hl (k := 3) rfl (pn_i1 _) (by decide) rfl (fun ls hl => ?_)
              refine lv_goto (tgt := 15) hx hb dX1_leftOut_38 (by decide) ?_
              exact ih15 (i + 1) (by omega) (by omega) _ _ _ Z (by rw [e1]; exact lv_sub hl [1, 2, 3, 0] rfl)
            · have c29 : (pl_hid n (pl_key V j) S a b (pl_key V j i)) = false := pn_b0.mp c29
              have e1 := pl_cnt_t (P := fun r => !pl_hid n (pl_key V j) S a b ((pl_key V j) r)) (i := i) (by show (!pl_hid n (pl_key V j) S a b (pl_key V j i)) = true; rw [c29]; rfl)
              refine lv_iinc (v := (nI ((pl_cnt (fun r => !pl_hid n (pl_key V j) S a b ((pl_key V j) r)) i) + 1))) (lv' := [(2, .int (nI ((pl_cnt (fun r => !pl_hid n (pl_key V j) S a b ((pl_key V j) r)) i) + 1))), (0, .ref (h 0)), (1, .int (nI j)), (3, .int (nI i))]) hx hb dX1_leftOut_32 hl (k := 2) rfl (pn_i1 _) (by decide) rfl (fun ls hl => ?_)
              refine lv_iinc (v := (nI (i + 1))) (lv' := [(3, .int (nI (i + 1))), (2, .int (nI ((pl_cnt (fun r => !pl_hid n (pl_key V j) S a b ((pl_key V j) r)) i) + 1))), (0, .ref (h 0)), (1, .int (nI j))]) hx hb dX1_leftOut_35 hl (k := 3) rfl (pn_i1 _) (by decide) rfl (fun ls hl => ?_)
              refine lv_goto (tgt := 15) hx hb dX1_leftOut_38 (by decide) ?_
              exact ih15 (i + 1) (by omega) (by omega) _ _ _ Z (by rw [e1]; exact lv_sub hl [2, 3, 1, 0] rfl)
      exact loop15 (n + 1) 0 (by omega) (Nat.zero_le _) _ _ _ Z (lv_sub hl [2, 3, 1, 0] rfl)
    · have c5 : 1 = 0 := (pn_e0 (by omega)).mp c5
      exact absurd c5 (by decide)
set_option maxHeartbeats 4000000 in
set_option maxRecDepth 100000 in
theorem mX1_good (l : Launch) (D : va_G) (h : Nat → Nat) (k : Nat → ClassId) (n a b d : Nat) (V S F : Nat → Nat) (x : Int32) (hn : n ≤ 16) (hS : ∀ i, S i < 8) (ha8 : a ≤ 8) (hb8 : b ≤ 8) (hd16 : d ≤ 16) : pl_CI l yX1_good cX1_good 2 .boolean (rmD 4) D (pl_MT k) [.ref (h 0), .int x] (pl_M h k n a b d (pl_at V) S F) (fun _ : Unit => pl_M h k n a b d (pl_at V) S F) (fun v _ => v = sp_good n V S a b d x) := by
  refine pl_CI_of (by decide) (Nat.le_of_ble_eq_true rfl) ?_
  intro p e st m below meth c A Q ls C hret Z hl
  have hx := C.1
  have hb := C.2.1
  have hl : lv_has ls 2 [(0, .ref (h 0)), (1, .int x)] := hl
  refine lv_aload_n hx hb dX1_good_0 rfl (lv_at hl 0 rfl) ?_
  refine lv_iload_n hx hb dX1_good_1 rfl (lv_at hl 1 rfl) ?_
  refine pl_callV (q0 := 0) (rest := []) (mX1_isSetting l D h k n a b d V S F x) C Z rfl rfl rfl (lw_V q198 q200 qs9 q19 q201) 1 rfl (by decide +kernel) (by decide) ⟨rfl, rfl⟩ hl (Nat.le_of_ble_eq_true rfl) rfl dX1_good_2 (fun v2 u H locs hp Z => ?_)
  rcases hp with hp | hp
  · obtain ⟨rfl, hbad⟩ := hp
    have Z : pl_Zx D A st (pl_M h k n a b d (pl_at V) S F) H locs := Z
    refine lv_if_eq (tgt := 24) hx hb dX1_good_5 (by decide) (fun c5 => ?_) (fun c5 => ?_)
    · have c5 : 0 = 0 := (pn_e0 (by omega)).mp c5
      refine lv_iconst (v := (nI 0)) hx hb dX1_good_24 (by decide) ?_
      exact hret _ _ _ _ _ (()) dX1_good_25 (rfl) (by first | exact (sp_good_b hbad).symm | exact (pn_t0 (fun q => absurd ((pl_gd_f c17).symm.trans q) (by decide))).trans (sp_good_j hj).symm) Z
    · have c5 : ¬ 0 = 0 := mt (pn_e0 (by omega)).mpr c5
      exact absurd c5 (by decide)
  · obtain ⟨rfl, j, hj, rfl⟩ := hp
    have Z : pl_Zx D A st (pl_M h k n a b d (pl_at V) S F) H locs := Z
    refine lv_if_eq (tgt := 24) hx hb dX1_good_5 (by decide) (fun c5 => ?_) (fun c5 => ?_)
    · have c5 : 1 = 0 := (pn_e0 (by omega)).mp c5
      exact absurd c5 (by decide)
    · have c5 : ¬ 1 = 0 := mt (pn_e0 (by omega)).mpr c5
      refine lv_aload_n hx hb dX1_good_8 rfl (lv_at hl 0 rfl) ?_
      refine lv_iload_n hx hb dX1_good_9 rfl (lv_at hl 1 rfl) ?_
      refine pl_callV (q0 := 0) (rest := []) (mX1_leftOut l D h k n a b d V S F (nI j) hn hS ha8 hb8) C Z rfl rfl rfl (lw_V q218 q195 q196 q19 q197) 1 rfl (by decide +kernel) (by decide) ⟨rfl, rfl⟩ hl (Nat.le_of_ble_eq_true rfl) rfl dX1_good_10 (fun v10 u H locs hp Z => ?_)
      obtain _ := u
      try dsimp only at hp
      rw [sp_leftOut_j hj] at hp
      subst hp
      have lf := pl_lft_le n (pl_key V j) S a b
      have Z : pl_Zx D A st (pl_M h k n a b d (pl_at V) S F) H locs := Z
      refine lv_aload_n hx hb dX1_good_13 rfl (lv_at hl 0 rfl) ?_
      refine pm_get C Z 0 rfl 5 (by decide) q164 rfl dX1_good_14 ?_
      refine lv_icmp_gt (tgt := 24) hx hb dX1_good_17 (by decide) (fun c17 => ?_) (fun c17 => ?_)
      · have c17 : d < (pl_lft n (pl_key V j) S a b) := (nI_ltI (by omega) (by omega)).mp c17
        refine lv_iconst (v := (nI 0)) hx hb dX1_good_24 (by decide) ?_
        exact hret _ _ _ _ _ (()) dX1_good_25 (rfl) (by first | exact (sp_good_b hbad).symm | exact (pn_t0 (fun q => absurd ((pl_gd_f c17).symm.trans q) (by decide))).trans (sp_good_j hj).symm) Z
      · have c17 : (pl_lft n (pl_key V j) S a b) ≤ d := Nat.le_of_not_lt (mt (nI_ltI (by omega) (by omega)).mpr c17)
        refine lv_iconst (v := (nI 1)) hx hb dX1_good_20 (by decide) ?_
        refine lv_goto (tgt := 25) hx hb dX1_good_21 (by decide) ?_
        exact hret _ _ _ _ _ (()) dX1_good_25 (rfl) ((pn_t1 (pl_gd_t c17)).trans (sp_good_j hj).symm) Z
set_option maxHeartbeats 4000000 in
set_option maxRecDepth 100000 in
theorem mX1_judge (l : Launch) (D : va_G) (h : Nat → Nat) (k : Nat → ClassId) (n a b d : Nat) (V S F : Nat → Nat) (hn : n ≤ 16) (hS : ∀ i, S i < 8) (ha8 : a ≤ 8) (hb8 : b ≤ 8) (hd16 : d ≤ 16) : pl_CV l yX1_judge cX1_judge 2 (rmD 5) D (pl_MT k) [.ref (h 0)] (pl_M h k n a b d (pl_at V) S F) (fun u : Nat → Nat => pl_M h k n a b d (pl_at V) S u) (fun u => ∀ t, t < 125 → u t = (pl_gd n V S a b d t).toNat) := by
  refine pl_CV_of (by decide) (Nat.le_of_ble_eq_true rfl) ?_
  intro p e st m below meth c A Q ls C hret Z hl
  have hx := C.1
  have hb := C.2.1
  have hl : lv_has ls 2 [(0, .ref (h 0))] := hl
  refine lv_iconst (v := (nI 0)) hx hb dX1_judge_0 (by decide) ?_
  refine lv_istore_n (lv' := [(1, .int (nI 0)), (0, .ref (h 0))]) hx hb dX1_judge_1 rfl hl (by decide) rfl (fun ls hl => ?_)
  have loop2 : ∀ (f : Nat) (i : Nat) (F1 : Nat → Nat), 125 < i + f → (i ≤ 125) → (∀ t, t < i → F1 t = (pl_gd n V S a b d t).toNat) → ∀ (H : Heap) (locs : List Loc) (ls : Array Slot), pl_Zx D A st (pl_M h k n a b d (pl_at V) S F1) H locs → lv_has ls 2 [(0, .ref (h 0)), (1, .int (nI i))] → W p l e (rmD 5) st m ([.ref (h 0)] : List Value).toArray below meth c H locs 0 0 Q (F0 m 2 ls []) := by
    intro f
    induction f with
    | zero =>
      intro i F1 hf hi h0
      exact absurd hf (by omega)
    | succ f ih2 =>
      intro i F1 hf hi h0 H locs ls Z hl
      refine lv_iload_n hx hb dX1_judge_2 rfl (lv_at hl 1 rfl) ?_
      refine lv_bipush (v := (nI 125)) hx hb dX1_judge_3 (by decide) ?_
      refine lv_icmp_ge (tgt := 25) hx hb dX1_judge_5 (by decide) (fun c5 => ?_) (fun c5 => ?_)
      · have c5 : 125 ≤ i := (nI_leI (by omega) (by omega)).mp c5
        exact hret _ _ _ _ F1 dX1_judge_25 (fun t ht => h0 t (by omega)) Z
      · have c5 : i < 125 := Nat.lt_of_not_le (mt (nI_leI (by omega) (by omega)).mpr c5)
        refine lv_aload_n hx hb dX1_judge_8 rfl (lv_at hl 0 rfl) ?_
        refine pm_get C Z 0 rfl 6 (by decide) q165 rfl dX1_judge_9 ?_
        refine lv_iload_n hx hb dX1_judge_12 rfl (lv_at hl 1 rfl) ?_
        refine lv_aload_n hx hb dX1_judge_13 rfl (lv_at hl 0 rfl) ?_
        refine lv_iload_n hx hb dX1_judge_14 rfl (lv_at hl 1 rfl) ?_
        refine pl_callV (q0 := 0) (rest := [.int (nI i), .ref (h 3)]) (mX1_good l D h k n a b d V S F1 (nI i) hn hS ha8 hb8 hd16) C Z rfl rfl rfl (lw_V q227 q215 q216 q19 q217) 1 rfl (by decide +kernel) (by decide) ⟨rfl, rfl⟩ hl (Nat.le_of_ble_eq_true rfl) rfl dX1_judge_15 (fun v15 u H locs hp Z => ?_)
        obtain _ := u
        try dsimp only at hp
        rw [sp_good_j c5] at hp
        subst hp
        have Z : pl_Zx D A st (pl_M h k n a b d (pl_at V) S F1) H locs := Z
        refine pn_zast C Z 3 2 rfl rfl (by omega) (by decide) (by cases pl_gd n V S a b d i <;> decide) dX1_judge_18 (fun H locs Z => ?_)
        have Z : pl_Zx D A st (pl_M h k n a b d (pl_at V) S (updN F1 i ((pl_gd n V S a b d i).toNat))) H locs := Z
        refine lv_iinc (v := (nI (i + 1))) (lv' := [(1, .int (nI (i + 1))), (0, .ref (h 0))]) hx hb dX1_judge_19 hl (k := 1) rfl (pn_i1 _) (by decide) rfl (fun ls hl => ?_)
        refine lv_goto (tgt := 2) hx hb dX1_judge_22 (by decide) ?_
        exact ih2 (i + 1) (updN F1 i (pl_gd n V S a b d i).toNat) (by omega) (by omega) (pl_fine_s h0) _ _ _ Z (lv_sub hl [1, 0] rfl)
  exact loop2 126 0 F (by omega) (Nat.zero_le _) (fun t ht => absurd ht (by omega)) _ _ _ Z (lv_sub hl [1, 0] rfl)
end
section
set_option maxHeartbeats 4000000 in
set_option maxRecDepth 100000 in
theorem mX1_goodSettings (l : Launch) (D : va_G) (h : Nat → Nat) (k : Nat → ClassId) (n a b d : Nat) (V S F : Nat → Nat) (hn : n ≤ 16) (hS : ∀ i, S i < 8) (ha8 : a ≤ 8) (hb8 : b ≤ 8) (hd16 : d ≤ 16) : pl_CI l yX1_goodSettings cX1_goodSettings 3 .int (rmD 6) D (pl_MT k) [.ref (h 0)] (pl_M h k n a b d (pl_at V) S F) (fun u : Nat → Nat => pl_M h k n a b d (pl_at V) S u) (fun v _ => v = sp_goodSettings n V S a b d) := by
  refine pl_CI_of (by decide) (Nat.le_of_ble_eq_true rfl) ?_
  intro p e st m below meth c A Q ls C hret Z hl
  have hx := C.1
  have hb := C.2.1
  have hl : lv_has ls 3 [(0, .ref (h 0))] := hl
  refine lv_iconst (v := (nI 0)) hx hb dX1_goodSettings_0 (by decide) ?_
  refine lv_istore_n (lv' := [(1, .int (nI 0)), (0, .ref (h 0))]) hx hb dX1_goodSettings_1 rfl hl (by decide) rfl (fun ls hl => ?_)
  refine lv_aload_n hx hb dX1_goodSettings_2 rfl (lv_at hl 1 rfl) ?_
  refine pl_callU (q0 := 0) (rest := []) (mX1_judge l D h k n a b d V S F hn hS ha8 hb8 hd16) C Z rfl rfl rfl (lw_V q223 q225 qs13 q19 q226) 0 rfl (by decide +kernel) (by decide) ⟨rfl, rfl⟩ hl (Nat.le_of_ble_eq_true rfl) rfl dX1_goodSettings_3 (fun u H locs hp Z => ?_)
  obtain ⟨F1, rfl⟩ : ∃ z, z = u := ⟨_, rfl⟩
  have hF : ∀ t, t < 125 → F1 t = (pl_gd n V S a b d t).toNat := hp
  have Z : pl_Zx D A st (pl_M h k n a b d (pl_at V) S F1) H locs := Z
  refine lv_iconst (v := (nI 0)) hx hb dX1_goodSettings_6 (by decide) ?_
  refine lv_istore_n (lv' := [(2, .int (nI 0)), (1, .int (nI 0)), (0, .ref (h 0))]) hx hb dX1_goodSettings_7 rfl hl (by decide) rfl (fun ls hl => ?_)
  have loop8 : ∀ (f : Nat) (i : Nat), 125 < i + f → (i ≤ 125) → ∀ (H : Heap) (locs : List Loc) (ls : Array Slot), pl_Zx D A st (pl_M h k n a b d (pl_at V) S F1) H locs → lv_has ls 3 [(0, .ref (h 0)), (1, .int (nI (pl_cnt (pl_gd n V S a b d) i))), (2, .int (nI i))] → W p l e (rmD 6) st m ([.ref (h 0)] : List Value).toArray below meth c H locs 0 0 Q (F0 m 8 ls []) := by
    intro f
    induction f with
    | zero =>
      intro i hf hi
      exact absurd hf (by omega)
    | succ f ih8 =>
      intro i hf hi H locs ls Z hl
      refine lv_iload_n hx hb dX1_goodSettings_8 rfl (lv_at hl 2 rfl) ?_
      refine lv_bipush (v := (nI 125)) hx hb dX1_goodSettings_9 (by decide) ?_
      refine lv_icmp_ge (tgt := 32) hx hb dX1_goodSettings_11 (by decide) (fun c11 => ?_) (fun c11 => ?_)
      · have c11 : 125 ≤ i := (nI_leI (by omega) (by omega)).mp c11
        refine lv_iload_n hx hb dX1_goodSettings_32 rfl (lv_at hl 1 rfl) ?_
        exact hret _ _ _ _ _ F1 dX1_goodSettings_33 (rfl) (by rw [show i = 125 by omega]; rfl) Z
      · have c11 : i < 125 := Nat.lt_of_not_le (mt (nI_leI (by omega) (by omega)).mpr c11)
        refine lv_aload_n hx hb dX1_goodSettings_14 rfl (lv_at hl 0 rfl) ?_
        refine pm_get C Z 0 rfl 6 (by decide) q165 rfl dX1_goodSettings_15 ?_
        refine lv_iload_n hx hb dX1_goodSettings_18 rfl (lv_at hl 2 rfl) ?_
        refine pn_zald C Z 3 2 rfl rfl (by omega) (by decide) dX1_goodSettings_19 ?_
        have fb := pl_fl hF c11
        refine lv_if_eq (tgt := 26) hx hb dX1_goodSettings_20 (by decide) (fun c20 => ?_) (fun c20 => ?_)
        · have c20 : (F1 i) = 0 := (pn_e0 (by omega)).mp c20
          have e1 := pl_cnt_f (pl_f0 hF c11 c20)
          refine lv_iinc (v := (nI (i + 1))) (lv' := [(2, .int (nI (i + 1))), (0, .ref (h 0)), (1, .int (nI (pl_cnt (pl_gd n V S a b d) i)))]) hx hb dX1_goodSettings_26 hl (k := 2) rfl (pn_i1 _) (by decide) rfl (fun ls hl => ?_)
          refine lv_goto (tgt := 8) hx hb dX1_goodSettings_29 (by decide) ?_
          exact ih8 (i + 1) (by omega) (by omega) _ _ _ Z (by rw [e1]; exact lv_sub hl [1, 2, 0] rfl)
        · have c20 : ¬ (F1 i) = 0 := mt (pn_e0 (by omega)).mpr c20
          have e1 := pl_cnt_t (pl_f1 hF c11 c20)
          refine lv_iinc (v := (nI ((pl_cnt (pl_gd n V S a b d) i) + 1))) (lv' := [(1, .int (nI ((pl_cnt (pl_gd n V S a b d) i) + 1))), (0, .ref (h 0)), (2, .int (nI i))]) hx hb dX1_goodSettings_23 hl (k := 1) rfl (pn_i1 _) (by decide) rfl (fun ls hl => ?_)
          refine lv_iinc (v := (nI (i + 1))) (lv' := [(2, .int (nI (i + 1))), (1, .int (nI ((pl_cnt (pl_gd n V S a b d) i) + 1))), (0, .ref (h 0))]) hx hb dX1_goodSettings_26 hl (k := 2) rfl (pn_i1 _) (by decide) rfl (fun ls hl => ?_)
          refine lv_goto (tgt := 8) hx hb dX1_goodSettings_29 (by decide) ?_
          exact ih8 (i + 1) (by omega) (by omega) _ _ _ Z (by rw [e1]; exact lv_sub hl [2, 1, 0] rfl)
  exact loop8 126 0 (by omega) (Nat.zero_le _) _ _ _ Z (lv_sub hl [2, 1, 0] rfl)
set_option maxHeartbeats 4000000 in
set_option maxRecDepth 100000 in
theorem mX1_coarser (l : Launch) (D : va_G) (h : Nat → Nat) (k : Nat → ClassId) (n a b d : Nat) (V S F : Nat → Nat) (g t : Nat) (hg : g < 125) (ht : t < 125) : pl_CI l yX1_coarser cX1_coarser 4 .boolean (rmD 1) D (pl_MT k) [.ref (h 0), .int (nI g), .int (nI t)] (pl_M h k n a b d (pl_at V) S F) (fun _ : Unit => pl_M h k n a b d (pl_at V) S F) (fun v _ => v = nI (pl_ge g t && (g != t)).toNat) := by
  refine pl_CI_of (by decide) (Nat.le_of_ble_eq_true rfl) ?_
  intro p e st m below meth c A Q ls C hret Z hl
  have hx := C.1
  have hb := C.2.1
  have hl : lv_has ls 4 [(0, .ref (h 0)), (1, .int (nI g)), (2, .int (nI t))] := hl
  refine lv_iconst (v := (nI 0)) hx hb dX1_coarser_0 (by decide) ?_
  refine lv_istore_n (lv' := [(3, .int (nI 0)), (0, .ref (h 0)), (1, .int (nI g)), (2, .int (nI t))]) hx hb dX1_coarser_1 rfl hl (by decide) rfl (fun ls hl => ?_)
  have loop2 : ∀ (f : Nat) (i : Nat), 3 < i + f → (i ≤ 3) → (∀ a, a < i → pl_lev t a ≤ pl_lev g a) → ∀ (H : Heap) (locs : List Loc) (ls : Array Slot), pl_Zx D A st (pl_M h k n a b d (pl_at V) S F) H locs → lv_has ls 4 [(0, .ref (h 0)), (1, .int (nI g)), (2, .int (nI t)), (3, .int (nI i))] → W p l e (rmD 1) st m ([.ref (h 0), .int (nI g), .int (nI t)] : List Value).toArray below meth c H locs 0 0 Q (F0 m 2 ls []) := by
    intro f
    induction f with
    | zero =>
      intro i hf hi hv
      exact absurd hf (by omega)
    | succ f ih2 =>
      intro i hf hi hv H locs ls Z hl
      refine lv_iload_n hx hb dX1_coarser_2 rfl (lv_at hl 3 rfl) ?_
      refine lv_iconst (v := (nI 3)) hx hb dX1_coarser_3 (by decide) ?_
      refine lv_icmp_ge (tgt := 30) hx hb dX1_coarser_4 (by decide) (fun c4 => ?_) (fun c4 => ?_)
      · have c4 : 3 ≤ i := (nI_leI (by omega) (by omega)).mp c4
        refine lv_iload_n hx hb dX1_coarser_30 rfl (lv_at hl 1 rfl) ?_
        refine lv_iload_n hx hb dX1_coarser_31 rfl (lv_at hl 2 rfl) ?_
        refine lv_icmp_eq (tgt := 39) hx hb dX1_coarser_32 (by decide) (fun c32 => ?_) (fun c32 => ?_)
        · have c32 : g = t := (nI_eq (by omega) (by omega)).mp c32
          refine lv_iconst (v := (nI 0)) hx hb dX1_coarser_39 (by decide) ?_
          exact hret _ _ _ _ _ (()) dX1_coarser_40 (rfl) (pn_t0 (fun q => bne_iff_ne.mp (Bool.and_eq_true_iff.mp q).2 c32)) Z
        · have c32 : ¬ g = t := mt (nI_eq (by omega) (by omega)).mpr c32
          refine lv_iconst (v := (nI 1)) hx hb dX1_coarser_35 (by decide) ?_
          refine lv_goto (tgt := 40) hx hb dX1_coarser_36 (by decide) ?_
          exact hret _ _ _ _ _ (()) dX1_coarser_40 (rfl) (pn_t1 (Bool.and_eq_true_iff.mpr ⟨(pl_ge_iff g t).mpr (fun a ha => hv a (by omega)), bne_iff_ne.mpr c32⟩)) Z
      · have c4 : i < 3 := Nat.lt_of_not_le (mt (nI_leI (by omega) (by omega)).mpr c4)
        refine lv_aload_n hx hb dX1_coarser_7 rfl (lv_at hl 0 rfl) ?_
        refine lv_iload_n hx hb dX1_coarser_8 rfl (lv_at hl 1 rfl) ?_
        refine lv_iload_n hx hb dX1_coarser_9 rfl (lv_at hl 3 rfl) ?_
        refine pl_callV (q0 := 0) (rest := []) (mX1_level l D h k n a b d V S F g i hg c4) C Z rfl rfl rfl (lw_V q210 q212 qs12 q19 q213) 2 rfl (by decide +kernel) (by decide) ⟨rfl, rfl⟩ hl (Nat.le_of_ble_eq_true rfl) rfl dX1_coarser_10 (fun v10 u H locs hp Z => ?_)
        obtain _ := u
        try dsimp only at hp
        subst hp
        have Z : pl_Zx D A st (pl_M h k n a b d (pl_at V) S F) H locs := Z
        refine lv_aload_n hx hb dX1_coarser_13 rfl (lv_at hl 0 rfl) ?_
        refine lv_iload_n hx hb dX1_coarser_14 rfl (lv_at hl 2 rfl) ?_
        refine lv_iload_n hx hb dX1_coarser_15 rfl (lv_at hl 3 rfl) ?_
        refine pl_callV (q0 := 0) (rest := [.int (nI (pl_lev g i))]) (mX1_level l D h k n a b d V S F t i ht c4) C Z rfl rfl rfl (lw_V q210 q212 qs12 q19 q213) 2 rfl (by decide +kernel) (by decide) ⟨rfl, rfl⟩ hl (Nat.le_of_ble_eq_true rfl) rfl dX1_coarser_16 (fun v16 u H locs hp Z => ?_)
        obtain _ := u
        try dsimp only at hp
        subst hp
        have Z : pl_Zx D A st (pl_M h k n a b d (pl_at V) S F) H locs := Z
        have l1 := pl_lev_le hg i
        have l2 := pl_lev_le ht i
        refine lv_icmp_ge (tgt := 24) hx hb dX1_coarser_19 (by decide) (fun c19 => ?_) (fun c19 => ?_)
        · have c19 : (pl_lev t i) ≤ (pl_lev g i) := (nI_leI (by omega) (by omega)).mp c19
          refine lv_iinc (v := (nI (i + 1))) (lv' := [(3, .int (nI (i + 1))), (0, .ref (h 0)), (1, .int (nI g)), (2, .int (nI t))]) hx hb dX1_coarser_24 hl (k := 3) rfl (pn_i1 _) (by decide) rfl (fun ls hl => ?_)
          refine lv_goto (tgt := 2) hx hb dX1_coarser_27 (by decide) ?_
          exact ih2 (i + 1) (by omega) (by omega) (lt_s hv c19) _ _ _ Z (lv_sub hl [1, 2, 3, 0] rfl)
        · have c19 : (pl_lev g i) < (pl_lev t i) := Nat.lt_of_not_le (mt (nI_leI (by omega) (by omega)).mpr c19)
          refine lv_iconst (v := (nI 0)) hx hb dX1_coarser_22 (by decide) ?_
          exact hret _ _ _ _ _ (()) dX1_coarser_23 (rfl) (pn_t0 (fun q => absurd ((pl_ge_iff g t).mp (Bool.and_eq_true_iff.mp q).1 i c4) (by omega))) Z
  exact loop2 4 0 (by omega) (by omega) (fun a ha => absurd ha (by omega)) _ _ _ Z (lv_sub hl [1, 2, 3, 0] rfl)
set_option maxHeartbeats 4000000 in
set_option maxRecDepth 100000 in
theorem mX1_isFinest (l : Launch) (D : va_G) (h : Nat → Nat) (k : Nat → ClassId) (n a b d : Nat) (V S F : Nat → Nat) (g : Nat) (hg : g < 125) (hF : ∀ t, t < 125 → F t = (pl_gd n V S a b d t).toNat) : pl_CI l yX1_isFinest cX1_isFinest 3 .boolean (rmD 2) D (pl_MT k) [.ref (h 0), .int (nI g)] (pl_M h k n a b d (pl_at V) S F) (fun _ : Unit => pl_M h k n a b d (pl_at V) S F) (fun v _ => v = nI (pl_fin (pl_gd n V S a b d) g).toNat) := by
  refine pl_CI_of (by decide) (Nat.le_of_ble_eq_true rfl) ?_
  intro p e st m below meth c A Q ls C hret Z hl
  have hx := C.1
  have hb := C.2.1
  have hl : lv_has ls 3 [(0, .ref (h 0)), (1, .int (nI g))] := hl
  refine lv_aload_n hx hb dX1_isFinest_0 rfl (lv_at hl 0 rfl) ?_
  refine pm_get C Z 0 rfl 6 (by decide) q165 rfl dX1_isFinest_1 ?_
  refine lv_iload_n hx hb dX1_isFinest_4 rfl (lv_at hl 1 rfl) ?_
  refine pn_zald C Z 3 2 rfl rfl (by omega) (by decide) dX1_isFinest_5 ?_
  have fb := pl_fl hF hg
  refine lv_if_ne (tgt := 11) hx hb dX1_isFinest_6 (by decide) (fun c6 => ?_) (fun c6 => ?_)
  · have c6 : ¬ (F g) = 0 := mt (pn_e0 (by omega)).mpr c6
    refine lv_iconst (v := (nI 0)) hx hb dX1_isFinest_11 (by decide) ?_
    refine lv_istore_n (lv' := [(2, .int (nI 0)), (0, .ref (h 0)), (1, .int (nI g))]) hx hb dX1_isFinest_12 rfl hl (by decide) rfl (fun ls hl => ?_)
    have loop13 : ∀ (f : Nat) (i : Nat), 125 < i + f → (i ≤ 125) → (∀ t, t < i → (pl_gd n V S a b d t && (pl_ge g t && (g != t))) = false) → ∀ (H : Heap) (locs : List Loc) (ls : Array Slot), pl_Zx D A st (pl_M h k n a b d (pl_at V) S F) H locs → lv_has ls 3 [(0, .ref (h 0)), (1, .int (nI g)), (2, .int (nI i))] → W p l e (rmD 2) st m ([.ref (h 0), .int (nI g)] : List Value).toArray below meth c H locs 0 0 Q (F0 m 13 ls []) := by
      intro f
      induction f with
      | zero =>
        intro i hf hi hv
        exact absurd hf (by omega)
      | succ f ih13 =>
        intro i hf hi hv H locs ls Z hl
        refine lv_iload_n hx hb dX1_isFinest_13 rfl (lv_at hl 2 rfl) ?_
        refine lv_bipush (v := (nI 125)) hx hb dX1_isFinest_14 (by decide) ?_
        refine lv_icmp_ge (tgt := 45) hx hb dX1_isFinest_16 (by decide) (fun c16 => ?_) (fun c16 => ?_)
        · have c16 : 125 ≤ i := (nI_leI (by omega) (by omega)).mp c16
          refine lv_iconst (v := (nI 1)) hx hb dX1_isFinest_45 (by decide) ?_
          exact hret _ _ _ _ _ (()) dX1_isFinest_46 (rfl) (pn_t1 (pl_fin_yes (pl_f1 hF hg c6) (fun t ht => hv t (by omega)))) Z
        · have c16 : i < 125 := Nat.lt_of_not_le (mt (nI_leI (by omega) (by omega)).mpr c16)
          refine lv_aload_n hx hb dX1_isFinest_19 rfl (lv_at hl 0 rfl) ?_
          refine pm_get C Z 0 rfl 6 (by decide) q165 rfl dX1_isFinest_20 ?_
          refine lv_iload_n hx hb dX1_isFinest_23 rfl (lv_at hl 2 rfl) ?_
          refine pn_zald C Z 3 2 rfl rfl (by omega) (by decide) dX1_isFinest_24 ?_
          have fb2 := pl_fl hF c16
          refine lv_if_eq (tgt := 39) hx hb dX1_isFinest_25 (by decide) (fun c25 => ?_) (fun c25 => ?_)
          · have c25 : (F i) = 0 := (pn_e0 (by omega)).mp c25
            refine lv_iinc (v := (nI (i + 1))) (lv' := [(2, .int (nI (i + 1))), (0, .ref (h 0)), (1, .int (nI g))]) hx hb dX1_isFinest_39 hl (k := 2) rfl (pn_i1 _) (by decide) rfl (fun ls hl => ?_)
            refine lv_goto (tgt := 13) hx hb dX1_isFinest_42 (by decide) ?_
            exact ih13 (i + 1) (by omega) (by omega) (lt_s hv (by first | (rw [c34, Bool.and_false]) | (rw [pl_f0 hF c16 c25, Bool.false_and]))) _ _ _ Z (lv_sub hl [1, 2, 0] rfl)
          · have c25 : ¬ (F i) = 0 := mt (pn_e0 (by omega)).mpr c25
            refine lv_aload_n hx hb dX1_isFinest_28 rfl (lv_at hl 0 rfl) ?_
            refine lv_iload_n hx hb dX1_isFinest_29 rfl (lv_at hl 1 rfl) ?_
            refine lv_iload_n hx hb dX1_isFinest_30 rfl (lv_at hl 2 rfl) ?_
            refine pl_callV (q0 := 0) (rest := []) (mX1_coarser l D h k n a b d V S F g i hg c16) C Z rfl rfl rfl (lw_V q236 q238 qs15 q19 q239) 2 rfl (by decide +kernel) (by decide) ⟨rfl, rfl⟩ hl (Nat.le_of_ble_eq_true rfl) rfl dX1_isFinest_31 (fun v31 u H locs hp Z => ?_)
            obtain _ := u
            try dsimp only at hp
            subst hp
            have Z : pl_Zx D A st (pl_M h k n a b d (pl_at V) S F) H locs := Z
            refine lv_if_eq (tgt := 39) hx hb dX1_isFinest_34 (by decide) (fun c34 => ?_) (fun c34 => ?_)
            · have c34 : (pl_ge g i && (g != i)) = false := pn_b0.mp c34
              refine lv_iinc (v := (nI (i + 1))) (lv' := [(2, .int (nI (i + 1))), (0, .ref (h 0)), (1, .int (nI g))]) hx hb dX1_isFinest_39 hl (k := 2) rfl (pn_i1 _) (by decide) rfl (fun ls hl => ?_)
              refine lv_goto (tgt := 13) hx hb dX1_isFinest_42 (by decide) ?_
              exact ih13 (i + 1) (by omega) (by omega) (lt_s hv (by first | (rw [c34, Bool.and_false]) | (rw [pl_f0 hF c16 c25, Bool.false_and]))) _ _ _ Z (lv_sub hl [1, 2, 0] rfl)
            · have c34 : (pl_ge g i && (g != i)) = true := pn_b1.mp c34
              refine lv_iconst (v := (nI 0)) hx hb dX1_isFinest_37 (by decide) ?_
              exact hret _ _ _ _ _ (()) dX1_isFinest_38 (rfl) (pn_t0 (pl_fin_no c16 (pl_f1 hF c16 c25) c34)) Z
    exact loop13 126 0 (by omega) (by omega) (fun t ht => absurd ht (by omega)) _ _ _ Z (lv_sub hl [1, 2, 0] rfl)
  · have c6 : (F g) = 0 := (pn_e0 (by omega)).mp c6
    refine lv_iconst (v := (nI 0)) hx hb dX1_isFinest_9 (by decide) ?_
    exact hret _ _ _ _ _ (()) dX1_isFinest_10 (rfl) (pn_t0 (pl_fin_0 (pl_f0 hF hg c6))) Z
set_option maxHeartbeats 4000000 in
set_option maxRecDepth 100000 in
theorem mX1_finest (l : Launch) (D : va_G) (h : Nat → Nat) (k : Nat → ClassId) (n a b d : Nat) (V S F : Nat → Nat) (hn : n ≤ 16) (hS : ∀ i, S i < 8) (ha8 : a ≤ 8) (hb8 : b ≤ 8) (hd16 : d ≤ 16) : pl_CI l yX1_finest cX1_finest 3 .int (rmD 6) D (pl_MT k) [.ref (h 0)] (pl_M h k n a b d (pl_at V) S F) (fun u : Nat → Nat => pl_M h k n a b d (pl_at V) S u) (fun v _ => v = sp_finest n V S a b d) := by
  refine pl_CI_of (by decide) (Nat.le_of_ble_eq_true rfl) ?_
  intro p e st m below meth c A Q ls C hret Z hl
  have hx := C.1
  have hb := C.2.1
  have hl : lv_has ls 3 [(0, .ref (h 0))] := hl
  refine lv_iconst (v := (nI 0)) hx hb dX1_finest_0 (by decide) ?_
  refine lv_istore_n (lv' := [(1, .int (nI 0)), (0, .ref (h 0))]) hx hb dX1_finest_1 rfl hl (by decide) rfl (fun ls hl => ?_)
  refine lv_aload_n hx hb dX1_finest_2 rfl (lv_at hl 1 rfl) ?_
  refine pl_callU (q0 := 0) (rest := []) (mX1_judge l D h k n a b d V S F hn hS ha8 hb8 hd16) C Z rfl rfl rfl (lw_V q223 q225 qs13 q19 q226) 0 rfl (by decide +kernel) (by decide) ⟨rfl, rfl⟩ hl (Nat.le_of_ble_eq_true rfl) rfl dX1_finest_3 (fun u H locs hp Z => ?_)
  obtain ⟨F1, rfl⟩ : ∃ z, z = u := ⟨_, rfl⟩
  have hF : ∀ t, t < 125 → F1 t = (pl_gd n V S a b d t).toNat := hp
  have Z : pl_Zx D A st (pl_M h k n a b d (pl_at V) S F1) H locs := Z
  refine lv_iconst (v := (nI 0)) hx hb dX1_finest_6 (by decide) ?_
  refine lv_istore_n (lv' := [(2, .int (nI 0)), (1, .int (nI 0)), (0, .ref (h 0))]) hx hb dX1_finest_7 rfl hl (by decide) rfl (fun ls hl => ?_)
  have loop8 : ∀ (f : Nat) (i : Nat), 125 < i + f → (i ≤ 125) → ∀ (H : Heap) (locs : List Loc) (ls : Array Slot), pl_Zx D A st (pl_M h k n a b d (pl_at V) S F1) H locs → lv_has ls 3 [(0, .ref (h 0)), (1, .int (nI (pl_cnt (pl_fin (pl_gd n V S a b d)) i))), (2, .int (nI i))] → W p l e (rmD 6) st m ([.ref (h 0)] : List Value).toArray below meth c H locs 0 0 Q (F0 m 8 ls []) := by
    intro f
    induction f with
    | zero =>
      intro i hf hi
      exact absurd hf (by omega)
    | succ f ih8 =>
      intro i hf hi H locs ls Z hl
      refine lv_iload_n hx hb dX1_finest_8 rfl (lv_at hl 2 rfl) ?_
      refine lv_bipush (v := (nI 125)) hx hb dX1_finest_9 (by decide) ?_
      refine lv_icmp_ge (tgt := 31) hx hb dX1_finest_11 (by decide) (fun c11 => ?_) (fun c11 => ?_)
      · have c11 : 125 ≤ i := (nI_leI (by omega) (by omega)).mp c11
        refine lv_iload_n hx hb dX1_finest_31 rfl (lv_at hl 1 rfl) ?_
        exact hret _ _ _ _ _ F1 dX1_finest_32 (rfl) (by rw [show i = 125 by omega]; rfl) Z
      · have c11 : i < 125 := Nat.lt_of_not_le (mt (nI_leI (by omega) (by omega)).mpr c11)
        refine lv_aload_n hx hb dX1_finest_14 rfl (lv_at hl 0 rfl) ?_
        refine lv_iload_n hx hb dX1_finest_15 rfl (lv_at hl 2 rfl) ?_
        refine pl_callV (q0 := 0) (rest := []) (mX1_isFinest l D h k n a b d V S F1 i c11 hF) C Z rfl rfl rfl (lw_V q232 q234 qs14 q19 q235) 1 rfl (by decide +kernel) (by decide) ⟨rfl, rfl⟩ hl (Nat.le_of_ble_eq_true rfl) rfl dX1_finest_16 (fun v16 u H locs hp Z => ?_)
        obtain _ := u
        try dsimp only at hp
        subst hp
        have Z : pl_Zx D A st (pl_M h k n a b d (pl_at V) S F1) H locs := Z
        refine lv_if_eq (tgt := 25) hx hb dX1_finest_19 (by decide) (fun c19 => ?_) (fun c19 => ?_)
        · have c19 : (pl_fin (pl_gd n V S a b d) i) = false := pn_b0.mp c19
          have e1 := pl_cnt_f c19
          refine lv_iinc (v := (nI (i + 1))) (lv' := [(2, .int (nI (i + 1))), (0, .ref (h 0)), (1, .int (nI (pl_cnt (pl_fin (pl_gd n V S a b d)) i)))]) hx hb dX1_finest_25 hl (k := 2) rfl (pn_i1 _) (by decide) rfl (fun ls hl => ?_)
          refine lv_goto (tgt := 8) hx hb dX1_finest_28 (by decide) ?_
          exact ih8 (i + 1) (by omega) (by omega) _ _ _ Z (by rw [e1]; exact lv_sub hl [1, 2, 0] rfl)
        · have c19 : (pl_fin (pl_gd n V S a b d) i) = true := pn_b1.mp c19
          have e1 := pl_cnt_t c19
          refine lv_iinc (v := (nI ((pl_cnt (pl_fin (pl_gd n V S a b d)) i) + 1))) (lv' := [(1, .int (nI ((pl_cnt (pl_fin (pl_gd n V S a b d)) i) + 1))), (0, .ref (h 0)), (2, .int (nI i))]) hx hb dX1_finest_22 hl (k := 1) rfl (pn_i1 _) (by decide) rfl (fun ls hl => ?_)
          refine lv_iinc (v := (nI (i + 1))) (lv' := [(2, .int (nI (i + 1))), (1, .int (nI ((pl_cnt (pl_fin (pl_gd n V S a b d)) i) + 1))), (0, .ref (h 0))]) hx hb dX1_finest_25 hl (k := 2) rfl (pn_i1 _) (by decide) rfl (fun ls hl => ?_)
          refine lv_goto (tgt := 8) hx hb dX1_finest_28 (by decide) ?_
          exact ih8 (i + 1) (by omega) (by omega) _ _ _ Z (by rw [e1]; exact lv_sub hl [2, 1, 0] rfl)
  exact loop8 126 0 (by omega) (Nat.zero_le _) _ _ _ Z (lv_sub hl [2, 1, 0] rfl)
set_option maxHeartbeats 4000000 in
set_option maxRecDepth 100000 in
theorem mX1_finestAt (l : Launch) (D : va_G) (h : Nat → Nat) (k : Nat → ClassId) (n a b d : Nat) (V S F : Nat → Nat) (x : Int32) (hn : n ≤ 16) (hS : ∀ i, S i < 8) (ha8 : a ≤ 8) (hb8 : b ≤ 8) (hd16 : d ≤ 16) : pl_CI l yX1_finestAt cX1_finestAt 4 .int (rmD 6) D (pl_MT k) [.ref (h 0), .int x] (pl_M h k n a b d (pl_at V) S F) (fun u : Nat → Nat => pl_M h k n a b d (pl_at V) S u) (fun v _ => v = sp_finestAt n V S a b d x) := by
  refine pl_CI_of (by decide) (Nat.le_of_ble_eq_true rfl) ?_
  intro p e st m below meth c A Q ls C hret Z hl
  have hx := C.1
  have hb := C.2.1
  have hl : lv_has ls 4 [(0, .ref (h 0)), (1, .int x)] := hl
  refine lv_iconst (v := (nI 0)) hx hb dX1_finestAt_0 (by decide) ?_
  refine lv_istore_n (lv' := [(2, .int (nI 0)), (0, .ref (h 0)), (1, .int x)]) hx hb dX1_finestAt_1 rfl hl (by decide) rfl (fun ls hl => ?_)
  refine lv_aload_n hx hb dX1_finestAt_2 rfl (lv_at hl 1 rfl) ?_
  refine pl_callU (q0 := 0) (rest := []) (mX1_judge l D h k n a b d V S F hn hS ha8 hb8 hd16) C Z rfl rfl rfl (lw_V q223 q225 qs13 q19 q226) 0 rfl (by decide +kernel) (by decide) ⟨rfl, rfl⟩ hl (Nat.le_of_ble_eq_true rfl) rfl dX1_finestAt_3 (fun u H locs hp Z => ?_)
  obtain ⟨F1, rfl⟩ : ∃ z, z = u := ⟨_, rfl⟩
  have hF : ∀ t, t < 125 → F1 t = (pl_gd n V S a b d t).toNat := hp
  have Z : pl_Zx D A st (pl_M h k n a b d (pl_at V) S F1) H locs := Z
  refine lv_iconst (v := (nI 0)) hx hb dX1_finestAt_6 (by decide) ?_
  refine lv_istore_n (lv' := [(3, .int (nI 0)), (2, .int (nI 0)), (0, .ref (h 0)), (1, .int x)]) hx hb dX1_finestAt_7 rfl hl (by decide) rfl (fun ls hl => ?_)
  have loop8 : ∀ (f : Nat) (i : Nat), 125 < i + f → (i ≤ 125) → (pl_fat (pl_fin (pl_gd n V S a b d)) x (125 - i) i = pl_fat (pl_fin (pl_gd n V S a b d)) x 125 0) → ∀ (H : Heap) (locs : List Loc) (ls : Array Slot), pl_Zx D A st (pl_M h k n a b d (pl_at V) S F1) H locs → lv_has ls 4 [(0, .ref (h 0)), (1, .int x), (2, .int (nI (pl_cnt (pl_fin (pl_gd n V S a b d)) i))), (3, .int (nI i))] → W p l e (rmD 6) st m ([.ref (h 0), .int x] : List Value).toArray below meth c H locs 0 0 Q (F0 m 8 ls []) := by
    intro f
    induction f with
    | zero =>
      intro i hf hi hv
      exact absurd hf (by omega)
    | succ f ih8 =>
      intro i hf hi hv H locs ls Z hl
      refine lv_iload_n hx hb dX1_finestAt_8 rfl (lv_at hl 3 rfl) ?_
      refine lv_bipush (v := (nI 125)) hx hb dX1_finestAt_9 (by decide) ?_
      refine lv_icmp_ge (tgt := 38) hx hb dX1_finestAt_11 (by decide) (fun c11 => ?_) (fun c11 => ?_)
      · have c11 : 125 ≤ i := (nI_leI (by omega) (by omega)).mp c11
        refine lv_bipush (v := ((-5))) hx hb dX1_finestAt_38 (by decide) ?_
        exact hret _ _ _ _ _ F1 dX1_finestAt_40 (rfl) ((pl_fat_end c11).symm.trans hv) Z
      · have c11 : i < 125 := Nat.lt_of_not_le (mt (nI_leI (by omega) (by omega)).mpr c11)
        refine lv_aload_n hx hb dX1_finestAt_14 rfl (lv_at hl 0 rfl) ?_
        refine lv_iload_n hx hb dX1_finestAt_15 rfl (lv_at hl 3 rfl) ?_
        refine pl_callV (q0 := 0) (rest := []) (mX1_isFinest l D h k n a b d V S F1 i c11 hF) C Z rfl rfl rfl (lw_V q232 q234 qs14 q19 q235) 1 rfl (by decide +kernel) (by decide) ⟨rfl, rfl⟩ hl (Nat.le_of_ble_eq_true rfl) rfl dX1_finestAt_16 (fun v16 u H locs hp Z => ?_)
        obtain _ := u
        try dsimp only at hp
        subst hp
        have Z : pl_Zx D A st (pl_M h k n a b d (pl_at V) S F1) H locs := Z
        refine lv_if_eq (tgt := 32) hx hb dX1_finestAt_19 (by decide) (fun c19 => ?_) (fun c19 => ?_)
        · have c19 : (pl_fin (pl_gd n V S a b d) i) = false := pn_b0.mp c19
          have e1 := pl_cnt_f c19
          refine lv_iinc (v := (nI (i + 1))) (lv' := [(3, .int (nI (i + 1))), (0, .ref (h 0)), (1, .int x), (2, .int (nI (pl_cnt (pl_fin (pl_gd n V S a b d)) i)))]) hx hb dX1_finestAt_32 hl (k := 3) rfl (pn_i1 _) (by decide) rfl (fun ls hl => ?_)
          refine lv_goto (tgt := 8) hx hb dX1_finestAt_35 (by decide) ?_
          exact ih8 (i + 1) (by omega) (by omega) ((pl_fat_next c11 (by first | exact (fun q => c24 q.2) | exact (fun q => absurd (c19.symm.trans q.1) (by decide)))).trans hv) _ _ _ Z (by rw [e1]; exact lv_sub hl [1, 2, 3, 0] rfl)
        · have c19 : (pl_fin (pl_gd n V S a b d) i) = true := pn_b1.mp c19
          have e1 := pl_cnt_t c19
          refine lv_iload_n hx hb dX1_finestAt_22 rfl (lv_at hl 2 rfl) ?_
          refine lv_iload_n hx hb dX1_finestAt_23 rfl (lv_at hl 1 rfl) ?_
          refine lv_icmp_ne (tgt := 29) hx hb dX1_finestAt_24 (by decide) (fun c24 => ?_) (fun c24 => ?_)
          · have c24 := c24
            refine lv_iinc (v := (nI ((pl_cnt (pl_fin (pl_gd n V S a b d)) i) + 1))) (lv' := [(2, .int (nI ((pl_cnt (pl_fin (pl_gd n V S a b d)) i) + 1))), (0, .ref (h 0)), (1, .int x), (3, .int (nI i))]) hx hb dX1_finestAt_29 hl (k := 2) rfl (pn_i1 _) (by decide) rfl (fun ls hl => ?_)
            refine lv_iinc (v := (nI (i + 1))) (lv' := [(3, .int (nI (i + 1))), (2, .int (nI ((pl_cnt (pl_fin (pl_gd n V S a b d)) i) + 1))), (0, .ref (h 0)), (1, .int x)]) hx hb dX1_finestAt_32 hl (k := 3) rfl (pn_i1 _) (by decide) rfl (fun ls hl => ?_)
            refine lv_goto (tgt := 8) hx hb dX1_finestAt_35 (by decide) ?_
            exact ih8 (i + 1) (by omega) (by omega) ((pl_fat_next c11 (by first | exact (fun q => c24 q.2) | exact (fun q => absurd (c19.symm.trans q.1) (by decide)))).trans hv) _ _ _ Z (by rw [e1]; exact lv_sub hl [2, 3, 1, 0] rfl)
          · have c24 := c24
            refine lv_iload_n hx hb dX1_finestAt_27 rfl (lv_at hl 3 rfl) ?_
            exact hret _ _ _ _ _ F1 dX1_finestAt_28 (rfl) ((pl_fat_hit c11 c19 c24).symm.trans hv) Z
  exact loop8 126 0 (by omega) (Nat.zero_le _) (rfl) _ _ _ Z (lv_sub hl [2, 3, 1, 0] rfl)
set_option maxHeartbeats 4000000 in
set_option maxRecDepth 100000 in
theorem mX1_sum (l : Launch) (D : va_G) (h : Nat → Nat) (k : Nat → ClassId) (n a b d : Nat) (V S F : Nat → Nat) (g : Nat) (hg : g < 125) : pl_CI l yX1_sum cX1_sum 2 .int (rmD 1) D (pl_MT k) [.ref (h 0), .int (nI g)] (pl_M h k n a b d (pl_at V) S F) (fun _ : Unit => pl_M h k n a b d (pl_at V) S F) (fun v _ => v = nI (pl_sum g)) := by
  refine pl_CI_of (by decide) (Nat.le_of_ble_eq_true rfl) ?_
  intro p e st m below meth c A Q ls C hret Z hl
  have hx := C.1
  have hb := C.2.1
  have hl : lv_has ls 2 [(0, .ref (h 0)), (1, .int (nI g))] := hl
  refine lv_aload_n hx hb dX1_sum_0 rfl (lv_at hl 0 rfl) ?_
  refine lv_iload_n hx hb dX1_sum_1 rfl (lv_at hl 1 rfl) ?_
  refine lv_iconst (v := (nI 0)) hx hb dX1_sum_2 (by decide) ?_
  refine pl_callV (q0 := 0) (rest := []) (mX1_level l D h k n a b d V S F g 0 hg (by decide)) C Z rfl rfl rfl (lw_V q210 q212 qs12 q19 q213) 2 rfl (by decide +kernel) (by decide) ⟨rfl, rfl⟩ hl (Nat.le_of_ble_eq_true rfl) rfl dX1_sum_3 (fun v3 u H locs hp Z => ?_)
  obtain _ := u
  try dsimp only at hp
  subst hp
  have Z : pl_Zx D A st (pl_M h k n a b d (pl_at V) S F) H locs := Z
  refine lv_aload_n hx hb dX1_sum_6 rfl (lv_at hl 0 rfl) ?_
  refine lv_iload_n hx hb dX1_sum_7 rfl (lv_at hl 1 rfl) ?_
  refine lv_iconst (v := (nI 1)) hx hb dX1_sum_8 (by decide) ?_
  refine pl_callV (q0 := 0) (rest := [.int (nI (pl_lev g 0))]) (mX1_level l D h k n a b d V S F g 1 hg (by decide)) C Z rfl rfl rfl (lw_V q210 q212 qs12 q19 q213) 2 rfl (by decide +kernel) (by decide) ⟨rfl, rfl⟩ hl (Nat.le_of_ble_eq_true rfl) rfl dX1_sum_9 (fun v9 u H locs hp Z => ?_)
  obtain _ := u
  try dsimp only at hp
  subst hp
  have Z : pl_Zx D A st (pl_M h k n a b d (pl_at V) S F) H locs := Z
  refine pn_add hx hb dX1_sum_12 ?_
  refine lv_aload_n hx hb dX1_sum_13 rfl (lv_at hl 0 rfl) ?_
  refine lv_iload_n hx hb dX1_sum_14 rfl (lv_at hl 1 rfl) ?_
  refine lv_iconst (v := (nI 2)) hx hb dX1_sum_15 (by decide) ?_
  refine pl_callV (q0 := 0) (rest := [.int (nI ((pl_lev g 0) + (pl_lev g 1)))]) (mX1_level l D h k n a b d V S F g 2 hg (by decide)) C Z rfl rfl rfl (lw_V q210 q212 qs12 q19 q213) 2 rfl (by decide +kernel) (by decide) ⟨rfl, rfl⟩ hl (Nat.le_of_ble_eq_true rfl) rfl dX1_sum_16 (fun v16 u H locs hp Z => ?_)
  obtain _ := u
  try dsimp only at hp
  subst hp
  have Z : pl_Zx D A st (pl_M h k n a b d (pl_at V) S F) H locs := Z
  refine pn_add hx hb dX1_sum_19 ?_
  exact hret _ _ _ _ _ (()) dX1_sum_20 (rfl) (rfl) Z
set_option maxHeartbeats 4000000 in
set_option maxRecDepth 100000 in
theorem mX1_best (l : Launch) (D : va_G) (h : Nat → Nat) (k : Nat → ClassId) (n a b d : Nat) (V S F : Nat → Nat) (hn : n ≤ 16) (hS : ∀ i, S i < 8) (ha8 : a ≤ 8) (hb8 : b ≤ 8) (hd16 : d ≤ 16) : pl_CI l yX1_best cX1_best 3 .int (rmD 6) D (pl_MT k) [.ref (h 0)] (pl_M h k n a b d (pl_at V) S F) (fun u : Nat → Nat => pl_M h k n a b d (pl_at V) S u) (fun v _ => v = sp_best n V S a b d) := by
  refine pl_CI_of (by decide) (Nat.le_of_ble_eq_true rfl) ?_
  intro p e st m below meth c A Q ls C hret Z hl
  have hx := C.1
  have hb := C.2.1
  have hl : lv_has ls 3 [(0, .ref (h 0))] := hl
  refine lv_bipush (v := ((-5))) hx hb dX1_best_0 (by decide) ?_
  refine lv_istore_n (lv' := [(1, .int ((-5))), (0, .ref (h 0))]) hx hb dX1_best_2 rfl hl (by decide) rfl (fun ls hl => ?_)
  refine lv_aload_n hx hb dX1_best_3 rfl (lv_at hl 1 rfl) ?_
  refine pl_callU (q0 := 0) (rest := []) (mX1_judge l D h k n a b d V S F hn hS ha8 hb8 hd16) C Z rfl rfl rfl (lw_V q223 q225 qs13 q19 q226) 0 rfl (by decide +kernel) (by decide) ⟨rfl, rfl⟩ hl (Nat.le_of_ble_eq_true rfl) rfl dX1_best_4 (fun u H locs hp Z => ?_)
  obtain ⟨F1, rfl⟩ : ∃ z, z = u := ⟨_, rfl⟩
  have hF : ∀ t, t < 125 → F1 t = (pl_gd n V S a b d t).toNat := hp
  have Z : pl_Zx D A st (pl_M h k n a b d (pl_at V) S F1) H locs := Z
  refine lv_iconst (v := (nI 0)) hx hb dX1_best_7 (by decide) ?_
  refine lv_istore_n (lv' := [(2, .int (nI 0)), (1, .int ((-5))), (0, .ref (h 0))]) hx hb dX1_best_8 rfl hl (by decide) rfl (fun ls hl => ?_)
  have loop9 : ∀ (f : Nat) (i : Nat), 125 < i + f → (i ≤ 125) → ∀ (H : Heap) (locs : List Loc) (ls : Array Slot), pl_Zx D A st (pl_M h k n a b d (pl_at V) S F1) H locs → lv_has ls 3 [(0, .ref (h 0)), (1, .int (pl_bv (pl_bst (pl_gd n V S a b d) i))), (2, .int (nI i))] → W p l e (rmD 6) st m ([.ref (h 0)] : List Value).toArray below meth c H locs 0 0 Q (F0 m 9 ls []) := by
    intro f
    induction f with
    | zero =>
      intro i hf hi
      exact absurd hf (by omega)
    | succ f ih9 =>
      intro i hf hi H locs ls Z hl
      refine lv_iload_n hx hb dX1_best_9 rfl (lv_at hl 2 rfl) ?_
      refine lv_bipush (v := (nI 125)) hx hb dX1_best_10 (by decide) ?_
      refine lv_icmp_ge (tgt := 49) hx hb dX1_best_12 (by decide) (fun c12 => ?_) (fun c12 => ?_)
      · have c12 : 125 ≤ i := (nI_leI (by omega) (by omega)).mp c12
        refine lv_iload_n hx hb dX1_best_49 rfl (lv_at hl 1 rfl) ?_
        exact hret _ _ _ _ _ F1 dX1_best_50 (rfl) (by rw [show i = 125 by omega]; rfl) Z
      · have c12 : i < 125 := Nat.lt_of_not_le (mt (nI_leI (by omega) (by omega)).mpr c12)
        refine lv_aload_n hx hb dX1_best_15 rfl (lv_at hl 0 rfl) ?_
        refine pm_get C Z 0 rfl 6 (by decide) q165 rfl dX1_best_16 ?_
        refine lv_iload_n hx hb dX1_best_19 rfl (lv_at hl 2 rfl) ?_
        refine pn_zald C Z 3 2 rfl rfl (by omega) (by decide) dX1_best_20 ?_
        have fb := pl_fl hF c12
        refine lv_if_eq (tgt := 43) hx hb dX1_best_21 (by decide) (fun c21 => ?_) (fun c21 => ?_)
        · have c21 : (F1 i) = 0 := (pn_e0 (by omega)).mp c21
          have e1 := pl_bst_n1 (pl_f0 hF c12 c21)
          refine lv_iinc (v := (nI (i + 1))) (lv' := [(2, .int (nI (i + 1))), (0, .ref (h 0)), (1, .int (pl_bv (pl_bst (pl_gd n V S a b d) i)))]) hx hb dX1_best_43 hl (k := 2) rfl (pn_i1 _) (by decide) rfl (fun ls hl => ?_)
          refine lv_goto (tgt := 9) hx hb dX1_best_46 (by decide) ?_
          exact ih9 (i + 1) (by omega) (by omega) _ _ _ Z (by rw [e1]; exact lv_sub hl [1, 2, 0] rfl)
        · have c21 : ¬ (F1 i) = 0 := mt (pn_e0 (by omega)).mpr c21
          have sb := pl_sum_le c12
          refine lv_iload_n hx hb dX1_best_24 rfl (lv_at hl 1 rfl) ?_
          refine lv_if_lt (tgt := 41) hx hb dX1_best_25 (by decide) (fun c25 => ?_) (fun c25 => ?_)
          · have c25 := c25
            have e1 := pl_bst_y (pl_f1 hF c12 c21) (pl_bv_neg hi c25 c12)
            refine lv_iload_n hx hb dX1_best_41 rfl (lv_at hl 2 rfl) ?_
            refine lv_istore_n (lv' := [(1, .int (nI i)), (0, .ref (h 0)), (2, .int (nI i))]) hx hb dX1_best_42 rfl hl (by decide) rfl (fun ls hl => ?_)
            refine lv_iinc (v := (nI (i + 1))) (lv' := [(2, .int (nI (i + 1))), (1, .int (nI i)), (0, .ref (h 0))]) hx hb dX1_best_43 hl (k := 2) rfl (pn_i1 _) (by decide) rfl (fun ls hl => ?_)
            refine lv_goto (tgt := 9) hx hb dX1_best_46 (by decide) ?_
            exact ih9 (i + 1) (by omega) (by omega) _ _ _ Z (by rw [e1]; exact lv_sub hl [2, 1, 0] rfl)
          · have c25 := c25
            obtain ⟨w, ew, hw⟩ := pl_bv_pos hi c25
            have ev : pl_bv (pl_bst (pl_gd n V S a b d) i) = nI w := by rw [ew]; rfl
            rw [ev] at hl
            have sw := pl_sum_le hw
            have eb : pl_bl (pl_bst (pl_gd n V S a b d) i) = pl_sum w := by rw [ew]; rfl
            refine lv_aload_n hx hb dX1_best_28 rfl (lv_at hl 0 rfl) ?_
            refine lv_iload_n hx hb dX1_best_29 rfl (lv_at hl 2 rfl) ?_
            refine pl_callV (q0 := 0) (rest := []) (mX1_sum l D h k n a b d V S F1 i c12) C Z rfl rfl rfl (lw_V q248 q250 qs16 q19 q251) 1 rfl (by decide +kernel) (by decide) ⟨rfl, rfl⟩ hl (Nat.le_of_ble_eq_true rfl) rfl dX1_best_30 (fun v30 u H locs hp Z => ?_)
            obtain _ := u
            try dsimp only at hp
            subst hp
            have Z : pl_Zx D A st (pl_M h k n a b d (pl_at V) S F1) H locs := Z
            refine lv_aload_n hx hb dX1_best_33 rfl (lv_at hl 0 rfl) ?_
            refine lv_iload_n hx hb dX1_best_34 rfl (lv_at hl 1 rfl) ?_
            refine pl_callV (q0 := 0) (rest := [.int (nI (pl_sum i))]) (mX1_sum l D h k n a b d V S F1 w hw) C Z rfl rfl rfl (lw_V q248 q250 qs16 q19 q251) 1 rfl (by decide +kernel) (by decide) ⟨rfl, rfl⟩ hl (Nat.le_of_ble_eq_true rfl) rfl dX1_best_35 (fun v35 u H locs hp Z => ?_)
            obtain _ := u
            try dsimp only at hp
            subst hp
            have Z : pl_Zx D A st (pl_M h k n a b d (pl_at V) S F1) H locs := Z
            refine lv_icmp_ge (tgt := 43) hx hb dX1_best_38 (by decide) (fun c38 => ?_) (fun c38 => ?_)
            · have c38 : (pl_sum w) ≤ (pl_sum i) := (nI_leI (by omega) (by omega)).mp c38
              have e1 : pl_bst (pl_gd n V S a b d) (i + 1) = pl_bst (pl_gd n V S a b d) i := pl_bst_n2 (by omega)
              rw [← ev] at hl
              refine lv_iinc (v := (nI (i + 1))) (lv' := [(2, .int (nI (i + 1))), (0, .ref (h 0)), (1, .int (pl_bv (pl_bst (pl_gd n V S a b d) i)))]) hx hb dX1_best_43 hl (k := 2) rfl (pn_i1 _) (by decide) rfl (fun ls hl => ?_)
              refine lv_goto (tgt := 9) hx hb dX1_best_46 (by decide) ?_
              exact ih9 (i + 1) (by omega) (by omega) _ _ _ Z (by rw [e1]; exact lv_sub hl [1, 2, 0] rfl)
            · have c38 : (pl_sum i) < (pl_sum w) := Nat.lt_of_not_le (mt (nI_leI (by omega) (by omega)).mpr c38)
              have e1 := pl_bst_y (pl_f1 hF c12 c21) (by omega)
              refine lv_iload_n hx hb dX1_best_41 rfl (lv_at hl 2 rfl) ?_
              refine lv_istore_n (lv' := [(1, .int (nI i)), (0, .ref (h 0)), (2, .int (nI i))]) hx hb dX1_best_42 rfl hl (by decide) rfl (fun ls hl => ?_)
              refine lv_iinc (v := (nI (i + 1))) (lv' := [(2, .int (nI (i + 1))), (1, .int (nI i)), (0, .ref (h 0))]) hx hb dX1_best_43 hl (k := 2) rfl (pn_i1 _) (by decide) rfl (fun ls hl => ?_)
              refine lv_goto (tgt := 9) hx hb dX1_best_46 (by decide) ?_
              exact ih9 (i + 1) (by omega) (by omega) _ _ _ Z (by rw [e1]; exact lv_sub hl [2, 1, 0] rfl)
  exact loop9 126 0 (by omega) (Nat.zero_le _) _ _ _ Z (lv_sub hl [2, 1, 0] rfl)
end
section
set_option maxHeartbeats 4000000 in
set_option maxRecDepth 100000 in
theorem mX1_groups (l : Launch) (D : va_G) (h : Nat → Nat) (k : Nat → ClassId) (n a b d : Nat) (V S F : Nat → Nat) (x : Int32) (hn : n ≤ 16) : pl_CI l yX1_groups cX1_groups 5 .int (rmD 2) D (pl_MT k) [.ref (h 0), .int x] (pl_M h k n a b d (pl_at V) S F) (fun _ : Unit => pl_M h k n a b d (pl_at V) S F) (fun v _ => v = sp_groups n V x) := by
  refine pl_CI_of (by decide) (Nat.le_of_ble_eq_true rfl) ?_
  intro p e st m below meth c A Q ls C hret Z hl
  have hx := C.1
  have hb := C.2.1
  have hl : lv_has ls 5 [(0, .ref (h 0)), (1, .int x)] := hl
  refine lv_aload_n hx hb dX1_groups_0 rfl (lv_at hl 0 rfl) ?_
  refine lv_iload_n hx hb dX1_groups_1 rfl (lv_at hl 1 rfl) ?_
  refine pl_callV (q0 := 0) (rest := []) (mX1_isSetting l D h k n a b d V S F x) C Z rfl rfl rfl (lw_V q198 q200 qs9 q19 q201) 1 rfl (by decide +kernel) (by decide) ⟨rfl, rfl⟩ hl (Nat.le_of_ble_eq_true rfl) rfl dX1_groups_2 (fun v2 u H locs hp Z => ?_)
  rcases hp with hp | hp
  · obtain ⟨rfl, hbad⟩ := hp
    have Z : pl_Zx D A st (pl_M h k n a b d (pl_at V) S F) H locs := Z
    refine lv_if_ne (tgt := 11) hx hb dX1_groups_5 (by decide) (fun c5 => ?_) (fun c5 => ?_)
    · have c5 : ¬ 0 = 0 := mt (pn_e0 (by omega)).mpr c5
      exact absurd c5 (by decide)
    · have c5 : 0 = 0 := (pn_e0 (by omega)).mp c5
      refine lv_bipush (v := ((-4))) hx hb dX1_groups_8 (by decide) ?_
      exact hret _ _ _ _ _ (()) dX1_groups_10 (rfl) ((sp_groups_b hbad).symm) Z
  · obtain ⟨rfl, j, hj, rfl⟩ := hp
    have Z : pl_Zx D A st (pl_M h k n a b d (pl_at V) S F) H locs := Z
    refine lv_if_ne (tgt := 11) hx hb dX1_groups_5 (by decide) (fun c5 => ?_) (fun c5 => ?_)
    · have c5 : ¬ 1 = 0 := mt (pn_e0 (by omega)).mpr c5
      refine lv_iconst (v := (nI 0)) hx hb dX1_groups_11 (by decide) ?_
      refine lv_istore_n (lv' := [(2, .int (nI 0)), (0, .ref (h 0)), (1, .int (nI j))]) hx hb dX1_groups_12 rfl hl (by decide) rfl (fun ls hl => ?_)
      refine lv_iconst (v := (nI 0)) hx hb dX1_groups_13 (by decide) ?_
      refine lv_istore_n (lv' := [(3, .int (nI 0)), (2, .int (nI 0)), (0, .ref (h 0)), (1, .int (nI j))]) hx hb dX1_groups_14 rfl hl (by decide) rfl (fun ls hl => ?_)
      have loop15 : ∀ (f : Nat) (i : Nat), n < i + f → (i ≤ n) → ∀ (H : Heap) (locs : List Loc) (ls : Array Slot), pl_Zx D A st (pl_M h k n a b d (pl_at V) S F) H locs → lv_has ls 5 [(0, .ref (h 0)), (1, .int (nI j)), (2, .int (nI (pl_cnt (fun r => !pl_ex (fun q => (pl_key V j) q == (pl_key V j) r) r) i))), (3, .int (nI i))] → W p l e (rmD 2) st m ([.ref (h 0), .int (nI j)] : List Value).toArray below meth c H locs 0 0 Q (F0 m 15 ls []) := by
        intro f
        induction f with
        | zero =>
          intro i hf hi
          exact absurd hf (by omega)
        | succ f ih15 =>
          intro i hf hi H locs ls Z hl
          refine lv_iload_n hx hb dX1_groups_15 rfl (lv_at hl 3 rfl) ?_
          refine lv_aload_n hx hb dX1_groups_16 rfl (lv_at hl 0 rfl) ?_
          refine pm_get C Z 0 rfl 2 (by decide) q161 rfl dX1_groups_17 ?_
          refine lv_icmp_ge (tgt := 64) hx hb dX1_groups_20 (by decide) (fun c20 => ?_) (fun c20 => ?_)
          · have c20 : n ≤ i := (nI_leI (by omega) (by omega)).mp c20
            refine lv_iload_n hx hb dX1_groups_64 rfl (lv_at hl 2 rfl) ?_
            exact hret _ _ _ _ _ (()) dX1_groups_65 (rfl) (by rw [sp_groups_j hj, show i = n by omega]; rfl) Z
          · have c20 : i < n := Nat.lt_of_not_le (mt (nI_leI (by omega) (by omega)).mpr c20)
            refine lv_iconst (v := (nI 0)) hx hb dX1_groups_23 (by decide) ?_
            refine lv_istore (lv' := [(4, .int (nI 0)), (0, .ref (h 0)), (1, .int (nI j)), (2, .int (nI (pl_cnt (fun r => !pl_ex (fun q => (pl_key V j) q == (pl_key V j) r) r) i))), (3, .int (nI i))]) hx hb dX1_groups_24 hl (by decide) rfl (fun ls hl => ?_)
            have loop26 : ∀ (f : Nat) (q : Nat), i < q + f → (q ≤ i) → (∀ x, x < q → (pl_key V j x == pl_key V j i) = false) → ∀ (H : Heap) (locs : List Loc) (ls : Array Slot), pl_Zx D A st (pl_M h k n a b d (pl_at V) S F) H locs → lv_has ls 5 [(0, .ref (h 0)), (1, .int (nI j)), (2, .int (nI (pl_cnt (fun r => !pl_ex (fun q => (pl_key V j) q == (pl_key V j) r) r) i))), (3, .int (nI i)), (4, .int (nI q))] → W p l e (rmD 2) st m ([.ref (h 0), .int (nI j)] : List Value).toArray below meth c H locs 0 0 Q (F0 m 26 ls []) := by
              intro f
              induction f with
              | zero =>
                intro q hf hq hv
                exact absurd hf (by omega)
              | succ f ih26 =>
                intro q hf hq hv H locs ls Z hl
                refine lv_iload hx hb dX1_groups_26 (lv_at hl 4 rfl) ?_
                refine lv_iload_n hx hb dX1_groups_28 rfl (lv_at hl 3 rfl) ?_
                refine lv_icmp_ge (tgt := 49) hx hb dX1_groups_29 (by decide) (fun c29 => ?_) (fun c29 => ?_)
                · have c29 : i ≤ q := (nI_leI (by omega) (by omega)).mp c29
                  refine lv_iload hx hb dX1_groups_49 (lv_at hl 4 rfl) ?_
                  refine lv_iload_n hx hb dX1_groups_51 rfl (lv_at hl 3 rfl) ?_
                  refine lv_icmp_ne (tgt := 58) hx hb dX1_groups_52 (by decide) (fun c52 => ?_) (fun c52 => ?_)
                  · have c52 : ¬ q = i := mt (nI_eq (by omega) (by omega)).mpr c52
                    have e1 := pl_grp_n (κ := (pl_key V j)) (r := i) (q := q) (by omega) (by first | exact c40 | exact absurd c29 (by omega))
                    refine lv_iinc (v := (nI (i + 1))) (lv' := [(3, .int (nI (i + 1))), (0, .ref (h 0)), (1, .int (nI j)), (2, .int (nI (pl_cnt (fun r => !pl_ex (fun q => (pl_key V j) q == (pl_key V j) r) r) i))), (4, .int (nI q))]) hx hb dX1_groups_58 hl (k := 3) rfl (pn_i1 _) (by decide) rfl (fun ls hl => ?_)
                    refine lv_goto (tgt := 15) hx hb dX1_groups_61 (by decide) ?_
                    exact ih15 (i + 1) (by omega) (by omega) _ _ _ Z (by rw [e1]; exact lv_sub hl [1, 2, 3, 0] rfl)
                  · have c52 : q = i := (nI_eq (by omega) (by omega)).mp c52
                    have e1 := pl_grp_y (κ := (pl_key V j)) (r := i) (fun x hx => hv x (by omega))
                    refine lv_iinc (v := (nI ((pl_cnt (fun r => !pl_ex (fun q => (pl_key V j) q == (pl_key V j) r) r) i) + 1))) (lv' := [(2, .int (nI ((pl_cnt (fun r => !pl_ex (fun q => (pl_key V j) q == (pl_key V j) r) r) i) + 1))), (0, .ref (h 0)), (1, .int (nI j)), (3, .int (nI i)), (4, .int (nI q))]) hx hb dX1_groups_55 hl (k := 2) rfl (pn_i1 _) (by decide) rfl (fun ls hl => ?_)
                    refine lv_iinc (v := (nI (i + 1))) (lv' := [(3, .int (nI (i + 1))), (2, .int (nI ((pl_cnt (fun r => !pl_ex (fun q => (pl_key V j) q == (pl_key V j) r) r) i) + 1))), (0, .ref (h 0)), (1, .int (nI j)), (4, .int (nI q))]) hx hb dX1_groups_58 hl (k := 3) rfl (pn_i1 _) (by decide) rfl (fun ls hl => ?_)
                    refine lv_goto (tgt := 15) hx hb dX1_groups_61 (by decide) ?_
                    exact ih15 (i + 1) (by omega) (by omega) _ _ _ Z (by rw [e1]; exact lv_sub hl [2, 3, 1, 0] rfl)
                · have c29 : q < i := Nat.lt_of_not_le (mt (nI_leI (by omega) (by omega)).mpr c29)
                  refine lv_aload_n hx hb dX1_groups_32 rfl (lv_at hl 0 rfl) ?_
                  refine lv_iload_n hx hb dX1_groups_33 rfl (lv_at hl 1 rfl) ?_
                  refine lv_iload hx hb dX1_groups_34 (lv_at hl 4 rfl) ?_
                  refine lv_iload_n hx hb dX1_groups_36 rfl (lv_at hl 3 rfl) ?_
                  refine pl_callV (q0 := 0) (rest := []) (mX1_alike l D h k n a b d V S F j q i hj (by omega) (by omega)) C Z rfl rfl rfl (lw_V q206 q208 qs11 q19 q209) 3 rfl (by decide +kernel) (by decide) ⟨rfl, rfl⟩ hl (Nat.le_of_ble_eq_true rfl) rfl dX1_groups_37 (fun v37 u H locs hp Z => ?_)
                  obtain _ := u
                  try dsimp only at hp
                  subst hp
                  have Z : pl_Zx D A st (pl_M h k n a b d (pl_at V) S F) H locs := Z
                  refine lv_if_ne (tgt := 49) hx hb dX1_groups_40 (by decide) (fun c40 => ?_) (fun c40 => ?_)
                  · have c40 : (pl_key V j q == pl_key V j i) = true := pn_b1.mp c40
                    refine lv_iload hx hb dX1_groups_49 (lv_at hl 4 rfl) ?_
                    refine lv_iload_n hx hb dX1_groups_51 rfl (lv_at hl 3 rfl) ?_
                    refine lv_icmp_ne (tgt := 58) hx hb dX1_groups_52 (by decide) (fun c52 => ?_) (fun c52 => ?_)
                    · have c52 : ¬ q = i := mt (nI_eq (by omega) (by omega)).mpr c52
                      have e1 := pl_grp_n (κ := (pl_key V j)) (r := i) (q := q) (by omega) (by first | exact c40 | exact absurd c29 (by omega))
                      refine lv_iinc (v := (nI (i + 1))) (lv' := [(3, .int (nI (i + 1))), (0, .ref (h 0)), (1, .int (nI j)), (2, .int (nI (pl_cnt (fun r => !pl_ex (fun q => (pl_key V j) q == (pl_key V j) r) r) i))), (4, .int (nI q))]) hx hb dX1_groups_58 hl (k := 3) rfl (pn_i1 _) (by decide) rfl (fun ls hl => ?_)
                      refine lv_goto (tgt := 15) hx hb dX1_groups_61 (by decide) ?_
                      exact ih15 (i + 1) (by omega) (by omega) _ _ _ Z (by rw [e1]; exact lv_sub hl [1, 2, 3, 0] rfl)
                    · have c52 : q = i := (nI_eq (by omega) (by omega)).mp c52
                      have e1 := pl_grp_y (κ := (pl_key V j)) (r := i) (fun x hx => hv x (by omega))
                      refine lv_iinc (v := (nI ((pl_cnt (fun r => !pl_ex (fun q => (pl_key V j) q == (pl_key V j) r) r) i) + 1))) (lv' := [(2, .int (nI ((pl_cnt (fun r => !pl_ex (fun q => (pl_key V j) q == (pl_key V j) r) r) i) + 1))), (0, .ref (h 0)), (1, .int (nI j)), (3, .int (nI i)), (4, .int (nI q))]) hx hb dX1_groups_55 hl (k := 2) rfl (pn_i1 _) (by decide) rfl (fun ls hl => ?_)
                      refine lv_iinc (v := (nI (i + 1))) (lv' := [(3, .int (nI (i + 1))), (2, .int (nI ((pl_cnt (fun r => !pl_ex (fun q => (pl_key V j) q == (pl_key V j) r) r) i) + 1))), (0, .ref (h 0)), (1, .int (nI j)), (4, .int (nI q))]) hx hb dX1_groups_58 hl (k := 3) rfl (pn_i1 _) (by decide) rfl (fun ls hl => ?_)
                      refine lv_goto (tgt := 15) hx hb dX1_groups_61 (by decide) ?_
                      exact ih15 (i + 1) (by omega) (by omega) _ _ _ Z (by rw [e1]; exact lv_sub hl [2, 3, 1, 0] rfl)
                  · have c40 : (pl_key V j q == pl_key V j i) = false := pn_b0.mp c40
                    refine lv_iinc (v := (nI (q + 1))) (lv' := [(4, .int (nI (q + 1))), (0, .ref (h 0)), (1, .int (nI j)), (2, .int (nI (pl_cnt (fun r => !pl_ex (fun q => (pl_key V j) q == (pl_key V j) r) r) i))), (3, .int (nI i))]) hx hb dX1_groups_43 hl (k := 4) rfl (pn_i1 _) (by decide) rfl (fun ls hl => ?_)
                    refine lv_goto (tgt := 26) hx hb dX1_groups_46 (by decide) ?_
                    exact ih26 (q + 1) (by omega) (by omega) (lt_s hv c40) _ _ _ Z (lv_sub hl [1, 2, 3, 4, 0] rfl)
            exact loop26 (i + 1) 0 (by omega) (Nat.zero_le _) (fun x hx => absurd hx (by omega)) _ _ _ Z (lv_sub hl [1, 2, 3, 4, 0] rfl)
      exact loop15 (n + 1) 0 (by omega) (Nat.zero_le _) _ _ _ Z (lv_sub hl [2, 3, 1, 0] rfl)
    · have c5 : 1 = 0 := (pn_e0 (by omega)).mp c5
      exact absurd c5 (by decide)
set_option maxHeartbeats 4000000 in
set_option maxRecDepth 100000 in
theorem mX1_lookAlike (l : Launch) (D : va_G) (h : Nat → Nat) (k : Nat → ClassId) (n a b d : Nat) (V S F : Nat → Nat) (x y : Int32) (hn : n ≤ 16) : pl_CI l yX1_lookAlike cX1_lookAlike 5 .int (rmD 2) D (pl_MT k) [.ref (h 0), .int x, .int y] (pl_M h k n a b d (pl_at V) S F) (fun _ : Unit => pl_M h k n a b d (pl_at V) S F) (fun v _ => v = sp_lookAlike n V x y) := by
  refine pl_CI_of (by decide) (Nat.le_of_ble_eq_true rfl) ?_
  intro p e st m below meth c A Q ls C hret Z hl
  have hx := C.1
  have hb := C.2.1
  have hl : lv_has ls 5 [(0, .ref (h 0)), (1, .int x), (2, .int y)] := hl
  refine lv_aload_n hx hb dX1_lookAlike_0 rfl (lv_at hl 0 rfl) ?_
  refine lv_iload_n hx hb dX1_lookAlike_1 rfl (lv_at hl 1 rfl) ?_
  refine pl_callV (q0 := 0) (rest := []) (mX1_isSetting l D h k n a b d V S F x) C Z rfl rfl rfl (lw_V q198 q200 qs9 q19 q201) 1 rfl (by decide +kernel) (by decide) ⟨rfl, rfl⟩ hl (Nat.le_of_ble_eq_true rfl) rfl dX1_lookAlike_2 (fun v2 u H locs hp Z => ?_)
  rcases hp with hp | hp
  · obtain ⟨rfl, hbad⟩ := hp
    have Z : pl_Zx D A st (pl_M h k n a b d (pl_at V) S F) H locs := Z
    refine lv_if_ne (tgt := 11) hx hb dX1_lookAlike_5 (by decide) (fun c5 => ?_) (fun c5 => ?_)
    · have c5 : ¬ 0 = 0 := mt (pn_e0 (by omega)).mpr c5
      exact absurd c5 (by decide)
    · have c5 : 0 = 0 := (pn_e0 (by omega)).mp c5
      refine lv_bipush (v := ((-4))) hx hb dX1_lookAlike_8 (by decide) ?_
      exact hret _ _ _ _ _ (()) dX1_lookAlike_10 (rfl) ((sp_lookAlike_b hbad).symm) Z
  · obtain ⟨rfl, j, hj, rfl⟩ := hp
    have Z : pl_Zx D A st (pl_M h k n a b d (pl_at V) S F) H locs := Z
    refine lv_if_ne (tgt := 11) hx hb dX1_lookAlike_5 (by decide) (fun c5 => ?_) (fun c5 => ?_)
    · have c5 : ¬ 1 = 0 := mt (pn_e0 (by omega)).mpr c5
      refine lv_iload_n hx hb dX1_lookAlike_11 rfl (lv_at hl 2 rfl) ?_
      refine lv_if_lt (tgt := 23) hx hb dX1_lookAlike_12 (by decide) (fun c12 => ?_) (fun c12 => ?_)
      · have c12 := c12
        refine lv_bipush (v := ((-3))) hx hb dX1_lookAlike_23 (by decide) ?_
        exact hret _ _ _ _ _ (()) dX1_lookAlike_25 (rfl) ((sp_lookAlike_r hj (by first | exact Or.inl c12 | exact Or.inr (Int32.not_lt.mp c20))).symm) Z
      · have c12 := c12
        refine lv_iload_n hx hb dX1_lookAlike_15 rfl (lv_at hl 2 rfl) ?_
        refine lv_aload_n hx hb dX1_lookAlike_16 rfl (lv_at hl 0 rfl) ?_
        refine pm_get C Z 0 rfl 2 (by decide) q161 rfl dX1_lookAlike_17 ?_
        refine lv_icmp_lt (tgt := 26) hx hb dX1_lookAlike_20 (by decide) (fun c20 => ?_) (fun c20 => ?_)
        · have c20 := c20
          obtain ⟨r, hr, rfl⟩ := pl_yin hn c12 c20
          refine lv_iconst (v := (nI 0)) hx hb dX1_lookAlike_26 (by decide) ?_
          refine lv_istore_n (lv' := [(3, .int (nI 0)), (0, .ref (h 0)), (1, .int (nI j)), (2, .int (nI r))]) hx hb dX1_lookAlike_27 rfl hl (by decide) rfl (fun ls hl => ?_)
          refine lv_iconst (v := (nI 0)) hx hb dX1_lookAlike_28 (by decide) ?_
          refine lv_istore (lv' := [(4, .int (nI 0)), (3, .int (nI 0)), (0, .ref (h 0)), (1, .int (nI j)), (2, .int (nI r))]) hx hb dX1_lookAlike_29 hl (by decide) rfl (fun ls hl => ?_)
          have loop31 : ∀ (f : Nat) (i : Nat), n < i + f → (i ≤ n) → ∀ (H : Heap) (locs : List Loc) (ls : Array Slot), pl_Zx D A st (pl_M h k n a b d (pl_at V) S F) H locs → lv_has ls 5 [(0, .ref (h 0)), (1, .int (nI j)), (2, .int (nI r)), (3, .int (nI (pl_cnt (fun q => pl_key V j r == pl_key V j q) i))), (4, .int (nI i))] → W p l e (rmD 2) st m ([.ref (h 0), .int (nI j), .int (nI r)] : List Value).toArray below meth c H locs 0 0 Q (F0 m 31 ls []) := by
            intro f
            induction f with
            | zero =>
              intro i hf hi
              exact absurd hf (by omega)
            | succ f ih31 =>
              intro i hf hi H locs ls Z hl
              refine lv_iload hx hb dX1_lookAlike_31 (lv_at hl 4 rfl) ?_
              refine lv_aload_n hx hb dX1_lookAlike_33 rfl (lv_at hl 0 rfl) ?_
              refine pm_get C Z 0 rfl 2 (by decide) q161 rfl dX1_lookAlike_34 ?_
              refine lv_icmp_ge (tgt := 60) hx hb dX1_lookAlike_37 (by decide) (fun c37 => ?_) (fun c37 => ?_)
              · have c37 : n ≤ i := (nI_leI (by omega) (by omega)).mp c37
                refine lv_iload_n hx hb dX1_lookAlike_60 rfl (lv_at hl 3 rfl) ?_
                exact hret _ _ _ _ _ (()) dX1_lookAlike_61 (rfl) (by rw [sp_lookAlike_j hj hr hn, show i = n by omega]; rfl) Z
              · have c37 : i < n := Nat.lt_of_not_le (mt (nI_leI (by omega) (by omega)).mpr c37)
                refine lv_aload_n hx hb dX1_lookAlike_40 rfl (lv_at hl 0 rfl) ?_
                refine lv_iload_n hx hb dX1_lookAlike_41 rfl (lv_at hl 1 rfl) ?_
                refine lv_iload_n hx hb dX1_lookAlike_42 rfl (lv_at hl 2 rfl) ?_
                refine lv_iload hx hb dX1_lookAlike_43 (lv_at hl 4 rfl) ?_
                refine pl_callV (q0 := 0) (rest := []) (mX1_alike l D h k n a b d V S F j r i hj (by omega) (by omega)) C Z rfl rfl rfl (lw_V q206 q208 qs11 q19 q209) 3 rfl (by decide +kernel) (by decide) ⟨rfl, rfl⟩ hl (Nat.le_of_ble_eq_true rfl) rfl dX1_lookAlike_45 (fun v45 u H locs hp Z => ?_)
                obtain _ := u
                try dsimp only at hp
                subst hp
                have Z : pl_Zx D A st (pl_M h k n a b d (pl_at V) S F) H locs := Z
                refine lv_if_eq (tgt := 54) hx hb dX1_lookAlike_48 (by decide) (fun c48 => ?_) (fun c48 => ?_)
                · have c48 : (pl_key V j r == pl_key V j i) = false := pn_b0.mp c48
                  have e1 := pl_cnt_f (P := fun q => pl_key V j r == pl_key V j q) (i := i) c48
                  refine lv_iinc (v := (nI (i + 1))) (lv' := [(4, .int (nI (i + 1))), (0, .ref (h 0)), (1, .int (nI j)), (2, .int (nI r)), (3, .int (nI (pl_cnt (fun q => pl_key V j r == pl_key V j q) i)))]) hx hb dX1_lookAlike_54 hl (k := 4) rfl (pn_i1 _) (by decide) rfl (fun ls hl => ?_)
                  refine lv_goto (tgt := 31) hx hb dX1_lookAlike_57 (by decide) ?_
                  exact ih31 (i + 1) (by omega) (by omega) _ _ _ Z (by rw [e1]; exact lv_sub hl [1, 2, 3, 4, 0] rfl)
                · have c48 : (pl_key V j r == pl_key V j i) = true := pn_b1.mp c48
                  have e1 := pl_cnt_t (P := fun q => pl_key V j r == pl_key V j q) (i := i) c48
                  refine lv_iinc (v := (nI ((pl_cnt (fun q => pl_key V j r == pl_key V j q) i) + 1))) (lv' := [(3, .int (nI ((pl_cnt (fun q => pl_key V j r == pl_key V j q) i) + 1))), (0, .ref (h 0)), (1, .int (nI j)), (2, .int (nI r)), (4, .int (nI i))]) hx hb dX1_lookAlike_51 hl (k := 3) rfl (pn_i1 _) (by decide) rfl (fun ls hl => ?_)
                  refine lv_iinc (v := (nI (i + 1))) (lv' := [(4, .int (nI (i + 1))), (3, .int (nI ((pl_cnt (fun q => pl_key V j r == pl_key V j q) i) + 1))), (0, .ref (h 0)), (1, .int (nI j)), (2, .int (nI r))]) hx hb dX1_lookAlike_54 hl (k := 4) rfl (pn_i1 _) (by decide) rfl (fun ls hl => ?_)
                  refine lv_goto (tgt := 31) hx hb dX1_lookAlike_57 (by decide) ?_
                  exact ih31 (i + 1) (by omega) (by omega) _ _ _ Z (by rw [e1]; exact lv_sub hl [2, 3, 4, 1, 0] rfl)
          exact loop31 (n + 1) 0 (by omega) (Nat.zero_le _) _ _ _ Z (lv_sub hl [2, 3, 4, 1, 0] rfl)
        · have c20 := c20
          refine lv_bipush (v := ((-3))) hx hb dX1_lookAlike_23 (by decide) ?_
          exact hret _ _ _ _ _ (()) dX1_lookAlike_25 (rfl) ((sp_lookAlike_r hj (by first | exact Or.inl c12 | exact Or.inr (Int32.not_lt.mp c20))).symm) Z
    · have c5 : 1 = 0 := (pn_e0 (by omega)).mp c5
      exact absurd c5 (by decide)
set_option maxHeartbeats 4000000 in
set_option maxRecDepth 100000 in
theorem mX1_row (l : Launch) (D : va_G) (h : Nat → Nat) (k : Nat → ClassId) (n a b d : Nat) (V S F : Nat → Nat) (x y : Int32) (hn : n ≤ 16) : pl_CI l yX1_row cX1_row 4 .int (rmD 0) D (pl_MT k) [.ref (h 0), .int x, .int y] (pl_M h k n a b d (pl_at V) S F) (fun _ : Unit => pl_M h k (sp_row n V S x y).2.1 a b d (pl_at (sp_row n V S x y).2.2.1) (sp_row n V S x y).2.2.2 F) (fun v _ => v = (sp_row n V S x y).1) := by
  refine pl_CI_of (by decide) (Nat.le_of_ble_eq_true rfl) ?_
  intro p e st m below meth c A Q ls C hret Z hl
  have hx := C.1
  have hb := C.2.1
  have hl : lv_has ls 4 [(0, .ref (h 0)), (1, .int x), (2, .int y)] := hl
  refine lv_iload_n hx hb dX1_row_0 rfl (lv_at hl 2 rfl) ?_
  refine lv_if_lt (tgt := 10) hx hb dX1_row_1 (by decide) (fun c1 => ?_) (fun c1 => ?_)
  · have c1 := c1
    refine lv_iconst (v := ((-1))) hx hb dX1_row_10 (by decide) ?_
    have e1 : sp_row n V S x y = (-1, n, V, S) := sp_row_1 (by first | exact Or.inl c1 | exact Or.inr (Int32.not_le.mp c7))
    exact hret _ _ _ _ _ (()) dX1_row_11 (rfl) (by rw [e1]) (by rw [e1]; exact Z)
  · have c1 := c1
    refine lv_iload_n hx hb dX1_row_4 rfl (lv_at hl 2 rfl) ?_
    refine lv_bipush (v := (nI 7)) hx hb dX1_row_5 (by decide) ?_
    refine lv_icmp_le (tgt := 12) hx hb dX1_row_7 (by decide) (fun c7 => ?_) (fun c7 => ?_)
    · have c7 := c7
      obtain ⟨t, ht, rfl⟩ := pl_y8 (n := 7) (by decide) c1 c7
      refine lv_aload_n hx hb dX1_row_12 rfl (lv_at hl 0 rfl) ?_
      refine pm_get C Z 0 rfl 2 (by decide) q161 rfl dX1_row_13 ?_
      refine lv_bipush (v := (nI 16)) hx hb dX1_row_16 (by decide) ?_
      refine lv_icmp_ne (tgt := 24) hx hb dX1_row_18 (by decide) (fun c18 => ?_) (fun c18 => ?_)
      · have c18 : ¬ n = 16 := mt (nI_eq (by omega) (by omega)).mpr c18
        refine lv_iconst (v := (nI 0)) hx hb dX1_row_24 (by decide) ?_
        refine lv_istore_n (lv' := [(3, .int (nI 0)), (0, .ref (h 0)), (1, .int x), (2, .int (nI t))]) hx hb dX1_row_25 rfl hl (by decide) rfl (fun ls hl => ?_)
        have loop26 : ∀ (f : Nat) (i : Nat), 3 < i + f → (i ≤ 3) → ∀ (H : Heap) (locs : List Loc) (ls : Array Slot), pl_Zx D A st (pl_M h k n a b d (pl_ru (pl_at V) n (x.toBitVec.toNat % 2 ^ 12) i) S F) H locs → lv_has ls 4 [(0, .ref (h 0)), (1, .int x), (2, .int (nI t)), (3, .int (nI i))] → W p l e (rmD 0) st m ([.ref (h 0), .int x, .int (nI t)] : List Value).toArray below meth c H locs 0 0 Q (F0 m 26 ls []) := by
          intro f
          induction f with
          | zero =>
            intro i hf hi
            exact absurd hf (by omega)
          | succ f ih26 =>
            intro i hf hi H locs ls Z hl
            refine lv_iload_n hx hb dX1_row_26 rfl (lv_at hl 3 rfl) ?_
            refine lv_iconst (v := (nI 3)) hx hb dX1_row_27 (by decide) ?_
            refine lv_icmp_ge (tgt := 58) hx hb dX1_row_28 (by decide) (fun c28 => ?_) (fun c28 => ?_)
            · have c28 : 3 ≤ i := (nI_leI (by omega) (by omega)).mp c28
              have ei : i = 3 := by omega
              subst ei
              rw [pl_ru_3] at Z
              refine lv_aload_n hx hb dX1_row_58 rfl (lv_at hl 0 rfl) ?_
              refine pm_get C Z 0 rfl 1 (by decide) q160 rfl dX1_row_59 ?_
              refine lv_aload_n hx hb dX1_row_62 rfl (lv_at hl 0 rfl) ?_
              refine pm_get C Z 0 rfl 2 (by decide) q161 rfl dX1_row_63 ?_
              refine lv_iload_n hx hb dX1_row_66 rfl (lv_at hl 2 rfl) ?_
              refine pn_iast C Z 2 1 rfl rfl (by omega) (by decide) dX1_row_67 (fun H locs Z => ?_)
              have Z : pl_Zx D A st (pl_M h k n a b d (pl_at (updN V n (x.toBitVec.toNat % 2 ^ 12))) (updN S n t) F) H locs := Z
              refine lv_aload_n hx hb dX1_row_68 rfl (lv_at hl 0 rfl) ?_
              refine lv_dup hx hb dX1_row_69 rfl ?_
              refine pm_get C Z 0 rfl 2 (by decide) q161 rfl dX1_row_70 ?_
              refine lv_iconst (v := (nI 1)) hx hb dX1_row_73 (by decide) ?_
              refine pn_add hx hb dX1_row_74 ?_
              refine pm_put (ty := .int) C Z 0 rfl 2 (by decide) q161 rfl (by decide +kernel) rfl rfl (Nat.le_of_ble_eq_true rfl) dX1_row_75 (fun H locs Z => ?_)
              have Z : pl_Zx D A st (pl_M h k (n + 1) a b d (pl_at (updN V n (x.toBitVec.toNat % 2 ^ 12))) (updN S n t) F) H locs := Z
              refine lv_aload_n hx hb dX1_row_78 rfl (lv_at hl 0 rfl) ?_
              refine pm_get C Z 0 rfl 2 (by decide) q161 rfl dX1_row_79 ?_
              refine lv_iconst (v := (nI 1)) hx hb dX1_row_82 (by decide) ?_
              refine pn_sub hx hb (by omega) dX1_row_83 ?_
              have e1 := sp_row_3 (V := V) (S := S) (x := x) ht (show n < 16 by omega)
              exact hret _ _ _ _ _ (()) dX1_row_84 (rfl) (by rw [e1]; exact congrArg nI (by omega)) (by rw [e1]; exact Z)
            · have c28 : i < 3 := Nat.lt_of_not_le (mt (nI_leI (by omega) (by omega)).mpr c28)
              refine lv_aload_n hx hb dX1_row_31 rfl (lv_at hl 0 rfl) ?_
              refine pm_get C Z 0 rfl 0 (by decide) q159 rfl dX1_row_32 ?_
              refine lv_aload_n hx hb dX1_row_35 rfl (lv_at hl 0 rfl) ?_
              refine pm_get C Z 0 rfl 2 (by decide) q161 rfl dX1_row_36 ?_
              refine lv_iconst (v := (nI 3)) hx hb dX1_row_39 (by decide) ?_
              refine pn_mul hx hb dX1_row_40 ?_
              refine lv_iload_n hx hb dX1_row_41 rfl (lv_at hl 3 rfl) ?_
              refine pn_add hx hb dX1_row_42 ?_
              refine lv_iload_n hx hb dX1_row_43 rfl (lv_at hl 1 rfl) ?_
              refine lv_iconst (v := (nI 4)) hx hb dX1_row_44 (by decide) ?_
              refine lv_iload_n hx hb dX1_row_45 rfl (lv_at hl 3 rfl) ?_
              refine pn_mul hx hb dX1_row_46 ?_
              refine lv_ishr hx hb dX1_row_47 ?_
              refine lv_bipush (v := (nI 15)) hx hb dX1_row_48 (by decide) ?_
              refine lv_iand hx hb dX1_row_50 ?_
              refine pn_top (y := (nI ((x.toBitVec.toNat % 2 ^ 12) / 2 ^ (4 * i) % 2 ^ 4))) (pl_xsh x c28) ?_
              refine pn_iast C Z 1 0 rfl rfl (by omega) (by decide) dX1_row_51 (fun H locs Z => ?_)
              have Z : pl_Zx D A st (pl_M h k n a b d (updN (pl_ru (pl_at V) n (x.toBitVec.toNat % 2 ^ 12) i) ((n * 3) + i) ((x.toBitVec.toNat % 2 ^ 12) / 2 ^ (4 * i) % 2 ^ 4)) S F) H locs := Z
              refine lv_iinc (v := (nI (i + 1))) (lv' := [(3, .int (nI (i + 1))), (0, .ref (h 0)), (1, .int x), (2, .int (nI t))]) hx hb dX1_row_52 hl (k := 3) rfl (pn_i1 _) (by decide) rfl (fun ls hl => ?_)
              refine lv_goto (tgt := 26) hx hb dX1_row_55 (by decide) ?_
              exact ih26 (i + 1) (by omega) (by omega) _ _ _ Z (lv_sub hl [1, 2, 3, 0] rfl)
        exact loop26 4 0 (by omega) (by omega) _ _ _ Z (lv_sub hl [1, 2, 3, 0] rfl)
      · have c18 : n = 16 := (nI_eq (by omega) (by omega)).mp c18
        refine lv_bipush (v := ((-2))) hx hb dX1_row_21 (by decide) ?_
        have e1 : sp_row n V S x (nI t) = (-2, n, V, S) := sp_row_2 ht (by omega)
        exact hret _ _ _ _ _ (()) dX1_row_23 (rfl) (by rw [e1]) (by rw [e1]; exact Z)
    · have c7 := c7
      refine lv_iconst (v := ((-1))) hx hb dX1_row_10 (by decide) ?_
      have e1 : sp_row n V S x y = (-1, n, V, S) := sp_row_1 (by first | exact Or.inl c1 | exact Or.inr (Int32.not_le.mp c7))
      exact hret _ _ _ _ _ (()) dX1_row_11 (rfl) (by rw [e1]) (by rw [e1]; exact Z)
set_option maxHeartbeats 4000000 in
set_option maxRecDepth 100000 in
theorem mX1_drop (l : Launch) (D : va_G) (h : Nat → Nat) (k : Nat → ClassId) (n a b d : Nat) (V S F : Nat → Nat) (hn : n ≤ 16) : pl_CI l yX1_drop cX1_drop 1 .int (rmD 0) D (pl_MT k) [.ref (h 0)] (pl_M h k n a b d (pl_at V) S F) (fun _ : Unit => pl_M h k (sp_drop n).2 a b d (pl_at V) S F) (fun v _ => v = (sp_drop n).1) := by
  refine pl_CI_of (by decide) (Nat.le_of_ble_eq_true rfl) ?_
  intro p e st m below meth c A Q ls C hret Z hl
  have hx := C.1
  have hb := C.2.1
  have hl : lv_has ls 1 [(0, .ref (h 0))] := hl
  refine lv_aload_n hx hb dX1_drop_0 rfl (lv_at hl 0 rfl) ?_
  refine pm_get C Z 0 rfl 2 (by decide) q161 rfl dX1_drop_1 ?_
  refine lv_if_ne (tgt := 10) hx hb dX1_drop_4 (by decide) (fun c4 => ?_) (fun c4 => ?_)
  · have c4 : ¬ n = 0 := mt (pn_e0 (by omega)).mpr c4
    refine lv_aload_n hx hb dX1_drop_10 rfl (lv_at hl 0 rfl) ?_
    refine lv_dup hx hb dX1_drop_11 rfl ?_
    refine pm_get C Z 0 rfl 2 (by decide) q161 rfl dX1_drop_12 ?_
    refine lv_iconst (v := (nI 1)) hx hb dX1_drop_15 (by decide) ?_
    refine pn_sub hx hb (by omega) dX1_drop_16 ?_
    refine pm_put (ty := .int) C Z 0 rfl 2 (by decide) q161 rfl (by decide +kernel) rfl rfl (Nat.le_of_ble_eq_true rfl) dX1_drop_17 (fun H locs Z => ?_)
    have Z : pl_Zx D A st (pl_M h k (n - 1) a b d (pl_at V) S F) H locs := Z
    refine lv_aload_n hx hb dX1_drop_20 rfl (lv_at hl 0 rfl) ?_
    refine pm_get C Z 0 rfl 2 (by decide) q161 rfl dX1_drop_21 ?_
    have e1 := sp_drop_1 c4
    exact hret _ _ _ _ _ (()) dX1_drop_24 (rfl) (by rw [e1]) (by rw [e1]; exact Z)
  · have c4 : n = 0 := (pn_e0 (by omega)).mp c4
    refine lv_bipush (v := ((-3))) hx hb dX1_drop_7 (by decide) ?_
    have e1 := sp_drop_0 c4
    exact hret _ _ _ _ _ (()) dX1_drop_9 (rfl) (by rw [e1]) (by rw [e1]; exact Z)
set_option maxHeartbeats 4000000 in
set_option maxRecDepth 100000 in
theorem mX1_demand (l : Launch) (D : va_G) (h : Nat → Nat) (k : Nat → ClassId) (n a b d : Nat) (V S F : Nat → Nat) (x y w : Int32)  : pl_CI l yX1_demand cX1_demand 4 .int (rmD 0) D (pl_MT k) [.ref (h 0), .int x, .int y, .int w] (pl_M h k n a b d (pl_at V) S F) (fun _ : Unit => pl_M h k n (sp_demand a b d x y w).2.1 (sp_demand a b d x y w).2.2.1 (sp_demand a b d x y w).2.2.2 (pl_at V) S F) (fun v _ => v = (sp_demand a b d x y w).1) := by
  refine pl_CI_of (by decide) (Nat.le_of_ble_eq_true rfl) ?_
  intro p e st m below meth c A Q ls C hret Z hl
  have hx := C.1
  have hb := C.2.1
  have hl : lv_has ls 4 [(0, .ref (h 0)), (1, .int x), (2, .int y), (3, .int w)] := hl
  refine lv_iload_n hx hb dX1_demand_0 rfl (lv_at hl 1 rfl) ?_
  refine lv_iconst (v := (nI 1)) hx hb dX1_demand_1 (by decide) ?_
  refine lv_icmp_lt (tgt := 32) hx hb dX1_demand_2 (by decide) (fun c2 => ?_) (fun c2 => ?_)
  · have c2 := c2
    refine lv_iconst (v := ((-1))) hx hb dX1_demand_32 (by decide) ?_
    have e1 : sp_demand a b d x y w = (-1, a, b, d) := sp_demand_0 (by first | exact Or.inl c2 | exact Or.inr (Or.inl c8) | exact Or.inr (Or.inr (Or.inl c13)) | exact Or.inr (Or.inr (Or.inr (Or.inl c19))) | exact Or.inr (Or.inr (Or.inr (Or.inr (Or.inl c23)))) | exact Or.inr (Or.inr (Or.inr (Or.inr (Or.inr (Int32.not_le.mp c29))))))
    exact hret _ _ _ _ _ (()) dX1_demand_33 (rfl) (by rw [e1]) (by rw [e1]; exact Z)
  · have c2 := c2
    refine lv_iload_n hx hb dX1_demand_5 rfl (lv_at hl 1 rfl) ?_
    refine lv_bipush (v := (nI 8)) hx hb dX1_demand_6 (by decide) ?_
    refine lv_icmp_gt (tgt := 32) hx hb dX1_demand_8 (by decide) (fun c8 => ?_) (fun c8 => ?_)
    · have c8 := c8
      refine lv_iconst (v := ((-1))) hx hb dX1_demand_32 (by decide) ?_
      have e1 : sp_demand a b d x y w = (-1, a, b, d) := sp_demand_0 (by first | exact Or.inl c2 | exact Or.inr (Or.inl c8) | exact Or.inr (Or.inr (Or.inl c13)) | exact Or.inr (Or.inr (Or.inr (Or.inl c19))) | exact Or.inr (Or.inr (Or.inr (Or.inr (Or.inl c23)))) | exact Or.inr (Or.inr (Or.inr (Or.inr (Or.inr (Int32.not_le.mp c29))))))
      exact hret _ _ _ _ _ (()) dX1_demand_33 (rfl) (by rw [e1]) (by rw [e1]; exact Z)
    · have c8 := c8
      refine lv_iload_n hx hb dX1_demand_11 rfl (lv_at hl 2 rfl) ?_
      refine lv_iconst (v := (nI 1)) hx hb dX1_demand_12 (by decide) ?_
      refine lv_icmp_lt (tgt := 32) hx hb dX1_demand_13 (by decide) (fun c13 => ?_) (fun c13 => ?_)
      · have c13 := c13
        refine lv_iconst (v := ((-1))) hx hb dX1_demand_32 (by decide) ?_
        have e1 : sp_demand a b d x y w = (-1, a, b, d) := sp_demand_0 (by first | exact Or.inl c2 | exact Or.inr (Or.inl c8) | exact Or.inr (Or.inr (Or.inl c13)) | exact Or.inr (Or.inr (Or.inr (Or.inl c19))) | exact Or.inr (Or.inr (Or.inr (Or.inr (Or.inl c23)))) | exact Or.inr (Or.inr (Or.inr (Or.inr (Or.inr (Int32.not_le.mp c29))))))
        exact hret _ _ _ _ _ (()) dX1_demand_33 (rfl) (by rw [e1]) (by rw [e1]; exact Z)
      · have c13 := c13
        refine lv_iload_n hx hb dX1_demand_16 rfl (lv_at hl 2 rfl) ?_
        refine lv_bipush (v := (nI 8)) hx hb dX1_demand_17 (by decide) ?_
        refine lv_icmp_gt (tgt := 32) hx hb dX1_demand_19 (by decide) (fun c19 => ?_) (fun c19 => ?_)
        · have c19 := c19
          refine lv_iconst (v := ((-1))) hx hb dX1_demand_32 (by decide) ?_
          have e1 : sp_demand a b d x y w = (-1, a, b, d) := sp_demand_0 (by first | exact Or.inl c2 | exact Or.inr (Or.inl c8) | exact Or.inr (Or.inr (Or.inl c13)) | exact Or.inr (Or.inr (Or.inr (Or.inl c19))) | exact Or.inr (Or.inr (Or.inr (Or.inr (Or.inl c23)))) | exact Or.inr (Or.inr (Or.inr (Or.inr (Or.inr (Int32.not_le.mp c29))))))
          exact hret _ _ _ _ _ (()) dX1_demand_33 (rfl) (by rw [e1]) (by rw [e1]; exact Z)
        · have c19 := c19
          refine lv_iload_n hx hb dX1_demand_22 rfl (lv_at hl 3 rfl) ?_
          refine lv_if_lt (tgt := 32) hx hb dX1_demand_23 (by decide) (fun c23 => ?_) (fun c23 => ?_)
          · have c23 := c23
            refine lv_iconst (v := ((-1))) hx hb dX1_demand_32 (by decide) ?_
            have e1 : sp_demand a b d x y w = (-1, a, b, d) := sp_demand_0 (by first | exact Or.inl c2 | exact Or.inr (Or.inl c8) | exact Or.inr (Or.inr (Or.inl c13)) | exact Or.inr (Or.inr (Or.inr (Or.inl c19))) | exact Or.inr (Or.inr (Or.inr (Or.inr (Or.inl c23)))) | exact Or.inr (Or.inr (Or.inr (Or.inr (Or.inr (Int32.not_le.mp c29))))))
            exact hret _ _ _ _ _ (()) dX1_demand_33 (rfl) (by rw [e1]) (by rw [e1]; exact Z)
          · have c23 := c23
            refine lv_iload_n hx hb dX1_demand_26 rfl (lv_at hl 3 rfl) ?_
            refine lv_bipush (v := (nI 16)) hx hb dX1_demand_27 (by decide) ?_
            refine lv_icmp_le (tgt := 34) hx hb dX1_demand_29 (by decide) (fun c29 => ?_) (fun c29 => ?_)
            · have c29 := c29
              obtain ⟨x1, hx1, hx2, rfl⟩ := pl_y18 c2 c8
              obtain ⟨y1, hy1, hy2, rfl⟩ := pl_y18 c13 c19
              obtain ⟨w1, hw1, rfl⟩ := pl_y8 (n := 16) (by decide) c23 c29
              refine lv_aload_n hx hb dX1_demand_34 rfl (lv_at hl 0 rfl) ?_
              refine lv_iload_n hx hb dX1_demand_35 rfl (lv_at hl 1 rfl) ?_
              refine pm_put (ty := .int) C Z 0 rfl 3 (by decide) q162 rfl (by decide +kernel) rfl rfl (Nat.le_of_ble_eq_true rfl) dX1_demand_36 (fun H locs Z => ?_)
              have Z : pl_Zx D A st (pl_M h k n x1 b d (pl_at V) S F) H locs := Z
              refine lv_aload_n hx hb dX1_demand_39 rfl (lv_at hl 0 rfl) ?_
              refine lv_iload_n hx hb dX1_demand_40 rfl (lv_at hl 2 rfl) ?_
              refine pm_put (ty := .int) C Z 0 rfl 4 (by decide) q163 rfl (by decide +kernel) rfl rfl (Nat.le_of_ble_eq_true rfl) dX1_demand_41 (fun H locs Z => ?_)
              have Z : pl_Zx D A st (pl_M h k n x1 y1 d (pl_at V) S F) H locs := Z
              refine lv_aload_n hx hb dX1_demand_44 rfl (lv_at hl 0 rfl) ?_
              refine lv_iload_n hx hb dX1_demand_45 rfl (lv_at hl 3 rfl) ?_
              refine pm_put (ty := .int) C Z 0 rfl 5 (by decide) q164 rfl (by decide +kernel) rfl rfl (Nat.le_of_ble_eq_true rfl) dX1_demand_46 (fun H locs Z => ?_)
              have Z : pl_Zx D A st (pl_M h k n x1 y1 w1 (pl_at V) S F) H locs := Z
              refine lv_iconst (v := (nI 0)) hx hb dX1_demand_49 (by decide) ?_
              have e1 := sp_demand_1 (a := a) (b := b) (d := d) hx1 hx2 hy1 hy2 hw1
              exact hret _ _ _ _ _ (()) dX1_demand_50 (rfl) (by rw [e1]) (by rw [e1]; exact Z)
            · have c29 := c29
              refine lv_iconst (v := ((-1))) hx hb dX1_demand_32 (by decide) ?_
              have e1 : sp_demand a b d x y w = (-1, a, b, d) := sp_demand_0 (by first | exact Or.inl c2 | exact Or.inr (Or.inl c8) | exact Or.inr (Or.inr (Or.inl c13)) | exact Or.inr (Or.inr (Or.inr (Or.inl c19))) | exact Or.inr (Or.inr (Or.inr (Or.inr (Or.inl c23)))) | exact Or.inr (Or.inr (Or.inr (Or.inr (Or.inr (Int32.not_le.mp c29))))))
              exact hret _ _ _ _ _ (()) dX1_demand_33 (rfl) (by rw [e1]) (by rw [e1]; exact Z)
end
section
/-! THE CONSTRUCTORS -/
def pl_z : Nat → Nat := fun _ => 0
def pl_f6 {α : Type} (a b c d e f : α) : Nat → α := fun i => match i with
  | 0 => a
  | 1 => b
  | 2 => c
  | 3 => d
  | 4 => e
  | _ => f
def pl_X00 (q : Nat) : va_W := [(q, .inr (0, [.int 0, .null, .null, .int 0, .int 0, .int 0, .int 0, .null, .null, .null]))]
def pl_M00 (q : Nat) : va_W := [(q, .inr (1, [.null, .null, .int 0, .int 0, .int 0, .int 0, .null]))]
theorem pl_at0 : pl_at pl_z = pl_z := by
  funext j
  simp [pl_at, pl_z]
set_option maxHeartbeats 4000000 in
set_option maxRecDepth 100000 in
theorem mX0_init (l : Launch) (D : va_G) (h0 sz : Nat) : Met l yX0_init (ws_ yX0_init cX0_init 1 none) ({ frames := 1, cells := 5, slots := 189, locals := 12 }) (va_Pc [.ref h0] (pl_Pre D [] (pl_X00 h0) sz)) (va_Qv (fun u : (Nat → Nat) × (Nat → ClassId) => u.1 0 = h0) (fun u t => pl_Aft D (pl_XT u.2) (pl_X u.1 u.2 0 2 1 0 0 pl_z pl_z pl_z pl_z pl_z) (va_A (pl_X00 h0) sz) t) (va_A (pl_X00 h0) sz)) 5 189 (va_A (pl_X00 h0) sz) := by
  refine Met.ofW (cc := cX0_init) (maxL := 1) (ret := none) (by decide) rfl ?_
  intro p e s m args below meth c s₁ B hml hv
  obtain ⟨rfl, hsz, hP, hK, hD0⟩ := hv
  have hx := B.exec
  have hb := B.bytes
  have hr := B.returns
  have hts := atoms_spec (ws := ws_ yX0_init cX0_init 1 none) B.pre
  have hts : ∀ w ∈ lw_all, w.before _ s = true := fun w h => hts w (List.mem_cons_of_mem _ h)
  have hown : s.vm.findClass RX0 = some m.cls := findClass_of_methodNamed B.named
  have hlocks := B.notSynchronized
  have hin : meth.name = "<init>" := (name_of_methodNamed B.named B.method).1
  subst hsz
  have hD := hD0.self (sz := s.heap.size)
  generalize hAe : va_A (pl_X00 h0) s.heap.size = A at hD ⊢
  have hA : ∀ q : Nat, s.heap.size ≤ q → A q := fun q h => by rw [← hAe]; exact Or.inr h
  have hS : va_S A s.heap s.heap [] := va_S.rf
  have hl := lv_entry ([.ref h0]) (n := 1) (Nat.le_of_ble_eq_true rfl)
  rw [lg_entry_eq]
  generalize (lg_sl ([.ref h0]) ++ List.replicate (1 - (lg_sl ([.ref h0])).length) Slot.unset).toArray = ls at hl ⊢
  have hl : lv_has ls 1 [(0, .ref h0)] := hl
  have hP : va_P D pl_cl [(h0, .inr (0, [.int 0, .null, .null, .int 0, .int 0, .int 0, .int 0, .null, .null, .null]))] s.heap := hP
  have hD : va_D A [(h0, .inr (0, [.int 0, .null, .null, .int 0, .int 0, .int 0, .int 0, .null, .null, .null]))] := hD
  refine lv_aload_n hx hb dX0_init_0 rfl (lv_at hl 0 rfl) ?_
  refine W.objInit hx hb hown (hts _ q25) (hts _ q26) (hts _ q27) rfl (by rw [hml]; exact hl.1) rfl dX0_init_1 (Nat.le_of_ble_eq_true rfl) (Nat.le_of_ble_eq_true rfl) ?_
  refine W.eq (g2 := F0 m 4 ls []) rfl ?_
  refine lv_aload_n hx hb dX0_init_4 rfl (lv_at hl 0 rfl) ?_
  refine lv_bipush (v := nI 16) hx hb dX0_init_5 (by decide) ?_
  refine va_newa (atype := .int) (ty := .int) (N' := 16) (a0 := (16, .inl (nF pl_z))) hx hb (hts _ q59) rfl hK hP hD hS hA (fun _ => rfl) (by decide) (by decide) (by decide) (Nat.le_of_ble_eq_true rfl) (Nat.le_of_ble_eq_true rfl) dX0_init_7 (fun q1 k1 H hK hP hD hS => ?_)
  have hP : va_P D pl_cl [(h0, .inr (0, [.int 0, .null, .null, .int 0, .int 0, .int 0, .int 0, .null, .null, .null])), (q1, .inl (k1, 16, .inl (nF pl_z)))] H := hP
  have hD : va_D A [(h0, .inr (0, [.int 0, .null, .null, .int 0, .int 0, .int 0, .int 0, .null, .null, .null])), (q1, .inl (k1, 16, .inl (nF pl_z)))] := hD
  have hK : va_K D pl_cl [(k1, .int)] s := hK
  refine W.widen (k := 1) (n := 16) (by decide) (by decide) ?_
  refine va_putF (D := D) (ci := 0) (v := .ref q1) (ty := .array .int) (C := RX0) (T := TX0) (N := 10) hx hb hts in_X0 tyX0 tyX0_ok nmX0 hown hK hP hD hS 0 rfl rfl 1 (by decide) (hts _ q29) (fun _ h9 => h9) rfl hin rfl (by decide +kernel) rfl rfl (Nat.le_of_ble_eq_true rfl) dX0_init_9 (fun H locs hP hD hS => ?_)
  have hP : va_P D pl_cl [(h0, .inr (0, [.int 0, .ref q1, .null, .int 0, .int 0, .int 0, .int 0, .null, .null, .null])), (q1, .inl (k1, 16, .inl (nF pl_z)))] H := hP
  have hD : va_D A [(h0, .inr (0, [.int 0, .ref q1, .null, .int 0, .int 0, .int 0, .int 0, .null, .null, .null])), (q1, .inl (k1, 16, .inl (nF pl_z)))] := hD
  refine lv_aload_n hx hb dX0_init_12 rfl (lv_at hl 0 rfl) ?_
  refine lv_bipush (v := nI 16) hx hb dX0_init_13 (by decide) ?_
  refine va_newa (atype := .int) (ty := .int) (N' := 16) (a0 := (16, .inl (nF pl_z))) hx hb (hts _ q59) rfl hK hP hD hS hA (fun _ => rfl) (by decide) (by decide) (by decide) (Nat.le_of_ble_eq_true rfl) (Nat.le_of_ble_eq_true rfl) dX0_init_15 (fun q2 k2 H hK hP hD hS => ?_)
  have hP : va_P D pl_cl [(h0, .inr (0, [.int 0, .ref q1, .null, .int 0, .int 0, .int 0, .int 0, .null, .null, .null])), (q1, .inl (k1, 16, .inl (nF pl_z))), (q2, .inl (k2, 16, .inl (nF pl_z)))] H := hP
  have hD : va_D A [(h0, .inr (0, [.int 0, .ref q1, .null, .int 0, .int 0, .int 0, .int 0, .null, .null, .null])), (q1, .inl (k1, 16, .inl (nF pl_z))), (q2, .inl (k2, 16, .inl (nF pl_z)))] := hD
  have hK : va_K D pl_cl [(k1, .int), (k2, .int)] s := hK
  refine W.widen (k := 2) (n := 32) (by decide) (by decide) ?_
  refine va_putF (D := D) (ci := 0) (v := .ref q2) (ty := .array .int) (C := RX0) (T := TX0) (N := 10) hx hb hts in_X0 tyX0 tyX0_ok nmX0 hown hK hP hD hS 0 rfl rfl 2 (by decide) (hts _ q30) (fun _ h9 => h9) rfl hin rfl (by decide +kernel) rfl rfl (Nat.le_of_ble_eq_true rfl) dX0_init_17 (fun H locs hP hD hS => ?_)
  have hP : va_P D pl_cl [(h0, .inr (0, [.int 0, .ref q1, .ref q2, .int 0, .int 0, .int 0, .int 0, .null, .null, .null])), (q1, .inl (k1, 16, .inl (nF pl_z))), (q2, .inl (k2, 16, .inl (nF pl_z)))] H := hP
  have hD : va_D A [(h0, .inr (0, [.int 0, .ref q1, .ref q2, .int 0, .int 0, .int 0, .int 0, .null, .null, .null])), (q1, .inl (k1, 16, .inl (nF pl_z))), (q2, .inl (k2, 16, .inl (nF pl_z)))] := hD
  refine lv_aload_n hx hb dX0_init_20 rfl (lv_at hl 0 rfl) ?_
  refine lv_bipush (v := nI 125) hx hb dX0_init_21 (by decide) ?_
  refine va_newa (atype := .byte) (ty := .byte) (N' := 125) (a0 := (125, .inl (nF pl_z))) hx hb (hts _ q60) rfl hK hP hD hS hA (fun _ => rfl) (by decide) (by decide) (by decide) (Nat.le_of_ble_eq_true rfl) (Nat.le_of_ble_eq_true rfl) dX0_init_23 (fun q3 k3 H hK hP hD hS => ?_)
  have hP : va_P D pl_cl [(h0, .inr (0, [.int 0, .ref q1, .ref q2, .int 0, .int 0, .int 0, .int 0, .null, .null, .null])), (q1, .inl (k1, 16, .inl (nF pl_z))), (q2, .inl (k2, 16, .inl (nF pl_z))), (q3, .inl (k3, 125, .inl (nF pl_z)))] H := hP
  have hD : va_D A [(h0, .inr (0, [.int 0, .ref q1, .ref q2, .int 0, .int 0, .int 0, .int 0, .null, .null, .null])), (q1, .inl (k1, 16, .inl (nF pl_z))), (q2, .inl (k2, 16, .inl (nF pl_z))), (q3, .inl (k3, 125, .inl (nF pl_z)))] := hD
  have hK : va_K D pl_cl [(k1, .int), (k2, .int), (k3, .byte)] s := hK
  refine W.widen (k := 3) (n := 157) (by decide) (by decide) ?_
  refine va_putF (D := D) (ci := 0) (v := .ref q3) (ty := .array .byte) (C := RX0) (T := TX0) (N := 10) hx hb hts in_X0 tyX0 tyX0_ok nmX0 hown hK hP hD hS 0 rfl rfl 7 (by decide) (hts _ q35) (fun _ h9 => h9) rfl hin rfl (by decide +kernel) rfl rfl (Nat.le_of_ble_eq_true rfl) dX0_init_25 (fun H locs hP hD hS => ?_)
  have hP : va_P D pl_cl [(h0, .inr (0, [.int 0, .ref q1, .ref q2, .int 0, .int 0, .int 0, .int 0, .ref q3, .null, .null])), (q1, .inl (k1, 16, .inl (nF pl_z))), (q2, .inl (k2, 16, .inl (nF pl_z))), (q3, .inl (k3, 125, .inl (nF pl_z)))] H := hP
  have hD : va_D A [(h0, .inr (0, [.int 0, .ref q1, .ref q2, .int 0, .int 0, .int 0, .int 0, .ref q3, .null, .null])), (q1, .inl (k1, 16, .inl (nF pl_z))), (q2, .inl (k2, 16, .inl (nF pl_z))), (q3, .inl (k3, 125, .inl (nF pl_z)))] := hD
  refine lv_aload_n hx hb dX0_init_28 rfl (lv_at hl 0 rfl) ?_
  refine lv_bipush (v := nI 16) hx hb dX0_init_29 (by decide) ?_
  refine va_newa (atype := .int) (ty := .int) (N' := 16) (a0 := (16, .inl (nF pl_z))) hx hb (hts _ q59) rfl hK hP hD hS hA (fun _ => rfl) (by decide) (by decide) (by decide) (Nat.le_of_ble_eq_true rfl) (Nat.le_of_ble_eq_true rfl) dX0_init_31 (fun q4 k4 H hK hP hD hS => ?_)
  have hP : va_P D pl_cl [(h0, .inr (0, [.int 0, .ref q1, .ref q2, .int 0, .int 0, .int 0, .int 0, .ref q3, .null, .null])), (q1, .inl (k1, 16, .inl (nF pl_z))), (q2, .inl (k2, 16, .inl (nF pl_z))), (q3, .inl (k3, 125, .inl (nF pl_z))), (q4, .inl (k4, 16, .inl (nF pl_z)))] H := hP
  have hD : va_D A [(h0, .inr (0, [.int 0, .ref q1, .ref q2, .int 0, .int 0, .int 0, .int 0, .ref q3, .null, .null])), (q1, .inl (k1, 16, .inl (nF pl_z))), (q2, .inl (k2, 16, .inl (nF pl_z))), (q3, .inl (k3, 125, .inl (nF pl_z))), (q4, .inl (k4, 16, .inl (nF pl_z)))] := hD
  have hK : va_K D pl_cl [(k1, .int), (k2, .int), (k3, .byte), (k4, .int)] s := hK
  refine W.widen (k := 4) (n := 173) (by decide) (by decide) ?_
  refine va_putF (D := D) (ci := 0) (v := .ref q4) (ty := .array .int) (C := RX0) (T := TX0) (N := 10) hx hb hts in_X0 tyX0 tyX0_ok nmX0 hown hK hP hD hS 0 rfl rfl 8 (by decide) (hts _ q36) (fun _ h9 => h9) rfl hin rfl (by decide +kernel) rfl rfl (Nat.le_of_ble_eq_true rfl) dX0_init_33 (fun H locs hP hD hS => ?_)
  have hP : va_P D pl_cl [(h0, .inr (0, [.int 0, .ref q1, .ref q2, .int 0, .int 0, .int 0, .int 0, .ref q3, .ref q4, .null])), (q1, .inl (k1, 16, .inl (nF pl_z))), (q2, .inl (k2, 16, .inl (nF pl_z))), (q3, .inl (k3, 125, .inl (nF pl_z))), (q4, .inl (k4, 16, .inl (nF pl_z)))] H := hP
  have hD : va_D A [(h0, .inr (0, [.int 0, .ref q1, .ref q2, .int 0, .int 0, .int 0, .int 0, .ref q3, .ref q4, .null])), (q1, .inl (k1, 16, .inl (nF pl_z))), (q2, .inl (k2, 16, .inl (nF pl_z))), (q3, .inl (k3, 125, .inl (nF pl_z))), (q4, .inl (k4, 16, .inl (nF pl_z)))] := hD
  refine lv_aload_n hx hb dX0_init_36 rfl (lv_at hl 0 rfl) ?_
  refine lv_bipush (v := nI 16) hx hb dX0_init_37 (by decide) ?_
  refine va_newa (atype := .int) (ty := .int) (N' := 16) (a0 := (16, .inl (nF pl_z))) hx hb (hts _ q59) rfl hK hP hD hS hA (fun _ => rfl) (by decide) (by decide) (by decide) (Nat.le_of_ble_eq_true rfl) (Nat.le_of_ble_eq_true rfl) dX0_init_39 (fun q5 k5 H hK hP hD hS => ?_)
  have hP : va_P D pl_cl [(h0, .inr (0, [.int 0, .ref q1, .ref q2, .int 0, .int 0, .int 0, .int 0, .ref q3, .ref q4, .null])), (q1, .inl (k1, 16, .inl (nF pl_z))), (q2, .inl (k2, 16, .inl (nF pl_z))), (q3, .inl (k3, 125, .inl (nF pl_z))), (q4, .inl (k4, 16, .inl (nF pl_z))), (q5, .inl (k5, 16, .inl (nF pl_z)))] H := hP
  have hD : va_D A [(h0, .inr (0, [.int 0, .ref q1, .ref q2, .int 0, .int 0, .int 0, .int 0, .ref q3, .ref q4, .null])), (q1, .inl (k1, 16, .inl (nF pl_z))), (q2, .inl (k2, 16, .inl (nF pl_z))), (q3, .inl (k3, 125, .inl (nF pl_z))), (q4, .inl (k4, 16, .inl (nF pl_z))), (q5, .inl (k5, 16, .inl (nF pl_z)))] := hD
  have hK : va_K D pl_cl [(k1, .int), (k2, .int), (k3, .byte), (k4, .int), (k5, .int)] s := hK
  refine W.widen (k := 5) (n := 189) (by decide) (by decide) ?_
  refine va_putF (D := D) (ci := 0) (v := .ref q5) (ty := .array .int) (C := RX0) (T := TX0) (N := 10) hx hb hts in_X0 tyX0 tyX0_ok nmX0 hown hK hP hD hS 0 rfl rfl 9 (by decide) (hts _ q37) (fun _ h9 => h9) rfl hin rfl (by decide +kernel) rfl rfl (Nat.le_of_ble_eq_true rfl) dX0_init_41 (fun H locs hP hD hS => ?_)
  have hP : va_P D pl_cl [(h0, .inr (0, [.int 0, .ref q1, .ref q2, .int 0, .int 0, .int 0, .int 0, .ref q3, .ref q4, .ref q5])), (q1, .inl (k1, 16, .inl (nF pl_z))), (q2, .inl (k2, 16, .inl (nF pl_z))), (q3, .inl (k3, 125, .inl (nF pl_z))), (q4, .inl (k4, 16, .inl (nF pl_z))), (q5, .inl (k5, 16, .inl (nF pl_z)))] H := hP
  have hD : va_D A [(h0, .inr (0, [.int 0, .ref q1, .ref q2, .int 0, .int 0, .int 0, .int 0, .ref q3, .ref q4, .ref q5])), (q1, .inl (k1, 16, .inl (nF pl_z))), (q2, .inl (k2, 16, .inl (nF pl_z))), (q3, .inl (k3, 125, .inl (nF pl_z))), (q4, .inl (k4, 16, .inl (nF pl_z))), (q5, .inl (k5, 16, .inl (nF pl_z)))] := hD
  refine lv_aload_n hx hb dX0_init_44 rfl (lv_at hl 0 rfl) ?_
  refine lv_iconst (v := nI 2) hx hb dX0_init_45 (by decide) ?_
  refine va_put (D := D) (ci := 0) (v := .int (nI 2)) (ty := .int) (C := RX0) (T := TX0) (N := 10) hx hb hts in_X0 tyX0 tyX0_ok nmX0 hown hK hP hD hS 0 rfl rfl 3 (by decide) (hts _ q31) (fun _ h9 => h9) rfl (by decide +kernel) rfl rfl (Nat.le_of_ble_eq_true rfl) dX0_init_46 (fun H locs hP hD hS => ?_)
  have hP : va_P D pl_cl [(h0, .inr (0, [.int 0, .ref q1, .ref q2, .int (nI 2), .int 0, .int 0, .int 0, .ref q3, .ref q4, .ref q5])), (q1, .inl (k1, 16, .inl (nF pl_z))), (q2, .inl (k2, 16, .inl (nF pl_z))), (q3, .inl (k3, 125, .inl (nF pl_z))), (q4, .inl (k4, 16, .inl (nF pl_z))), (q5, .inl (k5, 16, .inl (nF pl_z)))] H := hP
  have hD : va_D A [(h0, .inr (0, [.int 0, .ref q1, .ref q2, .int (nI 2), .int 0, .int 0, .int 0, .ref q3, .ref q4, .ref q5])), (q1, .inl (k1, 16, .inl (nF pl_z))), (q2, .inl (k2, 16, .inl (nF pl_z))), (q3, .inl (k3, 125, .inl (nF pl_z))), (q4, .inl (k4, 16, .inl (nF pl_z))), (q5, .inl (k5, 16, .inl (nF pl_z)))] := hD
  refine lv_aload_n hx hb dX0_init_49 rfl (lv_at hl 0 rfl) ?_
  refine lv_iconst (v := nI 1) hx hb dX0_init_50 (by decide) ?_
  refine va_put (D := D) (ci := 0) (v := .int (nI 1)) (ty := .int) (C := RX0) (T := TX0) (N := 10) hx hb hts in_X0 tyX0 tyX0_ok nmX0 hown hK hP hD hS 0 rfl rfl 4 (by decide) (hts _ q32) (fun _ h9 => h9) rfl (by decide +kernel) rfl rfl (Nat.le_of_ble_eq_true rfl) dX0_init_51 (fun H locs hP hD hS => ?_)
  have hP : va_P D pl_cl [(h0, .inr (0, [.int 0, .ref q1, .ref q2, .int (nI 2), .int (nI 1), .int 0, .int 0, .ref q3, .ref q4, .ref q5])), (q1, .inl (k1, 16, .inl (nF pl_z))), (q2, .inl (k2, 16, .inl (nF pl_z))), (q3, .inl (k3, 125, .inl (nF pl_z))), (q4, .inl (k4, 16, .inl (nF pl_z))), (q5, .inl (k5, 16, .inl (nF pl_z)))] H := hP
  have hD : va_D A [(h0, .inr (0, [.int 0, .ref q1, .ref q2, .int (nI 2), .int (nI 1), .int 0, .int 0, .ref q3, .ref q4, .ref q5])), (q1, .inl (k1, 16, .inl (nF pl_z))), (q2, .inl (k2, 16, .inl (nF pl_z))), (q3, .inl (k3, 125, .inl (nF pl_z))), (q4, .inl (k4, 16, .inl (nF pl_z))), (q5, .inl (k5, 16, .inl (nF pl_z)))] := hD
  exact W.vret hx hb hr (fun t ht hW => ⟨⟨(pl_f6 h0 q1 q2 q3 q4 q5, pl_f6 k1 k1 k2 k3 k4 k5), rfl, rfl, by rw [ht]; exact hP, va_K.moved hW.alike hK, hD⟩, hS.F ht⟩) hS.2.2 dX0_init_54
set_option maxHeartbeats 4000000 in
set_option maxRecDepth 100000 in
theorem mX1_init (l : Launch) (D : va_G) (h0 sz : Nat) : Met l yX1_init (ws_ yX1_init cX1_init 1 none) ({ frames := 1, cells := 3, slots := 189, locals := 12 }) (va_Pc [.ref h0] (pl_Pre D [] (pl_M00 h0) sz)) (va_Qv (fun u : (Nat → Nat) × (Nat → ClassId) => u.1 0 = h0) (fun u t => pl_Aft D (pl_MT u.2) (pl_M u.1 u.2 0 2 1 0 pl_z pl_z pl_z) (va_A (pl_M00 h0) sz) t) (va_A (pl_M00 h0) sz)) 3 189 (va_A (pl_M00 h0) sz) := by
  refine Met.ofW (cc := cX1_init) (maxL := 1) (ret := none) (by decide) rfl ?_
  intro p e s m args below meth c s₁ B hml hv
  obtain ⟨rfl, hsz, hP, hK, hD0⟩ := hv
  have hx := B.exec
  have hb := B.bytes
  have hr := B.returns
  have hts := atoms_spec (ws := ws_ yX1_init cX1_init 1 none) B.pre
  have hts : ∀ w ∈ lw_all, w.before _ s = true := fun w h => hts w (List.mem_cons_of_mem _ h)
  have hown : s.vm.findClass RX1 = some m.cls := findClass_of_methodNamed B.named
  have hlocks := B.notSynchronized
  have hin : meth.name = "<init>" := (name_of_methodNamed B.named B.method).1
  subst hsz
  have hD := hD0.self (sz := s.heap.size)
  generalize hAe : va_A (pl_M00 h0) s.heap.size = A at hD ⊢
  have hA : ∀ q : Nat, s.heap.size ≤ q → A q := fun q h => by rw [← hAe]; exact Or.inr h
  have hS : va_S A s.heap s.heap [] := va_S.rf
  have hl := lv_entry ([.ref h0]) (n := 1) (Nat.le_of_ble_eq_true rfl)
  rw [lg_entry_eq]
  generalize (lg_sl ([.ref h0]) ++ List.replicate (1 - (lg_sl ([.ref h0])).length) Slot.unset).toArray = ls at hl ⊢
  have hl : lv_has ls 1 [(0, .ref h0)] := hl
  have hP : va_P D pl_cl [(h0, .inr (1, [.null, .null, .int 0, .int 0, .int 0, .int 0, .null]))] s.heap := hP
  have hD : va_D A [(h0, .inr (1, [.null, .null, .int 0, .int 0, .int 0, .int 0, .null]))] := hD
  refine lv_aload_n hx hb dX1_init_0 rfl (lv_at hl 0 rfl) ?_
  refine W.objInit hx hb hown (hts _ q158) (hts _ q26) (hts _ q27) rfl (by rw [hml]; exact hl.1) rfl dX1_init_1 (Nat.le_of_ble_eq_true rfl) (Nat.le_of_ble_eq_true rfl) ?_
  refine W.eq (g2 := F0 m 4 ls []) rfl ?_
  refine lv_aload_n hx hb dX1_init_4 rfl (lv_at hl 0 rfl) ?_
  refine lv_bipush (v := nI 48) hx hb dX1_init_5 (by decide) ?_
  refine va_newa (atype := .int) (ty := .int) (N' := 48) (a0 := (48, .inl (nF pl_z))) hx hb (hts _ q59) rfl hK hP hD hS hA (fun _ => rfl) (by decide) (by decide) (by decide) (Nat.le_of_ble_eq_true rfl) (Nat.le_of_ble_eq_true rfl) dX1_init_7 (fun q1 k1 H hK hP hD hS => ?_)
  have hP : va_P D pl_cl [(h0, .inr (1, [.null, .null, .int 0, .int 0, .int 0, .int 0, .null])), (q1, .inl (k1, 48, .inl (nF pl_z)))] H := hP
  have hD : va_D A [(h0, .inr (1, [.null, .null, .int 0, .int 0, .int 0, .int 0, .null])), (q1, .inl (k1, 48, .inl (nF pl_z)))] := hD
  have hK : va_K D pl_cl [(k1, .int)] s := hK
  refine W.widen (k := 1) (n := 48) (by decide) (by decide) ?_
  refine va_putF (D := D) (ci := 1) (v := .ref q1) (ty := .array .int) (C := RX1) (T := TX1) (N := 7) hx hb hts in_X1 tyX1 tyX1_ok nmX1 hown hK hP hD hS 0 rfl rfl 0 (by decide) (hts _ q159) (fun _ h9 => h9) rfl hin rfl (by decide +kernel) rfl rfl (Nat.le_of_ble_eq_true rfl) dX1_init_9 (fun H locs hP hD hS => ?_)
  have hP : va_P D pl_cl [(h0, .inr (1, [.ref q1, .null, .int 0, .int 0, .int 0, .int 0, .null])), (q1, .inl (k1, 48, .inl (nF pl_z)))] H := hP
  have hD : va_D A [(h0, .inr (1, [.ref q1, .null, .int 0, .int 0, .int 0, .int 0, .null])), (q1, .inl (k1, 48, .inl (nF pl_z)))] := hD
  refine lv_aload_n hx hb dX1_init_12 rfl (lv_at hl 0 rfl) ?_
  refine lv_bipush (v := nI 16) hx hb dX1_init_13 (by decide) ?_
  refine va_newa (atype := .int) (ty := .int) (N' := 16) (a0 := (16, .inl (nF pl_z))) hx hb (hts _ q59) rfl hK hP hD hS hA (fun _ => rfl) (by decide) (by decide) (by decide) (Nat.le_of_ble_eq_true rfl) (Nat.le_of_ble_eq_true rfl) dX1_init_15 (fun q2 k2 H hK hP hD hS => ?_)
  have hP : va_P D pl_cl [(h0, .inr (1, [.ref q1, .null, .int 0, .int 0, .int 0, .int 0, .null])), (q1, .inl (k1, 48, .inl (nF pl_z))), (q2, .inl (k2, 16, .inl (nF pl_z)))] H := hP
  have hD : va_D A [(h0, .inr (1, [.ref q1, .null, .int 0, .int 0, .int 0, .int 0, .null])), (q1, .inl (k1, 48, .inl (nF pl_z))), (q2, .inl (k2, 16, .inl (nF pl_z)))] := hD
  have hK : va_K D pl_cl [(k1, .int), (k2, .int)] s := hK
  refine W.widen (k := 2) (n := 64) (by decide) (by decide) ?_
  refine va_putF (D := D) (ci := 1) (v := .ref q2) (ty := .array .int) (C := RX1) (T := TX1) (N := 7) hx hb hts in_X1 tyX1 tyX1_ok nmX1 hown hK hP hD hS 0 rfl rfl 1 (by decide) (hts _ q160) (fun _ h9 => h9) rfl hin rfl (by decide +kernel) rfl rfl (Nat.le_of_ble_eq_true rfl) dX1_init_17 (fun H locs hP hD hS => ?_)
  have hP : va_P D pl_cl [(h0, .inr (1, [.ref q1, .ref q2, .int 0, .int 0, .int 0, .int 0, .null])), (q1, .inl (k1, 48, .inl (nF pl_z))), (q2, .inl (k2, 16, .inl (nF pl_z)))] H := hP
  have hD : va_D A [(h0, .inr (1, [.ref q1, .ref q2, .int 0, .int 0, .int 0, .int 0, .null])), (q1, .inl (k1, 48, .inl (nF pl_z))), (q2, .inl (k2, 16, .inl (nF pl_z)))] := hD
  refine lv_aload_n hx hb dX1_init_20 rfl (lv_at hl 0 rfl) ?_
  refine lv_iconst (v := nI 2) hx hb dX1_init_21 (by decide) ?_
  refine va_put (D := D) (ci := 1) (v := .int (nI 2)) (ty := .int) (C := RX1) (T := TX1) (N := 7) hx hb hts in_X1 tyX1 tyX1_ok nmX1 hown hK hP hD hS 0 rfl rfl 3 (by decide) (hts _ q162) (fun _ h9 => h9) rfl (by decide +kernel) rfl rfl (Nat.le_of_ble_eq_true rfl) dX1_init_22 (fun H locs hP hD hS => ?_)
  have hP : va_P D pl_cl [(h0, .inr (1, [.ref q1, .ref q2, .int 0, .int (nI 2), .int 0, .int 0, .null])), (q1, .inl (k1, 48, .inl (nF pl_z))), (q2, .inl (k2, 16, .inl (nF pl_z)))] H := hP
  have hD : va_D A [(h0, .inr (1, [.ref q1, .ref q2, .int 0, .int (nI 2), .int 0, .int 0, .null])), (q1, .inl (k1, 48, .inl (nF pl_z))), (q2, .inl (k2, 16, .inl (nF pl_z)))] := hD
  refine lv_aload_n hx hb dX1_init_25 rfl (lv_at hl 0 rfl) ?_
  refine lv_iconst (v := nI 1) hx hb dX1_init_26 (by decide) ?_
  refine va_put (D := D) (ci := 1) (v := .int (nI 1)) (ty := .int) (C := RX1) (T := TX1) (N := 7) hx hb hts in_X1 tyX1 tyX1_ok nmX1 hown hK hP hD hS 0 rfl rfl 4 (by decide) (hts _ q163) (fun _ h9 => h9) rfl (by decide +kernel) rfl rfl (Nat.le_of_ble_eq_true rfl) dX1_init_27 (fun H locs hP hD hS => ?_)
  have hP : va_P D pl_cl [(h0, .inr (1, [.ref q1, .ref q2, .int 0, .int (nI 2), .int (nI 1), .int 0, .null])), (q1, .inl (k1, 48, .inl (nF pl_z))), (q2, .inl (k2, 16, .inl (nF pl_z)))] H := hP
  have hD : va_D A [(h0, .inr (1, [.ref q1, .ref q2, .int 0, .int (nI 2), .int (nI 1), .int 0, .null])), (q1, .inl (k1, 48, .inl (nF pl_z))), (q2, .inl (k2, 16, .inl (nF pl_z)))] := hD
  refine lv_aload_n hx hb dX1_init_30 rfl (lv_at hl 0 rfl) ?_
  refine lv_bipush (v := nI 125) hx hb dX1_init_31 (by decide) ?_
  refine va_newa (atype := .boolean) (ty := .boolean) (N' := 125) (a0 := (125, .inl (nF pl_z))) hx hb (hts _ q181) rfl hK hP hD hS hA (fun _ => rfl) (by decide) (by decide) (by decide) (Nat.le_of_ble_eq_true rfl) (Nat.le_of_ble_eq_true rfl) dX1_init_33 (fun q3 k3 H hK hP hD hS => ?_)
  have hP : va_P D pl_cl [(h0, .inr (1, [.ref q1, .ref q2, .int 0, .int (nI 2), .int (nI 1), .int 0, .null])), (q1, .inl (k1, 48, .inl (nF pl_z))), (q2, .inl (k2, 16, .inl (nF pl_z))), (q3, .inl (k3, 125, .inl (nF pl_z)))] H := hP
  have hD : va_D A [(h0, .inr (1, [.ref q1, .ref q2, .int 0, .int (nI 2), .int (nI 1), .int 0, .null])), (q1, .inl (k1, 48, .inl (nF pl_z))), (q2, .inl (k2, 16, .inl (nF pl_z))), (q3, .inl (k3, 125, .inl (nF pl_z)))] := hD
  have hK : va_K D pl_cl [(k1, .int), (k2, .int), (k3, .boolean)] s := hK
  refine W.widen (k := 3) (n := 189) (by decide) (by decide) ?_
  refine va_putF (D := D) (ci := 1) (v := .ref q3) (ty := .array .boolean) (C := RX1) (T := TX1) (N := 7) hx hb hts in_X1 tyX1 tyX1_ok nmX1 hown hK hP hD hS 0 rfl rfl 6 (by decide) (hts _ q165) (fun _ h9 => h9) rfl hin rfl (by decide +kernel) rfl rfl (Nat.le_of_ble_eq_true rfl) dX1_init_35 (fun H locs hP hD hS => ?_)
  have hP : va_P D pl_cl [(h0, .inr (1, [.ref q1, .ref q2, .int 0, .int (nI 2), .int (nI 1), .int 0, .ref q3])), (q1, .inl (k1, 48, .inl (nF pl_z))), (q2, .inl (k2, 16, .inl (nF pl_z))), (q3, .inl (k3, 125, .inl (nF pl_z)))] H := hP
  have hD : va_D A [(h0, .inr (1, [.ref q1, .ref q2, .int 0, .int (nI 2), .int (nI 1), .int 0, .ref q3])), (q1, .inl (k1, 48, .inl (nF pl_z))), (q2, .inl (k2, 16, .inl (nF pl_z))), (q3, .inl (k3, 125, .inl (nF pl_z)))] := hD
  exact W.vret hx hb hr (fun t ht hW => ⟨⟨(pl_f6 h0 q1 q2 q3 q3 q3, pl_f6 k1 k1 k2 k3 k3 k3), rfl, rfl, by rw [ht]; exact hP, va_K.moved hW.alike hK, hD⟩, hS.F ht⟩) hS.2.2 dX1_init_38
end
section
/-! THE CLAIM OUT OF ONE WALK OF THE LAW'S BODY. Your part is whole_start (and what it stands on); all else here is the same for every law, but numbers. -/
def R_law : String := "PrivacyLatticeLaw"
def lw_P (b : Addr) (xs : List Int32) (args : Array Value) (s : State) : Prop := args = #[.ref b] ∧ s.IntsAt b xs ∧ xs.length ≤ 256 ∧ (Jvm.Cond.and given_1 narrow_1).before args s = true
def lw_Q (_ : Array Value) (s : State) (o : Outcome) (t : State) : Prop := o = .returned (some (.int 1)) ∧ Framed s o t [] 600000 7290000
def lw_Z (below : List Frame) (a : Array Value) (s : State) : State → Prop := fun t => ∃ o, t.status = .running ∧ Ended t below o ∧ lw_Q a s o t
/-- the law's own end, with 1 on the stack, nothing written that was there before, its room as the claim has it -/
theorem lw_ret {p : Program} {l : Launch} {e : Env} {s : State} {m : MethodId} {below : List Frame} {meth : Method} {c : Code} {b : Nat} (hx : p.tables.exec = Jvm.exec) (hb : c.code = code) (hr : meth.sig.returnType = ret) (hlocks : meth.locks = false) {pc : Nat} {H : Heap} {ls : Array Slot} (hdg : decode code pc = .ok (.ireturn, 1)) : W p l e room_1 s m #[Value.ref b] below meth c H [] 600000 7290000 (lw_Z below #[Value.ref b] s) (F0 m pc ls [.int 1]) := by
  intro T hT X
  obtain ⟨fs, hret, hrun, hended, hW, hframe⟩ := X.leave (v := some (.int 1)) (hlocks := hlocks) (fun h => by rw [hr] at h; cases h)
  have hmeth' : T.vm.method? m = some meth := X.method'
  refine ⟨T.setFrames fs, ?_, .returned (some (.int 1)), hrun, hended, rfl, ⟨_, rfl⟩, hW, hframe⟩
  jvm_step X.here [X.here.top, hx, hb, hdg, hmeth', hr, ret, narrow_b1]
  (try refine ⟨rfl, ?_⟩); (try refine ⟨rfl, ?_⟩)
  first | (intro acts; rw [hret _ acts rfl rfl rfl]) | rw [hret _ _ rfl rfl rfl]
  exact Steps.refl _
/-- what holds at the law's entry: the machine, the code, the tables' words (any of lw_tbl by 'hts w (by decide +kernel)'), the script of L ints xs at the cell b, what the Statement gives of the start (any of its parts by flat_of_before) -/
def lw_At (p : Program) (s : State) (m : MethodId) (meth : Method) (c : Code) (b L : Nat) (xs : Nat → Int32) : Prop :=
  p.tables.exec = Jvm.exec ∧ c.code = code ∧ meth.sig.returnType = ret ∧ c.maxLocals = 4 ∧ s.vm.findClass R_law = some m.cls ∧ (∀ w ∈ lw_tbl, w.before #[Value.ref b] s = true) ∧ va_X b L xs s s.heap ∧ b < s.heap.size ∧ meth.locks = false ∧ (Jvm.Cond.and given_1 narrow_1).before #[Value.ref b] s = true
end
section
/-! how the law calls: the callee's world is a part of the law's -/
theorem pl_Zx_swap {D : va_G} {A : Nat → Prop} {s : State} {a b : va_W} {H : Heap} {locs : List Loc} (h : pl_Zx D A s (a ++ b) H locs) : pl_Zx D A s (b ++ a) H locs := ⟨va_P.swap (a := []) h.1, va_D.swap (a := []) h.2.1, h.2.2⟩
section
variable {p : Program} {l : Launch} {e : Env} {R : Room} {s : State} {m : MethodId} {args : Array Value} {below : List Frame} {meth : Method} {c : Code} {H : Heap} {locs : List Loc} {cells slots : Nat} {Q : State → Prop} {cc : ByteArray} {pc : Nat} {ls : Array Slot} {rest : List Value} {nL : Nat} {own : String} {D : va_G} {tys tys' : List (ClassId × FieldType)} {A : Nat → Prop} {w0 wr : va_W}
theorem pl_callA {y : MethodName} {cc' : ByteArray} {nL' : Nat} {ty : FieldType} {rm' : Room} {As : List Value} {b : Nat} {σ : Type} {w : σ → va_W} {post : Int32 → σ → Prop} {idx : Nat} {lv : List (Nat × Value)} {st : List Value} {q0 ci : Nat} {fs : List Value} {q : vw_C}
    (hM : pl_CI l y cc' nL' ty rm' D tys' (.ref b :: As) w0 w post) (C : pl_Cx p s m args c cc nL own D tys A) (hK0 : va_K D pl_cl tys' s) (Z : pl_Zx D A s (w0 ++ wr) H locs)
    (he : w0[q0]? = some (b, .inr (ci, fs))) (hc : pl_cl[ci]? = some q) (hq : q.1 = y.cls)
    (hT : GoodIn lw_all (wsV own idx y.cls y (ws_ y cc' nL' (some ty))))
    (na : Nat) (hn : As.length = na) (hd : y.cls ≠ "java/lang/invoke/MethodHandle" ∧ y.cls ≠ "java/lang/invoke/VarHandle" ∧ (parseMethodDescriptor y.desc).map (fun d => d.parameters.length) = some na)
    (hR : rm'.frames + 1 ≤ R.frames ∧ 8 + (nL' + 11) + rm'.locals ≤ R.locals ∧ cells ≤ R.cells ∧ slots ≤ R.slots) (h0 : rm'.cells = 0 ∧ rm'.slots = 0)
    (hl : lv_has ls nL lv) (hrest : (rest.map fun v => v.category).sum ≤ 8) (hst : st = As.reverse ++ .ref b :: rest) (hdg : decode cc pc = .ok (.invokevirtual idx, 3))
    (kk : ∀ (r : Int32) (u : σ) (H : Heap) (locs : List Loc), post r u → pl_Zx D A s (w u ++ wr) H locs → W p l e R s m args below meth c H locs cells slots Q (F0 m (pc + 3) ls (.int r :: rest))) :
    W p l e R s m args below meth c H locs cells slots Q (F0 m pc ls st) := by
  obtain ⟨hx, hb, hml, hown, hts, hK, hA⟩ := C
  obtain ⟨hP, hD, hS⟩ := Z
  have e1 : ∀ (k : Nat) (q : Nat × va_E), w0[k]? = some q → (w0 ++ wr)[k]? = some q := fun k q h => by rw [List.getElem?_append_left (List.getElem?_eq_some_iff.mp h).1]; exact h
  have e2 : ∀ (k : Nat) (q : Nat × va_E), wr[k]? = some q → (w0 ++ wr)[w0.length + k]? = some q := fun k q h => by rw [List.getElem?_append_right (Nat.le_add_right _ _), Nat.add_sub_cancel_left]; exact h
  have hP0 : va_P D pl_cl w0 H := fun k q h => hP k q (e1 k q h)
  have hD0 : va_D A w0 := ⟨fun i j p q hp hq hpq => hD.1 i j p q (e1 _ _ hp) (e1 _ _ hq) hpq, fun k q h => hD.2 k q (e1 k q h)⟩
  have hDr : va_D A wr := ⟨fun i j p q hp hq hpq => by have := hD.1 _ _ p q (e2 _ _ hp) (e2 _ _ hq) hpq; omega, fun k q h => hD.2 _ q (e2 k q h)⟩
  have hap : ∀ (k : Nat) (q : Nat × va_E), wr[k]? = some q → ¬ va_A w0 H.size q.1 := by
    intro k q hk h
    rcases h with ⟨i, e, h⟩ | h
    · have h3 := hD.1 _ _ _ _ (e1 _ _ h) (e2 _ _ hk) rfl
      have h4 := (List.getElem?_eq_some_iff.mp h).1
      omega
    · exact absurd (hP _ q (e2 k q hk)).lt (Nat.not_lt.mpr h)
  have hFc : ∀ q : Nat, va_A w0 H.size q → A q := by
    intro q h
    rcases h with ⟨k, e, h⟩ | h
    · exact hD0.2 k _ h
    · exact hA q (Nat.le_trans hS.1 h)
  have hrv := va_recv hK0 hP0 hc he
  rw [hq] at hrv
  refine va_calli (va_runV (As := As) (rest := rest) (b := b) ⟨hx, hb, hml, hown, hts⟩ (hM H.size) (cwV na hts hT rfl h0.1 h0.2 ⟨rfl, hd⟩ ⟨hR.1, hR.2.1⟩) ⟨pl_blind, hrv, fun U hU hW => ⟨rfl, by rw [hU], by rw [hU]; exact hP0, va_K.moved hW.alike hK0, hD0.weaken (fun _ _ _ _ => trivial)⟩⟩ rfl hn hl.1 hst (lv_room hrest) hdg ⟨hR.2.2.1, hR.2.2.2⟩) hS (fun q _ h => hFc q h) hFc ?_
  intro r u t H1 locs1 ht hvm hpost hB hz1 hk1 hS1
  obtain ⟨hP1, hK1, hD1⟩ := hB
  rw [ht] at hP1
  have hPr : va_P D pl_cl wr H1 := va_P.kept (H := H) (fun k q h => hP _ q (e2 k q h)) (fun k q hk => hk1 q.1 (hP _ q (e2 k q hk)).lt (hap k q hk))
  exact kk r u H1 locs1 hpost ⟨hP1.app hPr, (hD1.weaken (fun _ _ _ h => hFc _ h)).app hDr (fun i j p q hp hq hpq => hap j q hq (by rw [← hpq]; exact hD1.2 i p hp)), hS1⟩
theorem pl_callB {y : MethodName} {cc' : ByteArray} {nL' : Nat} {ty : FieldType} {rm' : Room} {As : List Value} {b : Nat} {σ : Type} {w : σ → va_W} {post : Int32 → σ → Prop} {idx : Nat} {lv : List (Nat × Value)} {st : List Value} {q0 ci : Nat} {fs : List Value} {q : vw_C}
    (hM : pl_CI l y cc' nL' ty rm' D tys' (.ref b :: As) w0 w post) (C : pl_Cx p s m args c cc nL own D tys A) (hK0 : va_K D pl_cl tys' s) (Z : pl_Zx D A s (wr ++ w0) H locs)
    (he : w0[q0]? = some (b, .inr (ci, fs))) (hc : pl_cl[ci]? = some q) (hq : q.1 = y.cls)
    (hT : GoodIn lw_all (wsV own idx y.cls y (ws_ y cc' nL' (some ty))))
    (na : Nat) (hn : As.length = na) (hd : y.cls ≠ "java/lang/invoke/MethodHandle" ∧ y.cls ≠ "java/lang/invoke/VarHandle" ∧ (parseMethodDescriptor y.desc).map (fun d => d.parameters.length) = some na)
    (hR : rm'.frames + 1 ≤ R.frames ∧ 8 + (nL' + 11) + rm'.locals ≤ R.locals ∧ cells ≤ R.cells ∧ slots ≤ R.slots) (h0 : rm'.cells = 0 ∧ rm'.slots = 0)
    (hl : lv_has ls nL lv) (hrest : (rest.map fun v => v.category).sum ≤ 8) (hst : st = As.reverse ++ .ref b :: rest) (hdg : decode cc pc = .ok (.invokevirtual idx, 3))
    (kk : ∀ (r : Int32) (u : σ) (H : Heap) (locs : List Loc), post r u → pl_Zx D A s (wr ++ w u) H locs → W p l e R s m args below meth c H locs cells slots Q (F0 m (pc + 3) ls (.int r :: rest))) :
    W p l e R s m args below meth c H locs cells slots Q (F0 m pc ls st) :=
  pl_callA hM C hK0 (pl_Zx_swap Z) he hc hq hT na hn hd hR h0 hl hrest hst hdg (fun r u H locs hp Z => kk r u H locs hp (pl_Zx_swap Z))
theorem pl_sl {b L j : Nat} {xs : Nat → Int32} {ws : va_W} (hx : p.tables.exec = Jvm.exec) (hb : c.code = cc) (hX : va_X b L xs s s.heap) (hbl : b < s.heap.size) (hbA : ¬ A b) (Z : pl_Zx D A s ws H locs) (hj : j < L) (hL : L < 2 ^ 31) (hdg : decode cc pc = .ok (.iaload, 1)) (kk : W p l e R s m args below meth c H locs cells slots Q (F0 m (pc + 1) ls (.int (xs j) :: rest))) : W p l e R s m args below meth c H locs cells slots Q (F0 m pc ls (.int (nI j) :: .ref b :: rest)) :=
  va_sld hx hb hX hbl hbA Z.2.2 (vp_in_nI hj hL) hdg (pn_top (by rw [nI_clamp (by omega)]) kk)
end
theorem pl_lim {L i : Nat} (hL : L ≤ 256) (hi : i ≤ 260) (h : ¬ nI L - nI 4 < nI i) : i + 4 ≤ L := by
  rw [Int32.lt_iff_toInt_lt, pk_sub_toInt (by omega) (by decide), nI_toInt (by omega)] at h
  omega
/-! what holds at the head of the law's loop -/
def pl_Inv (n a b d z : Nat) (V S K : Nat → Nat) : Prop := n ≤ 16 ∧ (∀ i, V i < 4096) ∧ (∀ i, S i < 8) ∧ a ≤ 8 ∧ b ≤ 8 ∧ d ≤ 16 ∧ pl_rdy (pl_gd n V S a b d) z K
theorem pl_rdy0 {g : Nat → Bool} {z : Nat} {K : Nat → Nat} (h : z = 0) : pl_rdy g z K := ⟨by omega, fun q => absurd h q⟩
theorem pl_inv_q {n a b d z z' : Nat} {V S K K' : Nat → Nat} (I : pl_Inv n a b d z V S K) (h : pl_rdy (pl_gd n V S a b d) z' K') : pl_Inv n a b d z' V S K' := ⟨I.1, I.2.1, I.2.2.1, I.2.2.2.1, I.2.2.2.2.1, I.2.2.2.2.2.1, h⟩
theorem pl_inv_row {n a b d z u : Nat} {V S K : Nat → Nat} {x y : Int32} (I : pl_Inv n a b d z V S K) (h : u = 0 ∨ (u = z ∧ (sp_row n V S x y).2 = (n, V, S))) : pl_Inv (sp_row n V S x y).2.1 a b d u (sp_row n V S x y).2.2.1 (sp_row n V S x y).2.2.2 K := by
  obtain ⟨i1, i2, i3, i4, i5, i6, i7⟩ := I
  by_cases c1 : y < 0 ∨ nI 7 < y
  · rw [sp_row_1 c1] at h ⊢
    refine ⟨i1, i2, i3, i4, i5, i6, ?_⟩
    rcases h with h | ⟨h, -⟩
    · exact pl_rdy0 h
    · rw [h]; exact i7
  · obtain ⟨t, ht, rfl⟩ := pl_y8 (n := 7) (by decide) (fun q => c1 (Or.inl q)) (Int32.not_lt.mp (fun q => c1 (Or.inr q)))
    by_cases c2 : 16 ≤ n
    · rw [sp_row_2 ht c2] at h ⊢
      refine ⟨i1, i2, i3, i4, i5, i6, ?_⟩
      rcases h with h | ⟨h, -⟩
      · exact pl_rdy0 h
      · rw [h]; exact i7
    · rw [sp_row_3 ht (by omega)] at h ⊢
      refine ⟨by show n + 1 ≤ 16; omega, ?_, ?_, i4, i5, i6, ?_⟩
      · intro i
        show updN V n _ i < 4096
        unfold updN
        split
        · exact Nat.mod_lt _ (by decide)
        · exact i2 i
      · intro i
        show updN S n t i < 8
        unfold updN
        split
        · exact ht
        · exact i3 i
      · rcases h with h | ⟨-, h⟩
        · exact pl_rdy0 h
        · have h2 : n + 1 = n := congrArg Prod.fst h
          omega
theorem pl_inv_drop {n a b d z u : Nat} {V S K : Nat → Nat} (I : pl_Inv n a b d z V S K) (h : u = 0 ∨ (u = z ∧ (sp_drop n).2 = n)) : pl_Inv (sp_drop n).2 a b d u V S K := by
  obtain ⟨i1, i2, i3, i4, i5, i6, i7⟩ := I
  rcases h with h | ⟨h, h2⟩
  · refine ⟨?_, i2, i3, i4, i5, i6, pl_rdy0 h⟩
    unfold sp_drop
    split
    · exact i1
    · show n - 1 ≤ 16
      omega
  · rw [h, h2]
    exact ⟨i1, i2, i3, i4, i5, i6, i7⟩
theorem pl_inv_demand {n a b d z u : Nat} {V S K : Nat → Nat} {x y w : Int32} (I : pl_Inv n a b d z V S K) (h : u = 0 ∨ (u = z ∧ (sp_demand a b d x y w).2 = (a, b, d))) : pl_Inv n (sp_demand a b d x y w).2.1 (sp_demand a b d x y w).2.2.1 (sp_demand a b d x y w).2.2.2 u V S K := by
  obtain ⟨i1, i2, i3, i4, i5, i6, i7⟩ := I
  rcases h with h | ⟨h, h2⟩
  · by_cases c1 : x < nI 1 ∨ nI 8 < x ∨ y < nI 1 ∨ nI 8 < y ∨ w < 0 ∨ nI 16 < w
    · rw [sp_demand_0 c1]
      exact ⟨i1, i2, i3, i4, i5, i6, pl_rdy0 h⟩
    · obtain ⟨x1, hx1, hx2, rfl⟩ := pl_y18 (fun q => c1 (Or.inl q)) (fun q => c1 (Or.inr (Or.inl q)))
      obtain ⟨y1, hy1, hy2, rfl⟩ := pl_y18 (fun q => c1 (Or.inr (Or.inr (Or.inl q)))) (fun q => c1 (Or.inr (Or.inr (Or.inr (Or.inl q)))))
      obtain ⟨w1, hw1, rfl⟩ := pl_y8 (n := 16) (by decide) (fun q => c1 (Or.inr (Or.inr (Or.inr (Or.inr (Or.inl q)))))) (Int32.not_lt.mp (fun q => c1 (Or.inr (Or.inr (Or.inr (Or.inr (Or.inr q)))))))
      rw [sp_demand_1 hx1 hx2 hy1 hy2 hw1]
      exact ⟨i1, i2, i3, hx1, hy1, by show w1 ≤ 16; omega, pl_rdy0 h⟩
  · rw [h, h2]
    exact ⟨i1, i2, i3, i4, i5, i6, i7⟩
end
section
set_option maxHeartbeats 4000000 in
set_option maxRecDepth 100000 in
/-- THE LAW'S LOOP -/
theorem law_loop {p : Program} {l : Launch} {e : Env} {s : State} {m : MethodId} {below : List Frame} {meth : Method} {c : Code} {D : va_G} {u v : Nat → Nat} {ku kv : Nat → ClassId} {bb L : Nat} {xs : Nat → Int32} (hL : L ≤ 256) (C0 : lw_At p s m meth c bb L xs) (hK : va_K D pl_cl (pl_XT ku ++ pl_MT kv) s) :
    ∀ (f i : Nat), L < i + f → i ≤ 260 → ∀ (n a b d z : Nat) (V S K O T F : Nat → Nat), pl_Inv n a b d z V S K → ∀ (H : Heap) (locs : List Loc) (ls : Array Slot), pl_Zx D (fun q : Nat => s.heap.size ≤ q) s (pl_X u ku n a b d z V S K O T ++ pl_M v kv n a b d (pl_at V) S F) H locs → lv_has ls 4 [(0, .ref bb), (1, .ref (u 0)), (2, .ref (v 0)), (3, .int (nI i))] → W p l e room_1 s m #[Value.ref bb] below meth c H locs 10 395 (lw_Z below #[Value.ref bb] s) (F0 m 18 ls []) := by
  obtain ⟨hx, hb, hr, hml, hown, hts0, hX, hbl, hlocks, hgv⟩ := C0
  have hts : ∀ w ∈ lw_all, w.before #[Value.ref bb] s = true := fun w h => hts0 w (lw_all_tbl h)
  have hA : ∀ q : Nat, s.heap.size ≤ q → (fun q : Nat => s.heap.size ≤ q) q := fun _ h => h
  have hbA : ¬ (fun q : Nat => s.heap.size ≤ q) bb := Nat.not_le.mpr hbl
  have C : pl_Cx p s m #[Value.ref bb] c cL_law 4 R_law D (pl_XT ku ++ pl_MT kv) (fun q : Nat => s.heap.size ≤ q) := ⟨hx, hb, hml, hown, hts, hK, hA⟩
  have hKu : va_K D pl_cl (pl_XT ku) s := hK.sub [0, 1, 2, 3, 4] rfl
  have hKv : va_K D pl_cl (pl_MT kv) s := hK.sub [5, 6, 7] rfl
  intro f
  induction f with
  | zero =>
    intro i hf hi n a b d z V S K O T F I H locs ls Z hl
    refine lv_iload_n hx hb dL_law_18 rfl (lv_at hl 3 rfl) ?_
    refine lv_aload_n hx hb dL_law_19 rfl (lv_at hl 0 rfl) ?_
    refine va_slen hx hb hX hbl hbA Z.2.2 dL_law_20 ?_
    refine lv_iconst (v := nI 4) hx hb dL_law_21 (by decide) ?_
    refine lv_isub hx hb dL_law_22 ?_
    refine lv_icmp_gt (tgt := 351) hx hb dL_law_23 (by decide) (fun c23 => ?_) (fun c23 => absurd (pl_lim hL hi c23) (by omega))
    refine lv_iconst (v := 1) hx hb dL_law_351 (by decide) ?_
    refine va_forget (fun q hq => Z.2.2.2.2 q hq) ?_
    refine W.widen (k := 600000) (n := 7290000) (by decide) (by decide) ?_
    exact lw_ret hx hb hr hlocks dL_law_352
  | succ f ih =>
    intro i hf hi n a b d z V S K O T F I H locs ls Z hl
    refine lv_iload_n hx hb dL_law_18 rfl (lv_at hl 3 rfl) ?_
    refine lv_aload_n hx hb dL_law_19 rfl (lv_at hl 0 rfl) ?_
    refine va_slen hx hb hX hbl hbA Z.2.2 dL_law_20 ?_
    refine lv_iconst (v := nI 4) hx hb dL_law_21 (by decide) ?_
    refine lv_isub hx hb dL_law_22 ?_
    refine lv_icmp_gt (tgt := 351) hx hb dL_law_23 (by decide) (fun c23 => ?_) (fun c23 => ?_)
    · refine lv_iconst (v := 1) hx hb dL_law_351 (by decide) ?_
      refine va_forget (fun q hq => Z.2.2.2.2 q hq) ?_
      refine W.widen (k := 600000) (n := 7290000) (by decide) (by decide) ?_
      exact lw_ret hx hb hr hlocks dL_law_352
    · have hi4 := pl_lim hL hi c23
      have nxt : ∀ (n a b d z : Nat) (V S K O T F : Nat → Nat), pl_Inv n a b d z V S K → ∀ (H : Heap) (locs : List Loc) (ls : Array Slot), pl_Zx D (fun q : Nat => s.heap.size ≤ q) s (pl_X u ku n a b d z V S K O T ++ pl_M v kv n a b d (pl_at V) S F) H locs → lv_has ls 4 [(0, .ref bb), (1, .ref (u 0)), (2, .ref (v 0)), (3, .int (nI i))] → W p l e room_1 s m #[Value.ref bb] below meth c H locs 10 395 (lw_Z below #[Value.ref bb] s) (F0 m 345 ls []) := by
        intro n a b d z V S K O T F I H locs ls Z hl
        refine lv_iinc (v := nI (i + 4)) (lv' := [(3, .int (nI (i + 4))), (0, .ref bb), (1, .ref (u 0)), (2, .ref (v 0))]) hx hb dL_law_345 hl (k := 3) rfl (pn_i4 _) (by decide) rfl (fun ls hl => ?_)
        refine lv_goto (tgt := 18) hx hb dL_law_348 (by decide) ?_
        exact ih (i + 4) (by omega) (by omega) n a b d z V S K O T F I _ _ _ Z (lv_sub hl [1, 2, 3, 0] rfl)
      obtain ⟨i1, i2, i3, i4, i5, i6, i7⟩ := id I
      refine lv_aload_n hx hb dL_law_26 rfl (lv_at hl 0 rfl) ?_
      refine lv_iload_n hx hb dL_law_27 rfl (lv_at hl 3 rfl) ?_
      refine pl_sl hx hb hX hbl hbA Z (by omega) (by omega) dL_law_28 ?_
      refine lv_bipush (v := nI 15) hx hb dL_law_29 (by decide) ?_
      refine lv_iand hx hb dL_law_31 ?_
      obtain ⟨w, hw, ew⟩ := pk_andE (xs i) (m := nI 15) 4 (by decide)
      refine pn_top ew ?_
      rcases (show w = 0 ∨ w = 1 ∨ w = 2 ∨ w = 3 ∨ w = 4 ∨ w = 5 ∨ w = 6 ∨ w = 7 ∨ w = 8 ∨ w = 9 ∨ w = 10 ∨ 11 ≤ w by omega) with rfl | rfl | rfl | rfl | rfl | rfl | rfl | rfl | rfl | rfl | rfl | hw2
      · refine lv_tableIn (off := 60) (tgt := 92) hx hb dL_law_32 (by decide) (by decide) (by decide) (by decide) ?_
        refine lv_aload_n hx hb dL_law_92 rfl (lv_at hl 1 rfl) ?_
        refine lv_aload_n hx hb dL_law_93 rfl (lv_at hl 0 rfl) ?_
        refine lv_iload_n hx hb dL_law_94 rfl (lv_at hl 3 rfl) ?_
        refine lv_iconst (v := nI 1) hx hb dL_law_95 (by decide) ?_
        refine pn_add hx hb dL_law_96 ?_
        refine pl_sl hx hb hX hbl hbA Z (by omega) (by omega) dL_law_97 ?_
        refine lv_aload_n hx hb dL_law_98 rfl (lv_at hl 0 rfl) ?_
        refine lv_iload_n hx hb dL_law_99 rfl (lv_at hl 3 rfl) ?_
        refine lv_iconst (v := nI 2) hx hb dL_law_100 (by decide) ?_
        refine pn_add hx hb dL_law_101 ?_
        refine pl_sl hx hb hX hbl hbA Z (by omega) (by omega) dL_law_102 ?_
        refine pl_callA (q0 := 0) (rest := []) (mX0_row l D u ku n a b d z V S K O T (xs (i + 1)) (xs (i + 2)) i1) C hKu Z rfl rfl rfl (lw_V q61 q62 q63 q18 q64) 2 rfl (by decide +kernel) (by decide) ⟨rfl, rfl⟩ hl (Nat.le_of_ble_eq_true rfl) rfl dL_law_103 (fun r1 u1 H locs hp Z => ?_)
        refine lv_aload_n hx hb dL_law_106 rfl (lv_at hl 2 rfl) ?_
        refine lv_aload_n hx hb dL_law_107 rfl (lv_at hl 0 rfl) ?_
        refine lv_iload_n hx hb dL_law_108 rfl (lv_at hl 3 rfl) ?_
        refine lv_iconst (v := nI 1) hx hb dL_law_109 (by decide) ?_
        refine pn_add hx hb dL_law_110 ?_
        refine pl_sl hx hb hX hbl hbA Z (by omega) (by omega) dL_law_111 ?_
        refine lv_aload_n hx hb dL_law_112 rfl (lv_at hl 0 rfl) ?_
        refine lv_iload_n hx hb dL_law_113 rfl (lv_at hl 3 rfl) ?_
        refine lv_iconst (v := nI 2) hx hb dL_law_114 (by decide) ?_
        refine pn_add hx hb dL_law_115 ?_
        refine pl_sl hx hb hX hbl hbA Z (by omega) (by omega) dL_law_116 ?_
        refine pl_callB (q0 := 0) (rest := [.int r1]) (mX1_row l D v kv n a b d V S F (xs (i + 1)) (xs (i + 2)) i1) C hKv Z rfl rfl rfl (lw_V q182 q183 q184 q19 q185) 2 rfl (by decide +kernel) (by decide) ⟨rfl, rfl⟩ hl (Nat.le_of_ble_eq_true rfl) rfl dL_law_117 (fun r2 u2 H locs hq Z => ?_)
        refine lv_icmp_eq (tgt := 345) hx hb dL_law_120 (by decide) (fun _ => ?_) (fun cq => absurd (Eq.trans (hp.1) (Eq.symm hq)) cq)
        exact nxt (sp_row n V S (xs (i + 1)) (xs (i + 2))).2.1 a b d u1 (sp_row n V S (xs (i + 1)) (xs (i + 2))).2.2.1 (sp_row n V S (xs (i + 1)) (xs (i + 2))).2.2.2 K O T F (pl_inv_row I hp.2) _ _ _ Z hl
      · refine lv_tableIn (off := 93) (tgt := 125) hx hb dL_law_32 (by decide) (by decide) (by decide) (by decide) ?_
        refine lv_aload_n hx hb dL_law_125 rfl (lv_at hl 1 rfl) ?_
        refine pl_callA (q0 := 0) (rest := []) (mX0_drop l D u ku n a b d z V S K O T  i1) C hKu Z rfl rfl rfl (lw_V q65 q66 q67 q18 q68) 0 rfl (by decide +kernel) (by decide) ⟨rfl, rfl⟩ hl (Nat.le_of_ble_eq_true rfl) rfl dL_law_126 (fun r1 u1 H locs hp Z => ?_)
        refine lv_aload_n hx hb dL_law_129 rfl (lv_at hl 2 rfl) ?_
        refine pl_callB (q0 := 0) (rest := [.int r1]) (mX1_drop l D v kv n a b d V S F  i1) C hKv Z rfl rfl rfl (lw_V q186 q187 q188 q19 q189) 0 rfl (by decide +kernel) (by decide) ⟨rfl, rfl⟩ hl (Nat.le_of_ble_eq_true rfl) rfl dL_law_130 (fun r2 u2 H locs hq Z => ?_)
        refine lv_icmp_eq (tgt := 345) hx hb dL_law_133 (by decide) (fun _ => ?_) (fun cq => absurd (Eq.trans (hp.1) (Eq.symm hq)) cq)
        exact nxt (sp_drop n).2 a b d u1 V S K O T F (pl_inv_drop I hp.2) _ _ _ Z hl
      · refine lv_tableIn (off := 106) (tgt := 138) hx hb dL_law_32 (by decide) (by decide) (by decide) (by decide) ?_
        refine lv_aload_n hx hb dL_law_138 rfl (lv_at hl 1 rfl) ?_
        refine lv_aload_n hx hb dL_law_139 rfl (lv_at hl 0 rfl) ?_
        refine lv_iload_n hx hb dL_law_140 rfl (lv_at hl 3 rfl) ?_
        refine lv_iconst (v := nI 1) hx hb dL_law_141 (by decide) ?_
        refine pn_add hx hb dL_law_142 ?_
        refine pl_sl hx hb hX hbl hbA Z (by omega) (by omega) dL_law_143 ?_
        refine lv_aload_n hx hb dL_law_144 rfl (lv_at hl 0 rfl) ?_
        refine lv_iload_n hx hb dL_law_145 rfl (lv_at hl 3 rfl) ?_
        refine lv_iconst (v := nI 2) hx hb dL_law_146 (by decide) ?_
        refine pn_add hx hb dL_law_147 ?_
        refine pl_sl hx hb hX hbl hbA Z (by omega) (by omega) dL_law_148 ?_
        refine lv_aload_n hx hb dL_law_149 rfl (lv_at hl 0 rfl) ?_
        refine lv_iload_n hx hb dL_law_150 rfl (lv_at hl 3 rfl) ?_
        refine lv_iconst (v := nI 3) hx hb dL_law_151 (by decide) ?_
        refine pn_add hx hb dL_law_152 ?_
        refine pl_sl hx hb hX hbl hbA Z (by omega) (by omega) dL_law_153 ?_
        refine pl_callA (q0 := 0) (rest := []) (mX0_demand l D u ku n a b d z V S K O T (xs (i + 1)) (xs (i + 2)) (xs (i + 3))) C hKu Z rfl rfl rfl (lw_V q69 q70 q71 q18 q72) 3 rfl (by decide +kernel) (by decide) ⟨rfl, rfl⟩ hl (Nat.le_of_ble_eq_true rfl) rfl dL_law_154 (fun r1 u1 H locs hp Z => ?_)
        refine lv_aload_n hx hb dL_law_157 rfl (lv_at hl 2 rfl) ?_
        refine lv_aload_n hx hb dL_law_158 rfl (lv_at hl 0 rfl) ?_
        refine lv_iload_n hx hb dL_law_159 rfl (lv_at hl 3 rfl) ?_
        refine lv_iconst (v := nI 1) hx hb dL_law_160 (by decide) ?_
        refine pn_add hx hb dL_law_161 ?_
        refine pl_sl hx hb hX hbl hbA Z (by omega) (by omega) dL_law_162 ?_
        refine lv_aload_n hx hb dL_law_163 rfl (lv_at hl 0 rfl) ?_
        refine lv_iload_n hx hb dL_law_164 rfl (lv_at hl 3 rfl) ?_
        refine lv_iconst (v := nI 2) hx hb dL_law_165 (by decide) ?_
        refine pn_add hx hb dL_law_166 ?_
        refine pl_sl hx hb hX hbl hbA Z (by omega) (by omega) dL_law_167 ?_
        refine lv_aload_n hx hb dL_law_168 rfl (lv_at hl 0 rfl) ?_
        refine lv_iload_n hx hb dL_law_169 rfl (lv_at hl 3 rfl) ?_
        refine lv_iconst (v := nI 3) hx hb dL_law_170 (by decide) ?_
        refine pn_add hx hb dL_law_171 ?_
        refine pl_sl hx hb hX hbl hbA Z (by omega) (by omega) dL_law_172 ?_
        refine pl_callB (q0 := 0) (rest := [.int r1]) (mX1_demand l D v kv n a b d V S F (xs (i + 1)) (xs (i + 2)) (xs (i + 3))) C hKv Z rfl rfl rfl (lw_V q190 q191 q192 q19 q193) 3 rfl (by decide +kernel) (by decide) ⟨rfl, rfl⟩ hl (Nat.le_of_ble_eq_true rfl) rfl dL_law_173 (fun r2 u2 H locs hq Z => ?_)
        refine lv_icmp_eq (tgt := 345) hx hb dL_law_176 (by decide) (fun _ => ?_) (fun cq => absurd (Eq.trans (hp.1) (Eq.symm hq)) cq)
        exact nxt n (sp_demand a b d (xs (i + 1)) (xs (i + 2)) (xs (i + 3))).2.1 (sp_demand a b d (xs (i + 1)) (xs (i + 2)) (xs (i + 3))).2.2.1 (sp_demand a b d (xs (i + 1)) (xs (i + 2)) (xs (i + 3))).2.2.2 u1 V S K O T F (pl_inv_demand I hp.2) _ _ _ Z hl
      · refine lv_tableIn (off := 149) (tgt := 181) hx hb dL_law_32 (by decide) (by decide) (by decide) (by decide) ?_
        refine lv_aload_n hx hb dL_law_181 rfl (lv_at hl 1 rfl) ?_
        refine lv_aload_n hx hb dL_law_182 rfl (lv_at hl 0 rfl) ?_
        refine lv_iload_n hx hb dL_law_183 rfl (lv_at hl 3 rfl) ?_
        refine lv_iconst (v := nI 1) hx hb dL_law_184 (by decide) ?_
        refine pn_add hx hb dL_law_185 ?_
        refine pl_sl hx hb hX hbl hbA Z (by omega) (by omega) dL_law_186 ?_
        refine pl_callA (q0 := 0) (rest := []) (mX0_leftOut l D u ku n a b d z V S K O T (xs (i + 1)) i1 i2 i3 i4 i5) C hKu Z rfl rfl rfl (lw_V q73 q74 q75 q18 q76) 1 rfl (by decide +kernel) (by decide) ⟨rfl, rfl⟩ hl (Nat.le_of_ble_eq_true rfl) rfl dL_law_187 (fun r1 u1 H locs hp Z => ?_)
        obtain ⟨O1, T1⟩ := u1
        refine lv_aload_n hx hb dL_law_190 rfl (lv_at hl 2 rfl) ?_
        refine lv_aload_n hx hb dL_law_191 rfl (lv_at hl 0 rfl) ?_
        refine lv_iload_n hx hb dL_law_192 rfl (lv_at hl 3 rfl) ?_
        refine lv_iconst (v := nI 1) hx hb dL_law_193 (by decide) ?_
        refine pn_add hx hb dL_law_194 ?_
        refine pl_sl hx hb hX hbl hbA Z (by omega) (by omega) dL_law_195 ?_
        refine pl_callB (q0 := 0) (rest := [.int r1]) (mX1_leftOut l D v kv n a b d V S F (xs (i + 1)) i1 i3 i4 i5) C hKv Z rfl rfl rfl (lw_V q194 q195 q196 q19 q197) 1 rfl (by decide +kernel) (by decide) ⟨rfl, rfl⟩ hl (Nat.le_of_ble_eq_true rfl) rfl dL_law_196 (fun r2 u2 H locs hq Z => ?_)
        refine lv_icmp_eq (tgt := 345) hx hb dL_law_199 (by decide) (fun _ => ?_) (fun cq => absurd (Eq.trans (hp) (Eq.symm hq)) cq)
        exact nxt n a b d z V S K O1 T1 F (I) _ _ _ Z hl
      · refine lv_tableIn (off := 172) (tgt := 204) hx hb dL_law_32 (by decide) (by decide) (by decide) (by decide) ?_
        refine lv_aload_n hx hb dL_law_204 rfl (lv_at hl 1 rfl) ?_
        refine lv_aload_n hx hb dL_law_205 rfl (lv_at hl 0 rfl) ?_
        refine lv_iload_n hx hb dL_law_206 rfl (lv_at hl 3 rfl) ?_
        refine lv_iconst (v := nI 1) hx hb dL_law_207 (by decide) ?_
        refine pn_add hx hb dL_law_208 ?_
        refine pl_sl hx hb hX hbl hbA Z (by omega) (by omega) dL_law_209 ?_
        refine pl_callA (q0 := 0) (rest := []) (mX0_good l D u ku n a b d z V S K O T (xs (i + 1)) i1 i2 i3 i4 i5 i6 i7) C hKu Z rfl rfl rfl (lw_V q103 q104 q105 q18 q106) 1 rfl (by decide +kernel) (by decide) ⟨rfl, rfl⟩ hl (Nat.le_of_ble_eq_true rfl) rfl dL_law_210 (fun r1 u1 H locs hp Z => ?_)
        obtain ⟨z1, K1, O1, T1⟩ := u1
        refine lv_aload_n hx hb dL_law_213 rfl (lv_at hl 2 rfl) ?_
        refine lv_aload_n hx hb dL_law_214 rfl (lv_at hl 0 rfl) ?_
        refine lv_iload_n hx hb dL_law_215 rfl (lv_at hl 3 rfl) ?_
        refine lv_iconst (v := nI 1) hx hb dL_law_216 (by decide) ?_
        refine pn_add hx hb dL_law_217 ?_
        refine pl_sl hx hb hX hbl hbA Z (by omega) (by omega) dL_law_218 ?_
        refine pl_callB (q0 := 0) (rest := [.int r1]) (mX1_good l D v kv n a b d V S F (xs (i + 1)) i1 i3 i4 i5 i6) C hKv Z rfl rfl rfl (lw_V q214 q215 q216 q19 q217) 1 rfl (by decide +kernel) (by decide) ⟨rfl, rfl⟩ hl (Nat.le_of_ble_eq_true rfl) rfl dL_law_219 (fun r2 u2 H locs hq Z => ?_)
        refine lv_icmp_eq (tgt := 345) hx hb dL_law_222 (by decide) (fun _ => ?_) (fun cq => absurd (Eq.trans (hp.1) (Eq.symm hq)) cq)
        exact nxt n a b d z1 V S K1 O1 T1 F (pl_inv_q I hp.2) _ _ _ Z hl
      · refine lv_tableIn (off := 195) (tgt := 227) hx hb dL_law_32 (by decide) (by decide) (by decide) (by decide) ?_
        refine lv_aload_n hx hb dL_law_227 rfl (lv_at hl 1 rfl) ?_
        refine pl_callA (q0 := 0) (rest := []) (mX0_goodSettings l D u ku n a b d z V S K O T  i1 i2 i3 i4 i5 i6 i7) C hKu Z rfl rfl rfl (lw_V q125 q126 q127 q18 q128) 0 rfl (by decide +kernel) (by decide) ⟨rfl, rfl⟩ hl (Nat.le_of_ble_eq_true rfl) rfl dL_law_228 (fun r1 u1 H locs hp Z => ?_)
        obtain ⟨z1, K1, O1, T1⟩ := u1
        refine lv_aload_n hx hb dL_law_231 rfl (lv_at hl 2 rfl) ?_
        refine pl_callB (q0 := 0) (rest := [.int r1]) (mX1_goodSettings l D v kv n a b d V S F  i1 i3 i4 i5 i6) C hKv Z rfl rfl rfl (lw_V q219 q220 q221 q19 q222) 0 rfl (by decide +kernel) (by decide) ⟨rfl, rfl⟩ hl (Nat.le_of_ble_eq_true rfl) rfl dL_law_232 (fun r2 u2 H locs hq Z => ?_)
        obtain ⟨F1, rfl⟩ : ∃ z, z = u2 := ⟨_, rfl⟩
        refine lv_icmp_eq (tgt := 345) hx hb dL_law_235 (by decide) (fun _ => ?_) (fun cq => absurd (Eq.trans (hp.1) (Eq.symm hq)) cq)
        exact nxt n a b d z1 V S K1 O1 T1 F1 (pl_inv_q I hp.2) _ _ _ Z hl
      · refine lv_tableIn (off := 208) (tgt := 240) hx hb dL_law_32 (by decide) (by decide) (by decide) (by decide) ?_
        refine lv_aload_n hx hb dL_law_240 rfl (lv_at hl 1 rfl) ?_
        refine pl_callA (q0 := 0) (rest := []) (mX0_finest l D u ku n a b d z V S K O T  i1 i2 i3 i4 i5 i6 i7) C hKu Z rfl rfl rfl (lw_V q129 q130 q131 q18 q132) 0 rfl (by decide +kernel) (by decide) ⟨rfl, rfl⟩ hl (Nat.le_of_ble_eq_true rfl) rfl dL_law_241 (fun r1 u1 H locs hp Z => ?_)
        obtain ⟨z1, K1, O1, T1⟩ := u1
        refine lv_aload_n hx hb dL_law_244 rfl (lv_at hl 2 rfl) ?_
        refine pl_callB (q0 := 0) (rest := [.int r1]) (mX1_finest l D v kv n a b d V S F  i1 i3 i4 i5 i6) C hKv Z rfl rfl rfl (lw_V q228 q229 q230 q19 q231) 0 rfl (by decide +kernel) (by decide) ⟨rfl, rfl⟩ hl (Nat.le_of_ble_eq_true rfl) rfl dL_law_245 (fun r2 u2 H locs hq Z => ?_)
        obtain ⟨F1, rfl⟩ : ∃ z, z = u2 := ⟨_, rfl⟩
        refine lv_icmp_eq (tgt := 345) hx hb dL_law_248 (by decide) (fun _ => ?_) (fun cq => absurd (Eq.trans (hp.1) (Eq.symm hq)) cq)
        exact nxt n a b d z1 V S K1 O1 T1 F1 (pl_inv_q I hp.2) _ _ _ Z hl
      · refine lv_tableIn (off := 221) (tgt := 253) hx hb dL_law_32 (by decide) (by decide) (by decide) (by decide) ?_
        refine lv_aload_n hx hb dL_law_253 rfl (lv_at hl 1 rfl) ?_
        refine lv_aload_n hx hb dL_law_254 rfl (lv_at hl 0 rfl) ?_
        refine lv_iload_n hx hb dL_law_255 rfl (lv_at hl 3 rfl) ?_
        refine lv_iconst (v := nI 1) hx hb dL_law_256 (by decide) ?_
        refine pn_add hx hb dL_law_257 ?_
        refine pl_sl hx hb hX hbl hbA Z (by omega) (by omega) dL_law_258 ?_
        refine pl_callA (q0 := 0) (rest := []) (mX0_finestAt l D u ku n a b d z V S K O T (xs (i + 1)) i1 i2 i3 i4 i5 i6 i7) C hKu Z rfl rfl rfl (lw_V q137 q138 q139 q18 q140) 1 rfl (by decide +kernel) (by decide) ⟨rfl, rfl⟩ hl (Nat.le_of_ble_eq_true rfl) rfl dL_law_259 (fun r1 u1 H locs hp Z => ?_)
        obtain ⟨z1, K1, O1, T1⟩ := u1
        refine lv_aload_n hx hb dL_law_262 rfl (lv_at hl 2 rfl) ?_
        refine lv_aload_n hx hb dL_law_263 rfl (lv_at hl 0 rfl) ?_
        refine lv_iload_n hx hb dL_law_264 rfl (lv_at hl 3 rfl) ?_
        refine lv_iconst (v := nI 1) hx hb dL_law_265 (by decide) ?_
        refine pn_add hx hb dL_law_266 ?_
        refine pl_sl hx hb hX hbl hbA Z (by omega) (by omega) dL_law_267 ?_
        refine pl_callB (q0 := 0) (rest := [.int r1]) (mX1_finestAt l D v kv n a b d V S F (xs (i + 1)) i1 i3 i4 i5 i6) C hKv Z rfl rfl rfl (lw_V q240 q241 q242 q19 q243) 1 rfl (by decide +kernel) (by decide) ⟨rfl, rfl⟩ hl (Nat.le_of_ble_eq_true rfl) rfl dL_law_268 (fun r2 u2 H locs hq Z => ?_)
        obtain ⟨F1, rfl⟩ : ∃ z, z = u2 := ⟨_, rfl⟩
        refine lv_icmp_eq (tgt := 345) hx hb dL_law_271 (by decide) (fun _ => ?_) (fun cq => absurd (Eq.trans (hp.1) (Eq.symm hq)) cq)
        exact nxt n a b d z1 V S K1 O1 T1 F1 (pl_inv_q I hp.2) _ _ _ Z hl
      · refine lv_tableIn (off := 244) (tgt := 276) hx hb dL_law_32 (by decide) (by decide) (by decide) (by decide) ?_
        refine lv_aload_n hx hb dL_law_276 rfl (lv_at hl 1 rfl) ?_
        refine pl_callA (q0 := 0) (rest := []) (mX0_best l D u ku n a b d z V S K O T  i1 i2 i3 i4 i5 i6 i7) C hKu Z rfl rfl rfl (lw_V q141 q142 q143 q18 q144) 0 rfl (by decide +kernel) (by decide) ⟨rfl, rfl⟩ hl (Nat.le_of_ble_eq_true rfl) rfl dL_law_277 (fun r1 u1 H locs hp Z => ?_)
        obtain ⟨z1, K1, O1, T1⟩ := u1
        refine lv_aload_n hx hb dL_law_280 rfl (lv_at hl 2 rfl) ?_
        refine pl_callB (q0 := 0) (rest := [.int r1]) (mX1_best l D v kv n a b d V S F  i1 i3 i4 i5 i6) C hKv Z rfl rfl rfl (lw_V q244 q245 q246 q19 q247) 0 rfl (by decide +kernel) (by decide) ⟨rfl, rfl⟩ hl (Nat.le_of_ble_eq_true rfl) rfl dL_law_281 (fun r2 u2 H locs hq Z => ?_)
        obtain ⟨F1, rfl⟩ : ∃ z, z = u2 := ⟨_, rfl⟩
        refine lv_icmp_eq (tgt := 345) hx hb dL_law_284 (by decide) (fun _ => ?_) (fun cq => absurd (Eq.trans (hp.1) (Eq.symm hq)) cq)
        exact nxt n a b d z1 V S K1 O1 T1 F1 (pl_inv_q I hp.2) _ _ _ Z hl
      · refine lv_tableIn (off := 257) (tgt := 289) hx hb dL_law_32 (by decide) (by decide) (by decide) (by decide) ?_
        refine lv_aload_n hx hb dL_law_289 rfl (lv_at hl 1 rfl) ?_
        refine lv_aload_n hx hb dL_law_290 rfl (lv_at hl 0 rfl) ?_
        refine lv_iload_n hx hb dL_law_291 rfl (lv_at hl 3 rfl) ?_
        refine lv_iconst (v := nI 1) hx hb dL_law_292 (by decide) ?_
        refine pn_add hx hb dL_law_293 ?_
        refine pl_sl hx hb hX hbl hbA Z (by omega) (by omega) dL_law_294 ?_
        refine pl_callA (q0 := 0) (rest := []) (mX0_groups l D u ku n a b d z V S K O T (xs (i + 1)) i1 i2) C hKu Z rfl rfl rfl (lw_V q145 q146 q147 q18 q148) 1 rfl (by decide +kernel) (by decide) ⟨rfl, rfl⟩ hl (Nat.le_of_ble_eq_true rfl) rfl dL_law_295 (fun r1 u1 H locs hp Z => ?_)
        obtain ⟨O1, T1⟩ := u1
        refine lv_aload_n hx hb dL_law_298 rfl (lv_at hl 2 rfl) ?_
        refine lv_aload_n hx hb dL_law_299 rfl (lv_at hl 0 rfl) ?_
        refine lv_iload_n hx hb dL_law_300 rfl (lv_at hl 3 rfl) ?_
        refine lv_iconst (v := nI 1) hx hb dL_law_301 (by decide) ?_
        refine pn_add hx hb dL_law_302 ?_
        refine pl_sl hx hb hX hbl hbA Z (by omega) (by omega) dL_law_303 ?_
        refine pl_callB (q0 := 0) (rest := [.int r1]) (mX1_groups l D v kv n a b d V S F (xs (i + 1)) i1) C hKv Z rfl rfl rfl (lw_V q252 q253 q254 q19 q255) 1 rfl (by decide +kernel) (by decide) ⟨rfl, rfl⟩ hl (Nat.le_of_ble_eq_true rfl) rfl dL_law_304 (fun r2 u2 H locs hq Z => ?_)
        refine lv_icmp_eq (tgt := 345) hx hb dL_law_307 (by decide) (fun _ => ?_) (fun cq => absurd (Eq.trans (hp) (Eq.symm hq)) cq)
        exact nxt n a b d z V S K O1 T1 F (I) _ _ _ Z hl
      · refine lv_tableIn (off := 280) (tgt := 312) hx hb dL_law_32 (by decide) (by decide) (by decide) (by decide) ?_
        refine lv_aload_n hx hb dL_law_312 rfl (lv_at hl 1 rfl) ?_
        refine lv_aload_n hx hb dL_law_313 rfl (lv_at hl 0 rfl) ?_
        refine lv_iload_n hx hb dL_law_314 rfl (lv_at hl 3 rfl) ?_
        refine lv_iconst (v := nI 1) hx hb dL_law_315 (by decide) ?_
        refine pn_add hx hb dL_law_316 ?_
        refine pl_sl hx hb hX hbl hbA Z (by omega) (by omega) dL_law_317 ?_
        refine lv_aload_n hx hb dL_law_318 rfl (lv_at hl 0 rfl) ?_
        refine lv_iload_n hx hb dL_law_319 rfl (lv_at hl 3 rfl) ?_
        refine lv_iconst (v := nI 2) hx hb dL_law_320 (by decide) ?_
        refine pn_add hx hb dL_law_321 ?_
        refine pl_sl hx hb hX hbl hbA Z (by omega) (by omega) dL_law_322 ?_
        refine pl_callA (q0 := 0) (rest := []) (mX0_lookAlike l D u ku n a b d z V S K O T (xs (i + 1)) (xs (i + 2)) i1 i2) C hKu Z rfl rfl rfl (lw_V q149 q150 q151 q18 q152) 2 rfl (by decide +kernel) (by decide) ⟨rfl, rfl⟩ hl (Nat.le_of_ble_eq_true rfl) rfl dL_law_323 (fun r1 u1 H locs hp Z => ?_)
        refine lv_aload_n hx hb dL_law_326 rfl (lv_at hl 2 rfl) ?_
        refine lv_aload_n hx hb dL_law_327 rfl (lv_at hl 0 rfl) ?_
        refine lv_iload_n hx hb dL_law_328 rfl (lv_at hl 3 rfl) ?_
        refine lv_iconst (v := nI 1) hx hb dL_law_329 (by decide) ?_
        refine pn_add hx hb dL_law_330 ?_
        refine pl_sl hx hb hX hbl hbA Z (by omega) (by omega) dL_law_331 ?_
        refine lv_aload_n hx hb dL_law_332 rfl (lv_at hl 0 rfl) ?_
        refine lv_iload_n hx hb dL_law_333 rfl (lv_at hl 3 rfl) ?_
        refine lv_iconst (v := nI 2) hx hb dL_law_334 (by decide) ?_
        refine pn_add hx hb dL_law_335 ?_
        refine pl_sl hx hb hX hbl hbA Z (by omega) (by omega) dL_law_336 ?_
        refine pl_callB (q0 := 0) (rest := [.int r1]) (mX1_lookAlike l D v kv n a b d V S F (xs (i + 1)) (xs (i + 2)) i1) C hKv Z rfl rfl rfl (lw_V q256 q257 q258 q19 q259) 2 rfl (by decide +kernel) (by decide) ⟨rfl, rfl⟩ hl (Nat.le_of_ble_eq_true rfl) rfl dL_law_337 (fun r2 u2 H locs hq Z => ?_)
        refine lv_icmp_eq (tgt := 345) hx hb dL_law_340 (by decide) (fun _ => ?_) (fun cq => absurd (Eq.trans (hp) (Eq.symm hq)) cq)
        exact nxt n a b d z V S K O T F (I) _ _ _ Z hl
      · refine lv_tableOut (tgt := 345) hx hb dL_law_32 (Or.inr (by rw [nI_toInt (by omega)]; omega)) (by decide) ?_
        exact nxt n a b d z V S K O T F I _ _ _ Z hl
set_option maxHeartbeats 4000000 in
set_option maxRecDepth 100000 in
/-- THE LAW, from its entry -/
theorem whole_start {p : Program} {e : Env} {s : State} {m : MethodId} {below : List Frame} {meth : Method} {c : Code} (l : Launch) {b L : Nat} {xs : Nat → Int32} (hL : L ≤ 256) (C0 : lw_At p s m meth c b L xs) : W p l e room_1 s m #[Value.ref b] below meth c s.heap [] 0 0 (lw_Z below #[Value.ref b] s) (entryFrame m ([Value.ref b] : List Value).toArray 4) := by
  obtain ⟨hx, hb, hr, hml, hown, hts0, hX, hbl, hlocks, hgv⟩ := id C0
  have hts : ∀ w ∈ lw_all, w.before #[Value.ref b] s = true := fun w h => hts0 w (lw_all_tbl h)
  have hA : ∀ q : Nat, s.heap.size ≤ q → (fun q : Nat => s.heap.size ≤ q) q := fun _ h => h
  obtain ⟨c0, iS0, hKn0⟩ := u_known (C := RX0) (T := TX0) (N := 10) (n := 10) hts in_X0 (hts _ q21)
  obtain ⟨c1, iS1, hKn1⟩ := u_known (C := RX1) (T := TX1) (N := 7) (n := 7) hts in_X1 (hts _ q154)
  obtain ⟨dC, dI, hKc⟩ : ∃ (dC : Nat → ClassId) (dI : Nat → Nat → Nat), ∀ (k : Nat) (q : vw_C), pl_cl[k]? = some q → u_Kn s q.1 q.2.1 q.2.2 (dC k) (dI k) := by
    refine ⟨fun k => if k = 0 then c0 else c1, fun k => if k = 0 then iS0 else iS1, ?_⟩
    intro k q hq
    match k, hq with
    | 0, hq => cases hq; exact hKn0
    | 1, hq => cases hq; exact hKn1
    | k + 2, hq => simp [pl_cl] at hq
  have hS : va_S (fun q : Nat => s.heap.size ≤ q) s.heap s.heap [] := va_S.rf
  have hK : va_K (dC, dI) pl_cl [] s := ⟨hKc, fun k q h => by simp at h⟩
  have hP : va_P (dC, dI) pl_cl [] s.heap := fun k q h => by simp at h
  have hD : va_D (fun q : Nat => s.heap.size ≤ q) [] := ⟨fun i j p q h => by simp at h, fun k q h => by simp at h⟩
  have hl := lv_entry ([.ref b]) (n := 4) (Nat.le_of_ble_eq_true rfl)
  rw [lg_entry_eq]
  generalize (lg_sl ([.ref b]) ++ List.replicate (4 - (lg_sl ([.ref b])).length) Slot.unset).toArray = ls at hl ⊢
  have hl : lv_has ls 4 [(0, .ref b)] := hl
  refine va_new (ci := 0) (fs := [.int 0, .null, .null, .int 0, .int 0, .int 0, .int 0, .null, .null, .null]) (C := RX0) (T := TX0) (N := 10) hx hb hts in_X0 tyX0 tyX0_ok hown (hts _ q20) (hts _ q21) (hts _ q18) hK hP hD hS hA rfl (fun j hj => by rcases (show j = 0 ∨ j = 1 ∨ j = 2 ∨ j = 3 ∨ j = 4 ∨ j = 5 ∨ j = 6 ∨ j = 7 ∨ j = 8 ∨ j = 9 by omega) with rfl | rfl | rfl | rfl | rfl | rfl | rfl | rfl | rfl | rfl <;> rfl) (Nat.le_of_ble_eq_true rfl) (Nat.le_of_ble_eq_true rfl) dL_law_0 (fun q0 H hP hD hS => ?_)
  have hP : va_P (dC, dI) pl_cl (pl_X00 q0) H := hP
  have hD : va_D (fun q : Nat => s.heap.size ≤ q) (pl_X00 q0) := hD
  refine W.widen (k := 1) (n := 10) (by decide) (by decide) ?_
  refine lv_dup hx hb dL_law_3 rfl ?_
  have hFc := va_free (wc := pl_X00 q0) hD hS hA [0] rfl
  refine va_callv (va_runI (As := []) (rest := [.ref q0]) ⟨hx, hb, hml, hown, hts⟩ (mX0_init l (dC, dI) q0 H.size) (cwI 0 hts (lw_meth q24) rfl rfl rfl (hts _ q18) (hts _ q22) (hts _ q23) rfl (by decide +kernel) ⟨Nat.le_of_ble_eq_true rfl, Nat.le_of_ble_eq_true rfl⟩) ⟨pl_blind, fun U hU hW => ⟨rfl, by rw [hU], by rw [hU]; exact hP, va_K.moved hW.alike hK, hD.weaken (fun _ _ _ _ => trivial)⟩⟩ rfl rfl hl.1 rfl (lv_room (Nat.le_of_ble_eq_true rfl)) dL_law_4 ⟨Nat.le_of_ble_eq_true rfl, Nat.le_of_ble_eq_true rfl⟩) hS (fun q _ h => hFc q h) hFc (fun w t H1 locs1 ht hvm hw hB hz1 hk1 hS => ?_)
  obtain ⟨u, ku⟩ := w
  obtain ⟨hP1, hK1, hD1⟩ := hB
  have hw : u 0 = q0 := hw
  subst hw
  rw [ht] at hP1
  have hK := va_K.moved hvm.symm hK1
  have hD := hD1.weaken (fun _ _ _ h => hFc _ h)
  generalize H1 = H at hP1 hS ⊢
  have hP : va_P (dC, dI) pl_cl (pl_X u ku 0 2 1 0 0 pl_z pl_z pl_z pl_z pl_z) H := hP1
  have hD : va_D (fun q : Nat => s.heap.size ≤ q) (pl_X u ku 0 2 1 0 0 pl_z pl_z pl_z pl_z pl_z) := hD
  have hK : va_K (dC, dI) pl_cl (pl_XT ku) s := hK
  refine W.widen (k := 6) (n := 199) (by decide) (by decide) ?_
  refine lv_astore_n (lv' := [(1, .ref (u 0)), (0, .ref b)]) hx hb dL_law_7 rfl hl (by decide) rfl (fun ls hl => ?_)
  refine va_new (ci := 1) (fs := [.null, .null, .int 0, .int 0, .int 0, .int 0, .null]) (C := RX1) (T := TX1) (N := 7) hx hb hts in_X1 tyX1 tyX1_ok hown (hts _ q153) (hts _ q154) (hts _ q19) hK hP hD hS hA rfl (fun j hj => by rcases (show j = 0 ∨ j = 1 ∨ j = 2 ∨ j = 3 ∨ j = 4 ∨ j = 5 ∨ j = 6 by omega) with rfl | rfl | rfl | rfl | rfl | rfl | rfl <;> rfl) (Nat.le_of_ble_eq_true rfl) (Nat.le_of_ble_eq_true rfl) dL_law_8 (fun q1 H hP hD hS => ?_)
  have hP : va_P (dC, dI) pl_cl (pl_X u ku 0 2 1 0 0 pl_z pl_z pl_z pl_z pl_z ++ pl_M00 q1) H := hP
  have hD : va_D (fun q : Nat => s.heap.size ≤ q) (pl_X u ku 0 2 1 0 0 pl_z pl_z pl_z pl_z pl_z ++ pl_M00 q1) := hD
  refine W.widen (k := 7) (n := 206) (by decide) (by decide) ?_
  refine lv_dup hx hb dL_law_11 rfl ?_
  have hPc := hP.sub (ws' := pl_M00 q1) [6] rfl
  have hDc := hD.sub (ws' := pl_M00 q1) [6] (by decide) rfl
  have hKc2 := hK.sub (tys' := []) [] rfl
  have hFc := va_free (wc := pl_M00 q1) hD hS hA [6] rfl
  refine va_callv (va_runI (As := []) (rest := [.ref q1]) ⟨hx, hb, hml, hown, hts⟩ (mX1_init l (dC, dI) q1 H.size) (cwI 0 hts (lw_meth q157) rfl rfl rfl (hts _ q19) (hts _ q155) (hts _ q156) rfl (by decide +kernel) ⟨Nat.le_of_ble_eq_true rfl, Nat.le_of_ble_eq_true rfl⟩) ⟨pl_blind, fun U hU hW => ⟨rfl, by rw [hU], by rw [hU]; exact hPc, va_K.moved hW.alike hKc2, hDc.weaken (fun _ _ _ _ => trivial)⟩⟩ rfl rfl hl.1 rfl (lv_room (Nat.le_of_ble_eq_true rfl)) dL_law_12 ⟨Nat.le_of_ble_eq_true rfl, Nat.le_of_ble_eq_true rfl⟩) hS (fun q _ h => hFc q h) hFc (fun w t H1 locs1 ht hvm hw hB hz1 hk1 hS => ?_)
  obtain ⟨v, kv⟩ := w
  obtain ⟨hP1, hK1, hD1⟩ := hB
  have hw : v 0 = q1 := hw
  rw [ht] at hP1
  have hK1 : va_K (dC, dI) pl_cl (pl_MT kv) s := va_K.moved hvm.symm hK1
  obtain ⟨hP2, hD2⟩ := va_join (wr := pl_X u ku 0 2 1 0 0 pl_z pl_z pl_z pl_z pl_z) (w1 := pl_M v kv 0 2 1 0 pl_z pl_z pl_z) hP hD [6] [0, 1, 2, 3, 4, 5] rfl rfl (by decide) (by decide) hk1 hFc hP1 hD1
  have hK := hK.app hK1
  subst hw
  generalize H1 = H at hP2 hS ⊢
  have Z : pl_Zx (dC, dI) (fun q : Nat => s.heap.size ≤ q) s (pl_X u ku 0 2 1 0 0 pl_z pl_z pl_z pl_z pl_z ++ pl_M v kv 0 2 1 0 (pl_at pl_z) pl_z pl_z) H locs1 := by rw [pl_at0]; exact ⟨hP2, hD2, hS⟩
  refine W.widen (k := 10) (n := 395) (by decide) (by decide) ?_
  refine lv_astore_n (lv' := [(2, .ref (v 0)), (1, .ref (u 0)), (0, .ref b)]) hx hb dL_law_15 rfl hl (by decide) rfl (fun ls hl => ?_)
  refine lv_iconst (v := nI 0) hx hb dL_law_16 (by decide) ?_
  refine lv_istore_n (lv' := [(3, .int (nI 0)), (2, .ref (v 0)), (1, .ref (u 0)), (0, .ref b)]) hx hb dL_law_17 rfl hl (by decide) rfl (fun ls hl => ?_)
  exact law_loop hL C0 hK (L + 1) 0 (by omega) (by omega) 0 2 1 0 0 pl_z pl_z pl_z pl_z pl_z pl_z ⟨by decide, fun _ => (by show 0 < 4096; decide), fun _ => (by show 0 < 8; decide), by decide, by decide, by decide, pl_rdy0 rfl⟩ _ _ _ Z (lv_sub hl [3, 2, 1, 0] rfl)
end
section
set_option maxHeartbeats 4000000 in
theorem lw_walk (l : Launch) (b : Addr) (xs : List Int32) : MetFree l x (headSpec (Jvm.Cond.code x code maxLocals ret :: tables_1) room_1) (lw_P b xs) (fun _ _ _ _ _ => True) lw_Q := by
  refine MetFree.of_bodyS (code := code) (maxLocals := maxLocals) (ret := ret) (by decide) ?_ ?_
  · intro args s m h hn
    obtain ⟨meth, c, h1, h2, h3, h4, h5, h6, -, -⟩ := Cond.code_spec hn (atoms_spec (ws := Jvm.Cond.code x code maxLocals ret :: tables_1) h _ List.mem_cons_self)
    exact ⟨meth, c, h1, h2, h3, h4, h5, h6⟩
  · intro p e s m args below meth c s₁ B hml0 hP _
    obtain ⟨rfl, hx, hbd, hgv⟩ := hP
    obtain ⟨scr, harrAt, hlist, hof, hsmall⟩ := hx
    obtain ⟨hcb, hkn, -, -⟩ := State.arrayAt?_spec harrAt
    have hown : s.vm.findClass R_law = some m.cls := findClass_of_methodNamed B.named
    have hts0 : ∀ c ∈ (Jvm.Cond.code x code maxLocals ret :: tables_1), c.before #[Value.ref b] s = true := atoms_spec (ws := Jvm.Cond.code x code maxLocals ret :: tables_1) B.pre
    have hts : ∀ w ∈ lw_tbl, w.before #[Value.ref b] s = true := k2_hts_sels lw_privs (fun w hw => hts0 w (List.mem_cons_of_mem _ hw)) lw_privs_ok
    have hml : c.maxLocals = 4 := B.maxLocals_eq (hts0 _ List.mem_cons_self)
    have X₀ : Stand p l e room_1 s m #[Value.ref b] below meth c s₁ [] 0 0 := Stand.of_body B
    have hh0 : s₁.heap = s.heap := by rw [B.state]; rfl
    have hsz : scr.slots.size = xs.length := by rw [← Array.length_toList, hlist, List.length_map]
    have hval : ∀ j : Nat, j < xs.length → scr.slots[j]? = some (.int (xs.getD j 0)) := fun j hj => by
      rw [← Array.getElem?_toList, hlist]
      simp [hj]
    have hbl : b < s.heap.size := (Array.getElem?_eq_some_iff.mp hcb).1
    have hX : va_X b xs.length (fun j => xs.getD j 0) s s.heap := ⟨scr, hcb, hof, hkn, hsz, hval⟩
    have K : W p l e room_1 s m #[Value.ref b] below meth c s₁.heap [] 0 0 (lw_Z below #[Value.ref b] s) (entryFrame m ([Value.ref b] : List Value).toArray 4) := by
      rw [hh0]
      exact whole_start l hbd ⟨B.exec, B.bytes, B.returns, hml, hown, hts, hX, hbl, B.notSynchronized, hgv⟩
    obtain ⟨t, a1, o, b1, b2, b3⟩ := K s₁ rfl X₀
    exact ⟨t, o, a1, b1, b2, b3⟩
theorem lw_pre_spec {args : Array Value} {s : State} (h : (Jvm.Cond.and given_1 narrow_1).before args s = true) (hr : rest_1_c.before args s = true) : ∃ (b : Addr) (xs : List Int32), lw_P b xs args s := by
  have hs := flat_of_before _ h
  have hq := flat_of_before _ hr
  have hc : (Cond.count 1).before args s = true := hs _ (by decide +kernel)
  have harr : (Cond.arrayOf (.arg 0) .int).before args s = true := hs _ (by decide +kernel)
  have hle : (Cond.le (.length (.arg 0)) (.int 256)).before args s = true := hs _ (by decide +kernel)
  have hlen : (Cond.isInt (.length (.arg 0))).before args s = true := hq _ (by decide +kernel)
  have hall : (Cond.all (.arg 0) (.isInt (.elem (.arg 0) (.index 0)))).before args s = true := hq _ (by decide +kernel)
  obtain ⟨b, xs, hb, hx⟩ := State.ints_of_pre rfl harr hlen hall
  have hsm : xs.length < 2 ^ 31 := hx.choose_spec.2.2.2
  have hev : (Term.length (.arg 0)).eval args s none [] s = some (.int xs.length.toInt32) := hx.length_eval hb
  have hv := Cond.le_ints hev (show (Term.int 256).eval args s none [] s = some (.int 256) from rfl)
  have hd : xs.length.toInt32 ≤ 256 := by
    simpa [Cond.before, Cond.holds, hv] using hle
  have hN : xs.length ≤ 256 := (Int32.ofNat_le_ofNat hsm (by decide)).mp (show Int32.ofNat xs.length ≤ Int32.ofNat 256 from hd)
  exact ⟨b, xs, Cond.one_arg hc (show args[0]? = some (.ref b) from hb), hx, hN, h⟩
theorem lw_comes (l : Launch) : Comes l x (Jvm.Cond.code x code maxLocals ret :: tables_1) room_1 (fun tb e args s => Calls_1 tb e args s ∧ rest_1 tb e args s ∧ Pre_1 tb e args s)
    (fun _ _ args s o t => lw_Q args s o t) := by
  intro p e ha hc hk s m args below hf hfit hheap happ hpre
  obtain ⟨b, xs, hP⟩ := lw_pre_spec hpre.2.2 hpre.2.1
  obtain ⟨k, o, h1, h2, h3, hQ⟩ := lw_walk l b xs p e ha hc hk s m args below hf ((Spec.applies_iff_loose hf).mp happ).1 hP trivial
  exact ⟨k, o, h1, h2, h3, hQ⟩
theorem lw_frame {s t : State} {o : Outcome} {args : Array Value} (h : Framed s o t [] 600000 7290000) :
    Framed s o t (fieldLocs frame_1_writes args s ++ arrayLocs frame_1_arrays args s ++ staticLocs frame_1_statics s) 600000 7290000 := h
theorem lw_limb (L : Cond) (hL : ∀ (args : Array Value) (s t : State), L.after args s (.returned (some (.int 1))) t = true) :
    ArmFor flags0 classFile x code maxLocals ret World_1 tables_1 room_1 Calls_1 rest_1 Pre_1
      (fun tb e a s o t => postC L tb e a s o t ∧ Framed s o t (fieldLocs frame_1_writes a s ++ arrayLocs frame_1_arrays a s ++ staticLocs frame_1_statics s) 600000 7290000) := by
  intro l _ _ _ p e ha hc hk s m args below hf hfit hheap happ hpre
  obtain ⟨k, o, h1, h2, h3, rfl, hF⟩ := lw_comes l p e ha hc hk s m args below hf hfit hheap happ hpre
  exact ⟨k, _, h1, h2, h3, hL args s _, lw_frame hF⟩
theorem i_vc : Claimed_1_1 ∧ Claimed_1_2 := ⟨lw_limb limb_1_1 (fun args s t => by simp [limb_1_1, Cond.after, Cond.holds, Cond.value]), lw_limb limb_1_2 (fun args s t => Cond.after_iff.mpr (by
  first | (rw [show limb_1_2 = Cond.eq .result (.int 1) from rfl, Cond.eq_ints (x := 1) (y := 1) rfl rfl]; simp; done) | (simp [limb_1_2, Cond.value, Term.eval]; done)))⟩
end
