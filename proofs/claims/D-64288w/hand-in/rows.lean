section
-- ===== PART A: goes FIRST, ahead of the names: the tables' words, and 'selects' of the private methods out of them =====
/-- a private method of a class that the tables say can be made, by its rows of tables_1 -/
def lw_okq (q : MethodName × Nat) : Prop := (q.1.cls ≠ "java/lang/invoke/MethodHandle" ∧ q.1.cls ≠ "java/lang/invoke/VarHandle") ∧ Cond.instantiable q.1.cls q.2 ∈ tables_1 ∧ Cond.privateMethod q.1 ∈ tables_1 ∧ Cond.instanceMethod q.1 ∈ tables_1
set_option maxRecDepth 100000
theorem lw_t1 {w : Cond} (h : w ∈ tables_1_1) : w ∈ tables_1 := List.mem_append_left _ h
theorem lw_t2 {w : Cond} (h : w ∈ tables_1_2) : w ∈ tables_1 := List.mem_append_right _ h
theorem lw_p0 : lw_okq (⟨"InductionDesk", "isLiteral", "(I)Z"⟩, 17) := ⟨⟨by decide +kernel, by decide +kernel⟩, lw_t1 (List.mem_of_getElem? (i := 4) rfl), lw_t1 (List.mem_of_getElem? (i := 70) rfl), lw_t1 (List.mem_of_getElem? (i := 71) rfl)⟩
theorem lw_p1 : lw_okq (⟨"InductionDesk", "open", "(I)V"⟩, 17) := ⟨⟨by decide +kernel, by decide +kernel⟩, lw_t1 (List.mem_of_getElem? (i := 4) rfl), lw_t1 (List.mem_of_getElem? (i := 90) rfl), lw_t1 (List.mem_of_getElem? (i := 91) rfl)⟩
theorem lw_p2 : lw_okq (⟨"InductionDesk", "put", "(II)V"⟩, 17) := ⟨⟨by decide +kernel, by decide +kernel⟩, lw_t1 (List.mem_of_getElem? (i := 4) rfl), lw_t1 (List.mem_of_getElem? (i := 94) rfl), lw_t1 (List.mem_of_getElem? (i := 95) rfl)⟩
theorem lw_p3 : lw_okq (⟨"InductionDesk", "follow", "()V"⟩, 17) := ⟨⟨by decide +kernel, by decide +kernel⟩, lw_t1 (List.mem_of_getElem? (i := 4) rfl), lw_t1 (List.mem_of_getElem? (i := 98) rfl), lw_t1 (List.mem_of_getElem? (i := 99) rfl)⟩
theorem lw_p4 : lw_okq (⟨"InductionDesk", "followCopy", "(I)V"⟩, 17) := ⟨⟨by decide +kernel, by decide +kernel⟩, lw_t1 (List.mem_of_getElem? (i := 4) rfl), lw_t1 (List.mem_of_getElem? (i := 102) rfl), lw_t1 (List.mem_of_getElem? (i := 103) rfl)⟩
theorem lw_p5 : lw_okq (⟨"InductionDesk", "followGate", "(II)V"⟩, 17) := ⟨⟨by decide +kernel, by decide +kernel⟩, lw_t1 (List.mem_of_getElem? (i := 4) rfl), lw_t1 (List.mem_of_getElem? (i := 106) rfl), lw_t1 (List.mem_of_getElem? (i := 107) rfl)⟩
theorem lw_p6 : lw_okq (⟨"InductionDesk", "valueOf", "(II)I"⟩, 17) := ⟨⟨by decide +kernel, by decide +kernel⟩, lw_t1 (List.mem_of_getElem? (i := 4) rfl), lw_t1 (List.mem_of_getElem? (i := 110) rfl), lw_t1 (List.mem_of_getElem? (i := 111) rfl)⟩
theorem lw_p7 : lw_okq (⟨"InductionDesk", "putLiteral", "(III)V"⟩, 17) := ⟨⟨by decide +kernel, by decide +kernel⟩, lw_t1 (List.mem_of_getElem? (i := 4) rfl), lw_t1 (List.mem_of_getElem? (i := 114) rfl), lw_t1 (List.mem_of_getElem? (i := 115) rfl)⟩
theorem lw_p8 : lw_okq (⟨"InductionDesk", "search", "(IZZ)Z"⟩, 17) := ⟨⟨by decide +kernel, by decide +kernel⟩, lw_t1 (List.mem_of_getElem? (i := 4) rfl), lw_t1 (List.mem_of_getElem? (i := 122) rfl), lw_t1 (List.mem_of_getElem? (i := 123) rfl)⟩
theorem lw_p9 : lw_okq (⟨"InductionDesk", "demand", "()V"⟩, 17) := ⟨⟨by decide +kernel, by decide +kernel⟩, lw_t1 (List.mem_of_getElem? (i := 4) rfl), lw_t1 (List.mem_of_getElem? (i := 126) rfl), lw_t1 (List.mem_of_getElem? (i := 127) rfl)⟩
theorem lw_p10 : lw_okq (⟨"InductionDesk", "repeats", "()Z"⟩, 17) := ⟨⟨by decide +kernel, by decide +kernel⟩, lw_t1 (List.mem_of_getElem? (i := 4) rfl), lw_t1 (List.mem_of_getElem? (i := 130) rfl), lw_t1 (List.mem_of_getElem? (i := 131) rfl)⟩
theorem lw_p11 : lw_okq (⟨"InductionDesk", "sameState", "(II)Z"⟩, 17) := ⟨⟨by decide +kernel, by decide +kernel⟩, lw_t1 (List.mem_of_getElem? (i := 4) rfl), lw_t1 (List.mem_of_getElem? (i := 134) rfl), lw_t1 (List.mem_of_getElem? (i := 135) rfl)⟩
theorem lw_p12 : lw_okq (⟨"InductionDesk", "goBack", "()Z"⟩, 17) := ⟨⟨by decide +kernel, by decide +kernel⟩, lw_t1 (List.mem_of_getElem? (i := 4) rfl), lw_t1 (List.mem_of_getElem? (i := 138) rfl), lw_t1 (List.mem_of_getElem? (i := 139) rfl)⟩
theorem lw_p13 : lw_okq (⟨"InductionDesk", "choose", "()Z"⟩, 17) := ⟨⟨by decide +kernel, by decide +kernel⟩, lw_t1 (List.mem_of_getElem? (i := 4) rfl), lw_t1 (List.mem_of_getElem? (i := 142) rfl), lw_t1 (List.mem_of_getElem? (i := 143) rfl)⟩
theorem lw_p14 : lw_okq (⟨"InductionDeskModel", "refused", "(I)Z"⟩, 9) := ⟨⟨by decide +kernel, by decide +kernel⟩, lw_t1 (List.mem_of_getElem? (i := 163) rfl), lw_t1 (List.mem_of_getElem? (i := 201) rfl), lw_t1 (List.mem_of_getElem? (i := 202) rfl)⟩
theorem lw_p15 : lw_okq (⟨"InductionDeskModel", "work", "(II)V"⟩, 9) := ⟨⟨by decide +kernel, by decide +kernel⟩, lw_t1 (List.mem_of_getElem? (i := 163) rfl), lw_t1 (List.mem_of_getElem? (i := 224) rfl), lw_t1 (List.mem_of_getElem? (i := 225) rfl)⟩
def lw_privs_1 : List (MethodName × Nat) := [(⟨"InductionDesk", "isLiteral", "(I)Z"⟩, 17), (⟨"InductionDesk", "open", "(I)V"⟩, 17), (⟨"InductionDesk", "put", "(II)V"⟩, 17), (⟨"InductionDesk", "follow", "()V"⟩, 17), (⟨"InductionDesk", "followCopy", "(I)V"⟩, 17), (⟨"InductionDesk", "followGate", "(II)V"⟩, 17), (⟨"InductionDesk", "valueOf", "(II)I"⟩, 17), (⟨"InductionDesk", "putLiteral", "(III)V"⟩, 17), (⟨"InductionDesk", "search", "(IZZ)Z"⟩, 17), (⟨"InductionDesk", "demand", "()V"⟩, 17), (⟨"InductionDesk", "repeats", "()Z"⟩, 17), (⟨"InductionDesk", "sameState", "(II)Z"⟩, 17), (⟨"InductionDesk", "goBack", "()Z"⟩, 17), (⟨"InductionDesk", "choose", "()Z"⟩, 17), (⟨"InductionDeskModel", "refused", "(I)Z"⟩, 9), (⟨"InductionDeskModel", "work", "(II)V"⟩, 9)]
theorem lw_r1 : ∀ q ∈ lw_privs_1, lw_okq q := List.forall_mem_cons.mpr ⟨lw_p0, List.forall_mem_cons.mpr ⟨lw_p1, List.forall_mem_cons.mpr ⟨lw_p2, List.forall_mem_cons.mpr ⟨lw_p3, List.forall_mem_cons.mpr ⟨lw_p4, List.forall_mem_cons.mpr ⟨lw_p5, List.forall_mem_cons.mpr ⟨lw_p6, List.forall_mem_cons.mpr ⟨lw_p7, List.forall_mem_cons.mpr ⟨lw_p8, List.forall_mem_cons.mpr ⟨lw_p9, List.forall_mem_cons.mpr ⟨lw_p10, List.forall_mem_cons.mpr ⟨lw_p11, List.forall_mem_cons.mpr ⟨lw_p12, List.forall_mem_cons.mpr ⟨lw_p13, List.forall_mem_cons.mpr ⟨lw_p14, List.forall_mem_cons.mpr ⟨lw_p15, fun _ h => absurd h List.not_mem_nil⟩⟩⟩⟩⟩⟩⟩⟩⟩⟩⟩⟩⟩⟩⟩⟩
theorem lw_p16 : lw_okq (⟨"InductionDeskModel", "of", "(I)I"⟩, 9) := ⟨⟨by decide +kernel, by decide +kernel⟩, lw_t1 (List.mem_of_getElem? (i := 163) rfl), lw_t1 (List.mem_of_getElem? (i := 228) rfl), lw_t1 (List.mem_of_getElem? (i := 229) rfl)⟩
theorem lw_p17 : lw_okq (⟨"InductionDeskModel", "least", "(I)I"⟩, 9) := ⟨⟨by decide +kernel, by decide +kernel⟩, lw_t1 (List.mem_of_getElem? (i := 163) rfl), lw_t1 (List.mem_of_getElem? (i := 236) rfl), lw_t1 (List.mem_of_getElem? (i := 237) rfl)⟩
theorem lw_p18 : lw_okq (⟨"InductionDeskModel", "found", "(I)Z"⟩, 9) := ⟨⟨by decide +kernel, by decide +kernel⟩, lw_t1 (List.mem_of_getElem? (i := 163) rfl), lw_t2 (List.mem_of_getElem? (i := 0) rfl), lw_t2 (List.mem_of_getElem? (i := 1) rfl)⟩
theorem lw_p19 : lw_okq (⟨"InductionDeskModel", "beginning", "(I)Z"⟩, 9) := ⟨⟨by decide +kernel, by decide +kernel⟩, lw_t1 (List.mem_of_getElem? (i := 163) rfl), lw_t2 (List.mem_of_getElem? (i := 4) rfl), lw_t2 (List.mem_of_getElem? (i := 5) rfl)⟩
theorem lw_p20 : lw_okq (⟨"InductionDeskModel", "run", "(III)Z"⟩, 9) := ⟨⟨by decide +kernel, by decide +kernel⟩, lw_t1 (List.mem_of_getElem? (i := 163) rfl), lw_t2 (List.mem_of_getElem? (i := 8) rfl), lw_t2 (List.mem_of_getElem? (i := 9) rfl)⟩
theorem lw_p21 : lw_okq (⟨"InductionDeskModel", "isBad", "(II)Z"⟩, 9) := ⟨⟨by decide +kernel, by decide +kernel⟩, lw_t1 (List.mem_of_getElem? (i := 163) rfl), lw_t2 (List.mem_of_getElem? (i := 12) rfl), lw_t2 (List.mem_of_getElem? (i := 13) rfl)⟩
theorem lw_p22 : lw_okq (⟨"InductionDeskModel", "step", "(II)I"⟩, 9) := ⟨⟨by decide +kernel, by decide +kernel⟩, lw_t1 (List.mem_of_getElem? (i := 163) rfl), lw_t2 (List.mem_of_getElem? (i := 16) rfl), lw_t2 (List.mem_of_getElem? (i := 17) rfl)⟩
theorem lw_p23 : lw_okq (⟨"InductionDeskModel", "different", "(I)Z"⟩, 9) := ⟨⟨by decide +kernel, by decide +kernel⟩, lw_t1 (List.mem_of_getElem? (i := 163) rfl), lw_t2 (List.mem_of_getElem? (i := 24) rfl), lw_t2 (List.mem_of_getElem? (i := 25) rfl)⟩
def lw_privs_2 : List (MethodName × Nat) := [(⟨"InductionDeskModel", "of", "(I)I"⟩, 9), (⟨"InductionDeskModel", "least", "(I)I"⟩, 9), (⟨"InductionDeskModel", "found", "(I)Z"⟩, 9), (⟨"InductionDeskModel", "beginning", "(I)Z"⟩, 9), (⟨"InductionDeskModel", "run", "(III)Z"⟩, 9), (⟨"InductionDeskModel", "isBad", "(II)Z"⟩, 9), (⟨"InductionDeskModel", "step", "(II)I"⟩, 9), (⟨"InductionDeskModel", "different", "(I)Z"⟩, 9)]
theorem lw_r2 : ∀ q ∈ lw_privs_2, lw_okq q := List.forall_mem_cons.mpr ⟨lw_p16, List.forall_mem_cons.mpr ⟨lw_p17, List.forall_mem_cons.mpr ⟨lw_p18, List.forall_mem_cons.mpr ⟨lw_p19, List.forall_mem_cons.mpr ⟨lw_p20, List.forall_mem_cons.mpr ⟨lw_p21, List.forall_mem_cons.mpr ⟨lw_p22, List.forall_mem_cons.mpr ⟨lw_p23, fun _ h => absurd h List.not_mem_nil⟩⟩⟩⟩⟩⟩⟩⟩
def lw_privs : List (MethodName × Nat) := lw_privs_1 ++ (lw_privs_2)
def lw_tbl : List Cond := k2_sels lw_privs ++ tables_1
theorem lw_privs_ok : ∀ q ∈ lw_privs, lw_okq q := by
  show ∀ q ∈ lw_privs_1 ++ (lw_privs_2), lw_okq q
  exact List.forall_mem_append.mpr ⟨lw_r1, lw_r2⟩
-- ===== ONE list of words for every method: the tables' words that hold all through a run =====
def lw_all : List Cond := lw_tbl.filter goodWord
/-- a word of the tables by its place: claim/WORDS.tsv -/
theorem lw_w {w : Cond} (i : Nat) (h : lw_tbl[i]? = some w) (g : goodWord w = true) : w ∈ lw_all := List.mem_filter.mpr ⟨List.mem_of_getElem? h, g⟩
theorem lw_all_tbl {w : Cond} (h : w ∈ lw_all) : w ∈ lw_tbl := (List.mem_filter.mp h).1
theorem lw_self : GoodIn lw_all lw_all := fun w h => ⟨h, good_of_word (List.mem_filter.mp h).2⟩
/-- a class's field words, by their places -/
theorem lw_in (ws : List Cond) (ps : List Nat) (hp : ws = ps.filterMap (fun i => lw_tbl[i]?)) (hg : ws.all goodWord = true) : ∀ w ∈ ws, w ∈ lw_all := by
  intro w h
  have h1 := List.all_eq_true.mp hg w h
  rw [hp] at h
  obtain ⟨i, -, hi⟩ := List.mem_filterMap.mp h
  exact lw_w i hi h1
/-- the words of a contract for the method y with code b, L locals, answer r -/
abbrev ws_ (y : MethodName) (b : ByteArray) (L : Nat) (r : Option FieldType) : List Cond := Cond.code y b L r :: lw_all
theorem lw_meth {y : MethodName} {b : ByteArray} {L : Nat} {r : Option FieldType} (h : Cond.code y b L r ∈ lw_all) : GoodIn lw_all (ws_ y b L r) := by
  intro w hw
  rcases List.mem_cons.mp hw with e | e
  · rw [e]
    exact lw_self _ h
  · exact lw_self _ e
theorem lw_app {a c : List Cond} (ha : ∀ w ∈ a, w ∈ lw_all) (hc : GoodIn lw_all c) : GoodIn lw_all (a ++ c) := by
  intro w hw
  rcases List.mem_append.mp hw with e | e
  · exact lw_self w (ha w e)
  · exact hc w e
/-- what a call through an object asks: cwV n hts (lw_V ..) -/
theorem lw_V {own : String} {idx : Nat} {C : String} {y : MethodName} {b : ByteArray} {L : Nat} {r : Option FieldType} (h1 : Cond.methodLink own idx y ∈ lw_all) (h2 : Cond.instanceMethod y ∈ lw_all) (h3 : Cond.selects C y y ∈ lw_all) (h4 : Cond.initialized C ∈ lw_all) (h5 : Cond.code y b L r ∈ lw_all) : GoodIn lw_all (wsV own idx C y (ws_ y b L r)) := by
  refine lw_app ?_ (lw_meth h5)
  intro w hw
  simp only [List.mem_cons, List.not_mem_nil, or_false] at hw
  rcases hw with e | e | e | e
  · rw [e]; exact h1
  · rw [e]; exact h2
  · rw [e]; exact h3
  · rw [e]; exact h4
/-- what a static call asks: va_cwS n hts (lw_S ..) -/
theorem lw_S {own : String} {idx : Nat} {y : MethodName} {b : ByteArray} {L : Nat} {r : Option FieldType} (h1 : Cond.methodLink own idx y ∈ lw_all) (h2 : Cond.static y ∈ lw_all) (h3 : Cond.initialized y.cls ∈ lw_all) (h4 : Cond.code y b L r ∈ lw_all) : GoodIn lw_all (va_wsS own idx y (ws_ y b L r)) := by
  refine lw_app ?_ (lw_meth h4)
  intro w hw
  simp only [List.mem_cons, List.not_mem_nil, or_false] at hw
  rcases hw with e | e | e
  · rw [e]; exact h1
  · rw [e]; exact h2
  · rw [e]; exact h3
/-- the words of a contract for a method WITH HANDLERS (hh: its table) -/
abbrev wsW_ (y : MethodName) (b : ByteArray) (L : Nat) (r : Option FieldType) (hh : List (Nat × Nat × Nat × Nat)) : List Cond := Cond.codeWith y b L r hh :: lw_all
theorem lw_methW {y : MethodName} {b : ByteArray} {L : Nat} {r : Option FieldType} {hh : List (Nat × Nat × Nat × Nat)} (h : Cond.codeWith y b L r hh ∈ lw_all) : GoodIn lw_all (wsW_ y b L r hh) := by
  intro w hw
  rcases List.mem_cons.mp hw with e | e
  · rw [e]
    exact lw_self _ h
  · exact lw_self _ e
/-- any list of words by their places (lw_in), good -/
theorem lw_good {ws : List Cond} (h : ∀ w ∈ ws, w ∈ lw_all) : GoodIn lw_all ws := fun w hw => lw_self w (h w hw)
/-- what a call of a method with handlers asks: vx_cwVW n hts (lw_VW ..), vx_cwSW n hts (lw_SW ..) -/
theorem lw_VW {own : String} {idx : Nat} {C : String} {y : MethodName} {b : ByteArray} {L : Nat} {r : Option FieldType} {hh : List (Nat × Nat × Nat × Nat)} (h1 : Cond.methodLink own idx y ∈ lw_all) (h2 : Cond.instanceMethod y ∈ lw_all) (h3 : Cond.selects C y y ∈ lw_all) (h4 : Cond.initialized C ∈ lw_all) (h5 : Cond.codeWith y b L r hh ∈ lw_all) : GoodIn lw_all (wsV own idx C y (wsW_ y b L r hh)) := by
  refine lw_app ?_ (lw_methW h5)
  intro w hw
  simp only [List.mem_cons, List.not_mem_nil, or_false] at hw
  rcases hw with e | e | e | e
  · rw [e]; exact h1
  · rw [e]; exact h2
  · rw [e]; exact h3
  · rw [e]; exact h4
theorem lw_SW {own : String} {idx : Nat} {y : MethodName} {b : ByteArray} {L : Nat} {r : Option FieldType} {hh : List (Nat × Nat × Nat × Nat)} (h1 : Cond.methodLink own idx y ∈ lw_all) (h2 : Cond.static y ∈ lw_all) (h3 : Cond.initialized y.cls ∈ lw_all) (h4 : Cond.codeWith y b L r hh ∈ lw_all) : GoodIn lw_all (va_wsS own idx y (wsW_ y b L r hh)) := by
  refine lw_app ?_ (lw_methW h4)
  intro w hw
  simp only [List.mem_cons, List.not_mem_nil, or_false] at hw
  rcases hw with e | e | e
  · rw [e]; exact h1
  · rw [e]; exact h2
  · rw [e]; exact h3
/-- a word by its place in its run of the tables -/
theorem lw_at {r : List Cond} (hr : ∀ w ∈ r, w ∈ lw_tbl) {w : Cond} (i : Nat) (h : r[i]? = some w) : w ∈ lw_tbl := hr w (List.mem_of_getElem? h)
theorem lw_g {w : Cond} (h : w ∈ lw_tbl) (g : goodWord w = true) : w ∈ lw_all := List.mem_filter.mpr ⟨h, g⟩
theorem lw_ms : ∀ w ∈ k2_sels lw_privs, w ∈ lw_tbl := fun w h => show w ∈ k2_sels lw_privs ++ tables_1 from List.mem_append_left _ h
theorem lw_m1 : ∀ w ∈ tables_1_1, w ∈ lw_tbl := fun w h => show w ∈ k2_sels lw_privs ++ tables_1 from List.mem_append_right (k2_sels lw_privs) (show w ∈ tables_1 from List.mem_append_left _ h)
theorem lw_m2 : ∀ w ∈ tables_1_2, w ∈ lw_tbl := fun w h => show w ∈ k2_sels lw_privs ++ tables_1 from List.mem_append_right (k2_sels lw_privs) (show w ∈ tables_1 from List.mem_append_right _ h)
theorem qs0 : (Cond.selects "InductionDesk" ⟨"InductionDesk", "isLiteral", "(I)Z"⟩ ⟨"InductionDesk", "isLiteral", "(I)Z"⟩) ∈ lw_all := lw_g (lw_at lw_ms 0 rfl) rfl
theorem qs1 : (Cond.selects "InductionDesk" ⟨"InductionDesk", "open", "(I)V"⟩ ⟨"InductionDesk", "open", "(I)V"⟩) ∈ lw_all := lw_g (lw_at lw_ms 1 rfl) rfl
theorem qs2 : (Cond.selects "InductionDesk" ⟨"InductionDesk", "put", "(II)V"⟩ ⟨"InductionDesk", "put", "(II)V"⟩) ∈ lw_all := lw_g (lw_at lw_ms 2 rfl) rfl
theorem qs3 : (Cond.selects "InductionDesk" ⟨"InductionDesk", "follow", "()V"⟩ ⟨"InductionDesk", "follow", "()V"⟩) ∈ lw_all := lw_g (lw_at lw_ms 3 rfl) rfl
theorem qs4 : (Cond.selects "InductionDesk" ⟨"InductionDesk", "followCopy", "(I)V"⟩ ⟨"InductionDesk", "followCopy", "(I)V"⟩) ∈ lw_all := lw_g (lw_at lw_ms 4 rfl) rfl
theorem qs5 : (Cond.selects "InductionDesk" ⟨"InductionDesk", "followGate", "(II)V"⟩ ⟨"InductionDesk", "followGate", "(II)V"⟩) ∈ lw_all := lw_g (lw_at lw_ms 5 rfl) rfl
theorem qs6 : (Cond.selects "InductionDesk" ⟨"InductionDesk", "valueOf", "(II)I"⟩ ⟨"InductionDesk", "valueOf", "(II)I"⟩) ∈ lw_all := lw_g (lw_at lw_ms 6 rfl) rfl
theorem qs7 : (Cond.selects "InductionDesk" ⟨"InductionDesk", "putLiteral", "(III)V"⟩ ⟨"InductionDesk", "putLiteral", "(III)V"⟩) ∈ lw_all := lw_g (lw_at lw_ms 7 rfl) rfl
theorem qs8 : (Cond.selects "InductionDesk" ⟨"InductionDesk", "search", "(IZZ)Z"⟩ ⟨"InductionDesk", "search", "(IZZ)Z"⟩) ∈ lw_all := lw_g (lw_at lw_ms 8 rfl) rfl
theorem qs9 : (Cond.selects "InductionDesk" ⟨"InductionDesk", "demand", "()V"⟩ ⟨"InductionDesk", "demand", "()V"⟩) ∈ lw_all := lw_g (lw_at lw_ms 9 rfl) rfl
theorem qs10 : (Cond.selects "InductionDesk" ⟨"InductionDesk", "repeats", "()Z"⟩ ⟨"InductionDesk", "repeats", "()Z"⟩) ∈ lw_all := lw_g (lw_at lw_ms 10 rfl) rfl
theorem qs11 : (Cond.selects "InductionDesk" ⟨"InductionDesk", "sameState", "(II)Z"⟩ ⟨"InductionDesk", "sameState", "(II)Z"⟩) ∈ lw_all := lw_g (lw_at lw_ms 11 rfl) rfl
theorem qs12 : (Cond.selects "InductionDesk" ⟨"InductionDesk", "goBack", "()Z"⟩ ⟨"InductionDesk", "goBack", "()Z"⟩) ∈ lw_all := lw_g (lw_at lw_ms 12 rfl) rfl
theorem qs13 : (Cond.selects "InductionDesk" ⟨"InductionDesk", "choose", "()Z"⟩ ⟨"InductionDesk", "choose", "()Z"⟩) ∈ lw_all := lw_g (lw_at lw_ms 13 rfl) rfl
theorem qs14 : (Cond.selects "InductionDeskModel" ⟨"InductionDeskModel", "refused", "(I)Z"⟩ ⟨"InductionDeskModel", "refused", "(I)Z"⟩) ∈ lw_all := lw_g (lw_at lw_ms 14 rfl) rfl
theorem qs15 : (Cond.selects "InductionDeskModel" ⟨"InductionDeskModel", "work", "(II)V"⟩ ⟨"InductionDeskModel", "work", "(II)V"⟩) ∈ lw_all := lw_g (lw_at lw_ms 15 rfl) rfl
theorem qs16 : (Cond.selects "InductionDeskModel" ⟨"InductionDeskModel", "of", "(I)I"⟩ ⟨"InductionDeskModel", "of", "(I)I"⟩) ∈ lw_all := lw_g (lw_at lw_ms 16 rfl) rfl
theorem qs17 : (Cond.selects "InductionDeskModel" ⟨"InductionDeskModel", "least", "(I)I"⟩ ⟨"InductionDeskModel", "least", "(I)I"⟩) ∈ lw_all := lw_g (lw_at lw_ms 17 rfl) rfl
theorem qs18 : (Cond.selects "InductionDeskModel" ⟨"InductionDeskModel", "found", "(I)Z"⟩ ⟨"InductionDeskModel", "found", "(I)Z"⟩) ∈ lw_all := lw_g (lw_at lw_ms 18 rfl) rfl
theorem qs19 : (Cond.selects "InductionDeskModel" ⟨"InductionDeskModel", "beginning", "(I)Z"⟩ ⟨"InductionDeskModel", "beginning", "(I)Z"⟩) ∈ lw_all := lw_g (lw_at lw_ms 19 rfl) rfl
theorem qs20 : (Cond.selects "InductionDeskModel" ⟨"InductionDeskModel", "run", "(III)Z"⟩ ⟨"InductionDeskModel", "run", "(III)Z"⟩) ∈ lw_all := lw_g (lw_at lw_ms 20 rfl) rfl
theorem qs21 : (Cond.selects "InductionDeskModel" ⟨"InductionDeskModel", "isBad", "(II)Z"⟩ ⟨"InductionDeskModel", "isBad", "(II)Z"⟩) ∈ lw_all := lw_g (lw_at lw_ms 21 rfl) rfl
theorem qs22 : (Cond.selects "InductionDeskModel" ⟨"InductionDeskModel", "step", "(II)I"⟩ ⟨"InductionDeskModel", "step", "(II)I"⟩) ∈ lw_all := lw_g (lw_at lw_ms 22 rfl) rfl
theorem qs23 : (Cond.selects "InductionDeskModel" ⟨"InductionDeskModel", "different", "(I)Z"⟩ ⟨"InductionDeskModel", "different", "(I)Z"⟩) ∈ lw_all := lw_g (lw_at lw_ms 23 rfl) rfl
end
section
set_option maxRecDepth 100000
/-! InductionDesk -/
def RX0 : String := "InductionDesk"
def TX0 : u_T := fun k => match k with
  | 0 => ("InductionDesk", "gates", "I", false)
  | 1 => ("InductionDesk", "left", "[I", true)
  | 2 => ("InductionDesk", "right", "[I", true)
  | 3 => ("InductionDesk", "nextOf", "[I", true)
  | 4 => ("InductionDesk", "beginning", "[I", true)
  | 5 => ("InductionDesk", "badLiteral", "I", false)
  | 6 => ("InductionDesk", "last", "I", false)
  | 7 => ("InductionDesk", "fromBeginning", "Z", false)
  | 8 => ("InductionDesk", "different", "Z", false)
  | 9 => ("InductionDesk", "value", "[I", true)
  | 10 => ("InductionDesk", "settled", "I", false)
  | 11 => ("InductionDesk", "order", "[I", true)
  | 12 => ("InductionDesk", "broken", "Z", false)
  | 13 => ("InductionDesk", "choices", "I", false)
  | 14 => ("InductionDesk", "chosen", "[I", true)
  | 15 => ("InductionDesk", "setBefore", "[I", true)
  | _ => ("InductionDesk", "second", "[Z", true)
def tyX0 : Nat → FieldType := fun k => match k with
  | 0 => .int
  | 1 => .array .int
  | 2 => .array .int
  | 3 => .array .int
  | 4 => .array .int
  | 5 => .int
  | 6 => .int
  | 7 => .boolean
  | 8 => .boolean
  | 9 => .array .int
  | 10 => .int
  | 11 => .array .int
  | 12 => .boolean
  | 13 => .int
  | 14 => .array .int
  | 15 => .array .int
  | _ => .array .boolean
abbrev wsX00 : List Cond := u_ws RX0 TX0 17
set_option maxRecDepth 100000 in
theorem nmX0 : ∀ a, a < 17 → ∀ b, b < 17 → a ≠ b → (TX0 a).2.1 ≠ (TX0 b).2.1 := by decide +kernel
set_option maxRecDepth 100000 in
theorem tyX0_ok : ∀ k, k < 17 → parseFieldDescriptor (TX0 k).2.2.1 = some (tyX0 k) := by decide +kernel
abbrev cX0_init : ByteArray := prog_1_method_1_code
def yX0_init : MethodName := ⟨RX0, "<init>", "()V"⟩
abbrev cX0_gate : ByteArray := prog_1_method_2_code
def yX0_gate : MethodName := ⟨RX0, "gate", "(II)I"⟩
abbrev cX0_isLiteral : ByteArray := prog_1_method_6_code
def yX0_isLiteral : MethodName := ⟨RX0, "isLiteral", "(I)Z"⟩
abbrev cX0_next : ByteArray := prog_1_method_3_code
def yX0_next : MethodName := ⟨RX0, "next", "(II)I"⟩
abbrev cX0_begin : ByteArray := prog_1_method_4_code
def yX0_begin : MethodName := ⟨RX0, "begin", "(II)I"⟩
abbrev cX0_bad : ByteArray := prog_1_method_5_code
def yX0_bad : MethodName := ⟨RX0, "bad", "(I)I"⟩
abbrev cX0_value : ByteArray := prog_1_method_7_code
def yX0_value : MethodName := ⟨RX0, "value", "(III)I"⟩
abbrev cX0_open : ByteArray := prog_1_method_13_code
def yX0_open : MethodName := ⟨RX0, "open", "(I)V"⟩
abbrev cX0_put : ByteArray := prog_1_method_14_code
def yX0_put : MethodName := ⟨RX0, "put", "(II)V"⟩
abbrev cX0_follow : ByteArray := prog_1_method_17_code
def yX0_follow : MethodName := ⟨RX0, "follow", "()V"⟩
abbrev cX0_followCopy : ByteArray := prog_1_method_18_code
def yX0_followCopy : MethodName := ⟨RX0, "followCopy", "(I)V"⟩
abbrev cX0_followGate : ByteArray := prog_1_method_19_code
def yX0_followGate : MethodName := ⟨RX0, "followGate", "(II)V"⟩
abbrev cX0_valueOf : ByteArray := prog_1_method_15_code
def yX0_valueOf : MethodName := ⟨RX0, "valueOf", "(II)I"⟩
abbrev cX0_putLiteral : ByteArray := prog_1_method_16_code
def yX0_putLiteral : MethodName := ⟨RX0, "putLiteral", "(III)V"⟩
abbrev cX0_depth : ByteArray := prog_1_method_8_code
def yX0_depth : MethodName := ⟨RX0, "depth", "(I)I"⟩
abbrev cX0_search : ByteArray := prog_1_method_22_code
def yX0_search : MethodName := ⟨RX0, "search", "(IZZ)Z"⟩
abbrev cX0_demand : ByteArray := prog_1_method_23_code
def yX0_demand : MethodName := ⟨RX0, "demand", "()V"⟩
abbrev cX0_repeats : ByteArray := prog_1_method_20_code
def yX0_repeats : MethodName := ⟨RX0, "repeats", "()Z"⟩
abbrev cX0_sameState : ByteArray := prog_1_method_21_code
def yX0_sameState : MethodName := ⟨RX0, "sameState", "(II)Z"⟩
abbrev cX0_goBack : ByteArray := prog_1_method_25_code
def yX0_goBack : MethodName := ⟨RX0, "goBack", "()Z"⟩
abbrev cX0_choose : ByteArray := prog_1_method_24_code
def yX0_choose : MethodName := ⟨RX0, "choose", "()Z"⟩
abbrev cX0_holds : ByteArray := prog_1_method_9_code
def yX0_holds : MethodName := ⟨RX0, "holds", "(I)I"⟩
abbrev cX0_proof : ByteArray := prog_1_method_10_code
def yX0_proof : MethodName := ⟨RX0, "proof", "()I"⟩
abbrev cX0_witness : ByteArray := prog_1_method_11_code
def yX0_witness : MethodName := ⟨RX0, "witness", "(I)I"⟩
abbrev cX0_input : ByteArray := prog_1_method_12_code
def yX0_input : MethodName := ⟨RX0, "input", "(I)I"⟩
theorem q25 : (Jvm.Cond.initialized "InductionDesk") ∈ lw_all := lw_g (lw_at lw_m1 1 rfl) rfl
theorem q28 : (Jvm.Cond.instantiable "InductionDesk" (17 : Nat)) ∈ lw_all := lw_g (lw_at lw_m1 4 rfl) rfl
theorem q30 : (Jvm.Cond.instanceMethod ({ cls := "InductionDesk", name := "<init>", desc := "()V" } : Jvm.MethodName)) ∈ lw_all := lw_g (lw_at lw_m1 6 rfl) rfl
theorem q31 : (Jvm.Cond.code ({ cls := "InductionDesk", name := "<init>", desc := "()V" } : Jvm.MethodName) prog_1_method_1_code (2 : Nat) (Option.none : Option Jvm.ClassFile.FieldType)) ∈ lw_all := lw_g (lw_at lw_m1 7 rfl) rfl
theorem q32 : (Jvm.Cond.methodLink "InductionDesk" (1 : Nat) ({ cls := "java/lang/Object", name := "<init>", desc := "()V" } : Jvm.MethodName)) ∈ lw_all := lw_g (lw_at lw_m1 8 rfl) rfl
theorem q35 : (Jvm.Cond.fieldLink "InductionDesk" (42 : Nat) "InductionDesk" "gates" "I") ∈ lw_all := lw_g (lw_at lw_m1 11 rfl) rfl
theorem q36 : (Jvm.Cond.fieldLink "InductionDesk" (7 : Nat) "InductionDesk" "left" "[I") ∈ lw_all := lw_g (lw_at lw_m1 12 rfl) rfl
theorem q37 : (Jvm.Cond.fieldLink "InductionDesk" (13 : Nat) "InductionDesk" "right" "[I") ∈ lw_all := lw_g (lw_at lw_m1 13 rfl) rfl
theorem q38 : (Jvm.Cond.fieldLink "InductionDesk" (16 : Nat) "InductionDesk" "nextOf" "[I") ∈ lw_all := lw_g (lw_at lw_m1 14 rfl) rfl
theorem q39 : (Jvm.Cond.fieldLink "InductionDesk" (19 : Nat) "InductionDesk" "beginning" "[I") ∈ lw_all := lw_g (lw_at lw_m1 15 rfl) rfl
theorem q40 : (Jvm.Cond.fieldLink "InductionDesk" (46 : Nat) "InductionDesk" "badLiteral" "I") ∈ lw_all := lw_g (lw_at lw_m1 16 rfl) rfl
theorem q41 : (Jvm.Cond.fieldLink "InductionDesk" (72 : Nat) "InductionDesk" "last" "I") ∈ lw_all := lw_g (lw_at lw_m1 17 rfl) rfl
theorem q42 : (Jvm.Cond.fieldLink "InductionDesk" (99 : Nat) "InductionDesk" "fromBeginning" "Z") ∈ lw_all := lw_g (lw_at lw_m1 18 rfl) rfl
theorem q43 : (Jvm.Cond.fieldLink "InductionDesk" (102 : Nat) "InductionDesk" "different" "Z") ∈ lw_all := lw_g (lw_at lw_m1 19 rfl) rfl
theorem q44 : (Jvm.Cond.fieldLink "InductionDesk" (22 : Nat) "InductionDesk" "value" "[I") ∈ lw_all := lw_g (lw_at lw_m1 20 rfl) rfl
theorem q45 : (Jvm.Cond.fieldLink "InductionDesk" (75 : Nat) "InductionDesk" "settled" "I") ∈ lw_all := lw_g (lw_at lw_m1 21 rfl) rfl
theorem q46 : (Jvm.Cond.fieldLink "InductionDesk" (25 : Nat) "InductionDesk" "order" "[I") ∈ lw_all := lw_g (lw_at lw_m1 22 rfl) rfl
theorem q47 : (Jvm.Cond.fieldLink "InductionDesk" (81 : Nat) "InductionDesk" "broken" "Z") ∈ lw_all := lw_g (lw_at lw_m1 23 rfl) rfl
theorem q48 : (Jvm.Cond.fieldLink "InductionDesk" (78 : Nat) "InductionDesk" "choices" "I") ∈ lw_all := lw_g (lw_at lw_m1 24 rfl) rfl
theorem q49 : (Jvm.Cond.fieldLink "InductionDesk" (28 : Nat) "InductionDesk" "chosen" "[I") ∈ lw_all := lw_g (lw_at lw_m1 25 rfl) rfl
theorem q50 : (Jvm.Cond.fieldLink "InductionDesk" (31 : Nat) "InductionDesk" "setBefore" "[I") ∈ lw_all := lw_g (lw_at lw_m1 26 rfl) rfl
theorem q51 : (Jvm.Cond.fieldLink "InductionDesk" (34 : Nat) "InductionDesk" "second" "[Z") ∈ lw_all := lw_g (lw_at lw_m1 27 rfl) rfl
theorem q52 : (Jvm.Cond.lays "InductionDesk" "InductionDesk" "gates" "I") ∈ lw_all := lw_g (lw_at lw_m1 28 rfl) rfl
theorem q53 : (Jvm.Cond.soleField "InductionDesk" "gates") ∈ lw_all := lw_g (lw_at lw_m1 29 rfl) rfl
theorem q54 : (Jvm.Cond.laysFinal "InductionDesk" "InductionDesk" "left" "[I") ∈ lw_all := lw_g (lw_at lw_m1 30 rfl) rfl
theorem q55 : (Jvm.Cond.soleField "InductionDesk" "left") ∈ lw_all := lw_g (lw_at lw_m1 31 rfl) rfl
theorem q56 : (Jvm.Cond.laysFinal "InductionDesk" "InductionDesk" "right" "[I") ∈ lw_all := lw_g (lw_at lw_m1 32 rfl) rfl
theorem q57 : (Jvm.Cond.soleField "InductionDesk" "right") ∈ lw_all := lw_g (lw_at lw_m1 33 rfl) rfl
theorem q58 : (Jvm.Cond.laysFinal "InductionDesk" "InductionDesk" "nextOf" "[I") ∈ lw_all := lw_g (lw_at lw_m1 34 rfl) rfl
theorem q59 : (Jvm.Cond.soleField "InductionDesk" "nextOf") ∈ lw_all := lw_g (lw_at lw_m1 35 rfl) rfl
theorem q60 : (Jvm.Cond.laysFinal "InductionDesk" "InductionDesk" "beginning" "[I") ∈ lw_all := lw_g (lw_at lw_m1 36 rfl) rfl
theorem q61 : (Jvm.Cond.soleField "InductionDesk" "beginning") ∈ lw_all := lw_g (lw_at lw_m1 37 rfl) rfl
theorem q62 : (Jvm.Cond.lays "InductionDesk" "InductionDesk" "badLiteral" "I") ∈ lw_all := lw_g (lw_at lw_m1 38 rfl) rfl
theorem q63 : (Jvm.Cond.soleField "InductionDesk" "badLiteral") ∈ lw_all := lw_g (lw_at lw_m1 39 rfl) rfl
theorem q64 : (Jvm.Cond.lays "InductionDesk" "InductionDesk" "last" "I") ∈ lw_all := lw_g (lw_at lw_m1 40 rfl) rfl
theorem q65 : (Jvm.Cond.soleField "InductionDesk" "last") ∈ lw_all := lw_g (lw_at lw_m1 41 rfl) rfl
theorem q66 : (Jvm.Cond.lays "InductionDesk" "InductionDesk" "fromBeginning" "Z") ∈ lw_all := lw_g (lw_at lw_m1 42 rfl) rfl
theorem q67 : (Jvm.Cond.soleField "InductionDesk" "fromBeginning") ∈ lw_all := lw_g (lw_at lw_m1 43 rfl) rfl
theorem q68 : (Jvm.Cond.lays "InductionDesk" "InductionDesk" "different" "Z") ∈ lw_all := lw_g (lw_at lw_m1 44 rfl) rfl
theorem q69 : (Jvm.Cond.soleField "InductionDesk" "different") ∈ lw_all := lw_g (lw_at lw_m1 45 rfl) rfl
theorem q70 : (Jvm.Cond.laysFinal "InductionDesk" "InductionDesk" "value" "[I") ∈ lw_all := lw_g (lw_at lw_m1 46 rfl) rfl
theorem q71 : (Jvm.Cond.soleField "InductionDesk" "value") ∈ lw_all := lw_g (lw_at lw_m1 47 rfl) rfl
theorem q72 : (Jvm.Cond.lays "InductionDesk" "InductionDesk" "settled" "I") ∈ lw_all := lw_g (lw_at lw_m1 48 rfl) rfl
theorem q73 : (Jvm.Cond.soleField "InductionDesk" "settled") ∈ lw_all := lw_g (lw_at lw_m1 49 rfl) rfl
theorem q74 : (Jvm.Cond.laysFinal "InductionDesk" "InductionDesk" "order" "[I") ∈ lw_all := lw_g (lw_at lw_m1 50 rfl) rfl
theorem q75 : (Jvm.Cond.soleField "InductionDesk" "order") ∈ lw_all := lw_g (lw_at lw_m1 51 rfl) rfl
theorem q76 : (Jvm.Cond.lays "InductionDesk" "InductionDesk" "broken" "Z") ∈ lw_all := lw_g (lw_at lw_m1 52 rfl) rfl
theorem q77 : (Jvm.Cond.soleField "InductionDesk" "broken") ∈ lw_all := lw_g (lw_at lw_m1 53 rfl) rfl
theorem q78 : (Jvm.Cond.lays "InductionDesk" "InductionDesk" "choices" "I") ∈ lw_all := lw_g (lw_at lw_m1 54 rfl) rfl
theorem q79 : (Jvm.Cond.soleField "InductionDesk" "choices") ∈ lw_all := lw_g (lw_at lw_m1 55 rfl) rfl
theorem q80 : (Jvm.Cond.laysFinal "InductionDesk" "InductionDesk" "chosen" "[I") ∈ lw_all := lw_g (lw_at lw_m1 56 rfl) rfl
theorem q81 : (Jvm.Cond.soleField "InductionDesk" "chosen") ∈ lw_all := lw_g (lw_at lw_m1 57 rfl) rfl
theorem q82 : (Jvm.Cond.laysFinal "InductionDesk" "InductionDesk" "setBefore" "[I") ∈ lw_all := lw_g (lw_at lw_m1 58 rfl) rfl
theorem q83 : (Jvm.Cond.soleField "InductionDesk" "setBefore") ∈ lw_all := lw_g (lw_at lw_m1 59 rfl) rfl
theorem q84 : (Jvm.Cond.laysFinal "InductionDesk" "InductionDesk" "second" "[Z") ∈ lw_all := lw_g (lw_at lw_m1 60 rfl) rfl
theorem q85 : (Jvm.Cond.soleField "InductionDesk" "second") ∈ lw_all := lw_g (lw_at lw_m1 61 rfl) rfl
theorem q86 : (Jvm.Cond.superclass "InductionDesk" "java/lang/Object") ∈ lw_all := lw_g (lw_at lw_m1 62 rfl) rfl
theorem q90 : (Jvm.Cond.instanceMethod ({ cls := "InductionDesk", name := "gate", desc := "(II)I" } : Jvm.MethodName)) ∈ lw_all := lw_g (lw_at lw_m1 66 rfl) rfl
theorem q91 : (Jvm.Cond.selects "InductionDesk" ({ cls := "InductionDesk", name := "gate", desc := "(II)I" } : Jvm.MethodName) ({ cls := "InductionDesk", name := "gate", desc := "(II)I" } : Jvm.MethodName)) ∈ lw_all := lw_g (lw_at lw_m1 67 rfl) rfl
theorem q92 : (Jvm.Cond.code ({ cls := "InductionDesk", name := "gate", desc := "(II)I" } : Jvm.MethodName) prog_1_method_2_code (3 : Nat) (Option.some Jvm.ClassFile.FieldType.int)) ∈ lw_all := lw_g (lw_at lw_m1 68 rfl) rfl
theorem q93 : (Jvm.Cond.methodLink "InductionDesk" (38 : Nat) ({ cls := "InductionDesk", name := "isLiteral", desc := "(I)Z" } : Jvm.MethodName)) ∈ lw_all := lw_g (lw_at lw_m1 69 rfl) rfl
theorem q94 : (Jvm.Cond.privateMethod ({ cls := "InductionDesk", name := "isLiteral", desc := "(I)Z" } : Jvm.MethodName)) ∈ lw_tbl := lw_at lw_m1 70 rfl
theorem q95 : (Jvm.Cond.instanceMethod ({ cls := "InductionDesk", name := "isLiteral", desc := "(I)Z" } : Jvm.MethodName)) ∈ lw_all := lw_g (lw_at lw_m1 71 rfl) rfl
theorem q96 : (Jvm.Cond.code ({ cls := "InductionDesk", name := "isLiteral", desc := "(I)Z" } : Jvm.MethodName) prog_1_method_6_code (2 : Nat) (Option.some Jvm.ClassFile.FieldType.boolean)) ∈ lw_all := lw_g (lw_at lw_m1 72 rfl) rfl
theorem q98 : (Jvm.Cond.instanceMethod ({ cls := "InductionDesk", name := "next", desc := "(II)I" } : Jvm.MethodName)) ∈ lw_all := lw_g (lw_at lw_m1 74 rfl) rfl
theorem q99 : (Jvm.Cond.selects "InductionDesk" ({ cls := "InductionDesk", name := "next", desc := "(II)I" } : Jvm.MethodName) ({ cls := "InductionDesk", name := "next", desc := "(II)I" } : Jvm.MethodName)) ∈ lw_all := lw_g (lw_at lw_m1 75 rfl) rfl
theorem q100 : (Jvm.Cond.code ({ cls := "InductionDesk", name := "next", desc := "(II)I" } : Jvm.MethodName) prog_1_method_3_code (4 : Nat) (Option.some Jvm.ClassFile.FieldType.int)) ∈ lw_all := lw_g (lw_at lw_m1 76 rfl) rfl
theorem q102 : (Jvm.Cond.instanceMethod ({ cls := "InductionDesk", name := "begin", desc := "(II)I" } : Jvm.MethodName)) ∈ lw_all := lw_g (lw_at lw_m1 78 rfl) rfl
theorem q103 : (Jvm.Cond.selects "InductionDesk" ({ cls := "InductionDesk", name := "begin", desc := "(II)I" } : Jvm.MethodName) ({ cls := "InductionDesk", name := "begin", desc := "(II)I" } : Jvm.MethodName)) ∈ lw_all := lw_g (lw_at lw_m1 79 rfl) rfl
theorem q104 : (Jvm.Cond.code ({ cls := "InductionDesk", name := "begin", desc := "(II)I" } : Jvm.MethodName) prog_1_method_4_code (3 : Nat) (Option.some Jvm.ClassFile.FieldType.int)) ∈ lw_all := lw_g (lw_at lw_m1 80 rfl) rfl
theorem q106 : (Jvm.Cond.instanceMethod ({ cls := "InductionDesk", name := "bad", desc := "(I)I" } : Jvm.MethodName)) ∈ lw_all := lw_g (lw_at lw_m1 82 rfl) rfl
theorem q107 : (Jvm.Cond.selects "InductionDesk" ({ cls := "InductionDesk", name := "bad", desc := "(I)I" } : Jvm.MethodName) ({ cls := "InductionDesk", name := "bad", desc := "(I)I" } : Jvm.MethodName)) ∈ lw_all := lw_g (lw_at lw_m1 83 rfl) rfl
theorem q108 : (Jvm.Cond.code ({ cls := "InductionDesk", name := "bad", desc := "(I)I" } : Jvm.MethodName) prog_1_method_5_code (3 : Nat) (Option.some Jvm.ClassFile.FieldType.int)) ∈ lw_all := lw_g (lw_at lw_m1 84 rfl) rfl
theorem q110 : (Jvm.Cond.instanceMethod ({ cls := "InductionDesk", name := "value", desc := "(III)I" } : Jvm.MethodName)) ∈ lw_all := lw_g (lw_at lw_m1 86 rfl) rfl
theorem q111 : (Jvm.Cond.selects "InductionDesk" ({ cls := "InductionDesk", name := "value", desc := "(III)I" } : Jvm.MethodName) ({ cls := "InductionDesk", name := "value", desc := "(III)I" } : Jvm.MethodName)) ∈ lw_all := lw_g (lw_at lw_m1 87 rfl) rfl
theorem q112 : (Jvm.Cond.code ({ cls := "InductionDesk", name := "value", desc := "(III)I" } : Jvm.MethodName) prog_1_method_7_code (5 : Nat) (Option.some Jvm.ClassFile.FieldType.int)) ∈ lw_all := lw_g (lw_at lw_m1 88 rfl) rfl
theorem q113 : (Jvm.Cond.methodLink "InductionDesk" (49 : Nat) ({ cls := "InductionDesk", name := "open", desc := "(I)V" } : Jvm.MethodName)) ∈ lw_all := lw_g (lw_at lw_m1 89 rfl) rfl
theorem q114 : (Jvm.Cond.privateMethod ({ cls := "InductionDesk", name := "open", desc := "(I)V" } : Jvm.MethodName)) ∈ lw_tbl := lw_at lw_m1 90 rfl
theorem q115 : (Jvm.Cond.instanceMethod ({ cls := "InductionDesk", name := "open", desc := "(I)V" } : Jvm.MethodName)) ∈ lw_all := lw_g (lw_at lw_m1 91 rfl) rfl
theorem q116 : (Jvm.Cond.code ({ cls := "InductionDesk", name := "open", desc := "(I)V" } : Jvm.MethodName) prog_1_method_13_code (3 : Nat) (Option.none : Option Jvm.ClassFile.FieldType)) ∈ lw_all := lw_g (lw_at lw_m1 92 rfl) rfl
theorem q117 : (Jvm.Cond.methodLink "InductionDesk" (53 : Nat) ({ cls := "InductionDesk", name := "put", desc := "(II)V" } : Jvm.MethodName)) ∈ lw_all := lw_g (lw_at lw_m1 93 rfl) rfl
theorem q118 : (Jvm.Cond.privateMethod ({ cls := "InductionDesk", name := "put", desc := "(II)V" } : Jvm.MethodName)) ∈ lw_tbl := lw_at lw_m1 94 rfl
theorem q119 : (Jvm.Cond.instanceMethod ({ cls := "InductionDesk", name := "put", desc := "(II)V" } : Jvm.MethodName)) ∈ lw_all := lw_g (lw_at lw_m1 95 rfl) rfl
theorem q120 : (Jvm.Cond.code ({ cls := "InductionDesk", name := "put", desc := "(II)V" } : Jvm.MethodName) prog_1_method_14_code (3 : Nat) (Option.none : Option Jvm.ClassFile.FieldType)) ∈ lw_all := lw_g (lw_at lw_m1 96 rfl) rfl
theorem q121 : (Jvm.Cond.methodLink "InductionDesk" (57 : Nat) ({ cls := "InductionDesk", name := "follow", desc := "()V" } : Jvm.MethodName)) ∈ lw_all := lw_g (lw_at lw_m1 97 rfl) rfl
theorem q122 : (Jvm.Cond.privateMethod ({ cls := "InductionDesk", name := "follow", desc := "()V" } : Jvm.MethodName)) ∈ lw_tbl := lw_at lw_m1 98 rfl
theorem q123 : (Jvm.Cond.instanceMethod ({ cls := "InductionDesk", name := "follow", desc := "()V" } : Jvm.MethodName)) ∈ lw_all := lw_g (lw_at lw_m1 99 rfl) rfl
theorem q124 : (Jvm.Cond.code ({ cls := "InductionDesk", name := "follow", desc := "()V" } : Jvm.MethodName) prog_1_method_17_code (5 : Nat) (Option.none : Option Jvm.ClassFile.FieldType)) ∈ lw_all := lw_g (lw_at lw_m1 100 rfl) rfl
theorem q125 : (Jvm.Cond.methodLink "InductionDesk" (85 : Nat) ({ cls := "InductionDesk", name := "followCopy", desc := "(I)V" } : Jvm.MethodName)) ∈ lw_all := lw_g (lw_at lw_m1 101 rfl) rfl
theorem q126 : (Jvm.Cond.privateMethod ({ cls := "InductionDesk", name := "followCopy", desc := "(I)V" } : Jvm.MethodName)) ∈ lw_tbl := lw_at lw_m1 102 rfl
theorem q127 : (Jvm.Cond.instanceMethod ({ cls := "InductionDesk", name := "followCopy", desc := "(I)V" } : Jvm.MethodName)) ∈ lw_all := lw_g (lw_at lw_m1 103 rfl) rfl
theorem q128 : (Jvm.Cond.code ({ cls := "InductionDesk", name := "followCopy", desc := "(I)V" } : Jvm.MethodName) prog_1_method_18_code (5 : Nat) (Option.none : Option Jvm.ClassFile.FieldType)) ∈ lw_all := lw_g (lw_at lw_m1 104 rfl) rfl
theorem q129 : (Jvm.Cond.methodLink "InductionDesk" (88 : Nat) ({ cls := "InductionDesk", name := "followGate", desc := "(II)V" } : Jvm.MethodName)) ∈ lw_all := lw_g (lw_at lw_m1 105 rfl) rfl
theorem q130 : (Jvm.Cond.privateMethod ({ cls := "InductionDesk", name := "followGate", desc := "(II)V" } : Jvm.MethodName)) ∈ lw_tbl := lw_at lw_m1 106 rfl
theorem q131 : (Jvm.Cond.instanceMethod ({ cls := "InductionDesk", name := "followGate", desc := "(II)V" } : Jvm.MethodName)) ∈ lw_all := lw_g (lw_at lw_m1 107 rfl) rfl
theorem q132 : (Jvm.Cond.code ({ cls := "InductionDesk", name := "followGate", desc := "(II)V" } : Jvm.MethodName) prog_1_method_19_code (6 : Nat) (Option.none : Option Jvm.ClassFile.FieldType)) ∈ lw_all := lw_g (lw_at lw_m1 108 rfl) rfl
theorem q133 : (Jvm.Cond.methodLink "InductionDesk" (60 : Nat) ({ cls := "InductionDesk", name := "valueOf", desc := "(II)I" } : Jvm.MethodName)) ∈ lw_all := lw_g (lw_at lw_m1 109 rfl) rfl
theorem q134 : (Jvm.Cond.privateMethod ({ cls := "InductionDesk", name := "valueOf", desc := "(II)I" } : Jvm.MethodName)) ∈ lw_tbl := lw_at lw_m1 110 rfl
theorem q135 : (Jvm.Cond.instanceMethod ({ cls := "InductionDesk", name := "valueOf", desc := "(II)I" } : Jvm.MethodName)) ∈ lw_all := lw_g (lw_at lw_m1 111 rfl) rfl
theorem q136 : (Jvm.Cond.code ({ cls := "InductionDesk", name := "valueOf", desc := "(II)I" } : Jvm.MethodName) prog_1_method_15_code (4 : Nat) (Option.some Jvm.ClassFile.FieldType.int)) ∈ lw_all := lw_g (lw_at lw_m1 112 rfl) rfl
theorem q137 : (Jvm.Cond.methodLink "InductionDesk" (91 : Nat) ({ cls := "InductionDesk", name := "putLiteral", desc := "(III)V" } : Jvm.MethodName)) ∈ lw_all := lw_g (lw_at lw_m1 113 rfl) rfl
theorem q138 : (Jvm.Cond.privateMethod ({ cls := "InductionDesk", name := "putLiteral", desc := "(III)V" } : Jvm.MethodName)) ∈ lw_tbl := lw_at lw_m1 114 rfl
theorem q139 : (Jvm.Cond.instanceMethod ({ cls := "InductionDesk", name := "putLiteral", desc := "(III)V" } : Jvm.MethodName)) ∈ lw_all := lw_g (lw_at lw_m1 115 rfl) rfl
theorem q140 : (Jvm.Cond.code ({ cls := "InductionDesk", name := "putLiteral", desc := "(III)V" } : Jvm.MethodName) prog_1_method_16_code (4 : Nat) (Option.none : Option Jvm.ClassFile.FieldType)) ∈ lw_all := lw_g (lw_at lw_m1 116 rfl) rfl
theorem q142 : (Jvm.Cond.instanceMethod ({ cls := "InductionDesk", name := "depth", desc := "(I)I" } : Jvm.MethodName)) ∈ lw_all := lw_g (lw_at lw_m1 118 rfl) rfl
theorem q143 : (Jvm.Cond.selects "InductionDesk" ({ cls := "InductionDesk", name := "depth", desc := "(I)I" } : Jvm.MethodName) ({ cls := "InductionDesk", name := "depth", desc := "(I)I" } : Jvm.MethodName)) ∈ lw_all := lw_g (lw_at lw_m1 119 rfl) rfl
theorem q144 : (Jvm.Cond.code ({ cls := "InductionDesk", name := "depth", desc := "(I)I" } : Jvm.MethodName) prog_1_method_8_code (4 : Nat) (Option.some Jvm.ClassFile.FieldType.int)) ∈ lw_all := lw_g (lw_at lw_m1 120 rfl) rfl
theorem q145 : (Jvm.Cond.methodLink "InductionDesk" (64 : Nat) ({ cls := "InductionDesk", name := "search", desc := "(IZZ)Z" } : Jvm.MethodName)) ∈ lw_all := lw_g (lw_at lw_m1 121 rfl) rfl
theorem q146 : (Jvm.Cond.privateMethod ({ cls := "InductionDesk", name := "search", desc := "(IZZ)Z" } : Jvm.MethodName)) ∈ lw_tbl := lw_at lw_m1 122 rfl
theorem q147 : (Jvm.Cond.instanceMethod ({ cls := "InductionDesk", name := "search", desc := "(IZZ)Z" } : Jvm.MethodName)) ∈ lw_all := lw_g (lw_at lw_m1 123 rfl) rfl
theorem q148 : (Jvm.Cond.code ({ cls := "InductionDesk", name := "search", desc := "(IZZ)Z" } : Jvm.MethodName) prog_1_method_22_code (6 : Nat) (Option.some Jvm.ClassFile.FieldType.boolean)) ∈ lw_all := lw_g (lw_at lw_m1 124 rfl) rfl
theorem q149 : (Jvm.Cond.methodLink "InductionDesk" (105 : Nat) ({ cls := "InductionDesk", name := "demand", desc := "()V" } : Jvm.MethodName)) ∈ lw_all := lw_g (lw_at lw_m1 125 rfl) rfl
theorem q150 : (Jvm.Cond.privateMethod ({ cls := "InductionDesk", name := "demand", desc := "()V" } : Jvm.MethodName)) ∈ lw_tbl := lw_at lw_m1 126 rfl
theorem q151 : (Jvm.Cond.instanceMethod ({ cls := "InductionDesk", name := "demand", desc := "()V" } : Jvm.MethodName)) ∈ lw_all := lw_g (lw_at lw_m1 127 rfl) rfl
theorem q152 : (Jvm.Cond.code ({ cls := "InductionDesk", name := "demand", desc := "()V" } : Jvm.MethodName) prog_1_method_23_code (2 : Nat) (Option.none : Option Jvm.ClassFile.FieldType)) ∈ lw_all := lw_g (lw_at lw_m1 128 rfl) rfl
theorem q153 : (Jvm.Cond.methodLink "InductionDesk" (108 : Nat) ({ cls := "InductionDesk", name := "repeats", desc := "()Z" } : Jvm.MethodName)) ∈ lw_all := lw_g (lw_at lw_m1 129 rfl) rfl
theorem q154 : (Jvm.Cond.privateMethod ({ cls := "InductionDesk", name := "repeats", desc := "()Z" } : Jvm.MethodName)) ∈ lw_tbl := lw_at lw_m1 130 rfl
theorem q155 : (Jvm.Cond.instanceMethod ({ cls := "InductionDesk", name := "repeats", desc := "()Z" } : Jvm.MethodName)) ∈ lw_all := lw_g (lw_at lw_m1 131 rfl) rfl
theorem q156 : (Jvm.Cond.code ({ cls := "InductionDesk", name := "repeats", desc := "()Z" } : Jvm.MethodName) prog_1_method_20_code (3 : Nat) (Option.some Jvm.ClassFile.FieldType.boolean)) ∈ lw_all := lw_g (lw_at lw_m1 132 rfl) rfl
theorem q157 : (Jvm.Cond.methodLink "InductionDesk" (95 : Nat) ({ cls := "InductionDesk", name := "sameState", desc := "(II)Z" } : Jvm.MethodName)) ∈ lw_all := lw_g (lw_at lw_m1 133 rfl) rfl
theorem q158 : (Jvm.Cond.privateMethod ({ cls := "InductionDesk", name := "sameState", desc := "(II)Z" } : Jvm.MethodName)) ∈ lw_tbl := lw_at lw_m1 134 rfl
theorem q159 : (Jvm.Cond.instanceMethod ({ cls := "InductionDesk", name := "sameState", desc := "(II)Z" } : Jvm.MethodName)) ∈ lw_all := lw_g (lw_at lw_m1 135 rfl) rfl
theorem q160 : (Jvm.Cond.code ({ cls := "InductionDesk", name := "sameState", desc := "(II)Z" } : Jvm.MethodName) prog_1_method_21_code (5 : Nat) (Option.some Jvm.ClassFile.FieldType.boolean)) ∈ lw_all := lw_g (lw_at lw_m1 136 rfl) rfl
theorem q161 : (Jvm.Cond.methodLink "InductionDesk" (112 : Nat) ({ cls := "InductionDesk", name := "goBack", desc := "()Z" } : Jvm.MethodName)) ∈ lw_all := lw_g (lw_at lw_m1 137 rfl) rfl
theorem q162 : (Jvm.Cond.privateMethod ({ cls := "InductionDesk", name := "goBack", desc := "()Z" } : Jvm.MethodName)) ∈ lw_tbl := lw_at lw_m1 138 rfl
theorem q163 : (Jvm.Cond.instanceMethod ({ cls := "InductionDesk", name := "goBack", desc := "()Z" } : Jvm.MethodName)) ∈ lw_all := lw_g (lw_at lw_m1 139 rfl) rfl
theorem q164 : (Jvm.Cond.code ({ cls := "InductionDesk", name := "goBack", desc := "()Z" } : Jvm.MethodName) prog_1_method_25_code (3 : Nat) (Option.some Jvm.ClassFile.FieldType.boolean)) ∈ lw_all := lw_g (lw_at lw_m1 140 rfl) rfl
theorem q165 : (Jvm.Cond.methodLink "InductionDesk" (115 : Nat) ({ cls := "InductionDesk", name := "choose", desc := "()Z" } : Jvm.MethodName)) ∈ lw_all := lw_g (lw_at lw_m1 141 rfl) rfl
theorem q166 : (Jvm.Cond.privateMethod ({ cls := "InductionDesk", name := "choose", desc := "()Z" } : Jvm.MethodName)) ∈ lw_tbl := lw_at lw_m1 142 rfl
theorem q167 : (Jvm.Cond.instanceMethod ({ cls := "InductionDesk", name := "choose", desc := "()Z" } : Jvm.MethodName)) ∈ lw_all := lw_g (lw_at lw_m1 143 rfl) rfl
theorem q168 : (Jvm.Cond.code ({ cls := "InductionDesk", name := "choose", desc := "()Z" } : Jvm.MethodName) prog_1_method_24_code (3 : Nat) (Option.some Jvm.ClassFile.FieldType.boolean)) ∈ lw_all := lw_g (lw_at lw_m1 144 rfl) rfl
theorem q170 : (Jvm.Cond.instanceMethod ({ cls := "InductionDesk", name := "holds", desc := "(I)I" } : Jvm.MethodName)) ∈ lw_all := lw_g (lw_at lw_m1 146 rfl) rfl
theorem q171 : (Jvm.Cond.selects "InductionDesk" ({ cls := "InductionDesk", name := "holds", desc := "(I)I" } : Jvm.MethodName) ({ cls := "InductionDesk", name := "holds", desc := "(I)I" } : Jvm.MethodName)) ∈ lw_all := lw_g (lw_at lw_m1 147 rfl) rfl
theorem q172 : (Jvm.Cond.code ({ cls := "InductionDesk", name := "holds", desc := "(I)I" } : Jvm.MethodName) prog_1_method_9_code (2 : Nat) (Option.some Jvm.ClassFile.FieldType.int)) ∈ lw_all := lw_g (lw_at lw_m1 148 rfl) rfl
theorem q174 : (Jvm.Cond.instanceMethod ({ cls := "InductionDesk", name := "proof", desc := "()I" } : Jvm.MethodName)) ∈ lw_all := lw_g (lw_at lw_m1 150 rfl) rfl
theorem q175 : (Jvm.Cond.selects "InductionDesk" ({ cls := "InductionDesk", name := "proof", desc := "()I" } : Jvm.MethodName) ({ cls := "InductionDesk", name := "proof", desc := "()I" } : Jvm.MethodName)) ∈ lw_all := lw_g (lw_at lw_m1 151 rfl) rfl
theorem q176 : (Jvm.Cond.code ({ cls := "InductionDesk", name := "proof", desc := "()I" } : Jvm.MethodName) prog_1_method_10_code (4 : Nat) (Option.some Jvm.ClassFile.FieldType.int)) ∈ lw_all := lw_g (lw_at lw_m1 152 rfl) rfl
theorem q178 : (Jvm.Cond.instanceMethod ({ cls := "InductionDesk", name := "witness", desc := "(I)I" } : Jvm.MethodName)) ∈ lw_all := lw_g (lw_at lw_m1 154 rfl) rfl
theorem q179 : (Jvm.Cond.selects "InductionDesk" ({ cls := "InductionDesk", name := "witness", desc := "(I)I" } : Jvm.MethodName) ({ cls := "InductionDesk", name := "witness", desc := "(I)I" } : Jvm.MethodName)) ∈ lw_all := lw_g (lw_at lw_m1 155 rfl) rfl
theorem q180 : (Jvm.Cond.code ({ cls := "InductionDesk", name := "witness", desc := "(I)I" } : Jvm.MethodName) prog_1_method_11_code (5 : Nat) (Option.some Jvm.ClassFile.FieldType.int)) ∈ lw_all := lw_g (lw_at lw_m1 156 rfl) rfl
theorem q181 : (Jvm.Cond.methodLink "InductionDesk" (68 : Nat) ({ cls := "InductionDesk", name := "depth", desc := "(I)I" } : Jvm.MethodName)) ∈ lw_all := lw_g (lw_at lw_m1 157 rfl) rfl
theorem q183 : (Jvm.Cond.instanceMethod ({ cls := "InductionDesk", name := "input", desc := "(I)I" } : Jvm.MethodName)) ∈ lw_all := lw_g (lw_at lw_m1 159 rfl) rfl
theorem q184 : (Jvm.Cond.selects "InductionDesk" ({ cls := "InductionDesk", name := "input", desc := "(I)I" } : Jvm.MethodName) ({ cls := "InductionDesk", name := "input", desc := "(I)I" } : Jvm.MethodName)) ∈ lw_all := lw_g (lw_at lw_m1 160 rfl) rfl
theorem q185 : (Jvm.Cond.code ({ cls := "InductionDesk", name := "input", desc := "(I)I" } : Jvm.MethodName) prog_1_method_12_code (3 : Nat) (Option.some Jvm.ClassFile.FieldType.int)) ∈ lw_all := lw_g (lw_at lw_m1 161 rfl) rfl
theorem in_X0 : ∀ w ∈ wsX00, w ∈ lw_all := lw_in wsX00 [52, 54, 56, 58, 60, 62, 64, 66, 68, 70, 72, 74, 76, 78, 80, 82, 84] (by decide +kernel) (by decide +kernel)
/-! InductionDeskModel -/
def RX1 : String := "InductionDeskModel"
def TX1 : u_T := fun k => match k with
  | 0 => ("InductionDeskModel", "gates", "I", false)
  | 1 => ("InductionDeskModel", "firsts", "[I", true)
  | 2 => ("InductionDeskModel", "seconds", "[I", true)
  | 3 => ("InductionDeskModel", "nexts", "[I", true)
  | 4 => ("InductionDeskModel", "begins", "[I", true)
  | 5 => ("InductionDeskModel", "badLiteral", "I", false)
  | 6 => ("InductionDeskModel", "signals", "[I", true)
  | 7 => ("InductionDeskModel", "states", "[I", true)
  | _ => ("InductionDeskModel", "inputs", "[I", true)
def tyX1 : Nat → FieldType := fun k => match k with
  | 0 => .int
  | 1 => .array .int
  | 2 => .array .int
  | 3 => .array .int
  | 4 => .array .int
  | 5 => .int
  | 6 => .array .int
  | 7 => .array .int
  | _ => .array .int
abbrev wsX10 : List Cond := u_ws RX1 TX1 9
theorem nmX1 : ∀ a, a < 9 → ∀ b, b < 9 → a ≠ b → (TX1 a).2.1 ≠ (TX1 b).2.1 := by decide +kernel
theorem tyX1_ok : ∀ k, k < 9 → parseFieldDescriptor (TX1 k).2.2.1 = some (tyX1 k) := by decide +kernel
abbrev cX1_init : ByteArray := prog_3_method_1_code
def yX1_init : MethodName := ⟨RX1, "<init>", "()V"⟩
abbrev cX1_gate : ByteArray := prog_3_method_4_code
def yX1_gate : MethodName := ⟨RX1, "gate", "(II)I"⟩
abbrev cX1_refused : ByteArray := prog_3_method_2_code
def yX1_refused : MethodName := ⟨RX1, "refused", "(I)Z"⟩
abbrev cX1_next : ByteArray := prog_3_method_5_code
def yX1_next : MethodName := ⟨RX1, "next", "(II)I"⟩
abbrev cX1_badLatch : ByteArray := prog_3_method_3_code
def yX1_badLatch : MethodName := ⟨RX1, "badLatch", "(I)Z"⟩
abbrev cX1_begin : ByteArray := prog_3_method_6_code
def yX1_begin : MethodName := ⟨RX1, "begin", "(II)I"⟩
abbrev cX1_bad : ByteArray := prog_3_method_7_code
def yX1_bad : MethodName := ⟨RX1, "bad", "(I)I"⟩
abbrev cX1_value : ByteArray := prog_3_method_10_code
def yX1_value : MethodName := ⟨RX1, "value", "(III)I"⟩
abbrev cX1_work : ByteArray := prog_3_method_9_code
def yX1_work : MethodName := ⟨RX1, "work", "(II)V"⟩
abbrev cX1_of : ByteArray := prog_3_method_8_code
def yX1_of : MethodName := ⟨RX1, "of", "(I)I"⟩
abbrev cX1_depth : ByteArray := prog_3_method_17_code
def yX1_depth : MethodName := ⟨RX1, "depth", "(I)I"⟩
abbrev cX1_least : ByteArray := prog_3_method_16_code
def yX1_least : MethodName := ⟨RX1, "least", "(I)I"⟩
abbrev cX1_found : ByteArray := prog_3_method_15_code
def yX1_found : MethodName := ⟨RX1, "found", "(I)Z"⟩
abbrev cX1_beginning : ByteArray := prog_3_method_14_code
def yX1_beginning : MethodName := ⟨RX1, "beginning", "(I)Z"⟩
abbrev cX1_run : ByteArray := prog_3_method_13_code
def yX1_run : MethodName := ⟨RX1, "run", "(III)Z"⟩
abbrev cX1_isBad : ByteArray := prog_3_method_11_code
def yX1_isBad : MethodName := ⟨RX1, "isBad", "(II)Z"⟩
abbrev cX1_step : ByteArray := prog_3_method_12_code
def yX1_step : MethodName := ⟨RX1, "step", "(II)I"⟩
abbrev cX1_holds : ByteArray := prog_3_method_19_code
def yX1_holds : MethodName := ⟨RX1, "holds", "(I)I"⟩
abbrev cX1_different : ByteArray := prog_3_method_18_code
def yX1_different : MethodName := ⟨RX1, "different", "(I)Z"⟩
abbrev cX1_proof : ByteArray := prog_3_method_20_code
def yX1_proof : MethodName := ⟨RX1, "proof", "()I"⟩
abbrev cX1_witness : ByteArray := prog_3_method_21_code
def yX1_witness : MethodName := ⟨RX1, "witness", "(I)I"⟩
abbrev cX1_input : ByteArray := prog_3_method_22_code
def yX1_input : MethodName := ⟨RX1, "input", "(I)I"⟩
theorem q26 : (Jvm.Cond.initialized "InductionDeskModel") ∈ lw_all := lw_g (lw_at lw_m1 2 rfl) rfl
theorem q187 : (Jvm.Cond.instantiable "InductionDeskModel" (9 : Nat)) ∈ lw_all := lw_g (lw_at lw_m1 163 rfl) rfl
theorem q189 : (Jvm.Cond.instanceMethod ({ cls := "InductionDeskModel", name := "<init>", desc := "()V" } : Jvm.MethodName)) ∈ lw_all := lw_g (lw_at lw_m1 165 rfl) rfl
theorem q190 : (Jvm.Cond.code ({ cls := "InductionDeskModel", name := "<init>", desc := "()V" } : Jvm.MethodName) prog_3_method_1_code (2 : Nat) (Option.none : Option Jvm.ClassFile.FieldType)) ∈ lw_all := lw_g (lw_at lw_m1 166 rfl) rfl
theorem q191 : (Jvm.Cond.methodLink "InductionDeskModel" (1 : Nat) ({ cls := "java/lang/Object", name := "<init>", desc := "()V" } : Jvm.MethodName)) ∈ lw_all := lw_g (lw_at lw_m1 167 rfl) rfl
theorem q192 : (Jvm.Cond.fieldLink "InductionDeskModel" (31 : Nat) "InductionDeskModel" "gates" "I") ∈ lw_all := lw_g (lw_at lw_m1 168 rfl) rfl
theorem q193 : (Jvm.Cond.fieldLink "InductionDeskModel" (7 : Nat) "InductionDeskModel" "firsts" "[I") ∈ lw_all := lw_g (lw_at lw_m1 169 rfl) rfl
theorem q194 : (Jvm.Cond.fieldLink "InductionDeskModel" (13 : Nat) "InductionDeskModel" "seconds" "[I") ∈ lw_all := lw_g (lw_at lw_m1 170 rfl) rfl
theorem q195 : (Jvm.Cond.fieldLink "InductionDeskModel" (16 : Nat) "InductionDeskModel" "nexts" "[I") ∈ lw_all := lw_g (lw_at lw_m1 171 rfl) rfl
theorem q196 : (Jvm.Cond.fieldLink "InductionDeskModel" (19 : Nat) "InductionDeskModel" "begins" "[I") ∈ lw_all := lw_g (lw_at lw_m1 172 rfl) rfl
theorem q197 : (Jvm.Cond.fieldLink "InductionDeskModel" (42 : Nat) "InductionDeskModel" "badLiteral" "I") ∈ lw_all := lw_g (lw_at lw_m1 173 rfl) rfl
theorem q198 : (Jvm.Cond.fieldLink "InductionDeskModel" (22 : Nat) "InductionDeskModel" "signals" "[I") ∈ lw_all := lw_g (lw_at lw_m1 174 rfl) rfl
theorem q199 : (Jvm.Cond.fieldLink "InductionDeskModel" (25 : Nat) "InductionDeskModel" "states" "[I") ∈ lw_all := lw_g (lw_at lw_m1 175 rfl) rfl
theorem q200 : (Jvm.Cond.fieldLink "InductionDeskModel" (28 : Nat) "InductionDeskModel" "inputs" "[I") ∈ lw_all := lw_g (lw_at lw_m1 176 rfl) rfl
theorem q201 : (Jvm.Cond.lays "InductionDeskModel" "InductionDeskModel" "gates" "I") ∈ lw_all := lw_g (lw_at lw_m1 177 rfl) rfl
theorem q202 : (Jvm.Cond.soleField "InductionDeskModel" "gates") ∈ lw_all := lw_g (lw_at lw_m1 178 rfl) rfl
theorem q203 : (Jvm.Cond.laysFinal "InductionDeskModel" "InductionDeskModel" "firsts" "[I") ∈ lw_all := lw_g (lw_at lw_m1 179 rfl) rfl
theorem q204 : (Jvm.Cond.soleField "InductionDeskModel" "firsts") ∈ lw_all := lw_g (lw_at lw_m1 180 rfl) rfl
theorem q205 : (Jvm.Cond.laysFinal "InductionDeskModel" "InductionDeskModel" "seconds" "[I") ∈ lw_all := lw_g (lw_at lw_m1 181 rfl) rfl
theorem q206 : (Jvm.Cond.soleField "InductionDeskModel" "seconds") ∈ lw_all := lw_g (lw_at lw_m1 182 rfl) rfl
theorem q207 : (Jvm.Cond.laysFinal "InductionDeskModel" "InductionDeskModel" "nexts" "[I") ∈ lw_all := lw_g (lw_at lw_m1 183 rfl) rfl
theorem q208 : (Jvm.Cond.soleField "InductionDeskModel" "nexts") ∈ lw_all := lw_g (lw_at lw_m1 184 rfl) rfl
theorem q209 : (Jvm.Cond.laysFinal "InductionDeskModel" "InductionDeskModel" "begins" "[I") ∈ lw_all := lw_g (lw_at lw_m1 185 rfl) rfl
theorem q210 : (Jvm.Cond.soleField "InductionDeskModel" "begins") ∈ lw_all := lw_g (lw_at lw_m1 186 rfl) rfl
theorem q211 : (Jvm.Cond.lays "InductionDeskModel" "InductionDeskModel" "badLiteral" "I") ∈ lw_all := lw_g (lw_at lw_m1 187 rfl) rfl
theorem q212 : (Jvm.Cond.soleField "InductionDeskModel" "badLiteral") ∈ lw_all := lw_g (lw_at lw_m1 188 rfl) rfl
theorem q213 : (Jvm.Cond.laysFinal "InductionDeskModel" "InductionDeskModel" "signals" "[I") ∈ lw_all := lw_g (lw_at lw_m1 189 rfl) rfl
theorem q214 : (Jvm.Cond.soleField "InductionDeskModel" "signals") ∈ lw_all := lw_g (lw_at lw_m1 190 rfl) rfl
theorem q215 : (Jvm.Cond.laysFinal "InductionDeskModel" "InductionDeskModel" "states" "[I") ∈ lw_all := lw_g (lw_at lw_m1 191 rfl) rfl
theorem q216 : (Jvm.Cond.soleField "InductionDeskModel" "states") ∈ lw_all := lw_g (lw_at lw_m1 192 rfl) rfl
theorem q217 : (Jvm.Cond.laysFinal "InductionDeskModel" "InductionDeskModel" "inputs" "[I") ∈ lw_all := lw_g (lw_at lw_m1 193 rfl) rfl
theorem q218 : (Jvm.Cond.soleField "InductionDeskModel" "inputs") ∈ lw_all := lw_g (lw_at lw_m1 194 rfl) rfl
theorem q219 : (Jvm.Cond.superclass "InductionDeskModel" "java/lang/Object") ∈ lw_all := lw_g (lw_at lw_m1 195 rfl) rfl
theorem q221 : (Jvm.Cond.instanceMethod ({ cls := "InductionDeskModel", name := "gate", desc := "(II)I" } : Jvm.MethodName)) ∈ lw_all := lw_g (lw_at lw_m1 197 rfl) rfl
theorem q222 : (Jvm.Cond.selects "InductionDeskModel" ({ cls := "InductionDeskModel", name := "gate", desc := "(II)I" } : Jvm.MethodName) ({ cls := "InductionDeskModel", name := "gate", desc := "(II)I" } : Jvm.MethodName)) ∈ lw_all := lw_g (lw_at lw_m1 198 rfl) rfl
theorem q223 : (Jvm.Cond.code ({ cls := "InductionDeskModel", name := "gate", desc := "(II)I" } : Jvm.MethodName) prog_3_method_4_code (3 : Nat) (Option.some Jvm.ClassFile.FieldType.int)) ∈ lw_all := lw_g (lw_at lw_m1 199 rfl) rfl
theorem q224 : (Jvm.Cond.methodLink "InductionDeskModel" (35 : Nat) ({ cls := "InductionDeskModel", name := "refused", desc := "(I)Z" } : Jvm.MethodName)) ∈ lw_all := lw_g (lw_at lw_m1 200 rfl) rfl
theorem q225 : (Jvm.Cond.privateMethod ({ cls := "InductionDeskModel", name := "refused", desc := "(I)Z" } : Jvm.MethodName)) ∈ lw_tbl := lw_at lw_m1 201 rfl
theorem q226 : (Jvm.Cond.instanceMethod ({ cls := "InductionDeskModel", name := "refused", desc := "(I)Z" } : Jvm.MethodName)) ∈ lw_all := lw_g (lw_at lw_m1 202 rfl) rfl
theorem q227 : (Jvm.Cond.code ({ cls := "InductionDeskModel", name := "refused", desc := "(I)Z" } : Jvm.MethodName) prog_3_method_2_code (2 : Nat) (Option.some Jvm.ClassFile.FieldType.boolean)) ∈ lw_all := lw_g (lw_at lw_m1 203 rfl) rfl
theorem q229 : (Jvm.Cond.instanceMethod ({ cls := "InductionDeskModel", name := "next", desc := "(II)I" } : Jvm.MethodName)) ∈ lw_all := lw_g (lw_at lw_m1 205 rfl) rfl
theorem q230 : (Jvm.Cond.selects "InductionDeskModel" ({ cls := "InductionDeskModel", name := "next", desc := "(II)I" } : Jvm.MethodName) ({ cls := "InductionDeskModel", name := "next", desc := "(II)I" } : Jvm.MethodName)) ∈ lw_all := lw_g (lw_at lw_m1 206 rfl) rfl
theorem q231 : (Jvm.Cond.code ({ cls := "InductionDeskModel", name := "next", desc := "(II)I" } : Jvm.MethodName) prog_3_method_5_code (4 : Nat) (Option.some Jvm.ClassFile.FieldType.int)) ∈ lw_all := lw_g (lw_at lw_m1 207 rfl) rfl
theorem q232 : (Jvm.Cond.methodLink "InductionDeskModel" (39 : Nat) ({ cls := "InductionDeskModel", name := "badLatch", desc := "(I)Z" } : Jvm.MethodName)) ∈ lw_all := lw_g (lw_at lw_m1 208 rfl) rfl
theorem q233 : (Jvm.Cond.static ({ cls := "InductionDeskModel", name := "badLatch", desc := "(I)Z" } : Jvm.MethodName)) ∈ lw_all := lw_g (lw_at lw_m1 209 rfl) rfl
theorem q234 : (Jvm.Cond.code ({ cls := "InductionDeskModel", name := "badLatch", desc := "(I)Z" } : Jvm.MethodName) prog_3_method_3_code (1 : Nat) (Option.some Jvm.ClassFile.FieldType.boolean)) ∈ lw_all := lw_g (lw_at lw_m1 210 rfl) rfl
theorem q236 : (Jvm.Cond.instanceMethod ({ cls := "InductionDeskModel", name := "begin", desc := "(II)I" } : Jvm.MethodName)) ∈ lw_all := lw_g (lw_at lw_m1 212 rfl) rfl
theorem q237 : (Jvm.Cond.selects "InductionDeskModel" ({ cls := "InductionDeskModel", name := "begin", desc := "(II)I" } : Jvm.MethodName) ({ cls := "InductionDeskModel", name := "begin", desc := "(II)I" } : Jvm.MethodName)) ∈ lw_all := lw_g (lw_at lw_m1 213 rfl) rfl
theorem q238 : (Jvm.Cond.code ({ cls := "InductionDeskModel", name := "begin", desc := "(II)I" } : Jvm.MethodName) prog_3_method_6_code (3 : Nat) (Option.some Jvm.ClassFile.FieldType.int)) ∈ lw_all := lw_g (lw_at lw_m1 214 rfl) rfl
theorem q240 : (Jvm.Cond.instanceMethod ({ cls := "InductionDeskModel", name := "bad", desc := "(I)I" } : Jvm.MethodName)) ∈ lw_all := lw_g (lw_at lw_m1 216 rfl) rfl
theorem q241 : (Jvm.Cond.selects "InductionDeskModel" ({ cls := "InductionDeskModel", name := "bad", desc := "(I)I" } : Jvm.MethodName) ({ cls := "InductionDeskModel", name := "bad", desc := "(I)I" } : Jvm.MethodName)) ∈ lw_all := lw_g (lw_at lw_m1 217 rfl) rfl
theorem q242 : (Jvm.Cond.code ({ cls := "InductionDeskModel", name := "bad", desc := "(I)I" } : Jvm.MethodName) prog_3_method_7_code (3 : Nat) (Option.some Jvm.ClassFile.FieldType.int)) ∈ lw_all := lw_g (lw_at lw_m1 218 rfl) rfl
theorem q244 : (Jvm.Cond.instanceMethod ({ cls := "InductionDeskModel", name := "value", desc := "(III)I" } : Jvm.MethodName)) ∈ lw_all := lw_g (lw_at lw_m1 220 rfl) rfl
theorem q245 : (Jvm.Cond.selects "InductionDeskModel" ({ cls := "InductionDeskModel", name := "value", desc := "(III)I" } : Jvm.MethodName) ({ cls := "InductionDeskModel", name := "value", desc := "(III)I" } : Jvm.MethodName)) ∈ lw_all := lw_g (lw_at lw_m1 221 rfl) rfl
theorem q246 : (Jvm.Cond.code ({ cls := "InductionDeskModel", name := "value", desc := "(III)I" } : Jvm.MethodName) prog_3_method_10_code (4 : Nat) (Option.some Jvm.ClassFile.FieldType.int)) ∈ lw_all := lw_g (lw_at lw_m1 222 rfl) rfl
theorem q247 : (Jvm.Cond.methodLink "InductionDeskModel" (49 : Nat) ({ cls := "InductionDeskModel", name := "work", desc := "(II)V" } : Jvm.MethodName)) ∈ lw_all := lw_g (lw_at lw_m1 223 rfl) rfl
theorem q248 : (Jvm.Cond.privateMethod ({ cls := "InductionDeskModel", name := "work", desc := "(II)V" } : Jvm.MethodName)) ∈ lw_tbl := lw_at lw_m1 224 rfl
theorem q249 : (Jvm.Cond.instanceMethod ({ cls := "InductionDeskModel", name := "work", desc := "(II)V" } : Jvm.MethodName)) ∈ lw_all := lw_g (lw_at lw_m1 225 rfl) rfl
theorem q250 : (Jvm.Cond.code ({ cls := "InductionDeskModel", name := "work", desc := "(II)V" } : Jvm.MethodName) prog_3_method_9_code (4 : Nat) (Option.none : Option Jvm.ClassFile.FieldType)) ∈ lw_all := lw_g (lw_at lw_m1 226 rfl) rfl
theorem q251 : (Jvm.Cond.methodLink "InductionDeskModel" (45 : Nat) ({ cls := "InductionDeskModel", name := "of", desc := "(I)I" } : Jvm.MethodName)) ∈ lw_all := lw_g (lw_at lw_m1 227 rfl) rfl
theorem q252 : (Jvm.Cond.privateMethod ({ cls := "InductionDeskModel", name := "of", desc := "(I)I" } : Jvm.MethodName)) ∈ lw_tbl := lw_at lw_m1 228 rfl
theorem q253 : (Jvm.Cond.instanceMethod ({ cls := "InductionDeskModel", name := "of", desc := "(I)I" } : Jvm.MethodName)) ∈ lw_all := lw_g (lw_at lw_m1 229 rfl) rfl
theorem q254 : (Jvm.Cond.code ({ cls := "InductionDeskModel", name := "of", desc := "(I)I" } : Jvm.MethodName) prog_3_method_8_code (2 : Nat) (Option.some Jvm.ClassFile.FieldType.int)) ∈ lw_all := lw_g (lw_at lw_m1 230 rfl) rfl
theorem q256 : (Jvm.Cond.instanceMethod ({ cls := "InductionDeskModel", name := "depth", desc := "(I)I" } : Jvm.MethodName)) ∈ lw_all := lw_g (lw_at lw_m1 232 rfl) rfl
theorem q257 : (Jvm.Cond.selects "InductionDeskModel" ({ cls := "InductionDeskModel", name := "depth", desc := "(I)I" } : Jvm.MethodName) ({ cls := "InductionDeskModel", name := "depth", desc := "(I)I" } : Jvm.MethodName)) ∈ lw_all := lw_g (lw_at lw_m1 233 rfl) rfl
theorem q258 : (Jvm.Cond.code ({ cls := "InductionDeskModel", name := "depth", desc := "(I)I" } : Jvm.MethodName) prog_3_method_17_code (2 : Nat) (Option.some Jvm.ClassFile.FieldType.int)) ∈ lw_all := lw_g (lw_at lw_m1 234 rfl) rfl
theorem q259 : (Jvm.Cond.methodLink "InductionDeskModel" (71 : Nat) ({ cls := "InductionDeskModel", name := "least", desc := "(I)I" } : Jvm.MethodName)) ∈ lw_all := lw_g (lw_at lw_m1 235 rfl) rfl
theorem q260 : (Jvm.Cond.privateMethod ({ cls := "InductionDeskModel", name := "least", desc := "(I)I" } : Jvm.MethodName)) ∈ lw_tbl := lw_at lw_m1 236 rfl
theorem q261 : (Jvm.Cond.instanceMethod ({ cls := "InductionDeskModel", name := "least", desc := "(I)I" } : Jvm.MethodName)) ∈ lw_all := lw_g (lw_at lw_m1 237 rfl) rfl
theorem q262 : (Jvm.Cond.code ({ cls := "InductionDeskModel", name := "least", desc := "(I)I" } : Jvm.MethodName) prog_3_method_16_code (3 : Nat) (Option.some Jvm.ClassFile.FieldType.int)) ∈ lw_all := lw_g (lw_at lw_m1 238 rfl) rfl
theorem q263 : (Jvm.Cond.methodLink "InductionDeskModel" (68 : Nat) ({ cls := "InductionDeskModel", name := "found", desc := "(I)Z" } : Jvm.MethodName)) ∈ lw_all := lw_g (lw_at lw_m1 239 rfl) rfl
theorem q264 : (Jvm.Cond.privateMethod ({ cls := "InductionDeskModel", name := "found", desc := "(I)Z" } : Jvm.MethodName)) ∈ lw_tbl := lw_at lw_m2 0 rfl
theorem q265 : (Jvm.Cond.instanceMethod ({ cls := "InductionDeskModel", name := "found", desc := "(I)Z" } : Jvm.MethodName)) ∈ lw_all := lw_g (lw_at lw_m2 1 rfl) rfl
theorem q266 : (Jvm.Cond.code ({ cls := "InductionDeskModel", name := "found", desc := "(I)Z" } : Jvm.MethodName) prog_3_method_15_code (4 : Nat) (Option.some Jvm.ClassFile.FieldType.boolean)) ∈ lw_all := lw_g (lw_at lw_m2 2 rfl) rfl
theorem q267 : (Jvm.Cond.methodLink "InductionDeskModel" (61 : Nat) ({ cls := "InductionDeskModel", name := "beginning", desc := "(I)Z" } : Jvm.MethodName)) ∈ lw_all := lw_g (lw_at lw_m2 3 rfl) rfl
theorem q268 : (Jvm.Cond.privateMethod ({ cls := "InductionDeskModel", name := "beginning", desc := "(I)Z" } : Jvm.MethodName)) ∈ lw_tbl := lw_at lw_m2 4 rfl
theorem q269 : (Jvm.Cond.instanceMethod ({ cls := "InductionDeskModel", name := "beginning", desc := "(I)Z" } : Jvm.MethodName)) ∈ lw_all := lw_g (lw_at lw_m2 5 rfl) rfl
theorem q270 : (Jvm.Cond.code ({ cls := "InductionDeskModel", name := "beginning", desc := "(I)Z" } : Jvm.MethodName) prog_3_method_14_code (3 : Nat) (Option.some Jvm.ClassFile.FieldType.boolean)) ∈ lw_all := lw_g (lw_at lw_m2 6 rfl) rfl
theorem q271 : (Jvm.Cond.methodLink "InductionDeskModel" (64 : Nat) ({ cls := "InductionDeskModel", name := "run", desc := "(III)Z" } : Jvm.MethodName)) ∈ lw_all := lw_g (lw_at lw_m2 7 rfl) rfl
theorem q272 : (Jvm.Cond.privateMethod ({ cls := "InductionDeskModel", name := "run", desc := "(III)Z" } : Jvm.MethodName)) ∈ lw_tbl := lw_at lw_m2 8 rfl
theorem q273 : (Jvm.Cond.instanceMethod ({ cls := "InductionDeskModel", name := "run", desc := "(III)Z" } : Jvm.MethodName)) ∈ lw_all := lw_g (lw_at lw_m2 9 rfl) rfl
theorem q274 : (Jvm.Cond.code ({ cls := "InductionDeskModel", name := "run", desc := "(III)Z" } : Jvm.MethodName) prog_3_method_13_code (8 : Nat) (Option.some Jvm.ClassFile.FieldType.boolean)) ∈ lw_all := lw_g (lw_at lw_m2 10 rfl) rfl
theorem q275 : (Jvm.Cond.methodLink "InductionDeskModel" (53 : Nat) ({ cls := "InductionDeskModel", name := "isBad", desc := "(II)Z" } : Jvm.MethodName)) ∈ lw_all := lw_g (lw_at lw_m2 11 rfl) rfl
theorem q276 : (Jvm.Cond.privateMethod ({ cls := "InductionDeskModel", name := "isBad", desc := "(II)Z" } : Jvm.MethodName)) ∈ lw_tbl := lw_at lw_m2 12 rfl
theorem q277 : (Jvm.Cond.instanceMethod ({ cls := "InductionDeskModel", name := "isBad", desc := "(II)Z" } : Jvm.MethodName)) ∈ lw_all := lw_g (lw_at lw_m2 13 rfl) rfl
theorem q278 : (Jvm.Cond.code ({ cls := "InductionDeskModel", name := "isBad", desc := "(II)Z" } : Jvm.MethodName) prog_3_method_11_code (3 : Nat) (Option.some Jvm.ClassFile.FieldType.boolean)) ∈ lw_all := lw_g (lw_at lw_m2 14 rfl) rfl
theorem q279 : (Jvm.Cond.methodLink "InductionDeskModel" (57 : Nat) ({ cls := "InductionDeskModel", name := "step", desc := "(II)I" } : Jvm.MethodName)) ∈ lw_all := lw_g (lw_at lw_m2 15 rfl) rfl
theorem q280 : (Jvm.Cond.privateMethod ({ cls := "InductionDeskModel", name := "step", desc := "(II)I" } : Jvm.MethodName)) ∈ lw_tbl := lw_at lw_m2 16 rfl
theorem q281 : (Jvm.Cond.instanceMethod ({ cls := "InductionDeskModel", name := "step", desc := "(II)I" } : Jvm.MethodName)) ∈ lw_all := lw_g (lw_at lw_m2 17 rfl) rfl
theorem q282 : (Jvm.Cond.code ({ cls := "InductionDeskModel", name := "step", desc := "(II)I" } : Jvm.MethodName) prog_3_method_12_code (5 : Nat) (Option.some Jvm.ClassFile.FieldType.int)) ∈ lw_all := lw_g (lw_at lw_m2 18 rfl) rfl
theorem q284 : (Jvm.Cond.instanceMethod ({ cls := "InductionDeskModel", name := "holds", desc := "(I)I" } : Jvm.MethodName)) ∈ lw_all := lw_g (lw_at lw_m2 20 rfl) rfl
theorem q285 : (Jvm.Cond.selects "InductionDeskModel" ({ cls := "InductionDeskModel", name := "holds", desc := "(I)I" } : Jvm.MethodName) ({ cls := "InductionDeskModel", name := "holds", desc := "(I)I" } : Jvm.MethodName)) ∈ lw_all := lw_g (lw_at lw_m2 21 rfl) rfl
theorem q286 : (Jvm.Cond.code ({ cls := "InductionDeskModel", name := "holds", desc := "(I)I" } : Jvm.MethodName) prog_3_method_19_code (4 : Nat) (Option.some Jvm.ClassFile.FieldType.int)) ∈ lw_all := lw_g (lw_at lw_m2 22 rfl) rfl
theorem q287 : (Jvm.Cond.methodLink "InductionDeskModel" (74 : Nat) ({ cls := "InductionDeskModel", name := "different", desc := "(I)Z" } : Jvm.MethodName)) ∈ lw_all := lw_g (lw_at lw_m2 23 rfl) rfl
theorem q288 : (Jvm.Cond.privateMethod ({ cls := "InductionDeskModel", name := "different", desc := "(I)Z" } : Jvm.MethodName)) ∈ lw_tbl := lw_at lw_m2 24 rfl
theorem q289 : (Jvm.Cond.instanceMethod ({ cls := "InductionDeskModel", name := "different", desc := "(I)Z" } : Jvm.MethodName)) ∈ lw_all := lw_g (lw_at lw_m2 25 rfl) rfl
theorem q290 : (Jvm.Cond.code ({ cls := "InductionDeskModel", name := "different", desc := "(I)Z" } : Jvm.MethodName) prog_3_method_18_code (4 : Nat) (Option.some Jvm.ClassFile.FieldType.boolean)) ∈ lw_all := lw_g (lw_at lw_m2 26 rfl) rfl
theorem q292 : (Jvm.Cond.instanceMethod ({ cls := "InductionDeskModel", name := "proof", desc := "()I" } : Jvm.MethodName)) ∈ lw_all := lw_g (lw_at lw_m2 28 rfl) rfl
theorem q293 : (Jvm.Cond.selects "InductionDeskModel" ({ cls := "InductionDeskModel", name := "proof", desc := "()I" } : Jvm.MethodName) ({ cls := "InductionDeskModel", name := "proof", desc := "()I" } : Jvm.MethodName)) ∈ lw_all := lw_g (lw_at lw_m2 29 rfl) rfl
theorem q294 : (Jvm.Cond.code ({ cls := "InductionDeskModel", name := "proof", desc := "()I" } : Jvm.MethodName) prog_3_method_20_code (2 : Nat) (Option.some Jvm.ClassFile.FieldType.int)) ∈ lw_all := lw_g (lw_at lw_m2 30 rfl) rfl
theorem q295 : (Jvm.Cond.methodLink "InductionDeskModel" (77 : Nat) ({ cls := "InductionDeskModel", name := "holds", desc := "(I)I" } : Jvm.MethodName)) ∈ lw_all := lw_g (lw_at lw_m2 31 rfl) rfl
theorem q297 : (Jvm.Cond.instanceMethod ({ cls := "InductionDeskModel", name := "witness", desc := "(I)I" } : Jvm.MethodName)) ∈ lw_all := lw_g (lw_at lw_m2 33 rfl) rfl
theorem q298 : (Jvm.Cond.selects "InductionDeskModel" ({ cls := "InductionDeskModel", name := "witness", desc := "(I)I" } : Jvm.MethodName) ({ cls := "InductionDeskModel", name := "witness", desc := "(I)I" } : Jvm.MethodName)) ∈ lw_all := lw_g (lw_at lw_m2 34 rfl) rfl
theorem q299 : (Jvm.Cond.code ({ cls := "InductionDeskModel", name := "witness", desc := "(I)I" } : Jvm.MethodName) prog_3_method_21_code (3 : Nat) (Option.some Jvm.ClassFile.FieldType.int)) ∈ lw_all := lw_g (lw_at lw_m2 35 rfl) rfl
theorem q301 : (Jvm.Cond.instanceMethod ({ cls := "InductionDeskModel", name := "input", desc := "(I)I" } : Jvm.MethodName)) ∈ lw_all := lw_g (lw_at lw_m2 37 rfl) rfl
theorem q302 : (Jvm.Cond.selects "InductionDeskModel" ({ cls := "InductionDeskModel", name := "input", desc := "(I)I" } : Jvm.MethodName) ({ cls := "InductionDeskModel", name := "input", desc := "(I)I" } : Jvm.MethodName)) ∈ lw_all := lw_g (lw_at lw_m2 38 rfl) rfl
theorem q303 : (Jvm.Cond.code ({ cls := "InductionDeskModel", name := "input", desc := "(I)I" } : Jvm.MethodName) prog_3_method_22_code (3 : Nat) (Option.some Jvm.ClassFile.FieldType.int)) ∈ lw_all := lw_g (lw_at lw_m2 39 rfl) rfl
theorem in_X1 : ∀ w ∈ wsX10, w ∈ lw_all := lw_in wsX10 [201, 203, 205, 207, 209, 211, 213, 215, 217] (by decide +kernel) (by decide +kernel)
/-! java/lang/Object -/
def RJ0 : String := "java/lang/Object"
abbrev cJ0_init : ByteArray := object_method_1_code
def yJ0_init : MethodName := ⟨RJ0, "<init>", "()V"⟩
theorem dJ0_init_0 : decode cJ0_init 0 = .ok (.return_, 1) := by decide +kernel
theorem q33 : (Jvm.Cond.instanceMethod ({ cls := "java/lang/Object", name := "<init>", desc := "()V" } : Jvm.MethodName)) ∈ lw_all := lw_g (lw_at lw_m1 9 rfl) rfl
theorem q34 : (Jvm.Cond.code ({ cls := "java/lang/Object", name := "<init>", desc := "()V" } : Jvm.MethodName) object_method_1_code (1 : Nat) (Option.none : Option Jvm.ClassFile.FieldType)) ∈ lw_all := lw_g (lw_at lw_m1 10 rfl) rfl
theorem q24 : (Jvm.Cond.initialized "InductionDeskLaw") ∈ lw_all := lw_g (lw_at lw_m1 0 rfl) rfl
theorem q27 : (Jvm.Cond.classLink "InductionDeskLaw" (7 : Nat) "InductionDesk") ∈ lw_all := lw_g (lw_at lw_m1 3 rfl) rfl
theorem q29 : (Jvm.Cond.methodLink "InductionDeskLaw" (9 : Nat) ({ cls := "InductionDesk", name := "<init>", desc := "()V" } : Jvm.MethodName)) ∈ lw_all := lw_g (lw_at lw_m1 5 rfl) rfl
theorem q89 : (Jvm.Cond.methodLink "InductionDeskLaw" (13 : Nat) ({ cls := "InductionDesk", name := "gate", desc := "(II)I" } : Jvm.MethodName)) ∈ lw_all := lw_g (lw_at lw_m1 65 rfl) rfl
theorem q97 : (Jvm.Cond.methodLink "InductionDeskLaw" (18 : Nat) ({ cls := "InductionDesk", name := "next", desc := "(II)I" } : Jvm.MethodName)) ∈ lw_all := lw_g (lw_at lw_m1 73 rfl) rfl
theorem q101 : (Jvm.Cond.methodLink "InductionDeskLaw" (22 : Nat) ({ cls := "InductionDesk", name := "begin", desc := "(II)I" } : Jvm.MethodName)) ∈ lw_all := lw_g (lw_at lw_m1 77 rfl) rfl
theorem q105 : (Jvm.Cond.methodLink "InductionDeskLaw" (26 : Nat) ({ cls := "InductionDesk", name := "bad", desc := "(I)I" } : Jvm.MethodName)) ∈ lw_all := lw_g (lw_at lw_m1 81 rfl) rfl
theorem q109 : (Jvm.Cond.methodLink "InductionDeskLaw" (31 : Nat) ({ cls := "InductionDesk", name := "value", desc := "(III)I" } : Jvm.MethodName)) ∈ lw_all := lw_g (lw_at lw_m1 85 rfl) rfl
theorem q141 : (Jvm.Cond.methodLink "InductionDeskLaw" (36 : Nat) ({ cls := "InductionDesk", name := "depth", desc := "(I)I" } : Jvm.MethodName)) ∈ lw_all := lw_g (lw_at lw_m1 117 rfl) rfl
theorem q169 : (Jvm.Cond.methodLink "InductionDeskLaw" (40 : Nat) ({ cls := "InductionDesk", name := "holds", desc := "(I)I" } : Jvm.MethodName)) ∈ lw_all := lw_g (lw_at lw_m1 145 rfl) rfl
theorem q173 : (Jvm.Cond.methodLink "InductionDeskLaw" (44 : Nat) ({ cls := "InductionDesk", name := "proof", desc := "()I" } : Jvm.MethodName)) ∈ lw_all := lw_g (lw_at lw_m1 149 rfl) rfl
theorem q177 : (Jvm.Cond.methodLink "InductionDeskLaw" (49 : Nat) ({ cls := "InductionDesk", name := "witness", desc := "(I)I" } : Jvm.MethodName)) ∈ lw_all := lw_g (lw_at lw_m1 153 rfl) rfl
theorem q182 : (Jvm.Cond.methodLink "InductionDeskLaw" (53 : Nat) ({ cls := "InductionDesk", name := "input", desc := "(I)I" } : Jvm.MethodName)) ∈ lw_all := lw_g (lw_at lw_m1 158 rfl) rfl
theorem q186 : (Jvm.Cond.classLink "InductionDeskLaw" (10 : Nat) "InductionDeskModel") ∈ lw_all := lw_g (lw_at lw_m1 162 rfl) rfl
theorem q188 : (Jvm.Cond.methodLink "InductionDeskLaw" (12 : Nat) ({ cls := "InductionDeskModel", name := "<init>", desc := "()V" } : Jvm.MethodName)) ∈ lw_all := lw_g (lw_at lw_m1 164 rfl) rfl
theorem q220 : (Jvm.Cond.methodLink "InductionDeskLaw" (17 : Nat) ({ cls := "InductionDeskModel", name := "gate", desc := "(II)I" } : Jvm.MethodName)) ∈ lw_all := lw_g (lw_at lw_m1 196 rfl) rfl
theorem q228 : (Jvm.Cond.methodLink "InductionDeskLaw" (21 : Nat) ({ cls := "InductionDeskModel", name := "next", desc := "(II)I" } : Jvm.MethodName)) ∈ lw_all := lw_g (lw_at lw_m1 204 rfl) rfl
theorem q235 : (Jvm.Cond.methodLink "InductionDeskLaw" (25 : Nat) ({ cls := "InductionDeskModel", name := "begin", desc := "(II)I" } : Jvm.MethodName)) ∈ lw_all := lw_g (lw_at lw_m1 211 rfl) rfl
theorem q239 : (Jvm.Cond.methodLink "InductionDeskLaw" (30 : Nat) ({ cls := "InductionDeskModel", name := "bad", desc := "(I)I" } : Jvm.MethodName)) ∈ lw_all := lw_g (lw_at lw_m1 215 rfl) rfl
theorem q243 : (Jvm.Cond.methodLink "InductionDeskLaw" (35 : Nat) ({ cls := "InductionDeskModel", name := "value", desc := "(III)I" } : Jvm.MethodName)) ∈ lw_all := lw_g (lw_at lw_m1 219 rfl) rfl
theorem q255 : (Jvm.Cond.methodLink "InductionDeskLaw" (39 : Nat) ({ cls := "InductionDeskModel", name := "depth", desc := "(I)I" } : Jvm.MethodName)) ∈ lw_all := lw_g (lw_at lw_m1 231 rfl) rfl
theorem q283 : (Jvm.Cond.methodLink "InductionDeskLaw" (43 : Nat) ({ cls := "InductionDeskModel", name := "holds", desc := "(I)I" } : Jvm.MethodName)) ∈ lw_all := lw_g (lw_at lw_m2 19 rfl) rfl
theorem q291 : (Jvm.Cond.methodLink "InductionDeskLaw" (48 : Nat) ({ cls := "InductionDeskModel", name := "proof", desc := "()I" } : Jvm.MethodName)) ∈ lw_all := lw_g (lw_at lw_m2 27 rfl) rfl
theorem q296 : (Jvm.Cond.methodLink "InductionDeskLaw" (52 : Nat) ({ cls := "InductionDeskModel", name := "witness", desc := "(I)I" } : Jvm.MethodName)) ∈ lw_all := lw_g (lw_at lw_m2 32 rfl) rfl
theorem q300 : (Jvm.Cond.methodLink "InductionDeskLaw" (56 : Nat) ({ cls := "InductionDeskModel", name := "input", desc := "(I)I" } : Jvm.MethodName)) ∈ lw_all := lw_g (lw_at lw_m2 36 rfl) rfl
theorem q87 : (Jvm.Cond.arrayClass Jvm.ClassFile.FieldType.int) ∈ lw_all := lw_g (lw_at lw_m1 63 rfl) rfl
theorem q88 : (Jvm.Cond.arrayClass Jvm.ClassFile.FieldType.boolean) ∈ lw_all := lw_g (lw_at lw_m1 64 rfl) rfl
end
section
set_option maxRecDepth 100000
theorem dX0_init_0 : decode cX0_init 0 = .ok (.aload_n 0, 1) := by decide +kernel
theorem dX0_init_1 : decode cX0_init 1 = .ok (.invokespecial 1, 3) := by decide +kernel
theorem dX0_init_4 : decode cX0_init 4 = .ok (.aload_n 0, 1) := by decide +kernel
theorem dX0_init_5 : decode cX0_init 5 = .ok (.bipush 16, 2) := by decide +kernel
theorem dX0_init_7 : decode cX0_init 7 = .ok (.newarray .int, 2) := by decide +kernel
theorem dX0_init_9 : decode cX0_init 9 = .ok (.putfield 7, 3) := by decide +kernel
theorem dX0_init_12 : decode cX0_init 12 = .ok (.aload_n 0, 1) := by decide +kernel
theorem dX0_init_13 : decode cX0_init 13 = .ok (.bipush 16, 2) := by decide +kernel
theorem dX0_init_15 : decode cX0_init 15 = .ok (.newarray .int, 2) := by decide +kernel
theorem dX0_init_17 : decode cX0_init 17 = .ok (.putfield 13, 3) := by decide +kernel
theorem dX0_init_20 : decode cX0_init 20 = .ok (.aload_n 0, 1) := by decide +kernel
theorem dX0_init_21 : decode cX0_init 21 = .ok (.iconst 5, 1) := by decide +kernel
theorem dX0_init_22 : decode cX0_init 22 = .ok (.newarray .int, 2) := by decide +kernel
theorem dX0_init_24 : decode cX0_init 24 = .ok (.putfield 16, 3) := by decide +kernel
theorem dX0_init_27 : decode cX0_init 27 = .ok (.aload_n 0, 1) := by decide +kernel
theorem dX0_init_28 : decode cX0_init 28 = .ok (.iconst 5, 1) := by decide +kernel
theorem dX0_init_29 : decode cX0_init 29 = .ok (.newarray .int, 2) := by decide +kernel
theorem dX0_init_31 : decode cX0_init 31 = .ok (.putfield 19, 3) := by decide +kernel
theorem dX0_init_34 : decode cX0_init 34 = .ok (.aload_n 0, 1) := by decide +kernel
theorem dX0_init_35 : decode cX0_init 35 = .ok (.bipush 112, 2) := by decide +kernel
theorem dX0_init_37 : decode cX0_init 37 = .ok (.newarray .int, 2) := by decide +kernel
theorem dX0_init_39 : decode cX0_init 39 = .ok (.putfield 22, 3) := by decide +kernel
theorem dX0_init_42 : decode cX0_init 42 = .ok (.aload_n 0, 1) := by decide +kernel
theorem dX0_init_43 : decode cX0_init 43 = .ok (.bipush 112, 2) := by decide +kernel
theorem dX0_init_45 : decode cX0_init 45 = .ok (.newarray .int, 2) := by decide +kernel
theorem dX0_init_47 : decode cX0_init 47 = .ok (.putfield 25, 3) := by decide +kernel
theorem dX0_init_50 : decode cX0_init 50 = .ok (.aload_n 0, 1) := by decide +kernel
theorem dX0_init_51 : decode cX0_init 51 = .ok (.bipush 12, 2) := by decide +kernel
theorem dX0_init_53 : decode cX0_init 53 = .ok (.newarray .int, 2) := by decide +kernel
theorem dX0_init_55 : decode cX0_init 55 = .ok (.putfield 28, 3) := by decide +kernel
theorem dX0_init_58 : decode cX0_init 58 = .ok (.aload_n 0, 1) := by decide +kernel
theorem dX0_init_59 : decode cX0_init 59 = .ok (.bipush 12, 2) := by decide +kernel
theorem dX0_init_61 : decode cX0_init 61 = .ok (.newarray .int, 2) := by decide +kernel
theorem dX0_init_63 : decode cX0_init 63 = .ok (.putfield 31, 3) := by decide +kernel
theorem dX0_init_66 : decode cX0_init 66 = .ok (.aload_n 0, 1) := by decide +kernel
theorem dX0_init_67 : decode cX0_init 67 = .ok (.bipush 12, 2) := by decide +kernel
theorem dX0_init_69 : decode cX0_init 69 = .ok (.newarray .boolean, 2) := by decide +kernel
theorem dX0_init_71 : decode cX0_init 71 = .ok (.putfield 34, 3) := by decide +kernel
theorem dX0_init_74 : decode cX0_init 74 = .ok (.iconst 1, 1) := by decide +kernel
theorem dX0_init_75 : decode cX0_init 75 = .ok (.istore_n 1, 1) := by decide +kernel
theorem dX0_init_76 : decode cX0_init 76 = .ok (.iload_n 1, 1) := by decide +kernel
theorem dX0_init_77 : decode cX0_init 77 = .ok (.iconst 5, 1) := by decide +kernel
theorem dX0_init_78 : decode cX0_init 78 = .ok (.if_icmp .ge 18, 3) := by decide +kernel
theorem dX0_init_81 : decode cX0_init 81 = .ok (.aload_n 0, 1) := by decide +kernel
theorem dX0_init_82 : decode cX0_init 82 = .ok (.getfield 16, 3) := by decide +kernel
theorem dX0_init_85 : decode cX0_init 85 = .ok (.iload_n 1, 1) := by decide +kernel
theorem dX0_init_86 : decode cX0_init 86 = .ok (.iconst 2, 1) := by decide +kernel
theorem dX0_init_87 : decode cX0_init 87 = .ok (.iload_n 1, 1) := by decide +kernel
theorem dX0_init_88 : decode cX0_init 88 = .ok (.imul, 1) := by decide +kernel
theorem dX0_init_89 : decode cX0_init 89 = .ok (.iastore, 1) := by decide +kernel
theorem dX0_init_90 : decode cX0_init 90 = .ok (.iinc 1 1, 3) := by decide +kernel
theorem dX0_init_93 : decode cX0_init 93 = .ok (.goto (-17), 3) := by decide +kernel
theorem dX0_init_96 : decode cX0_init 96 = .ok (.return_, 1) := by decide +kernel
theorem dX0_gate_0 : decode cX0_gate 0 = .ok (.aload_n 0, 1) := by decide +kernel
theorem dX0_gate_1 : decode cX0_gate 1 = .ok (.iload_n 1, 1) := by decide +kernel
theorem dX0_gate_2 : decode cX0_gate 2 = .ok (.invokevirtual 38, 3) := by decide +kernel
theorem dX0_gate_5 : decode cX0_gate 5 = .ok (.ifCond .eq 20, 3) := by decide +kernel
theorem dX0_gate_8 : decode cX0_gate 8 = .ok (.aload_n 0, 1) := by decide +kernel
theorem dX0_gate_9 : decode cX0_gate 9 = .ok (.iload_n 2, 1) := by decide +kernel
theorem dX0_gate_10 : decode cX0_gate 10 = .ok (.invokevirtual 38, 3) := by decide +kernel
theorem dX0_gate_13 : decode cX0_gate 13 = .ok (.ifCond .eq 12, 3) := by decide +kernel
theorem dX0_gate_16 : decode cX0_gate 16 = .ok (.aload_n 0, 1) := by decide +kernel
theorem dX0_gate_17 : decode cX0_gate 17 = .ok (.getfield 42, 3) := by decide +kernel
theorem dX0_gate_20 : decode cX0_gate 20 = .ok (.bipush 10, 2) := by decide +kernel
theorem dX0_gate_22 : decode cX0_gate 22 = .ok (.if_icmp .lt 5, 3) := by decide +kernel
theorem dX0_gate_25 : decode cX0_gate 25 = .ok (.iconst (-1), 1) := by decide +kernel
theorem dX0_gate_26 : decode cX0_gate 26 = .ok (.ireturn, 1) := by decide +kernel
theorem dX0_gate_27 : decode cX0_gate 27 = .ok (.aload_n 0, 1) := by decide +kernel
theorem dX0_gate_28 : decode cX0_gate 28 = .ok (.getfield 7, 3) := by decide +kernel
theorem dX0_gate_31 : decode cX0_gate 31 = .ok (.bipush 6, 2) := by decide +kernel
theorem dX0_gate_33 : decode cX0_gate 33 = .ok (.aload_n 0, 1) := by decide +kernel
theorem dX0_gate_34 : decode cX0_gate 34 = .ok (.getfield 42, 3) := by decide +kernel
theorem dX0_gate_37 : decode cX0_gate 37 = .ok (.iadd, 1) := by decide +kernel
theorem dX0_gate_38 : decode cX0_gate 38 = .ok (.iload_n 1, 1) := by decide +kernel
theorem dX0_gate_39 : decode cX0_gate 39 = .ok (.iastore, 1) := by decide +kernel
theorem dX0_gate_40 : decode cX0_gate 40 = .ok (.aload_n 0, 1) := by decide +kernel
theorem dX0_gate_41 : decode cX0_gate 41 = .ok (.getfield 13, 3) := by decide +kernel
theorem dX0_gate_44 : decode cX0_gate 44 = .ok (.bipush 6, 2) := by decide +kernel
theorem dX0_gate_46 : decode cX0_gate 46 = .ok (.aload_n 0, 1) := by decide +kernel
theorem dX0_gate_47 : decode cX0_gate 47 = .ok (.getfield 42, 3) := by decide +kernel
theorem dX0_gate_50 : decode cX0_gate 50 = .ok (.iadd, 1) := by decide +kernel
theorem dX0_gate_51 : decode cX0_gate 51 = .ok (.iload_n 2, 1) := by decide +kernel
theorem dX0_gate_52 : decode cX0_gate 52 = .ok (.iastore, 1) := by decide +kernel
theorem dX0_gate_53 : decode cX0_gate 53 = .ok (.aload_n 0, 1) := by decide +kernel
theorem dX0_gate_54 : decode cX0_gate 54 = .ok (.dup, 1) := by decide +kernel
theorem dX0_gate_55 : decode cX0_gate 55 = .ok (.getfield 42, 3) := by decide +kernel
theorem dX0_gate_58 : decode cX0_gate 58 = .ok (.iconst 1, 1) := by decide +kernel
theorem dX0_gate_59 : decode cX0_gate 59 = .ok (.iadd, 1) := by decide +kernel
theorem dX0_gate_60 : decode cX0_gate 60 = .ok (.putfield 42, 3) := by decide +kernel
theorem dX0_gate_63 : decode cX0_gate 63 = .ok (.iconst 5, 1) := by decide +kernel
theorem dX0_gate_64 : decode cX0_gate 64 = .ok (.aload_n 0, 1) := by decide +kernel
theorem dX0_gate_65 : decode cX0_gate 65 = .ok (.getfield 42, 3) := by decide +kernel
theorem dX0_gate_68 : decode cX0_gate 68 = .ok (.iadd, 1) := by decide +kernel
theorem dX0_gate_69 : decode cX0_gate 69 = .ok (.ireturn, 1) := by decide +kernel
theorem dX0_isLiteral_0 : decode cX0_isLiteral 0 = .ok (.iload_n 1, 1) := by decide +kernel
theorem dX0_isLiteral_1 : decode cX0_isLiteral 1 = .ok (.ifCond .lt 20, 3) := by decide +kernel
theorem dX0_isLiteral_4 : decode cX0_isLiteral 4 = .ok (.iload_n 1, 1) := by decide +kernel
theorem dX0_isLiteral_5 : decode cX0_isLiteral 5 = .ok (.iconst 2, 1) := by decide +kernel
theorem dX0_isLiteral_6 : decode cX0_isLiteral 6 = .ok (.bipush 6, 2) := by decide +kernel
theorem dX0_isLiteral_8 : decode cX0_isLiteral 8 = .ok (.aload_n 0, 1) := by decide +kernel
theorem dX0_isLiteral_9 : decode cX0_isLiteral 9 = .ok (.getfield 42, 3) := by decide +kernel
theorem dX0_isLiteral_12 : decode cX0_isLiteral 12 = .ok (.iadd, 1) := by decide +kernel
theorem dX0_isLiteral_13 : decode cX0_isLiteral 13 = .ok (.imul, 1) := by decide +kernel
theorem dX0_isLiteral_14 : decode cX0_isLiteral 14 = .ok (.if_icmp .ge 7, 3) := by decide +kernel
theorem dX0_isLiteral_17 : decode cX0_isLiteral 17 = .ok (.iconst 1, 1) := by decide +kernel
theorem dX0_isLiteral_18 : decode cX0_isLiteral 18 = .ok (.goto 4, 3) := by decide +kernel
theorem dX0_isLiteral_21 : decode cX0_isLiteral 21 = .ok (.iconst 0, 1) := by decide +kernel
theorem dX0_isLiteral_22 : decode cX0_isLiteral 22 = .ok (.ireturn, 1) := by decide +kernel
theorem dX0_next_0 : decode cX0_next 0 = .ok (.iload_n 1, 1) := by decide +kernel
theorem dX0_next_1 : decode cX0_next 1 = .ok (.iconst 1, 1) := by decide +kernel
theorem dX0_next_2 : decode cX0_next 2 = .ok (.if_icmp .lt 16, 3) := by decide +kernel
theorem dX0_next_5 : decode cX0_next 5 = .ok (.iload_n 1, 1) := by decide +kernel
theorem dX0_next_6 : decode cX0_next 6 = .ok (.iconst 4, 1) := by decide +kernel
theorem dX0_next_7 : decode cX0_next 7 = .ok (.if_icmp .gt 11, 3) := by decide +kernel
theorem dX0_next_10 : decode cX0_next 10 = .ok (.aload_n 0, 1) := by decide +kernel
theorem dX0_next_11 : decode cX0_next 11 = .ok (.iload_n 2, 1) := by decide +kernel
theorem dX0_next_12 : decode cX0_next 12 = .ok (.invokevirtual 38, 3) := by decide +kernel
theorem dX0_next_15 : decode cX0_next 15 = .ok (.ifCond .ne 5, 3) := by decide +kernel
theorem dX0_next_18 : decode cX0_next 18 = .ok (.iconst (-1), 1) := by decide +kernel
theorem dX0_next_19 : decode cX0_next 19 = .ok (.ireturn, 1) := by decide +kernel
theorem dX0_next_20 : decode cX0_next 20 = .ok (.aload_n 0, 1) := by decide +kernel
theorem dX0_next_21 : decode cX0_next 21 = .ok (.getfield 16, 3) := by decide +kernel
theorem dX0_next_24 : decode cX0_next 24 = .ok (.iload_n 1, 1) := by decide +kernel
theorem dX0_next_25 : decode cX0_next 25 = .ok (.iaload, 1) := by decide +kernel
theorem dX0_next_26 : decode cX0_next 26 = .ok (.istore_n 3, 1) := by decide +kernel
theorem dX0_next_27 : decode cX0_next 27 = .ok (.aload_n 0, 1) := by decide +kernel
theorem dX0_next_28 : decode cX0_next 28 = .ok (.getfield 16, 3) := by decide +kernel
theorem dX0_next_31 : decode cX0_next 31 = .ok (.iload_n 1, 1) := by decide +kernel
theorem dX0_next_32 : decode cX0_next 32 = .ok (.iload_n 2, 1) := by decide +kernel
theorem dX0_next_33 : decode cX0_next 33 = .ok (.iastore, 1) := by decide +kernel
theorem dX0_next_34 : decode cX0_next 34 = .ok (.iload_n 3, 1) := by decide +kernel
theorem dX0_next_35 : decode cX0_next 35 = .ok (.ireturn, 1) := by decide +kernel
theorem dX0_begin_0 : decode cX0_begin 0 = .ok (.iload_n 1, 1) := by decide +kernel
theorem dX0_begin_1 : decode cX0_begin 1 = .ok (.iconst 1, 1) := by decide +kernel
theorem dX0_begin_2 : decode cX0_begin 2 = .ok (.if_icmp .lt 17, 3) := by decide +kernel
theorem dX0_begin_5 : decode cX0_begin 5 = .ok (.iload_n 1, 1) := by decide +kernel
theorem dX0_begin_6 : decode cX0_begin 6 = .ok (.iconst 4, 1) := by decide +kernel
theorem dX0_begin_7 : decode cX0_begin 7 = .ok (.if_icmp .gt 12, 3) := by decide +kernel
theorem dX0_begin_10 : decode cX0_begin 10 = .ok (.iload_n 2, 1) := by decide +kernel
theorem dX0_begin_11 : decode cX0_begin 11 = .ok (.ifCond .lt 8, 3) := by decide +kernel
theorem dX0_begin_14 : decode cX0_begin 14 = .ok (.iload_n 2, 1) := by decide +kernel
theorem dX0_begin_15 : decode cX0_begin 15 = .ok (.iconst 2, 1) := by decide +kernel
theorem dX0_begin_16 : decode cX0_begin 16 = .ok (.if_icmp .le 5, 3) := by decide +kernel
theorem dX0_begin_19 : decode cX0_begin 19 = .ok (.iconst (-1), 1) := by decide +kernel
theorem dX0_begin_20 : decode cX0_begin 20 = .ok (.ireturn, 1) := by decide +kernel
theorem dX0_begin_21 : decode cX0_begin 21 = .ok (.aload_n 0, 1) := by decide +kernel
theorem dX0_begin_22 : decode cX0_begin 22 = .ok (.getfield 19, 3) := by decide +kernel
theorem dX0_begin_25 : decode cX0_begin 25 = .ok (.iload_n 1, 1) := by decide +kernel
theorem dX0_begin_26 : decode cX0_begin 26 = .ok (.iload_n 2, 1) := by decide +kernel
theorem dX0_begin_27 : decode cX0_begin 27 = .ok (.iastore, 1) := by decide +kernel
theorem dX0_begin_28 : decode cX0_begin 28 = .ok (.iconst 0, 1) := by decide +kernel
theorem dX0_begin_29 : decode cX0_begin 29 = .ok (.ireturn, 1) := by decide +kernel
theorem dX0_bad_0 : decode cX0_bad 0 = .ok (.aload_n 0, 1) := by decide +kernel
theorem dX0_bad_1 : decode cX0_bad 1 = .ok (.iload_n 1, 1) := by decide +kernel
theorem dX0_bad_2 : decode cX0_bad 2 = .ok (.invokevirtual 38, 3) := by decide +kernel
theorem dX0_bad_5 : decode cX0_bad 5 = .ok (.ifCond .ne 5, 3) := by decide +kernel
theorem dX0_bad_8 : decode cX0_bad 8 = .ok (.iconst (-1), 1) := by decide +kernel
theorem dX0_bad_9 : decode cX0_bad 9 = .ok (.ireturn, 1) := by decide +kernel
theorem dX0_bad_10 : decode cX0_bad 10 = .ok (.aload_n 0, 1) := by decide +kernel
theorem dX0_bad_11 : decode cX0_bad 11 = .ok (.getfield 46, 3) := by decide +kernel
theorem dX0_bad_14 : decode cX0_bad 14 = .ok (.istore_n 2, 1) := by decide +kernel
theorem dX0_bad_15 : decode cX0_bad 15 = .ok (.aload_n 0, 1) := by decide +kernel
theorem dX0_bad_16 : decode cX0_bad 16 = .ok (.iload_n 1, 1) := by decide +kernel
theorem dX0_bad_17 : decode cX0_bad 17 = .ok (.putfield 46, 3) := by decide +kernel
theorem dX0_bad_20 : decode cX0_bad 20 = .ok (.iload_n 2, 1) := by decide +kernel
theorem dX0_bad_21 : decode cX0_bad 21 = .ok (.ireturn, 1) := by decide +kernel
theorem dX0_value_0 : decode cX0_value 0 = .ok (.aload_n 0, 1) := by decide +kernel
theorem dX0_value_1 : decode cX0_value 1 = .ok (.iload_n 1, 1) := by decide +kernel
theorem dX0_value_2 : decode cX0_value 2 = .ok (.invokevirtual 38, 3) := by decide +kernel
theorem dX0_value_5 : decode cX0_value 5 = .ok (.ifCond .eq 13, 3) := by decide +kernel
theorem dX0_value_8 : decode cX0_value 8 = .ok (.iload_n 2, 1) := by decide +kernel
theorem dX0_value_9 : decode cX0_value 9 = .ok (.ifCond .lt 9, 3) := by decide +kernel
theorem dX0_value_12 : decode cX0_value 12 = .ok (.iload_n 2, 1) := by decide +kernel
theorem dX0_value_13 : decode cX0_value 13 = .ok (.bipush 15, 2) := by decide +kernel
theorem dX0_value_15 : decode cX0_value 15 = .ok (.if_icmp .le 5, 3) := by decide +kernel
theorem dX0_value_18 : decode cX0_value 18 = .ok (.iconst (-1), 1) := by decide +kernel
theorem dX0_value_19 : decode cX0_value 19 = .ok (.ireturn, 1) := by decide +kernel
theorem dX0_value_20 : decode cX0_value 20 = .ok (.aload_n 0, 1) := by decide +kernel
theorem dX0_value_21 : decode cX0_value 21 = .ok (.iconst 0, 1) := by decide +kernel
theorem dX0_value_22 : decode cX0_value 22 = .ok (.invokevirtual 49, 3) := by decide +kernel
theorem dX0_value_25 : decode cX0_value 25 = .ok (.iconst 1, 1) := by decide +kernel
theorem dX0_value_26 : decode cX0_value 26 = .ok (.istore 4, 2) := by decide +kernel
theorem dX0_value_28 : decode cX0_value 28 = .ok (.iload 4, 2) := by decide +kernel
theorem dX0_value_30 : decode cX0_value 30 = .ok (.iconst 5, 1) := by decide +kernel
theorem dX0_value_31 : decode cX0_value 31 = .ok (.if_icmp .ge 23, 3) := by decide +kernel
theorem dX0_value_34 : decode cX0_value 34 = .ok (.aload_n 0, 1) := by decide +kernel
theorem dX0_value_35 : decode cX0_value 35 = .ok (.iload 4, 2) := by decide +kernel
theorem dX0_value_37 : decode cX0_value 37 = .ok (.iload_n 2, 1) := by decide +kernel
theorem dX0_value_38 : decode cX0_value 38 = .ok (.iload 4, 2) := by decide +kernel
theorem dX0_value_40 : decode cX0_value 40 = .ok (.iconst 1, 1) := by decide +kernel
theorem dX0_value_41 : decode cX0_value 41 = .ok (.isub, 1) := by decide +kernel
theorem dX0_value_42 : decode cX0_value 42 = .ok (.iushr, 1) := by decide +kernel
theorem dX0_value_43 : decode cX0_value 43 = .ok (.iconst 1, 1) := by decide +kernel
theorem dX0_value_44 : decode cX0_value 44 = .ok (.iand, 1) := by decide +kernel
theorem dX0_value_45 : decode cX0_value 45 = .ok (.invokevirtual 53, 3) := by decide +kernel
theorem dX0_value_48 : decode cX0_value 48 = .ok (.iinc 4 1, 3) := by decide +kernel
theorem dX0_value_51 : decode cX0_value 51 = .ok (.goto (-23), 3) := by decide +kernel
theorem dX0_value_54 : decode cX0_value 54 = .ok (.aload_n 0, 1) := by decide +kernel
theorem dX0_value_55 : decode cX0_value 55 = .ok (.iconst 5, 1) := by decide +kernel
theorem dX0_value_56 : decode cX0_value 56 = .ok (.iload_n 3, 1) := by decide +kernel
theorem dX0_value_57 : decode cX0_value 57 = .ok (.iconst 1, 1) := by decide +kernel
theorem dX0_value_58 : decode cX0_value 58 = .ok (.iand, 1) := by decide +kernel
theorem dX0_value_59 : decode cX0_value 59 = .ok (.invokevirtual 53, 3) := by decide +kernel
theorem dX0_value_62 : decode cX0_value 62 = .ok (.aload_n 0, 1) := by decide +kernel
theorem dX0_value_63 : decode cX0_value 63 = .ok (.invokevirtual 57, 3) := by decide +kernel
theorem dX0_value_66 : decode cX0_value 66 = .ok (.aload_n 0, 1) := by decide +kernel
theorem dX0_value_67 : decode cX0_value 67 = .ok (.iconst 0, 1) := by decide +kernel
theorem dX0_value_68 : decode cX0_value 68 = .ok (.iload_n 1, 1) := by decide +kernel
theorem dX0_value_69 : decode cX0_value 69 = .ok (.invokevirtual 60, 3) := by decide +kernel
theorem dX0_value_72 : decode cX0_value 72 = .ok (.ireturn, 1) := by decide +kernel
theorem dX0_open_0 : decode cX0_open 0 = .ok (.aload_n 0, 1) := by decide +kernel
theorem dX0_open_1 : decode cX0_open 1 = .ok (.iload_n 1, 1) := by decide +kernel
theorem dX0_open_2 : decode cX0_open 2 = .ok (.putfield 72, 3) := by decide +kernel
theorem dX0_open_5 : decode cX0_open 5 = .ok (.aload_n 0, 1) := by decide +kernel
theorem dX0_open_6 : decode cX0_open 6 = .ok (.iconst 0, 1) := by decide +kernel
theorem dX0_open_7 : decode cX0_open 7 = .ok (.putfield 75, 3) := by decide +kernel
theorem dX0_open_10 : decode cX0_open 10 = .ok (.aload_n 0, 1) := by decide +kernel
theorem dX0_open_11 : decode cX0_open 11 = .ok (.iconst 0, 1) := by decide +kernel
theorem dX0_open_12 : decode cX0_open 12 = .ok (.putfield 78, 3) := by decide +kernel
theorem dX0_open_15 : decode cX0_open 15 = .ok (.aload_n 0, 1) := by decide +kernel
theorem dX0_open_16 : decode cX0_open 16 = .ok (.iconst 0, 1) := by decide +kernel
theorem dX0_open_17 : decode cX0_open 17 = .ok (.putfield 81, 3) := by decide +kernel
theorem dX0_open_20 : decode cX0_open 20 = .ok (.iconst 0, 1) := by decide +kernel
theorem dX0_open_21 : decode cX0_open 21 = .ok (.istore_n 2, 1) := by decide +kernel
theorem dX0_open_22 : decode cX0_open 22 = .ok (.iload_n 2, 1) := by decide +kernel
theorem dX0_open_23 : decode cX0_open 23 = .ok (.bipush 112, 2) := by decide +kernel
theorem dX0_open_25 : decode cX0_open 25 = .ok (.if_icmp .ge 16, 3) := by decide +kernel
theorem dX0_open_28 : decode cX0_open 28 = .ok (.aload_n 0, 1) := by decide +kernel
theorem dX0_open_29 : decode cX0_open 29 = .ok (.getfield 22, 3) := by decide +kernel
theorem dX0_open_32 : decode cX0_open 32 = .ok (.iload_n 2, 1) := by decide +kernel
theorem dX0_open_33 : decode cX0_open 33 = .ok (.iconst (-1), 1) := by decide +kernel
theorem dX0_open_34 : decode cX0_open 34 = .ok (.iastore, 1) := by decide +kernel
theorem dX0_open_35 : decode cX0_open 35 = .ok (.iinc 2 1, 3) := by decide +kernel
theorem dX0_open_38 : decode cX0_open 38 = .ok (.goto (-16), 3) := by decide +kernel
theorem dX0_open_41 : decode cX0_open 41 = .ok (.iconst 0, 1) := by decide +kernel
theorem dX0_open_42 : decode cX0_open 42 = .ok (.istore_n 2, 1) := by decide +kernel
theorem dX0_open_43 : decode cX0_open 43 = .ok (.iload_n 2, 1) := by decide +kernel
theorem dX0_open_44 : decode cX0_open 44 = .ok (.iload_n 1, 1) := by decide +kernel
theorem dX0_open_45 : decode cX0_open 45 = .ok (.if_icmp .gt 18, 3) := by decide +kernel
theorem dX0_open_48 : decode cX0_open 48 = .ok (.aload_n 0, 1) := by decide +kernel
theorem dX0_open_49 : decode cX0_open 49 = .ok (.bipush 16, 2) := by decide +kernel
theorem dX0_open_51 : decode cX0_open 51 = .ok (.iload_n 2, 1) := by decide +kernel
theorem dX0_open_52 : decode cX0_open 52 = .ok (.imul, 1) := by decide +kernel
theorem dX0_open_53 : decode cX0_open 53 = .ok (.iconst 0, 1) := by decide +kernel
theorem dX0_open_54 : decode cX0_open 54 = .ok (.invokevirtual 53, 3) := by decide +kernel
theorem dX0_open_57 : decode cX0_open 57 = .ok (.iinc 2 1, 3) := by decide +kernel
theorem dX0_open_60 : decode cX0_open 60 = .ok (.goto (-17), 3) := by decide +kernel
theorem dX0_open_63 : decode cX0_open 63 = .ok (.return_, 1) := by decide +kernel
theorem dX0_put_0 : decode cX0_put 0 = .ok (.aload_n 0, 1) := by decide +kernel
theorem dX0_put_1 : decode cX0_put 1 = .ok (.getfield 22, 3) := by decide +kernel
theorem dX0_put_4 : decode cX0_put 4 = .ok (.iload_n 1, 1) := by decide +kernel
theorem dX0_put_5 : decode cX0_put 5 = .ok (.iaload, 1) := by decide +kernel
theorem dX0_put_6 : decode cX0_put 6 = .ok (.ifCond .ge 33, 3) := by decide +kernel
theorem dX0_put_9 : decode cX0_put 9 = .ok (.aload_n 0, 1) := by decide +kernel
theorem dX0_put_10 : decode cX0_put 10 = .ok (.getfield 22, 3) := by decide +kernel
theorem dX0_put_13 : decode cX0_put 13 = .ok (.iload_n 1, 1) := by decide +kernel
theorem dX0_put_14 : decode cX0_put 14 = .ok (.iload_n 2, 1) := by decide +kernel
theorem dX0_put_15 : decode cX0_put 15 = .ok (.iastore, 1) := by decide +kernel
theorem dX0_put_16 : decode cX0_put 16 = .ok (.aload_n 0, 1) := by decide +kernel
theorem dX0_put_17 : decode cX0_put 17 = .ok (.getfield 25, 3) := by decide +kernel
theorem dX0_put_20 : decode cX0_put 20 = .ok (.aload_n 0, 1) := by decide +kernel
theorem dX0_put_21 : decode cX0_put 21 = .ok (.getfield 75, 3) := by decide +kernel
theorem dX0_put_24 : decode cX0_put 24 = .ok (.iload_n 1, 1) := by decide +kernel
theorem dX0_put_25 : decode cX0_put 25 = .ok (.iastore, 1) := by decide +kernel
theorem dX0_put_26 : decode cX0_put 26 = .ok (.aload_n 0, 1) := by decide +kernel
theorem dX0_put_27 : decode cX0_put 27 = .ok (.dup, 1) := by decide +kernel
theorem dX0_put_28 : decode cX0_put 28 = .ok (.getfield 75, 3) := by decide +kernel
theorem dX0_put_31 : decode cX0_put 31 = .ok (.iconst 1, 1) := by decide +kernel
theorem dX0_put_32 : decode cX0_put 32 = .ok (.iadd, 1) := by decide +kernel
theorem dX0_put_33 : decode cX0_put 33 = .ok (.putfield 75, 3) := by decide +kernel
theorem dX0_put_36 : decode cX0_put 36 = .ok (.goto 18, 3) := by decide +kernel
theorem dX0_put_39 : decode cX0_put 39 = .ok (.aload_n 0, 1) := by decide +kernel
theorem dX0_put_40 : decode cX0_put 40 = .ok (.getfield 22, 3) := by decide +kernel
theorem dX0_put_43 : decode cX0_put 43 = .ok (.iload_n 1, 1) := by decide +kernel
theorem dX0_put_44 : decode cX0_put 44 = .ok (.iaload, 1) := by decide +kernel
theorem dX0_put_45 : decode cX0_put 45 = .ok (.iload_n 2, 1) := by decide +kernel
theorem dX0_put_46 : decode cX0_put 46 = .ok (.if_icmp .eq 8, 3) := by decide +kernel
theorem dX0_put_49 : decode cX0_put 49 = .ok (.aload_n 0, 1) := by decide +kernel
theorem dX0_put_50 : decode cX0_put 50 = .ok (.iconst 1, 1) := by decide +kernel
theorem dX0_put_51 : decode cX0_put 51 = .ok (.putfield 81, 3) := by decide +kernel
theorem dX0_put_54 : decode cX0_put 54 = .ok (.return_, 1) := by decide +kernel
theorem dX0_follow_0 : decode cX0_follow 0 = .ok (.iconst 1, 1) := by decide +kernel
theorem dX0_follow_1 : decode cX0_follow 1 = .ok (.istore_n 1, 1) := by decide +kernel
theorem dX0_follow_2 : decode cX0_follow 2 = .ok (.iconst 0, 1) := by decide +kernel
theorem dX0_follow_3 : decode cX0_follow 3 = .ok (.istore_n 2, 1) := by decide +kernel
theorem dX0_follow_4 : decode cX0_follow 4 = .ok (.iload_n 2, 1) := by decide +kernel
theorem dX0_follow_5 : decode cX0_follow 5 = .ok (.bipush 113, 2) := by decide +kernel
theorem dX0_follow_7 : decode cX0_follow 7 = .ok (.if_icmp .ge 63, 3) := by decide +kernel
theorem dX0_follow_10 : decode cX0_follow 10 = .ok (.iload_n 1, 1) := by decide +kernel
theorem dX0_follow_11 : decode cX0_follow 11 = .ok (.ifCond .eq 59, 3) := by decide +kernel
theorem dX0_follow_14 : decode cX0_follow 14 = .ok (.aload_n 0, 1) := by decide +kernel
theorem dX0_follow_15 : decode cX0_follow 15 = .ok (.getfield 81, 3) := by decide +kernel
theorem dX0_follow_18 : decode cX0_follow 18 = .ok (.ifCond .ne 52, 3) := by decide +kernel
theorem dX0_follow_21 : decode cX0_follow 21 = .ok (.aload_n 0, 1) := by decide +kernel
theorem dX0_follow_22 : decode cX0_follow 22 = .ok (.getfield 75, 3) := by decide +kernel
theorem dX0_follow_25 : decode cX0_follow 25 = .ok (.istore_n 3, 1) := by decide +kernel
theorem dX0_follow_26 : decode cX0_follow 26 = .ok (.iconst 0, 1) := by decide +kernel
theorem dX0_follow_27 : decode cX0_follow 27 = .ok (.istore 4, 2) := by decide +kernel
theorem dX0_follow_29 : decode cX0_follow 29 = .ok (.iload 4, 2) := by decide +kernel
theorem dX0_follow_31 : decode cX0_follow 31 = .ok (.aload_n 0, 1) := by decide +kernel
theorem dX0_follow_32 : decode cX0_follow 32 = .ok (.getfield 72, 3) := by decide +kernel
theorem dX0_follow_35 : decode cX0_follow 35 = .ok (.if_icmp .gt 15, 3) := by decide +kernel
theorem dX0_follow_38 : decode cX0_follow 38 = .ok (.aload_n 0, 1) := by decide +kernel
theorem dX0_follow_39 : decode cX0_follow 39 = .ok (.iload 4, 2) := by decide +kernel
theorem dX0_follow_41 : decode cX0_follow 41 = .ok (.invokevirtual 85, 3) := by decide +kernel
theorem dX0_follow_44 : decode cX0_follow 44 = .ok (.iinc 4 1, 3) := by decide +kernel
theorem dX0_follow_47 : decode cX0_follow 47 = .ok (.goto (-18), 3) := by decide +kernel
theorem dX0_follow_50 : decode cX0_follow 50 = .ok (.aload_n 0, 1) := by decide +kernel
theorem dX0_follow_51 : decode cX0_follow 51 = .ok (.getfield 75, 3) := by decide +kernel
theorem dX0_follow_54 : decode cX0_follow 54 = .ok (.iload_n 3, 1) := by decide +kernel
theorem dX0_follow_55 : decode cX0_follow 55 = .ok (.if_icmp .le 7, 3) := by decide +kernel
theorem dX0_follow_58 : decode cX0_follow 58 = .ok (.iconst 1, 1) := by decide +kernel
theorem dX0_follow_59 : decode cX0_follow 59 = .ok (.goto 4, 3) := by decide +kernel
theorem dX0_follow_62 : decode cX0_follow 62 = .ok (.iconst 0, 1) := by decide +kernel
theorem dX0_follow_63 : decode cX0_follow 63 = .ok (.istore_n 1, 1) := by decide +kernel
theorem dX0_follow_64 : decode cX0_follow 64 = .ok (.iinc 2 1, 3) := by decide +kernel
theorem dX0_follow_67 : decode cX0_follow 67 = .ok (.goto (-63), 3) := by decide +kernel
theorem dX0_follow_70 : decode cX0_follow 70 = .ok (.return_, 1) := by decide +kernel
theorem dX0_followCopy_0 : decode cX0_followCopy 0 = .ok (.bipush 6, 2) := by decide +kernel
theorem dX0_followCopy_2 : decode cX0_followCopy 2 = .ok (.istore_n 2, 1) := by decide +kernel
theorem dX0_followCopy_3 : decode cX0_followCopy 3 = .ok (.iload_n 2, 1) := by decide +kernel
theorem dX0_followCopy_4 : decode cX0_followCopy 4 = .ok (.bipush 6, 2) := by decide +kernel
theorem dX0_followCopy_6 : decode cX0_followCopy 6 = .ok (.aload_n 0, 1) := by decide +kernel
theorem dX0_followCopy_7 : decode cX0_followCopy 7 = .ok (.getfield 42, 3) := by decide +kernel
theorem dX0_followCopy_10 : decode cX0_followCopy 10 = .ok (.iadd, 1) := by decide +kernel
theorem dX0_followCopy_11 : decode cX0_followCopy 11 = .ok (.if_icmp .ge 15, 3) := by decide +kernel
theorem dX0_followCopy_14 : decode cX0_followCopy 14 = .ok (.aload_n 0, 1) := by decide +kernel
theorem dX0_followCopy_15 : decode cX0_followCopy 15 = .ok (.iload_n 1, 1) := by decide +kernel
theorem dX0_followCopy_16 : decode cX0_followCopy 16 = .ok (.iload_n 2, 1) := by decide +kernel
theorem dX0_followCopy_17 : decode cX0_followCopy 17 = .ok (.invokevirtual 88, 3) := by decide +kernel
theorem dX0_followCopy_20 : decode cX0_followCopy 20 = .ok (.iinc 2 1, 3) := by decide +kernel
theorem dX0_followCopy_23 : decode cX0_followCopy 23 = .ok (.goto (-20), 3) := by decide +kernel
theorem dX0_followCopy_26 : decode cX0_followCopy 26 = .ok (.iconst 1, 1) := by decide +kernel
theorem dX0_followCopy_27 : decode cX0_followCopy 27 = .ok (.istore_n 2, 1) := by decide +kernel
theorem dX0_followCopy_28 : decode cX0_followCopy 28 = .ok (.iload_n 2, 1) := by decide +kernel
theorem dX0_followCopy_29 : decode cX0_followCopy 29 = .ok (.iconst 5, 1) := by decide +kernel
theorem dX0_followCopy_30 : decode cX0_followCopy 30 = .ok (.if_icmp .ge 84, 3) := by decide +kernel
theorem dX0_followCopy_33 : decode cX0_followCopy 33 = .ok (.iload_n 1, 1) := by decide +kernel
theorem dX0_followCopy_34 : decode cX0_followCopy 34 = .ok (.aload_n 0, 1) := by decide +kernel
theorem dX0_followCopy_35 : decode cX0_followCopy 35 = .ok (.getfield 72, 3) := by decide +kernel
theorem dX0_followCopy_38 : decode cX0_followCopy 38 = .ok (.if_icmp .ge 76, 3) := by decide +kernel
theorem dX0_followCopy_41 : decode cX0_followCopy 41 = .ok (.aload_n 0, 1) := by decide +kernel
theorem dX0_followCopy_42 : decode cX0_followCopy 42 = .ok (.iload_n 1, 1) := by decide +kernel
theorem dX0_followCopy_43 : decode cX0_followCopy 43 = .ok (.aload_n 0, 1) := by decide +kernel
theorem dX0_followCopy_44 : decode cX0_followCopy 44 = .ok (.getfield 16, 3) := by decide +kernel
theorem dX0_followCopy_47 : decode cX0_followCopy 47 = .ok (.iload_n 2, 1) := by decide +kernel
theorem dX0_followCopy_48 : decode cX0_followCopy 48 = .ok (.iaload, 1) := by decide +kernel
theorem dX0_followCopy_49 : decode cX0_followCopy 49 = .ok (.invokevirtual 60, 3) := by decide +kernel
theorem dX0_followCopy_52 : decode cX0_followCopy 52 = .ok (.istore_n 3, 1) := by decide +kernel
theorem dX0_followCopy_53 : decode cX0_followCopy 53 = .ok (.aload_n 0, 1) := by decide +kernel
theorem dX0_followCopy_54 : decode cX0_followCopy 54 = .ok (.getfield 22, 3) := by decide +kernel
theorem dX0_followCopy_57 : decode cX0_followCopy 57 = .ok (.bipush 16, 2) := by decide +kernel
theorem dX0_followCopy_59 : decode cX0_followCopy 59 = .ok (.iload_n 1, 1) := by decide +kernel
theorem dX0_followCopy_60 : decode cX0_followCopy 60 = .ok (.imul, 1) := by decide +kernel
theorem dX0_followCopy_61 : decode cX0_followCopy 61 = .ok (.bipush 16, 2) := by decide +kernel
theorem dX0_followCopy_63 : decode cX0_followCopy 63 = .ok (.iadd, 1) := by decide +kernel
theorem dX0_followCopy_64 : decode cX0_followCopy 64 = .ok (.iload_n 2, 1) := by decide +kernel
theorem dX0_followCopy_65 : decode cX0_followCopy 65 = .ok (.iadd, 1) := by decide +kernel
theorem dX0_followCopy_66 : decode cX0_followCopy 66 = .ok (.iaload, 1) := by decide +kernel
theorem dX0_followCopy_67 : decode cX0_followCopy 67 = .ok (.istore 4, 2) := by decide +kernel
theorem dX0_followCopy_69 : decode cX0_followCopy 69 = .ok (.iload_n 3, 1) := by decide +kernel
theorem dX0_followCopy_70 : decode cX0_followCopy 70 = .ok (.ifCond .lt 20, 3) := by decide +kernel
theorem dX0_followCopy_73 : decode cX0_followCopy 73 = .ok (.aload_n 0, 1) := by decide +kernel
theorem dX0_followCopy_74 : decode cX0_followCopy 74 = .ok (.bipush 16, 2) := by decide +kernel
theorem dX0_followCopy_76 : decode cX0_followCopy 76 = .ok (.iload_n 1, 1) := by decide +kernel
theorem dX0_followCopy_77 : decode cX0_followCopy 77 = .ok (.imul, 1) := by decide +kernel
theorem dX0_followCopy_78 : decode cX0_followCopy 78 = .ok (.bipush 16, 2) := by decide +kernel
theorem dX0_followCopy_80 : decode cX0_followCopy 80 = .ok (.iadd, 1) := by decide +kernel
theorem dX0_followCopy_81 : decode cX0_followCopy 81 = .ok (.iload_n 2, 1) := by decide +kernel
theorem dX0_followCopy_82 : decode cX0_followCopy 82 = .ok (.iadd, 1) := by decide +kernel
theorem dX0_followCopy_83 : decode cX0_followCopy 83 = .ok (.iload_n 3, 1) := by decide +kernel
theorem dX0_followCopy_84 : decode cX0_followCopy 84 = .ok (.invokevirtual 53, 3) := by decide +kernel
theorem dX0_followCopy_87 : decode cX0_followCopy 87 = .ok (.goto 21, 3) := by decide +kernel
theorem dX0_followCopy_90 : decode cX0_followCopy 90 = .ok (.iload 4, 2) := by decide +kernel
theorem dX0_followCopy_92 : decode cX0_followCopy 92 = .ok (.ifCond .lt 16, 3) := by decide +kernel
theorem dX0_followCopy_95 : decode cX0_followCopy 95 = .ok (.aload_n 0, 1) := by decide +kernel
theorem dX0_followCopy_96 : decode cX0_followCopy 96 = .ok (.iload_n 1, 1) := by decide +kernel
theorem dX0_followCopy_97 : decode cX0_followCopy 97 = .ok (.aload_n 0, 1) := by decide +kernel
theorem dX0_followCopy_98 : decode cX0_followCopy 98 = .ok (.getfield 16, 3) := by decide +kernel
theorem dX0_followCopy_101 : decode cX0_followCopy 101 = .ok (.iload_n 2, 1) := by decide +kernel
theorem dX0_followCopy_102 : decode cX0_followCopy 102 = .ok (.iaload, 1) := by decide +kernel
theorem dX0_followCopy_103 : decode cX0_followCopy 103 = .ok (.iload 4, 2) := by decide +kernel
theorem dX0_followCopy_105 : decode cX0_followCopy 105 = .ok (.invokevirtual 91, 3) := by decide +kernel
theorem dX0_followCopy_108 : decode cX0_followCopy 108 = .ok (.iinc 2 1, 3) := by decide +kernel
theorem dX0_followCopy_111 : decode cX0_followCopy 111 = .ok (.goto (-83), 3) := by decide +kernel
theorem dX0_followCopy_114 : decode cX0_followCopy 114 = .ok (.return_, 1) := by decide +kernel
theorem dX0_followGate_0 : decode cX0_followGate 0 = .ok (.aload_n 0, 1) := by decide +kernel
theorem dX0_followGate_1 : decode cX0_followGate 1 = .ok (.iload_n 1, 1) := by decide +kernel
theorem dX0_followGate_2 : decode cX0_followGate 2 = .ok (.aload_n 0, 1) := by decide +kernel
theorem dX0_followGate_3 : decode cX0_followGate 3 = .ok (.getfield 7, 3) := by decide +kernel
theorem dX0_followGate_6 : decode cX0_followGate 6 = .ok (.iload_n 2, 1) := by decide +kernel
theorem dX0_followGate_7 : decode cX0_followGate 7 = .ok (.iaload, 1) := by decide +kernel
theorem dX0_followGate_8 : decode cX0_followGate 8 = .ok (.invokevirtual 60, 3) := by decide +kernel
theorem dX0_followGate_11 : decode cX0_followGate 11 = .ok (.istore_n 3, 1) := by decide +kernel
theorem dX0_followGate_12 : decode cX0_followGate 12 = .ok (.aload_n 0, 1) := by decide +kernel
theorem dX0_followGate_13 : decode cX0_followGate 13 = .ok (.iload_n 1, 1) := by decide +kernel
theorem dX0_followGate_14 : decode cX0_followGate 14 = .ok (.aload_n 0, 1) := by decide +kernel
theorem dX0_followGate_15 : decode cX0_followGate 15 = .ok (.getfield 13, 3) := by decide +kernel
theorem dX0_followGate_18 : decode cX0_followGate 18 = .ok (.iload_n 2, 1) := by decide +kernel
theorem dX0_followGate_19 : decode cX0_followGate 19 = .ok (.iaload, 1) := by decide +kernel
end
section
set_option maxRecDepth 100000
theorem dX0_followGate_20 : decode cX0_followGate 20 = .ok (.invokevirtual 60, 3) := by decide +kernel
theorem dX0_followGate_23 : decode cX0_followGate 23 = .ok (.istore 4, 2) := by decide +kernel
theorem dX0_followGate_25 : decode cX0_followGate 25 = .ok (.aload_n 0, 1) := by decide +kernel
theorem dX0_followGate_26 : decode cX0_followGate 26 = .ok (.getfield 22, 3) := by decide +kernel
theorem dX0_followGate_29 : decode cX0_followGate 29 = .ok (.bipush 16, 2) := by decide +kernel
theorem dX0_followGate_31 : decode cX0_followGate 31 = .ok (.iload_n 1, 1) := by decide +kernel
theorem dX0_followGate_32 : decode cX0_followGate 32 = .ok (.imul, 1) := by decide +kernel
theorem dX0_followGate_33 : decode cX0_followGate 33 = .ok (.iload_n 2, 1) := by decide +kernel
theorem dX0_followGate_34 : decode cX0_followGate 34 = .ok (.iadd, 1) := by decide +kernel
theorem dX0_followGate_35 : decode cX0_followGate 35 = .ok (.iaload, 1) := by decide +kernel
theorem dX0_followGate_36 : decode cX0_followGate 36 = .ok (.istore 5, 2) := by decide +kernel
theorem dX0_followGate_38 : decode cX0_followGate 38 = .ok (.iload_n 3, 1) := by decide +kernel
theorem dX0_followGate_39 : decode cX0_followGate 39 = .ok (.ifCond .eq 8, 3) := by decide +kernel
theorem dX0_followGate_42 : decode cX0_followGate 42 = .ok (.iload 4, 2) := by decide +kernel
theorem dX0_followGate_44 : decode cX0_followGate 44 = .ok (.ifCond .ne 17, 3) := by decide +kernel
theorem dX0_followGate_47 : decode cX0_followGate 47 = .ok (.aload_n 0, 1) := by decide +kernel
theorem dX0_followGate_48 : decode cX0_followGate 48 = .ok (.bipush 16, 2) := by decide +kernel
theorem dX0_followGate_50 : decode cX0_followGate 50 = .ok (.iload_n 1, 1) := by decide +kernel
theorem dX0_followGate_51 : decode cX0_followGate 51 = .ok (.imul, 1) := by decide +kernel
theorem dX0_followGate_52 : decode cX0_followGate 52 = .ok (.iload_n 2, 1) := by decide +kernel
theorem dX0_followGate_53 : decode cX0_followGate 53 = .ok (.iadd, 1) := by decide +kernel
theorem dX0_followGate_54 : decode cX0_followGate 54 = .ok (.iconst 0, 1) := by decide +kernel
theorem dX0_followGate_55 : decode cX0_followGate 55 = .ok (.invokevirtual 53, 3) := by decide +kernel
theorem dX0_followGate_58 : decode cX0_followGate 58 = .ok (.goto 109, 3) := by decide +kernel
theorem dX0_followGate_61 : decode cX0_followGate 61 = .ok (.iload_n 3, 1) := by decide +kernel
theorem dX0_followGate_62 : decode cX0_followGate 62 = .ok (.iconst 1, 1) := by decide +kernel
theorem dX0_followGate_63 : decode cX0_followGate 63 = .ok (.if_icmp .ne 23, 3) := by decide +kernel
theorem dX0_followGate_66 : decode cX0_followGate 66 = .ok (.iload 4, 2) := by decide +kernel
theorem dX0_followGate_68 : decode cX0_followGate 68 = .ok (.iconst 1, 1) := by decide +kernel
theorem dX0_followGate_69 : decode cX0_followGate 69 = .ok (.if_icmp .ne 17, 3) := by decide +kernel
theorem dX0_followGate_72 : decode cX0_followGate 72 = .ok (.aload_n 0, 1) := by decide +kernel
theorem dX0_followGate_73 : decode cX0_followGate 73 = .ok (.bipush 16, 2) := by decide +kernel
theorem dX0_followGate_75 : decode cX0_followGate 75 = .ok (.iload_n 1, 1) := by decide +kernel
theorem dX0_followGate_76 : decode cX0_followGate 76 = .ok (.imul, 1) := by decide +kernel
theorem dX0_followGate_77 : decode cX0_followGate 77 = .ok (.iload_n 2, 1) := by decide +kernel
theorem dX0_followGate_78 : decode cX0_followGate 78 = .ok (.iadd, 1) := by decide +kernel
theorem dX0_followGate_79 : decode cX0_followGate 79 = .ok (.iconst 1, 1) := by decide +kernel
theorem dX0_followGate_80 : decode cX0_followGate 80 = .ok (.invokevirtual 53, 3) := by decide +kernel
theorem dX0_followGate_83 : decode cX0_followGate 83 = .ok (.goto 84, 3) := by decide +kernel
theorem dX0_followGate_86 : decode cX0_followGate 86 = .ok (.iload 5, 2) := by decide +kernel
theorem dX0_followGate_88 : decode cX0_followGate 88 = .ok (.iconst 1, 1) := by decide +kernel
theorem dX0_followGate_89 : decode cX0_followGate 89 = .ok (.if_icmp .ne 30, 3) := by decide +kernel
theorem dX0_followGate_92 : decode cX0_followGate 92 = .ok (.aload_n 0, 1) := by decide +kernel
theorem dX0_followGate_93 : decode cX0_followGate 93 = .ok (.iload_n 1, 1) := by decide +kernel
theorem dX0_followGate_94 : decode cX0_followGate 94 = .ok (.aload_n 0, 1) := by decide +kernel
theorem dX0_followGate_95 : decode cX0_followGate 95 = .ok (.getfield 7, 3) := by decide +kernel
theorem dX0_followGate_98 : decode cX0_followGate 98 = .ok (.iload_n 2, 1) := by decide +kernel
theorem dX0_followGate_99 : decode cX0_followGate 99 = .ok (.iaload, 1) := by decide +kernel
theorem dX0_followGate_100 : decode cX0_followGate 100 = .ok (.iconst 1, 1) := by decide +kernel
theorem dX0_followGate_101 : decode cX0_followGate 101 = .ok (.invokevirtual 91, 3) := by decide +kernel
theorem dX0_followGate_104 : decode cX0_followGate 104 = .ok (.aload_n 0, 1) := by decide +kernel
theorem dX0_followGate_105 : decode cX0_followGate 105 = .ok (.iload_n 1, 1) := by decide +kernel
theorem dX0_followGate_106 : decode cX0_followGate 106 = .ok (.aload_n 0, 1) := by decide +kernel
theorem dX0_followGate_107 : decode cX0_followGate 107 = .ok (.getfield 13, 3) := by decide +kernel
theorem dX0_followGate_110 : decode cX0_followGate 110 = .ok (.iload_n 2, 1) := by decide +kernel
theorem dX0_followGate_111 : decode cX0_followGate 111 = .ok (.iaload, 1) := by decide +kernel
theorem dX0_followGate_112 : decode cX0_followGate 112 = .ok (.iconst 1, 1) := by decide +kernel
theorem dX0_followGate_113 : decode cX0_followGate 113 = .ok (.invokevirtual 91, 3) := by decide +kernel
theorem dX0_followGate_116 : decode cX0_followGate 116 = .ok (.goto 51, 3) := by decide +kernel
theorem dX0_followGate_119 : decode cX0_followGate 119 = .ok (.iload 5, 2) := by decide +kernel
theorem dX0_followGate_121 : decode cX0_followGate 121 = .ok (.ifCond .ne 23, 3) := by decide +kernel
theorem dX0_followGate_124 : decode cX0_followGate 124 = .ok (.iload_n 3, 1) := by decide +kernel
theorem dX0_followGate_125 : decode cX0_followGate 125 = .ok (.iconst 1, 1) := by decide +kernel
theorem dX0_followGate_126 : decode cX0_followGate 126 = .ok (.if_icmp .ne 18, 3) := by decide +kernel
theorem dX0_followGate_129 : decode cX0_followGate 129 = .ok (.aload_n 0, 1) := by decide +kernel
theorem dX0_followGate_130 : decode cX0_followGate 130 = .ok (.iload_n 1, 1) := by decide +kernel
theorem dX0_followGate_131 : decode cX0_followGate 131 = .ok (.aload_n 0, 1) := by decide +kernel
theorem dX0_followGate_132 : decode cX0_followGate 132 = .ok (.getfield 13, 3) := by decide +kernel
theorem dX0_followGate_135 : decode cX0_followGate 135 = .ok (.iload_n 2, 1) := by decide +kernel
theorem dX0_followGate_136 : decode cX0_followGate 136 = .ok (.iaload, 1) := by decide +kernel
theorem dX0_followGate_137 : decode cX0_followGate 137 = .ok (.iconst 0, 1) := by decide +kernel
theorem dX0_followGate_138 : decode cX0_followGate 138 = .ok (.invokevirtual 91, 3) := by decide +kernel
theorem dX0_followGate_141 : decode cX0_followGate 141 = .ok (.goto 26, 3) := by decide +kernel
theorem dX0_followGate_144 : decode cX0_followGate 144 = .ok (.iload 5, 2) := by decide +kernel
theorem dX0_followGate_146 : decode cX0_followGate 146 = .ok (.ifCond .ne 21, 3) := by decide +kernel
theorem dX0_followGate_149 : decode cX0_followGate 149 = .ok (.iload 4, 2) := by decide +kernel
theorem dX0_followGate_151 : decode cX0_followGate 151 = .ok (.iconst 1, 1) := by decide +kernel
theorem dX0_followGate_152 : decode cX0_followGate 152 = .ok (.if_icmp .ne 15, 3) := by decide +kernel
theorem dX0_followGate_155 : decode cX0_followGate 155 = .ok (.aload_n 0, 1) := by decide +kernel
theorem dX0_followGate_156 : decode cX0_followGate 156 = .ok (.iload_n 1, 1) := by decide +kernel
theorem dX0_followGate_157 : decode cX0_followGate 157 = .ok (.aload_n 0, 1) := by decide +kernel
theorem dX0_followGate_158 : decode cX0_followGate 158 = .ok (.getfield 7, 3) := by decide +kernel
theorem dX0_followGate_161 : decode cX0_followGate 161 = .ok (.iload_n 2, 1) := by decide +kernel
theorem dX0_followGate_162 : decode cX0_followGate 162 = .ok (.iaload, 1) := by decide +kernel
theorem dX0_followGate_163 : decode cX0_followGate 163 = .ok (.iconst 0, 1) := by decide +kernel
theorem dX0_followGate_164 : decode cX0_followGate 164 = .ok (.invokevirtual 91, 3) := by decide +kernel
theorem dX0_followGate_167 : decode cX0_followGate 167 = .ok (.return_, 1) := by decide +kernel
theorem dX0_valueOf_0 : decode cX0_valueOf 0 = .ok (.aload_n 0, 1) := by decide +kernel
theorem dX0_valueOf_1 : decode cX0_valueOf 1 = .ok (.getfield 22, 3) := by decide +kernel
theorem dX0_valueOf_4 : decode cX0_valueOf 4 = .ok (.bipush 16, 2) := by decide +kernel
theorem dX0_valueOf_6 : decode cX0_valueOf 6 = .ok (.iload_n 1, 1) := by decide +kernel
theorem dX0_valueOf_7 : decode cX0_valueOf 7 = .ok (.imul, 1) := by decide +kernel
theorem dX0_valueOf_8 : decode cX0_valueOf 8 = .ok (.iload_n 2, 1) := by decide +kernel
theorem dX0_valueOf_9 : decode cX0_valueOf 9 = .ok (.iconst 1, 1) := by decide +kernel
theorem dX0_valueOf_10 : decode cX0_valueOf 10 = .ok (.ishr, 1) := by decide +kernel
theorem dX0_valueOf_11 : decode cX0_valueOf 11 = .ok (.iadd, 1) := by decide +kernel
theorem dX0_valueOf_12 : decode cX0_valueOf 12 = .ok (.iaload, 1) := by decide +kernel
theorem dX0_valueOf_13 : decode cX0_valueOf 13 = .ok (.istore_n 3, 1) := by decide +kernel
theorem dX0_valueOf_14 : decode cX0_valueOf 14 = .ok (.iload_n 3, 1) := by decide +kernel
theorem dX0_valueOf_15 : decode cX0_valueOf 15 = .ok (.ifCond .ge 7, 3) := by decide +kernel
theorem dX0_valueOf_18 : decode cX0_valueOf 18 = .ok (.iconst (-1), 1) := by decide +kernel
theorem dX0_valueOf_19 : decode cX0_valueOf 19 = .ok (.goto 8, 3) := by decide +kernel
theorem dX0_valueOf_22 : decode cX0_valueOf 22 = .ok (.iload_n 3, 1) := by decide +kernel
theorem dX0_valueOf_23 : decode cX0_valueOf 23 = .ok (.iload_n 2, 1) := by decide +kernel
theorem dX0_valueOf_24 : decode cX0_valueOf 24 = .ok (.iconst 1, 1) := by decide +kernel
theorem dX0_valueOf_25 : decode cX0_valueOf 25 = .ok (.iand, 1) := by decide +kernel
theorem dX0_valueOf_26 : decode cX0_valueOf 26 = .ok (.ixor, 1) := by decide +kernel
theorem dX0_valueOf_27 : decode cX0_valueOf 27 = .ok (.ireturn, 1) := by decide +kernel
theorem dX0_putLiteral_0 : decode cX0_putLiteral 0 = .ok (.aload_n 0, 1) := by decide +kernel
theorem dX0_putLiteral_1 : decode cX0_putLiteral 1 = .ok (.bipush 16, 2) := by decide +kernel
theorem dX0_putLiteral_3 : decode cX0_putLiteral 3 = .ok (.iload_n 1, 1) := by decide +kernel
theorem dX0_putLiteral_4 : decode cX0_putLiteral 4 = .ok (.imul, 1) := by decide +kernel
theorem dX0_putLiteral_5 : decode cX0_putLiteral 5 = .ok (.iload_n 2, 1) := by decide +kernel
theorem dX0_putLiteral_6 : decode cX0_putLiteral 6 = .ok (.iconst 1, 1) := by decide +kernel
theorem dX0_putLiteral_7 : decode cX0_putLiteral 7 = .ok (.ishr, 1) := by decide +kernel
theorem dX0_putLiteral_8 : decode cX0_putLiteral 8 = .ok (.iadd, 1) := by decide +kernel
theorem dX0_putLiteral_9 : decode cX0_putLiteral 9 = .ok (.iload_n 3, 1) := by decide +kernel
theorem dX0_putLiteral_10 : decode cX0_putLiteral 10 = .ok (.iload_n 2, 1) := by decide +kernel
theorem dX0_putLiteral_11 : decode cX0_putLiteral 11 = .ok (.iconst 1, 1) := by decide +kernel
theorem dX0_putLiteral_12 : decode cX0_putLiteral 12 = .ok (.iand, 1) := by decide +kernel
theorem dX0_putLiteral_13 : decode cX0_putLiteral 13 = .ok (.ixor, 1) := by decide +kernel
theorem dX0_putLiteral_14 : decode cX0_putLiteral 14 = .ok (.invokevirtual 53, 3) := by decide +kernel
theorem dX0_putLiteral_17 : decode cX0_putLiteral 17 = .ok (.return_, 1) := by decide +kernel
theorem dX0_depth_0 : decode cX0_depth 0 = .ok (.iload_n 1, 1) := by decide +kernel
theorem dX0_depth_1 : decode cX0_depth 1 = .ok (.ifCond .lt 9, 3) := by decide +kernel
theorem dX0_depth_4 : decode cX0_depth 4 = .ok (.iload_n 1, 1) := by decide +kernel
theorem dX0_depth_5 : decode cX0_depth 5 = .ok (.bipush 6, 2) := by decide +kernel
theorem dX0_depth_7 : decode cX0_depth 7 = .ok (.if_icmp .le 5, 3) := by decide +kernel
theorem dX0_depth_10 : decode cX0_depth 10 = .ok (.iconst (-1), 1) := by decide +kernel
theorem dX0_depth_11 : decode cX0_depth 11 = .ok (.ireturn, 1) := by decide +kernel
theorem dX0_depth_12 : decode cX0_depth 12 = .ok (.iconst 0, 1) := by decide +kernel
theorem dX0_depth_13 : decode cX0_depth 13 = .ok (.istore_n 2, 1) := by decide +kernel
theorem dX0_depth_14 : decode cX0_depth 14 = .ok (.iload_n 2, 1) := by decide +kernel
theorem dX0_depth_15 : decode cX0_depth 15 = .ok (.iload_n 1, 1) := by decide +kernel
theorem dX0_depth_16 : decode cX0_depth 16 = .ok (.if_icmp .gt 23, 3) := by decide +kernel
theorem dX0_depth_19 : decode cX0_depth 19 = .ok (.aload_n 0, 1) := by decide +kernel
theorem dX0_depth_20 : decode cX0_depth 20 = .ok (.iload_n 2, 1) := by decide +kernel
theorem dX0_depth_21 : decode cX0_depth 21 = .ok (.iconst 1, 1) := by decide +kernel
theorem dX0_depth_22 : decode cX0_depth 22 = .ok (.iconst 0, 1) := by decide +kernel
theorem dX0_depth_23 : decode cX0_depth 23 = .ok (.invokevirtual 64, 3) := by decide +kernel
theorem dX0_depth_26 : decode cX0_depth 26 = .ok (.istore_n 3, 1) := by decide +kernel
theorem dX0_depth_27 : decode cX0_depth 27 = .ok (.iload_n 3, 1) := by decide +kernel
theorem dX0_depth_28 : decode cX0_depth 28 = .ok (.ifCond .eq 5, 3) := by decide +kernel
theorem dX0_depth_31 : decode cX0_depth 31 = .ok (.iload_n 2, 1) := by decide +kernel
theorem dX0_depth_32 : decode cX0_depth 32 = .ok (.ireturn, 1) := by decide +kernel
theorem dX0_depth_33 : decode cX0_depth 33 = .ok (.iinc 2 1, 3) := by decide +kernel
theorem dX0_depth_36 : decode cX0_depth 36 = .ok (.goto (-22), 3) := by decide +kernel
theorem dX0_depth_39 : decode cX0_depth 39 = .ok (.iconst (-1), 1) := by decide +kernel
theorem dX0_depth_40 : decode cX0_depth 40 = .ok (.ireturn, 1) := by decide +kernel
theorem dX0_search_0 : decode cX0_search 0 = .ok (.aload_n 0, 1) := by decide +kernel
theorem dX0_search_1 : decode cX0_search 1 = .ok (.iload_n 2, 1) := by decide +kernel
theorem dX0_search_2 : decode cX0_search 2 = .ok (.putfield 99, 3) := by decide +kernel
theorem dX0_search_5 : decode cX0_search 5 = .ok (.aload_n 0, 1) := by decide +kernel
theorem dX0_search_6 : decode cX0_search 6 = .ok (.iload_n 3, 1) := by decide +kernel
theorem dX0_search_7 : decode cX0_search 7 = .ok (.putfield 102, 3) := by decide +kernel
theorem dX0_search_10 : decode cX0_search 10 = .ok (.aload_n 0, 1) := by decide +kernel
theorem dX0_search_11 : decode cX0_search 11 = .ok (.iload_n 1, 1) := by decide +kernel
theorem dX0_search_12 : decode cX0_search 12 = .ok (.invokevirtual 49, 3) := by decide +kernel
theorem dX0_search_15 : decode cX0_search 15 = .ok (.aload_n 0, 1) := by decide +kernel
theorem dX0_search_16 : decode cX0_search 16 = .ok (.invokevirtual 105, 3) := by decide +kernel
theorem dX0_search_19 : decode cX0_search 19 = .ok (.iconst 0, 1) := by decide +kernel
theorem dX0_search_20 : decode cX0_search 20 = .ok (.istore 4, 2) := by decide +kernel
theorem dX0_search_22 : decode cX0_search 22 = .ok (.iload 4, 2) := by decide +kernel
theorem dX0_search_24 : decode cX0_search 24 = .ok (.sipush 5000, 3) := by decide +kernel
theorem dX0_search_27 : decode cX0_search 27 = .ok (.if_icmp .ge 64, 3) := by decide +kernel
theorem dX0_search_30 : decode cX0_search 30 = .ok (.aload_n 0, 1) := by decide +kernel
theorem dX0_search_31 : decode cX0_search 31 = .ok (.invokevirtual 57, 3) := by decide +kernel
theorem dX0_search_34 : decode cX0_search 34 = .ok (.aload_n 0, 1) := by decide +kernel
theorem dX0_search_35 : decode cX0_search 35 = .ok (.getfield 81, 3) := by decide +kernel
theorem dX0_search_38 : decode cX0_search 38 = .ok (.ifCond .ne 17, 3) := by decide +kernel
theorem dX0_search_41 : decode cX0_search 41 = .ok (.aload_n 0, 1) := by decide +kernel
theorem dX0_search_42 : decode cX0_search 42 = .ok (.getfield 102, 3) := by decide +kernel
theorem dX0_search_45 : decode cX0_search 45 = .ok (.ifCond .eq 14, 3) := by decide +kernel
theorem dX0_search_48 : decode cX0_search 48 = .ok (.aload_n 0, 1) := by decide +kernel
theorem dX0_search_49 : decode cX0_search 49 = .ok (.invokevirtual 108, 3) := by decide +kernel
theorem dX0_search_52 : decode cX0_search 52 = .ok (.ifCond .eq 7, 3) := by decide +kernel
theorem dX0_search_55 : decode cX0_search 55 = .ok (.iconst 1, 1) := by decide +kernel
theorem dX0_search_56 : decode cX0_search 56 = .ok (.goto 4, 3) := by decide +kernel
theorem dX0_search_59 : decode cX0_search 59 = .ok (.iconst 0, 1) := by decide +kernel
theorem dX0_search_60 : decode cX0_search 60 = .ok (.istore 5, 2) := by decide +kernel
theorem dX0_search_62 : decode cX0_search 62 = .ok (.iload 5, 2) := by decide +kernel
theorem dX0_search_64 : decode cX0_search 64 = .ok (.ifCond .eq 12, 3) := by decide +kernel
theorem dX0_search_67 : decode cX0_search 67 = .ok (.aload_n 0, 1) := by decide +kernel
theorem dX0_search_68 : decode cX0_search 68 = .ok (.invokevirtual 112, 3) := by decide +kernel
theorem dX0_search_71 : decode cX0_search 71 = .ok (.ifCond .ne 14, 3) := by decide +kernel
theorem dX0_search_74 : decode cX0_search 74 = .ok (.iconst 0, 1) := by decide +kernel
theorem dX0_search_75 : decode cX0_search 75 = .ok (.ireturn, 1) := by decide +kernel
theorem dX0_search_76 : decode cX0_search 76 = .ok (.aload_n 0, 1) := by decide +kernel
theorem dX0_search_77 : decode cX0_search 77 = .ok (.invokevirtual 115, 3) := by decide +kernel
theorem dX0_search_80 : decode cX0_search 80 = .ok (.ifCond .ne 5, 3) := by decide +kernel
theorem dX0_search_83 : decode cX0_search 83 = .ok (.iconst 1, 1) := by decide +kernel
theorem dX0_search_84 : decode cX0_search 84 = .ok (.ireturn, 1) := by decide +kernel
theorem dX0_search_85 : decode cX0_search 85 = .ok (.iinc 4 1, 3) := by decide +kernel
theorem dX0_search_88 : decode cX0_search 88 = .ok (.goto (-66), 3) := by decide +kernel
theorem dX0_search_91 : decode cX0_search 91 = .ok (.iconst 0, 1) := by decide +kernel
theorem dX0_search_92 : decode cX0_search 92 = .ok (.ireturn, 1) := by decide +kernel
theorem dX0_demand_0 : decode cX0_demand 0 = .ok (.iconst 0, 1) := by decide +kernel
theorem dX0_demand_1 : decode cX0_demand 1 = .ok (.istore_n 1, 1) := by decide +kernel
theorem dX0_demand_2 : decode cX0_demand 2 = .ok (.iload_n 1, 1) := by decide +kernel
theorem dX0_demand_3 : decode cX0_demand 3 = .ok (.aload_n 0, 1) := by decide +kernel
theorem dX0_demand_4 : decode cX0_demand 4 = .ok (.getfield 72, 3) := by decide +kernel
theorem dX0_demand_7 : decode cX0_demand 7 = .ok (.if_icmp .ge 19, 3) := by decide +kernel
theorem dX0_demand_10 : decode cX0_demand 10 = .ok (.aload_n 0, 1) := by decide +kernel
theorem dX0_demand_11 : decode cX0_demand 11 = .ok (.iload_n 1, 1) := by decide +kernel
theorem dX0_demand_12 : decode cX0_demand 12 = .ok (.aload_n 0, 1) := by decide +kernel
theorem dX0_demand_13 : decode cX0_demand 13 = .ok (.getfield 46, 3) := by decide +kernel
theorem dX0_demand_16 : decode cX0_demand 16 = .ok (.iconst 0, 1) := by decide +kernel
theorem dX0_demand_17 : decode cX0_demand 17 = .ok (.invokevirtual 91, 3) := by decide +kernel
theorem dX0_demand_20 : decode cX0_demand 20 = .ok (.iinc 1 1, 3) := by decide +kernel
theorem dX0_demand_23 : decode cX0_demand 23 = .ok (.goto (-21), 3) := by decide +kernel
theorem dX0_demand_26 : decode cX0_demand 26 = .ok (.aload_n 0, 1) := by decide +kernel
theorem dX0_demand_27 : decode cX0_demand 27 = .ok (.aload_n 0, 1) := by decide +kernel
theorem dX0_demand_28 : decode cX0_demand 28 = .ok (.getfield 72, 3) := by decide +kernel
theorem dX0_demand_31 : decode cX0_demand 31 = .ok (.aload_n 0, 1) := by decide +kernel
theorem dX0_demand_32 : decode cX0_demand 32 = .ok (.getfield 46, 3) := by decide +kernel
theorem dX0_demand_35 : decode cX0_demand 35 = .ok (.iconst 1, 1) := by decide +kernel
theorem dX0_demand_36 : decode cX0_demand 36 = .ok (.invokevirtual 91, 3) := by decide +kernel
theorem dX0_demand_39 : decode cX0_demand 39 = .ok (.iconst 1, 1) := by decide +kernel
theorem dX0_demand_40 : decode cX0_demand 40 = .ok (.istore_n 1, 1) := by decide +kernel
theorem dX0_demand_41 : decode cX0_demand 41 = .ok (.iload_n 1, 1) := by decide +kernel
theorem dX0_demand_42 : decode cX0_demand 42 = .ok (.iconst 5, 1) := by decide +kernel
theorem dX0_demand_43 : decode cX0_demand 43 = .ok (.if_icmp .ge 37, 3) := by decide +kernel
theorem dX0_demand_46 : decode cX0_demand 46 = .ok (.aload_n 0, 1) := by decide +kernel
theorem dX0_demand_47 : decode cX0_demand 47 = .ok (.getfield 99, 3) := by decide +kernel
theorem dX0_demand_50 : decode cX0_demand 50 = .ok (.ifCond .eq 24, 3) := by decide +kernel
theorem dX0_demand_53 : decode cX0_demand 53 = .ok (.aload_n 0, 1) := by decide +kernel
theorem dX0_demand_54 : decode cX0_demand 54 = .ok (.getfield 19, 3) := by decide +kernel
theorem dX0_demand_57 : decode cX0_demand 57 = .ok (.iload_n 1, 1) := by decide +kernel
theorem dX0_demand_58 : decode cX0_demand 58 = .ok (.iaload, 1) := by decide +kernel
theorem dX0_demand_59 : decode cX0_demand 59 = .ok (.iconst 2, 1) := by decide +kernel
theorem dX0_demand_60 : decode cX0_demand 60 = .ok (.if_icmp .ge 14, 3) := by decide +kernel
theorem dX0_demand_63 : decode cX0_demand 63 = .ok (.aload_n 0, 1) := by decide +kernel
theorem dX0_demand_64 : decode cX0_demand 64 = .ok (.iload_n 1, 1) := by decide +kernel
theorem dX0_demand_65 : decode cX0_demand 65 = .ok (.aload_n 0, 1) := by decide +kernel
theorem dX0_demand_66 : decode cX0_demand 66 = .ok (.getfield 19, 3) := by decide +kernel
theorem dX0_demand_69 : decode cX0_demand 69 = .ok (.iload_n 1, 1) := by decide +kernel
theorem dX0_demand_70 : decode cX0_demand 70 = .ok (.iaload, 1) := by decide +kernel
theorem dX0_demand_71 : decode cX0_demand 71 = .ok (.invokevirtual 53, 3) := by decide +kernel
theorem dX0_demand_74 : decode cX0_demand 74 = .ok (.iinc 1 1, 3) := by decide +kernel
theorem dX0_demand_77 : decode cX0_demand 77 = .ok (.goto (-36), 3) := by decide +kernel
theorem dX0_demand_80 : decode cX0_demand 80 = .ok (.return_, 1) := by decide +kernel
theorem dX0_repeats_0 : decode cX0_repeats 0 = .ok (.iconst 0, 1) := by decide +kernel
theorem dX0_repeats_1 : decode cX0_repeats 1 = .ok (.istore_n 1, 1) := by decide +kernel
theorem dX0_repeats_2 : decode cX0_repeats 2 = .ok (.iload_n 1, 1) := by decide +kernel
theorem dX0_repeats_3 : decode cX0_repeats 3 = .ok (.aload_n 0, 1) := by decide +kernel
theorem dX0_repeats_4 : decode cX0_repeats 4 = .ok (.getfield 72, 3) := by decide +kernel
theorem dX0_repeats_7 : decode cX0_repeats 7 = .ok (.if_icmp .gt 33, 3) := by decide +kernel
theorem dX0_repeats_10 : decode cX0_repeats 10 = .ok (.iconst 0, 1) := by decide +kernel
theorem dX0_repeats_11 : decode cX0_repeats 11 = .ok (.istore_n 2, 1) := by decide +kernel
theorem dX0_repeats_12 : decode cX0_repeats 12 = .ok (.iload_n 2, 1) := by decide +kernel
theorem dX0_repeats_13 : decode cX0_repeats 13 = .ok (.iload_n 1, 1) := by decide +kernel
theorem dX0_repeats_14 : decode cX0_repeats 14 = .ok (.if_icmp .ge 20, 3) := by decide +kernel
theorem dX0_repeats_17 : decode cX0_repeats 17 = .ok (.aload_n 0, 1) := by decide +kernel
theorem dX0_repeats_18 : decode cX0_repeats 18 = .ok (.iload_n 1, 1) := by decide +kernel
theorem dX0_repeats_19 : decode cX0_repeats 19 = .ok (.iload_n 2, 1) := by decide +kernel
theorem dX0_repeats_20 : decode cX0_repeats 20 = .ok (.invokevirtual 95, 3) := by decide +kernel
theorem dX0_repeats_23 : decode cX0_repeats 23 = .ok (.ifCond .eq 5, 3) := by decide +kernel
theorem dX0_repeats_26 : decode cX0_repeats 26 = .ok (.iconst 1, 1) := by decide +kernel
theorem dX0_repeats_27 : decode cX0_repeats 27 = .ok (.ireturn, 1) := by decide +kernel
theorem dX0_repeats_28 : decode cX0_repeats 28 = .ok (.iinc 2 1, 3) := by decide +kernel
theorem dX0_repeats_31 : decode cX0_repeats 31 = .ok (.goto (-19), 3) := by decide +kernel
theorem dX0_repeats_34 : decode cX0_repeats 34 = .ok (.iinc 1 1, 3) := by decide +kernel
theorem dX0_repeats_37 : decode cX0_repeats 37 = .ok (.goto (-35), 3) := by decide +kernel
theorem dX0_repeats_40 : decode cX0_repeats 40 = .ok (.iconst 0, 1) := by decide +kernel
theorem dX0_repeats_41 : decode cX0_repeats 41 = .ok (.ireturn, 1) := by decide +kernel
theorem dX0_sameState_0 : decode cX0_sameState 0 = .ok (.iconst 1, 1) := by decide +kernel
theorem dX0_sameState_1 : decode cX0_sameState 1 = .ok (.istore_n 3, 1) := by decide +kernel
theorem dX0_sameState_2 : decode cX0_sameState 2 = .ok (.iload_n 3, 1) := by decide +kernel
theorem dX0_sameState_3 : decode cX0_sameState 3 = .ok (.iconst 5, 1) := by decide +kernel
theorem dX0_sameState_4 : decode cX0_sameState 4 = .ok (.if_icmp .ge 45, 3) := by decide +kernel
theorem dX0_sameState_7 : decode cX0_sameState 7 = .ok (.aload_n 0, 1) := by decide +kernel
theorem dX0_sameState_8 : decode cX0_sameState 8 = .ok (.getfield 22, 3) := by decide +kernel
theorem dX0_sameState_11 : decode cX0_sameState 11 = .ok (.bipush 16, 2) := by decide +kernel
theorem dX0_sameState_13 : decode cX0_sameState 13 = .ok (.iload_n 1, 1) := by decide +kernel
theorem dX0_sameState_14 : decode cX0_sameState 14 = .ok (.imul, 1) := by decide +kernel
theorem dX0_sameState_15 : decode cX0_sameState 15 = .ok (.iload_n 3, 1) := by decide +kernel
theorem dX0_sameState_16 : decode cX0_sameState 16 = .ok (.iadd, 1) := by decide +kernel
theorem dX0_sameState_17 : decode cX0_sameState 17 = .ok (.iaload, 1) := by decide +kernel
theorem dX0_sameState_18 : decode cX0_sameState 18 = .ok (.istore 4, 2) := by decide +kernel
theorem dX0_sameState_20 : decode cX0_sameState 20 = .ok (.iload 4, 2) := by decide +kernel
theorem dX0_sameState_22 : decode cX0_sameState 22 = .ok (.ifCond .lt 19, 3) := by decide +kernel
theorem dX0_sameState_25 : decode cX0_sameState 25 = .ok (.iload 4, 2) := by decide +kernel
theorem dX0_sameState_27 : decode cX0_sameState 27 = .ok (.aload_n 0, 1) := by decide +kernel
theorem dX0_sameState_28 : decode cX0_sameState 28 = .ok (.getfield 22, 3) := by decide +kernel
theorem dX0_sameState_31 : decode cX0_sameState 31 = .ok (.bipush 16, 2) := by decide +kernel
theorem dX0_sameState_33 : decode cX0_sameState 33 = .ok (.iload_n 2, 1) := by decide +kernel
theorem dX0_sameState_34 : decode cX0_sameState 34 = .ok (.imul, 1) := by decide +kernel
theorem dX0_sameState_35 : decode cX0_sameState 35 = .ok (.iload_n 3, 1) := by decide +kernel
theorem dX0_sameState_36 : decode cX0_sameState 36 = .ok (.iadd, 1) := by decide +kernel
theorem dX0_sameState_37 : decode cX0_sameState 37 = .ok (.iaload, 1) := by decide +kernel
theorem dX0_sameState_38 : decode cX0_sameState 38 = .ok (.if_icmp .eq 5, 3) := by decide +kernel
theorem dX0_sameState_41 : decode cX0_sameState 41 = .ok (.iconst 0, 1) := by decide +kernel
theorem dX0_sameState_42 : decode cX0_sameState 42 = .ok (.ireturn, 1) := by decide +kernel
theorem dX0_sameState_43 : decode cX0_sameState 43 = .ok (.iinc 3 1, 3) := by decide +kernel
theorem dX0_sameState_46 : decode cX0_sameState 46 = .ok (.goto (-44), 3) := by decide +kernel
theorem dX0_sameState_49 : decode cX0_sameState 49 = .ok (.iconst 1, 1) := by decide +kernel
theorem dX0_sameState_50 : decode cX0_sameState 50 = .ok (.ireturn, 1) := by decide +kernel
theorem dX0_goBack_0 : decode cX0_goBack 0 = .ok (.iconst 0, 1) := by decide +kernel
theorem dX0_goBack_1 : decode cX0_goBack 1 = .ok (.istore_n 1, 1) := by decide +kernel
theorem dX0_goBack_2 : decode cX0_goBack 2 = .ok (.iload_n 1, 1) := by decide +kernel
theorem dX0_goBack_3 : decode cX0_goBack 3 = .ok (.bipush 12, 2) := by decide +kernel
theorem dX0_goBack_5 : decode cX0_goBack 5 = .ok (.if_icmp .ge 108, 3) := by decide +kernel
theorem dX0_goBack_8 : decode cX0_goBack 8 = .ok (.aload_n 0, 1) := by decide +kernel
theorem dX0_goBack_9 : decode cX0_goBack 9 = .ok (.getfield 78, 3) := by decide +kernel
theorem dX0_goBack_12 : decode cX0_goBack 12 = .ok (.ifCond .le 101, 3) := by decide +kernel
theorem dX0_goBack_15 : decode cX0_goBack 15 = .ok (.aload_n 0, 1) := by decide +kernel
theorem dX0_goBack_16 : decode cX0_goBack 16 = .ok (.getfield 78, 3) := by decide +kernel
theorem dX0_goBack_19 : decode cX0_goBack 19 = .ok (.iconst 1, 1) := by decide +kernel
theorem dX0_goBack_20 : decode cX0_goBack 20 = .ok (.isub, 1) := by decide +kernel
theorem dX0_goBack_21 : decode cX0_goBack 21 = .ok (.istore_n 2, 1) := by decide +kernel
theorem dX0_goBack_22 : decode cX0_goBack 22 = .ok (.aload_n 0, 1) := by decide +kernel
theorem dX0_goBack_23 : decode cX0_goBack 23 = .ok (.getfield 75, 3) := by decide +kernel
theorem dX0_goBack_26 : decode cX0_goBack 26 = .ok (.aload_n 0, 1) := by decide +kernel
theorem dX0_goBack_27 : decode cX0_goBack 27 = .ok (.getfield 31, 3) := by decide +kernel
theorem dX0_goBack_30 : decode cX0_goBack 30 = .ok (.iload_n 2, 1) := by decide +kernel
theorem dX0_goBack_31 : decode cX0_goBack 31 = .ok (.iaload, 1) := by decide +kernel
theorem dX0_goBack_32 : decode cX0_goBack 32 = .ok (.if_icmp .le 31, 3) := by decide +kernel
theorem dX0_goBack_35 : decode cX0_goBack 35 = .ok (.aload_n 0, 1) := by decide +kernel
theorem dX0_goBack_36 : decode cX0_goBack 36 = .ok (.dup, 1) := by decide +kernel
theorem dX0_goBack_37 : decode cX0_goBack 37 = .ok (.getfield 75, 3) := by decide +kernel
theorem dX0_goBack_40 : decode cX0_goBack 40 = .ok (.iconst 1, 1) := by decide +kernel
theorem dX0_goBack_41 : decode cX0_goBack 41 = .ok (.isub, 1) := by decide +kernel
theorem dX0_goBack_42 : decode cX0_goBack 42 = .ok (.putfield 75, 3) := by decide +kernel
theorem dX0_goBack_45 : decode cX0_goBack 45 = .ok (.aload_n 0, 1) := by decide +kernel
theorem dX0_goBack_46 : decode cX0_goBack 46 = .ok (.getfield 22, 3) := by decide +kernel
theorem dX0_goBack_49 : decode cX0_goBack 49 = .ok (.aload_n 0, 1) := by decide +kernel
theorem dX0_goBack_50 : decode cX0_goBack 50 = .ok (.getfield 25, 3) := by decide +kernel
theorem dX0_goBack_53 : decode cX0_goBack 53 = .ok (.aload_n 0, 1) := by decide +kernel
theorem dX0_goBack_54 : decode cX0_goBack 54 = .ok (.getfield 75, 3) := by decide +kernel
theorem dX0_goBack_57 : decode cX0_goBack 57 = .ok (.iaload, 1) := by decide +kernel
theorem dX0_goBack_58 : decode cX0_goBack 58 = .ok (.iconst (-1), 1) := by decide +kernel
theorem dX0_goBack_59 : decode cX0_goBack 59 = .ok (.iastore, 1) := by decide +kernel
theorem dX0_goBack_60 : decode cX0_goBack 60 = .ok (.goto (-38), 3) := by decide +kernel
theorem dX0_goBack_63 : decode cX0_goBack 63 = .ok (.aload_n 0, 1) := by decide +kernel
theorem dX0_goBack_64 : decode cX0_goBack 64 = .ok (.getfield 34, 3) := by decide +kernel
theorem dX0_goBack_67 : decode cX0_goBack 67 = .ok (.iload_n 2, 1) := by decide +kernel
theorem dX0_goBack_68 : decode cX0_goBack 68 = .ok (.baload, 1) := by decide +kernel
theorem dX0_goBack_69 : decode cX0_goBack 69 = .ok (.ifCond .ne 28, 3) := by decide +kernel
theorem dX0_goBack_72 : decode cX0_goBack 72 = .ok (.aload_n 0, 1) := by decide +kernel
theorem dX0_goBack_73 : decode cX0_goBack 73 = .ok (.getfield 34, 3) := by decide +kernel
theorem dX0_goBack_76 : decode cX0_goBack 76 = .ok (.iload_n 2, 1) := by decide +kernel
theorem dX0_goBack_77 : decode cX0_goBack 77 = .ok (.iconst 1, 1) := by decide +kernel
theorem dX0_goBack_78 : decode cX0_goBack 78 = .ok (.bastore, 1) := by decide +kernel
theorem dX0_goBack_79 : decode cX0_goBack 79 = .ok (.aload_n 0, 1) := by decide +kernel
theorem dX0_goBack_80 : decode cX0_goBack 80 = .ok (.iconst 0, 1) := by decide +kernel
theorem dX0_goBack_81 : decode cX0_goBack 81 = .ok (.putfield 81, 3) := by decide +kernel
theorem dX0_goBack_84 : decode cX0_goBack 84 = .ok (.aload_n 0, 1) := by decide +kernel
theorem dX0_goBack_85 : decode cX0_goBack 85 = .ok (.aload_n 0, 1) := by decide +kernel
theorem dX0_goBack_86 : decode cX0_goBack 86 = .ok (.getfield 28, 3) := by decide +kernel
theorem dX0_goBack_89 : decode cX0_goBack 89 = .ok (.iload_n 2, 1) := by decide +kernel
theorem dX0_goBack_90 : decode cX0_goBack 90 = .ok (.iaload, 1) := by decide +kernel
theorem dX0_goBack_91 : decode cX0_goBack 91 = .ok (.iconst 1, 1) := by decide +kernel
theorem dX0_goBack_92 : decode cX0_goBack 92 = .ok (.invokevirtual 53, 3) := by decide +kernel
theorem dX0_goBack_95 : decode cX0_goBack 95 = .ok (.iconst 1, 1) := by decide +kernel
theorem dX0_goBack_96 : decode cX0_goBack 96 = .ok (.ireturn, 1) := by decide +kernel
theorem dX0_goBack_97 : decode cX0_goBack 97 = .ok (.aload_n 0, 1) := by decide +kernel
theorem dX0_goBack_98 : decode cX0_goBack 98 = .ok (.dup, 1) := by decide +kernel
theorem dX0_goBack_99 : decode cX0_goBack 99 = .ok (.getfield 78, 3) := by decide +kernel
theorem dX0_goBack_102 : decode cX0_goBack 102 = .ok (.iconst 1, 1) := by decide +kernel
theorem dX0_goBack_103 : decode cX0_goBack 103 = .ok (.isub, 1) := by decide +kernel
theorem dX0_goBack_104 : decode cX0_goBack 104 = .ok (.putfield 78, 3) := by decide +kernel
theorem dX0_goBack_107 : decode cX0_goBack 107 = .ok (.iinc 1 1, 3) := by decide +kernel
theorem dX0_goBack_110 : decode cX0_goBack 110 = .ok (.goto (-108), 3) := by decide +kernel
theorem dX0_goBack_113 : decode cX0_goBack 113 = .ok (.iconst 0, 1) := by decide +kernel
theorem dX0_goBack_114 : decode cX0_goBack 114 = .ok (.ireturn, 1) := by decide +kernel
theorem dX0_choose_0 : decode cX0_choose 0 = .ok (.iconst (-1), 1) := by decide +kernel
theorem dX0_choose_1 : decode cX0_choose 1 = .ok (.istore_n 1, 1) := by decide +kernel
theorem dX0_choose_2 : decode cX0_choose 2 = .ok (.aload_n 0, 1) := by decide +kernel
theorem dX0_choose_3 : decode cX0_choose 3 = .ok (.getfield 72, 3) := by decide +kernel
theorem dX0_choose_6 : decode cX0_choose 6 = .ok (.istore_n 2, 1) := by decide +kernel
theorem dX0_choose_7 : decode cX0_choose 7 = .ok (.iload_n 2, 1) := by decide +kernel
theorem dX0_choose_8 : decode cX0_choose 8 = .ok (.ifCond .lt 34, 3) := by decide +kernel
theorem dX0_choose_11 : decode cX0_choose 11 = .ok (.aload_n 0, 1) := by decide +kernel
theorem dX0_choose_12 : decode cX0_choose 12 = .ok (.getfield 22, 3) := by decide +kernel
theorem dX0_choose_15 : decode cX0_choose 15 = .ok (.bipush 16, 2) := by decide +kernel
theorem dX0_choose_17 : decode cX0_choose 17 = .ok (.iload_n 2, 1) := by decide +kernel
theorem dX0_choose_18 : decode cX0_choose 18 = .ok (.imul, 1) := by decide +kernel
theorem dX0_choose_19 : decode cX0_choose 19 = .ok (.iconst 5, 1) := by decide +kernel
theorem dX0_choose_20 : decode cX0_choose 20 = .ok (.iadd, 1) := by decide +kernel
theorem dX0_choose_21 : decode cX0_choose 21 = .ok (.iaload, 1) := by decide +kernel
theorem dX0_choose_22 : decode cX0_choose 22 = .ok (.ifCond .ge 12, 3) := by decide +kernel
theorem dX0_choose_25 : decode cX0_choose 25 = .ok (.bipush 16, 2) := by decide +kernel
theorem dX0_choose_27 : decode cX0_choose 27 = .ok (.iload_n 2, 1) := by decide +kernel
theorem dX0_choose_28 : decode cX0_choose 28 = .ok (.imul, 1) := by decide +kernel
theorem dX0_choose_29 : decode cX0_choose 29 = .ok (.iconst 5, 1) := by decide +kernel
theorem dX0_choose_30 : decode cX0_choose 30 = .ok (.iadd, 1) := by decide +kernel
theorem dX0_choose_31 : decode cX0_choose 31 = .ok (.goto 4, 3) := by decide +kernel
theorem dX0_choose_34 : decode cX0_choose 34 = .ok (.iload_n 1, 1) := by decide +kernel
theorem dX0_choose_35 : decode cX0_choose 35 = .ok (.istore_n 1, 1) := by decide +kernel
theorem dX0_choose_36 : decode cX0_choose 36 = .ok (.iinc 2 (-1), 3) := by decide +kernel
theorem dX0_choose_39 : decode cX0_choose 39 = .ok (.goto (-32), 3) := by decide +kernel
theorem dX0_choose_42 : decode cX0_choose 42 = .ok (.iconst 1, 1) := by decide +kernel
theorem dX0_choose_43 : decode cX0_choose 43 = .ok (.istore_n 2, 1) := by decide +kernel
theorem dX0_choose_44 : decode cX0_choose 44 = .ok (.iload_n 2, 1) := by decide +kernel
theorem dX0_choose_45 : decode cX0_choose 45 = .ok (.iconst 5, 1) := by decide +kernel
theorem dX0_choose_46 : decode cX0_choose 46 = .ok (.if_icmp .ge 24, 3) := by decide +kernel
theorem dX0_choose_49 : decode cX0_choose 49 = .ok (.aload_n 0, 1) := by decide +kernel
theorem dX0_choose_50 : decode cX0_choose 50 = .ok (.getfield 22, 3) := by decide +kernel
theorem dX0_choose_53 : decode cX0_choose 53 = .ok (.iload_n 2, 1) := by decide +kernel
theorem dX0_choose_54 : decode cX0_choose 54 = .ok (.iaload, 1) := by decide +kernel
end
section
set_option maxRecDepth 100000
theorem dX0_choose_55 : decode cX0_choose 55 = .ok (.ifCond .ge 7, 3) := by decide +kernel
theorem dX0_choose_58 : decode cX0_choose 58 = .ok (.iload_n 2, 1) := by decide +kernel
theorem dX0_choose_59 : decode cX0_choose 59 = .ok (.goto 4, 3) := by decide +kernel
theorem dX0_choose_62 : decode cX0_choose 62 = .ok (.iload_n 1, 1) := by decide +kernel
theorem dX0_choose_63 : decode cX0_choose 63 = .ok (.istore_n 1, 1) := by decide +kernel
theorem dX0_choose_64 : decode cX0_choose 64 = .ok (.iinc 2 1, 3) := by decide +kernel
theorem dX0_choose_67 : decode cX0_choose 67 = .ok (.goto (-23), 3) := by decide +kernel
theorem dX0_choose_70 : decode cX0_choose 70 = .ok (.iload_n 1, 1) := by decide +kernel
theorem dX0_choose_71 : decode cX0_choose 71 = .ok (.ifCond .ge 5, 3) := by decide +kernel
theorem dX0_choose_74 : decode cX0_choose 74 = .ok (.iconst 0, 1) := by decide +kernel
theorem dX0_choose_75 : decode cX0_choose 75 = .ok (.ireturn, 1) := by decide +kernel
theorem dX0_choose_76 : decode cX0_choose 76 = .ok (.aload_n 0, 1) := by decide +kernel
theorem dX0_choose_77 : decode cX0_choose 77 = .ok (.getfield 28, 3) := by decide +kernel
theorem dX0_choose_80 : decode cX0_choose 80 = .ok (.aload_n 0, 1) := by decide +kernel
theorem dX0_choose_81 : decode cX0_choose 81 = .ok (.getfield 78, 3) := by decide +kernel
theorem dX0_choose_84 : decode cX0_choose 84 = .ok (.iload_n 1, 1) := by decide +kernel
theorem dX0_choose_85 : decode cX0_choose 85 = .ok (.iastore, 1) := by decide +kernel
theorem dX0_choose_86 : decode cX0_choose 86 = .ok (.aload_n 0, 1) := by decide +kernel
theorem dX0_choose_87 : decode cX0_choose 87 = .ok (.getfield 31, 3) := by decide +kernel
theorem dX0_choose_90 : decode cX0_choose 90 = .ok (.aload_n 0, 1) := by decide +kernel
theorem dX0_choose_91 : decode cX0_choose 91 = .ok (.getfield 78, 3) := by decide +kernel
theorem dX0_choose_94 : decode cX0_choose 94 = .ok (.aload_n 0, 1) := by decide +kernel
theorem dX0_choose_95 : decode cX0_choose 95 = .ok (.getfield 75, 3) := by decide +kernel
theorem dX0_choose_98 : decode cX0_choose 98 = .ok (.iastore, 1) := by decide +kernel
theorem dX0_choose_99 : decode cX0_choose 99 = .ok (.aload_n 0, 1) := by decide +kernel
theorem dX0_choose_100 : decode cX0_choose 100 = .ok (.getfield 34, 3) := by decide +kernel
theorem dX0_choose_103 : decode cX0_choose 103 = .ok (.aload_n 0, 1) := by decide +kernel
theorem dX0_choose_104 : decode cX0_choose 104 = .ok (.getfield 78, 3) := by decide +kernel
theorem dX0_choose_107 : decode cX0_choose 107 = .ok (.iconst 0, 1) := by decide +kernel
theorem dX0_choose_108 : decode cX0_choose 108 = .ok (.bastore, 1) := by decide +kernel
theorem dX0_choose_109 : decode cX0_choose 109 = .ok (.aload_n 0, 1) := by decide +kernel
theorem dX0_choose_110 : decode cX0_choose 110 = .ok (.dup, 1) := by decide +kernel
theorem dX0_choose_111 : decode cX0_choose 111 = .ok (.getfield 78, 3) := by decide +kernel
theorem dX0_choose_114 : decode cX0_choose 114 = .ok (.iconst 1, 1) := by decide +kernel
theorem dX0_choose_115 : decode cX0_choose 115 = .ok (.iadd, 1) := by decide +kernel
theorem dX0_choose_116 : decode cX0_choose 116 = .ok (.putfield 78, 3) := by decide +kernel
theorem dX0_choose_119 : decode cX0_choose 119 = .ok (.aload_n 0, 1) := by decide +kernel
theorem dX0_choose_120 : decode cX0_choose 120 = .ok (.iload_n 1, 1) := by decide +kernel
theorem dX0_choose_121 : decode cX0_choose 121 = .ok (.iconst 0, 1) := by decide +kernel
theorem dX0_choose_122 : decode cX0_choose 122 = .ok (.invokevirtual 53, 3) := by decide +kernel
theorem dX0_choose_125 : decode cX0_choose 125 = .ok (.iconst 1, 1) := by decide +kernel
theorem dX0_choose_126 : decode cX0_choose 126 = .ok (.ireturn, 1) := by decide +kernel
theorem dX0_holds_0 : decode cX0_holds 0 = .ok (.iload_n 1, 1) := by decide +kernel
theorem dX0_holds_1 : decode cX0_holds 1 = .ok (.ifCond .lt 9, 3) := by decide +kernel
theorem dX0_holds_4 : decode cX0_holds 4 = .ok (.iload_n 1, 1) := by decide +kernel
theorem dX0_holds_5 : decode cX0_holds 5 = .ok (.bipush 6, 2) := by decide +kernel
theorem dX0_holds_7 : decode cX0_holds 7 = .ok (.if_icmp .le 5, 3) := by decide +kernel
theorem dX0_holds_10 : decode cX0_holds 10 = .ok (.iconst (-1), 1) := by decide +kernel
theorem dX0_holds_11 : decode cX0_holds 11 = .ok (.ireturn, 1) := by decide +kernel
theorem dX0_holds_12 : decode cX0_holds 12 = .ok (.aload_n 0, 1) := by decide +kernel
theorem dX0_holds_13 : decode cX0_holds 13 = .ok (.iload_n 1, 1) := by decide +kernel
theorem dX0_holds_14 : decode cX0_holds 14 = .ok (.iconst 0, 1) := by decide +kernel
theorem dX0_holds_15 : decode cX0_holds 15 = .ok (.iconst 1, 1) := by decide +kernel
theorem dX0_holds_16 : decode cX0_holds 16 = .ok (.invokevirtual 64, 3) := by decide +kernel
theorem dX0_holds_19 : decode cX0_holds 19 = .ok (.ifCond .eq 7, 3) := by decide +kernel
theorem dX0_holds_22 : decode cX0_holds 22 = .ok (.iconst 0, 1) := by decide +kernel
theorem dX0_holds_23 : decode cX0_holds 23 = .ok (.goto 4, 3) := by decide +kernel
theorem dX0_holds_26 : decode cX0_holds 26 = .ok (.iconst 1, 1) := by decide +kernel
theorem dX0_holds_27 : decode cX0_holds 27 = .ok (.ireturn, 1) := by decide +kernel
theorem dX0_proof_0 : decode cX0_proof 0 = .ok (.iconst 0, 1) := by decide +kernel
theorem dX0_proof_1 : decode cX0_proof 1 = .ok (.istore_n 1, 1) := by decide +kernel
theorem dX0_proof_2 : decode cX0_proof 2 = .ok (.iload_n 1, 1) := by decide +kernel
theorem dX0_proof_3 : decode cX0_proof 3 = .ok (.bipush 6, 2) := by decide +kernel
theorem dX0_proof_5 : decode cX0_proof 5 = .ok (.if_icmp .gt 45, 3) := by decide +kernel
theorem dX0_proof_8 : decode cX0_proof 8 = .ok (.aload_n 0, 1) := by decide +kernel
theorem dX0_proof_9 : decode cX0_proof 9 = .ok (.iload_n 1, 1) := by decide +kernel
theorem dX0_proof_10 : decode cX0_proof 10 = .ok (.iconst 0, 1) := by decide +kernel
theorem dX0_proof_11 : decode cX0_proof 11 = .ok (.iconst 1, 1) := by decide +kernel
theorem dX0_proof_12 : decode cX0_proof 12 = .ok (.invokevirtual 64, 3) := by decide +kernel
theorem dX0_proof_15 : decode cX0_proof 15 = .ok (.ifCond .ne 7, 3) := by decide +kernel
theorem dX0_proof_18 : decode cX0_proof 18 = .ok (.iconst 1, 1) := by decide +kernel
theorem dX0_proof_19 : decode cX0_proof 19 = .ok (.goto 4, 3) := by decide +kernel
theorem dX0_proof_22 : decode cX0_proof 22 = .ok (.iconst 0, 1) := by decide +kernel
theorem dX0_proof_23 : decode cX0_proof 23 = .ok (.istore_n 2, 1) := by decide +kernel
theorem dX0_proof_24 : decode cX0_proof 24 = .ok (.iload_n 2, 1) := by decide +kernel
theorem dX0_proof_25 : decode cX0_proof 25 = .ok (.ifCond .eq 5, 3) := by decide +kernel
theorem dX0_proof_28 : decode cX0_proof 28 = .ok (.iload_n 1, 1) := by decide +kernel
theorem dX0_proof_29 : decode cX0_proof 29 = .ok (.ireturn, 1) := by decide +kernel
theorem dX0_proof_30 : decode cX0_proof 30 = .ok (.aload_n 0, 1) := by decide +kernel
theorem dX0_proof_31 : decode cX0_proof 31 = .ok (.iload_n 1, 1) := by decide +kernel
theorem dX0_proof_32 : decode cX0_proof 32 = .ok (.iconst 1, 1) := by decide +kernel
theorem dX0_proof_33 : decode cX0_proof 33 = .ok (.iconst 0, 1) := by decide +kernel
theorem dX0_proof_34 : decode cX0_proof 34 = .ok (.invokevirtual 64, 3) := by decide +kernel
theorem dX0_proof_37 : decode cX0_proof 37 = .ok (.istore_n 3, 1) := by decide +kernel
theorem dX0_proof_38 : decode cX0_proof 38 = .ok (.iload_n 3, 1) := by decide +kernel
theorem dX0_proof_39 : decode cX0_proof 39 = .ok (.ifCond .eq 5, 3) := by decide +kernel
theorem dX0_proof_42 : decode cX0_proof 42 = .ok (.iconst (-1), 1) := by decide +kernel
theorem dX0_proof_43 : decode cX0_proof 43 = .ok (.ireturn, 1) := by decide +kernel
theorem dX0_proof_44 : decode cX0_proof 44 = .ok (.iinc 1 1, 3) := by decide +kernel
theorem dX0_proof_47 : decode cX0_proof 47 = .ok (.goto (-45), 3) := by decide +kernel
theorem dX0_proof_50 : decode cX0_proof 50 = .ok (.iconst (-1), 1) := by decide +kernel
theorem dX0_proof_51 : decode cX0_proof 51 = .ok (.ireturn, 1) := by decide +kernel
theorem dX0_witness_0 : decode cX0_witness 0 = .ok (.aload_n 0, 1) := by decide +kernel
theorem dX0_witness_1 : decode cX0_witness 1 = .ok (.bipush 6, 2) := by decide +kernel
theorem dX0_witness_3 : decode cX0_witness 3 = .ok (.invokevirtual 68, 3) := by decide +kernel
theorem dX0_witness_6 : decode cX0_witness 6 = .ok (.istore_n 2, 1) := by decide +kernel
theorem dX0_witness_7 : decode cX0_witness 7 = .ok (.iload_n 2, 1) := by decide +kernel
theorem dX0_witness_8 : decode cX0_witness 8 = .ok (.ifCond .lt 12, 3) := by decide +kernel
theorem dX0_witness_11 : decode cX0_witness 11 = .ok (.iload_n 1, 1) := by decide +kernel
theorem dX0_witness_12 : decode cX0_witness 12 = .ok (.ifCond .lt 8, 3) := by decide +kernel
theorem dX0_witness_15 : decode cX0_witness 15 = .ok (.iload_n 1, 1) := by decide +kernel
theorem dX0_witness_16 : decode cX0_witness 16 = .ok (.iload_n 2, 1) := by decide +kernel
theorem dX0_witness_17 : decode cX0_witness 17 = .ok (.if_icmp .le 5, 3) := by decide +kernel
theorem dX0_witness_20 : decode cX0_witness 20 = .ok (.iconst (-1), 1) := by decide +kernel
theorem dX0_witness_21 : decode cX0_witness 21 = .ok (.ireturn, 1) := by decide +kernel
theorem dX0_witness_22 : decode cX0_witness 22 = .ok (.iconst 0, 1) := by decide +kernel
theorem dX0_witness_23 : decode cX0_witness 23 = .ok (.istore_n 3, 1) := by decide +kernel
theorem dX0_witness_24 : decode cX0_witness 24 = .ok (.iconst 1, 1) := by decide +kernel
theorem dX0_witness_25 : decode cX0_witness 25 = .ok (.istore 4, 2) := by decide +kernel
theorem dX0_witness_27 : decode cX0_witness 27 = .ok (.iload 4, 2) := by decide +kernel
theorem dX0_witness_29 : decode cX0_witness 29 = .ok (.iconst 5, 1) := by decide +kernel
theorem dX0_witness_30 : decode cX0_witness 30 = .ok (.if_icmp .ge 29, 3) := by decide +kernel
theorem dX0_witness_33 : decode cX0_witness 33 = .ok (.iload_n 3, 1) := by decide +kernel
theorem dX0_witness_34 : decode cX0_witness 34 = .ok (.aload_n 0, 1) := by decide +kernel
theorem dX0_witness_35 : decode cX0_witness 35 = .ok (.getfield 22, 3) := by decide +kernel
theorem dX0_witness_38 : decode cX0_witness 38 = .ok (.bipush 16, 2) := by decide +kernel
theorem dX0_witness_40 : decode cX0_witness 40 = .ok (.iload_n 1, 1) := by decide +kernel
theorem dX0_witness_41 : decode cX0_witness 41 = .ok (.imul, 1) := by decide +kernel
theorem dX0_witness_42 : decode cX0_witness 42 = .ok (.iload 4, 2) := by decide +kernel
theorem dX0_witness_44 : decode cX0_witness 44 = .ok (.iadd, 1) := by decide +kernel
theorem dX0_witness_45 : decode cX0_witness 45 = .ok (.iaload, 1) := by decide +kernel
theorem dX0_witness_46 : decode cX0_witness 46 = .ok (.iload 4, 2) := by decide +kernel
theorem dX0_witness_48 : decode cX0_witness 48 = .ok (.iconst 1, 1) := by decide +kernel
theorem dX0_witness_49 : decode cX0_witness 49 = .ok (.isub, 1) := by decide +kernel
theorem dX0_witness_50 : decode cX0_witness 50 = .ok (.ishl, 1) := by decide +kernel
theorem dX0_witness_51 : decode cX0_witness 51 = .ok (.ior, 1) := by decide +kernel
theorem dX0_witness_52 : decode cX0_witness 52 = .ok (.istore_n 3, 1) := by decide +kernel
theorem dX0_witness_53 : decode cX0_witness 53 = .ok (.iinc 4 1, 3) := by decide +kernel
theorem dX0_witness_56 : decode cX0_witness 56 = .ok (.goto (-29), 3) := by decide +kernel
theorem dX0_witness_59 : decode cX0_witness 59 = .ok (.iload_n 3, 1) := by decide +kernel
theorem dX0_witness_60 : decode cX0_witness 60 = .ok (.ireturn, 1) := by decide +kernel
theorem dX0_input_0 : decode cX0_input 0 = .ok (.aload_n 0, 1) := by decide +kernel
theorem dX0_input_1 : decode cX0_input 1 = .ok (.bipush 6, 2) := by decide +kernel
theorem dX0_input_3 : decode cX0_input 3 = .ok (.invokevirtual 68, 3) := by decide +kernel
theorem dX0_input_6 : decode cX0_input 6 = .ok (.istore_n 2, 1) := by decide +kernel
theorem dX0_input_7 : decode cX0_input 7 = .ok (.iload_n 2, 1) := by decide +kernel
theorem dX0_input_8 : decode cX0_input 8 = .ok (.ifCond .lt 12, 3) := by decide +kernel
theorem dX0_input_11 : decode cX0_input 11 = .ok (.iload_n 1, 1) := by decide +kernel
theorem dX0_input_12 : decode cX0_input 12 = .ok (.ifCond .lt 8, 3) := by decide +kernel
theorem dX0_input_15 : decode cX0_input 15 = .ok (.iload_n 1, 1) := by decide +kernel
theorem dX0_input_16 : decode cX0_input 16 = .ok (.iload_n 2, 1) := by decide +kernel
theorem dX0_input_17 : decode cX0_input 17 = .ok (.if_icmp .le 7, 3) := by decide +kernel
theorem dX0_input_20 : decode cX0_input 20 = .ok (.iconst (-1), 1) := by decide +kernel
theorem dX0_input_21 : decode cX0_input 21 = .ok (.goto 14, 3) := by decide +kernel
theorem dX0_input_24 : decode cX0_input 24 = .ok (.aload_n 0, 1) := by decide +kernel
theorem dX0_input_25 : decode cX0_input 25 = .ok (.getfield 22, 3) := by decide +kernel
theorem dX0_input_28 : decode cX0_input 28 = .ok (.bipush 16, 2) := by decide +kernel
theorem dX0_input_30 : decode cX0_input 30 = .ok (.iload_n 1, 1) := by decide +kernel
theorem dX0_input_31 : decode cX0_input 31 = .ok (.imul, 1) := by decide +kernel
theorem dX0_input_32 : decode cX0_input 32 = .ok (.iconst 5, 1) := by decide +kernel
theorem dX0_input_33 : decode cX0_input 33 = .ok (.iadd, 1) := by decide +kernel
theorem dX0_input_34 : decode cX0_input 34 = .ok (.iaload, 1) := by decide +kernel
theorem dX0_input_35 : decode cX0_input 35 = .ok (.ireturn, 1) := by decide +kernel
theorem dX1_init_0 : decode cX1_init 0 = .ok (.aload_n 0, 1) := by decide +kernel
theorem dX1_init_1 : decode cX1_init 1 = .ok (.invokespecial 1, 3) := by decide +kernel
theorem dX1_init_4 : decode cX1_init 4 = .ok (.aload_n 0, 1) := by decide +kernel
theorem dX1_init_5 : decode cX1_init 5 = .ok (.bipush 10, 2) := by decide +kernel
theorem dX1_init_7 : decode cX1_init 7 = .ok (.newarray .int, 2) := by decide +kernel
theorem dX1_init_9 : decode cX1_init 9 = .ok (.putfield 7, 3) := by decide +kernel
theorem dX1_init_12 : decode cX1_init 12 = .ok (.aload_n 0, 1) := by decide +kernel
theorem dX1_init_13 : decode cX1_init 13 = .ok (.bipush 10, 2) := by decide +kernel
theorem dX1_init_15 : decode cX1_init 15 = .ok (.newarray .int, 2) := by decide +kernel
theorem dX1_init_17 : decode cX1_init 17 = .ok (.putfield 13, 3) := by decide +kernel
theorem dX1_init_20 : decode cX1_init 20 = .ok (.aload_n 0, 1) := by decide +kernel
theorem dX1_init_21 : decode cX1_init 21 = .ok (.iconst 5, 1) := by decide +kernel
theorem dX1_init_22 : decode cX1_init 22 = .ok (.newarray .int, 2) := by decide +kernel
theorem dX1_init_24 : decode cX1_init 24 = .ok (.putfield 16, 3) := by decide +kernel
theorem dX1_init_27 : decode cX1_init 27 = .ok (.aload_n 0, 1) := by decide +kernel
theorem dX1_init_28 : decode cX1_init 28 = .ok (.iconst 5, 1) := by decide +kernel
theorem dX1_init_29 : decode cX1_init 29 = .ok (.newarray .int, 2) := by decide +kernel
theorem dX1_init_31 : decode cX1_init 31 = .ok (.putfield 19, 3) := by decide +kernel
theorem dX1_init_34 : decode cX1_init 34 = .ok (.aload_n 0, 1) := by decide +kernel
theorem dX1_init_35 : decode cX1_init 35 = .ok (.bipush 16, 2) := by decide +kernel
theorem dX1_init_37 : decode cX1_init 37 = .ok (.newarray .int, 2) := by decide +kernel
theorem dX1_init_39 : decode cX1_init 39 = .ok (.putfield 22, 3) := by decide +kernel
theorem dX1_init_42 : decode cX1_init 42 = .ok (.aload_n 0, 1) := by decide +kernel
theorem dX1_init_43 : decode cX1_init 43 = .ok (.bipush 7, 2) := by decide +kernel
theorem dX1_init_45 : decode cX1_init 45 = .ok (.newarray .int, 2) := by decide +kernel
theorem dX1_init_47 : decode cX1_init 47 = .ok (.putfield 25, 3) := by decide +kernel
theorem dX1_init_50 : decode cX1_init 50 = .ok (.aload_n 0, 1) := by decide +kernel
theorem dX1_init_51 : decode cX1_init 51 = .ok (.bipush 7, 2) := by decide +kernel
theorem dX1_init_53 : decode cX1_init 53 = .ok (.newarray .int, 2) := by decide +kernel
theorem dX1_init_55 : decode cX1_init 55 = .ok (.putfield 28, 3) := by decide +kernel
theorem dX1_init_58 : decode cX1_init 58 = .ok (.iconst 1, 1) := by decide +kernel
theorem dX1_init_59 : decode cX1_init 59 = .ok (.istore_n 1, 1) := by decide +kernel
theorem dX1_init_60 : decode cX1_init 60 = .ok (.iload_n 1, 1) := by decide +kernel
theorem dX1_init_61 : decode cX1_init 61 = .ok (.iconst 5, 1) := by decide +kernel
theorem dX1_init_62 : decode cX1_init 62 = .ok (.if_icmp .ge 18, 3) := by decide +kernel
theorem dX1_init_65 : decode cX1_init 65 = .ok (.aload_n 0, 1) := by decide +kernel
theorem dX1_init_66 : decode cX1_init 66 = .ok (.getfield 16, 3) := by decide +kernel
theorem dX1_init_69 : decode cX1_init 69 = .ok (.iload_n 1, 1) := by decide +kernel
theorem dX1_init_70 : decode cX1_init 70 = .ok (.iconst 2, 1) := by decide +kernel
theorem dX1_init_71 : decode cX1_init 71 = .ok (.iload_n 1, 1) := by decide +kernel
theorem dX1_init_72 : decode cX1_init 72 = .ok (.imul, 1) := by decide +kernel
theorem dX1_init_73 : decode cX1_init 73 = .ok (.iastore, 1) := by decide +kernel
theorem dX1_init_74 : decode cX1_init 74 = .ok (.iinc 1 1, 3) := by decide +kernel
theorem dX1_init_77 : decode cX1_init 77 = .ok (.goto (-17), 3) := by decide +kernel
theorem dX1_init_80 : decode cX1_init 80 = .ok (.return_, 1) := by decide +kernel
theorem dX1_gate_0 : decode cX1_gate 0 = .ok (.aload_n 0, 1) := by decide +kernel
theorem dX1_gate_1 : decode cX1_gate 1 = .ok (.iload_n 1, 1) := by decide +kernel
theorem dX1_gate_2 : decode cX1_gate 2 = .ok (.invokevirtual 35, 3) := by decide +kernel
theorem dX1_gate_5 : decode cX1_gate 5 = .ok (.ifCond .ne 20, 3) := by decide +kernel
theorem dX1_gate_8 : decode cX1_gate 8 = .ok (.aload_n 0, 1) := by decide +kernel
theorem dX1_gate_9 : decode cX1_gate 9 = .ok (.iload_n 2, 1) := by decide +kernel
theorem dX1_gate_10 : decode cX1_gate 10 = .ok (.invokevirtual 35, 3) := by decide +kernel
theorem dX1_gate_13 : decode cX1_gate 13 = .ok (.ifCond .ne 12, 3) := by decide +kernel
theorem dX1_gate_16 : decode cX1_gate 16 = .ok (.aload_n 0, 1) := by decide +kernel
theorem dX1_gate_17 : decode cX1_gate 17 = .ok (.getfield 31, 3) := by decide +kernel
theorem dX1_gate_20 : decode cX1_gate 20 = .ok (.bipush 10, 2) := by decide +kernel
theorem dX1_gate_22 : decode cX1_gate 22 = .ok (.if_icmp .ne 5, 3) := by decide +kernel
theorem dX1_gate_25 : decode cX1_gate 25 = .ok (.iconst (-1), 1) := by decide +kernel
theorem dX1_gate_26 : decode cX1_gate 26 = .ok (.ireturn, 1) := by decide +kernel
theorem dX1_gate_27 : decode cX1_gate 27 = .ok (.aload_n 0, 1) := by decide +kernel
theorem dX1_gate_28 : decode cX1_gate 28 = .ok (.getfield 7, 3) := by decide +kernel
theorem dX1_gate_31 : decode cX1_gate 31 = .ok (.aload_n 0, 1) := by decide +kernel
theorem dX1_gate_32 : decode cX1_gate 32 = .ok (.getfield 31, 3) := by decide +kernel
theorem dX1_gate_35 : decode cX1_gate 35 = .ok (.iload_n 1, 1) := by decide +kernel
theorem dX1_gate_36 : decode cX1_gate 36 = .ok (.iastore, 1) := by decide +kernel
theorem dX1_gate_37 : decode cX1_gate 37 = .ok (.aload_n 0, 1) := by decide +kernel
theorem dX1_gate_38 : decode cX1_gate 38 = .ok (.getfield 13, 3) := by decide +kernel
theorem dX1_gate_41 : decode cX1_gate 41 = .ok (.aload_n 0, 1) := by decide +kernel
theorem dX1_gate_42 : decode cX1_gate 42 = .ok (.getfield 31, 3) := by decide +kernel
theorem dX1_gate_45 : decode cX1_gate 45 = .ok (.iload_n 2, 1) := by decide +kernel
theorem dX1_gate_46 : decode cX1_gate 46 = .ok (.iastore, 1) := by decide +kernel
theorem dX1_gate_47 : decode cX1_gate 47 = .ok (.aload_n 0, 1) := by decide +kernel
theorem dX1_gate_48 : decode cX1_gate 48 = .ok (.dup, 1) := by decide +kernel
theorem dX1_gate_49 : decode cX1_gate 49 = .ok (.getfield 31, 3) := by decide +kernel
theorem dX1_gate_52 : decode cX1_gate 52 = .ok (.iconst 1, 1) := by decide +kernel
theorem dX1_gate_53 : decode cX1_gate 53 = .ok (.iadd, 1) := by decide +kernel
theorem dX1_gate_54 : decode cX1_gate 54 = .ok (.putfield 31, 3) := by decide +kernel
theorem dX1_gate_57 : decode cX1_gate 57 = .ok (.iconst 5, 1) := by decide +kernel
theorem dX1_gate_58 : decode cX1_gate 58 = .ok (.aload_n 0, 1) := by decide +kernel
theorem dX1_gate_59 : decode cX1_gate 59 = .ok (.getfield 31, 3) := by decide +kernel
theorem dX1_gate_62 : decode cX1_gate 62 = .ok (.iadd, 1) := by decide +kernel
theorem dX1_gate_63 : decode cX1_gate 63 = .ok (.ireturn, 1) := by decide +kernel
theorem dX1_refused_0 : decode cX1_refused 0 = .ok (.iload_n 1, 1) := by decide +kernel
theorem dX1_refused_1 : decode cX1_refused 1 = .ok (.ifCond .lt 16, 3) := by decide +kernel
theorem dX1_refused_4 : decode cX1_refused 4 = .ok (.iload_n 1, 1) := by decide +kernel
theorem dX1_refused_5 : decode cX1_refused 5 = .ok (.iconst 2, 1) := by decide +kernel
theorem dX1_refused_6 : decode cX1_refused 6 = .ok (.bipush 6, 2) := by decide +kernel
theorem dX1_refused_8 : decode cX1_refused 8 = .ok (.aload_n 0, 1) := by decide +kernel
theorem dX1_refused_9 : decode cX1_refused 9 = .ok (.getfield 31, 3) := by decide +kernel
theorem dX1_refused_12 : decode cX1_refused 12 = .ok (.iadd, 1) := by decide +kernel
theorem dX1_refused_13 : decode cX1_refused 13 = .ok (.imul, 1) := by decide +kernel
theorem dX1_refused_14 : decode cX1_refused 14 = .ok (.if_icmp .lt 7, 3) := by decide +kernel
theorem dX1_refused_17 : decode cX1_refused 17 = .ok (.iconst 1, 1) := by decide +kernel
theorem dX1_refused_18 : decode cX1_refused 18 = .ok (.goto 4, 3) := by decide +kernel
theorem dX1_refused_21 : decode cX1_refused 21 = .ok (.iconst 0, 1) := by decide +kernel
theorem dX1_refused_22 : decode cX1_refused 22 = .ok (.ireturn, 1) := by decide +kernel
theorem dX1_next_0 : decode cX1_next 0 = .ok (.iload_n 1, 1) := by decide +kernel
theorem dX1_next_1 : decode cX1_next 1 = .ok (.invokestatic 39, 3) := by decide +kernel
theorem dX1_next_4 : decode cX1_next 4 = .ok (.ifCond .ne 11, 3) := by decide +kernel
theorem dX1_next_7 : decode cX1_next 7 = .ok (.aload_n 0, 1) := by decide +kernel
theorem dX1_next_8 : decode cX1_next 8 = .ok (.iload_n 2, 1) := by decide +kernel
theorem dX1_next_9 : decode cX1_next 9 = .ok (.invokevirtual 35, 3) := by decide +kernel
theorem dX1_next_12 : decode cX1_next 12 = .ok (.ifCond .eq 5, 3) := by decide +kernel
theorem dX1_next_15 : decode cX1_next 15 = .ok (.iconst (-1), 1) := by decide +kernel
theorem dX1_next_16 : decode cX1_next 16 = .ok (.ireturn, 1) := by decide +kernel
theorem dX1_next_17 : decode cX1_next 17 = .ok (.aload_n 0, 1) := by decide +kernel
theorem dX1_next_18 : decode cX1_next 18 = .ok (.getfield 16, 3) := by decide +kernel
theorem dX1_next_21 : decode cX1_next 21 = .ok (.iload_n 1, 1) := by decide +kernel
theorem dX1_next_22 : decode cX1_next 22 = .ok (.iaload, 1) := by decide +kernel
theorem dX1_next_23 : decode cX1_next 23 = .ok (.istore_n 3, 1) := by decide +kernel
theorem dX1_next_24 : decode cX1_next 24 = .ok (.aload_n 0, 1) := by decide +kernel
theorem dX1_next_25 : decode cX1_next 25 = .ok (.getfield 16, 3) := by decide +kernel
theorem dX1_next_28 : decode cX1_next 28 = .ok (.iload_n 1, 1) := by decide +kernel
theorem dX1_next_29 : decode cX1_next 29 = .ok (.iload_n 2, 1) := by decide +kernel
theorem dX1_next_30 : decode cX1_next 30 = .ok (.iastore, 1) := by decide +kernel
theorem dX1_next_31 : decode cX1_next 31 = .ok (.iload_n 3, 1) := by decide +kernel
theorem dX1_next_32 : decode cX1_next 32 = .ok (.ireturn, 1) := by decide +kernel
theorem dX1_badLatch_0 : decode cX1_badLatch 0 = .ok (.iload_n 0, 1) := by decide +kernel
theorem dX1_badLatch_1 : decode cX1_badLatch 1 = .ok (.iconst 1, 1) := by decide +kernel
theorem dX1_badLatch_2 : decode cX1_badLatch 2 = .ok (.if_icmp .lt 8, 3) := by decide +kernel
theorem dX1_badLatch_5 : decode cX1_badLatch 5 = .ok (.iload_n 0, 1) := by decide +kernel
theorem dX1_badLatch_6 : decode cX1_badLatch 6 = .ok (.iconst 4, 1) := by decide +kernel
theorem dX1_badLatch_7 : decode cX1_badLatch 7 = .ok (.if_icmp .le 7, 3) := by decide +kernel
theorem dX1_badLatch_10 : decode cX1_badLatch 10 = .ok (.iconst 1, 1) := by decide +kernel
theorem dX1_badLatch_11 : decode cX1_badLatch 11 = .ok (.goto 4, 3) := by decide +kernel
theorem dX1_badLatch_14 : decode cX1_badLatch 14 = .ok (.iconst 0, 1) := by decide +kernel
theorem dX1_badLatch_15 : decode cX1_badLatch 15 = .ok (.ireturn, 1) := by decide +kernel
theorem dX1_begin_0 : decode cX1_begin 0 = .ok (.iload_n 1, 1) := by decide +kernel
theorem dX1_begin_1 : decode cX1_begin 1 = .ok (.invokestatic 39, 3) := by decide +kernel
theorem dX1_begin_4 : decode cX1_begin 4 = .ok (.ifCond .ne 12, 3) := by decide +kernel
theorem dX1_begin_7 : decode cX1_begin 7 = .ok (.iload_n 2, 1) := by decide +kernel
theorem dX1_begin_8 : decode cX1_begin 8 = .ok (.ifCond .lt 8, 3) := by decide +kernel
theorem dX1_begin_11 : decode cX1_begin 11 = .ok (.iload_n 2, 1) := by decide +kernel
theorem dX1_begin_12 : decode cX1_begin 12 = .ok (.iconst 2, 1) := by decide +kernel
theorem dX1_begin_13 : decode cX1_begin 13 = .ok (.if_icmp .le 5, 3) := by decide +kernel
theorem dX1_begin_16 : decode cX1_begin 16 = .ok (.iconst (-1), 1) := by decide +kernel
theorem dX1_begin_17 : decode cX1_begin 17 = .ok (.ireturn, 1) := by decide +kernel
theorem dX1_begin_18 : decode cX1_begin 18 = .ok (.aload_n 0, 1) := by decide +kernel
theorem dX1_begin_19 : decode cX1_begin 19 = .ok (.getfield 19, 3) := by decide +kernel
theorem dX1_begin_22 : decode cX1_begin 22 = .ok (.iload_n 1, 1) := by decide +kernel
theorem dX1_begin_23 : decode cX1_begin 23 = .ok (.iload_n 2, 1) := by decide +kernel
theorem dX1_begin_24 : decode cX1_begin 24 = .ok (.iastore, 1) := by decide +kernel
theorem dX1_begin_25 : decode cX1_begin 25 = .ok (.iconst 0, 1) := by decide +kernel
theorem dX1_begin_26 : decode cX1_begin 26 = .ok (.ireturn, 1) := by decide +kernel
theorem dX1_bad_0 : decode cX1_bad 0 = .ok (.aload_n 0, 1) := by decide +kernel
theorem dX1_bad_1 : decode cX1_bad 1 = .ok (.iload_n 1, 1) := by decide +kernel
theorem dX1_bad_2 : decode cX1_bad 2 = .ok (.invokevirtual 35, 3) := by decide +kernel
theorem dX1_bad_5 : decode cX1_bad 5 = .ok (.ifCond .eq 5, 3) := by decide +kernel
theorem dX1_bad_8 : decode cX1_bad 8 = .ok (.iconst (-1), 1) := by decide +kernel
theorem dX1_bad_9 : decode cX1_bad 9 = .ok (.ireturn, 1) := by decide +kernel
theorem dX1_bad_10 : decode cX1_bad 10 = .ok (.aload_n 0, 1) := by decide +kernel
theorem dX1_bad_11 : decode cX1_bad 11 = .ok (.getfield 42, 3) := by decide +kernel
theorem dX1_bad_14 : decode cX1_bad 14 = .ok (.istore_n 2, 1) := by decide +kernel
theorem dX1_bad_15 : decode cX1_bad 15 = .ok (.aload_n 0, 1) := by decide +kernel
theorem dX1_bad_16 : decode cX1_bad 16 = .ok (.iload_n 1, 1) := by decide +kernel
theorem dX1_bad_17 : decode cX1_bad 17 = .ok (.putfield 42, 3) := by decide +kernel
theorem dX1_bad_20 : decode cX1_bad 20 = .ok (.iload_n 2, 1) := by decide +kernel
theorem dX1_bad_21 : decode cX1_bad 21 = .ok (.ireturn, 1) := by decide +kernel
theorem dX1_value_0 : decode cX1_value 0 = .ok (.aload_n 0, 1) := by decide +kernel
theorem dX1_value_1 : decode cX1_value 1 = .ok (.iload_n 1, 1) := by decide +kernel
theorem dX1_value_2 : decode cX1_value 2 = .ok (.invokevirtual 35, 3) := by decide +kernel
theorem dX1_value_5 : decode cX1_value 5 = .ok (.ifCond .ne 13, 3) := by decide +kernel
theorem dX1_value_8 : decode cX1_value 8 = .ok (.iload_n 2, 1) := by decide +kernel
theorem dX1_value_9 : decode cX1_value 9 = .ok (.ifCond .lt 9, 3) := by decide +kernel
theorem dX1_value_12 : decode cX1_value 12 = .ok (.iload_n 2, 1) := by decide +kernel
theorem dX1_value_13 : decode cX1_value 13 = .ok (.bipush 15, 2) := by decide +kernel
theorem dX1_value_15 : decode cX1_value 15 = .ok (.if_icmp .le 5, 3) := by decide +kernel
theorem dX1_value_18 : decode cX1_value 18 = .ok (.iconst (-1), 1) := by decide +kernel
theorem dX1_value_19 : decode cX1_value 19 = .ok (.ireturn, 1) := by decide +kernel
theorem dX1_value_20 : decode cX1_value 20 = .ok (.aload_n 0, 1) := by decide +kernel
theorem dX1_value_21 : decode cX1_value 21 = .ok (.iload_n 2, 1) := by decide +kernel
theorem dX1_value_22 : decode cX1_value 22 = .ok (.iload_n 3, 1) := by decide +kernel
theorem dX1_value_23 : decode cX1_value 23 = .ok (.invokevirtual 49, 3) := by decide +kernel
theorem dX1_value_26 : decode cX1_value 26 = .ok (.aload_n 0, 1) := by decide +kernel
theorem dX1_value_27 : decode cX1_value 27 = .ok (.iload_n 1, 1) := by decide +kernel
theorem dX1_value_28 : decode cX1_value 28 = .ok (.invokevirtual 45, 3) := by decide +kernel
theorem dX1_value_31 : decode cX1_value 31 = .ok (.ireturn, 1) := by decide +kernel
theorem dX1_work_0 : decode cX1_work 0 = .ok (.aload_n 0, 1) := by decide +kernel
theorem dX1_work_1 : decode cX1_work 1 = .ok (.getfield 22, 3) := by decide +kernel
theorem dX1_work_4 : decode cX1_work 4 = .ok (.iconst 0, 1) := by decide +kernel
theorem dX1_work_5 : decode cX1_work 5 = .ok (.iconst 0, 1) := by decide +kernel
theorem dX1_work_6 : decode cX1_work 6 = .ok (.iastore, 1) := by decide +kernel
theorem dX1_work_7 : decode cX1_work 7 = .ok (.iconst 1, 1) := by decide +kernel
theorem dX1_work_8 : decode cX1_work 8 = .ok (.istore_n 3, 1) := by decide +kernel
theorem dX1_work_9 : decode cX1_work 9 = .ok (.iload_n 3, 1) := by decide +kernel
theorem dX1_work_10 : decode cX1_work 10 = .ok (.iconst 5, 1) := by decide +kernel
theorem dX1_work_11 : decode cX1_work 11 = .ok (.if_icmp .ge 22, 3) := by decide +kernel
theorem dX1_work_14 : decode cX1_work 14 = .ok (.aload_n 0, 1) := by decide +kernel
theorem dX1_work_15 : decode cX1_work 15 = .ok (.getfield 22, 3) := by decide +kernel
theorem dX1_work_18 : decode cX1_work 18 = .ok (.iload_n 3, 1) := by decide +kernel
theorem dX1_work_19 : decode cX1_work 19 = .ok (.iload_n 1, 1) := by decide +kernel
theorem dX1_work_20 : decode cX1_work 20 = .ok (.iload_n 3, 1) := by decide +kernel
theorem dX1_work_21 : decode cX1_work 21 = .ok (.iconst 1, 1) := by decide +kernel
theorem dX1_work_22 : decode cX1_work 22 = .ok (.isub, 1) := by decide +kernel
theorem dX1_work_23 : decode cX1_work 23 = .ok (.ishr, 1) := by decide +kernel
theorem dX1_work_24 : decode cX1_work 24 = .ok (.iconst 1, 1) := by decide +kernel
theorem dX1_work_25 : decode cX1_work 25 = .ok (.iand, 1) := by decide +kernel
theorem dX1_work_26 : decode cX1_work 26 = .ok (.iastore, 1) := by decide +kernel
theorem dX1_work_27 : decode cX1_work 27 = .ok (.iinc 3 1, 3) := by decide +kernel
theorem dX1_work_30 : decode cX1_work 30 = .ok (.goto (-21), 3) := by decide +kernel
theorem dX1_work_33 : decode cX1_work 33 = .ok (.aload_n 0, 1) := by decide +kernel
theorem dX1_work_34 : decode cX1_work 34 = .ok (.getfield 22, 3) := by decide +kernel
theorem dX1_work_37 : decode cX1_work 37 = .ok (.iconst 5, 1) := by decide +kernel
theorem dX1_work_38 : decode cX1_work 38 = .ok (.iload_n 2, 1) := by decide +kernel
theorem dX1_work_39 : decode cX1_work 39 = .ok (.iconst 1, 1) := by decide +kernel
theorem dX1_work_40 : decode cX1_work 40 = .ok (.iand, 1) := by decide +kernel
theorem dX1_work_41 : decode cX1_work 41 = .ok (.iastore, 1) := by decide +kernel
theorem dX1_work_42 : decode cX1_work 42 = .ok (.iconst 0, 1) := by decide +kernel
theorem dX1_work_43 : decode cX1_work 43 = .ok (.istore_n 3, 1) := by decide +kernel
theorem dX1_work_44 : decode cX1_work 44 = .ok (.iload_n 3, 1) := by decide +kernel
theorem dX1_work_45 : decode cX1_work 45 = .ok (.aload_n 0, 1) := by decide +kernel
theorem dX1_work_46 : decode cX1_work 46 = .ok (.getfield 31, 3) := by decide +kernel
theorem dX1_work_49 : decode cX1_work 49 = .ok (.if_icmp .ge 39, 3) := by decide +kernel
theorem dX1_work_52 : decode cX1_work 52 = .ok (.aload_n 0, 1) := by decide +kernel
theorem dX1_work_53 : decode cX1_work 53 = .ok (.getfield 22, 3) := by decide +kernel
theorem dX1_work_56 : decode cX1_work 56 = .ok (.bipush 6, 2) := by decide +kernel
theorem dX1_work_58 : decode cX1_work 58 = .ok (.iload_n 3, 1) := by decide +kernel
theorem dX1_work_59 : decode cX1_work 59 = .ok (.iadd, 1) := by decide +kernel
theorem dX1_work_60 : decode cX1_work 60 = .ok (.aload_n 0, 1) := by decide +kernel
theorem dX1_work_61 : decode cX1_work 61 = .ok (.aload_n 0, 1) := by decide +kernel
theorem dX1_work_62 : decode cX1_work 62 = .ok (.getfield 7, 3) := by decide +kernel
theorem dX1_work_65 : decode cX1_work 65 = .ok (.iload_n 3, 1) := by decide +kernel
theorem dX1_work_66 : decode cX1_work 66 = .ok (.iaload, 1) := by decide +kernel
theorem dX1_work_67 : decode cX1_work 67 = .ok (.invokevirtual 45, 3) := by decide +kernel
theorem dX1_work_70 : decode cX1_work 70 = .ok (.aload_n 0, 1) := by decide +kernel
theorem dX1_work_71 : decode cX1_work 71 = .ok (.aload_n 0, 1) := by decide +kernel
theorem dX1_work_72 : decode cX1_work 72 = .ok (.getfield 13, 3) := by decide +kernel
theorem dX1_work_75 : decode cX1_work 75 = .ok (.iload_n 3, 1) := by decide +kernel
theorem dX1_work_76 : decode cX1_work 76 = .ok (.iaload, 1) := by decide +kernel
theorem dX1_work_77 : decode cX1_work 77 = .ok (.invokevirtual 45, 3) := by decide +kernel
theorem dX1_work_80 : decode cX1_work 80 = .ok (.imul, 1) := by decide +kernel
theorem dX1_work_81 : decode cX1_work 81 = .ok (.iastore, 1) := by decide +kernel
theorem dX1_work_82 : decode cX1_work 82 = .ok (.iinc 3 1, 3) := by decide +kernel
theorem dX1_work_85 : decode cX1_work 85 = .ok (.goto (-41), 3) := by decide +kernel
theorem dX1_work_88 : decode cX1_work 88 = .ok (.return_, 1) := by decide +kernel
theorem dX1_of_0 : decode cX1_of 0 = .ok (.iload_n 1, 1) := by decide +kernel
theorem dX1_of_1 : decode cX1_of 1 = .ok (.iconst 2, 1) := by decide +kernel
theorem dX1_of_2 : decode cX1_of 2 = .ok (.irem, 1) := by decide +kernel
theorem dX1_of_3 : decode cX1_of 3 = .ok (.ifCond .ne 14, 3) := by decide +kernel
theorem dX1_of_6 : decode cX1_of 6 = .ok (.aload_n 0, 1) := by decide +kernel
theorem dX1_of_7 : decode cX1_of 7 = .ok (.getfield 22, 3) := by decide +kernel
theorem dX1_of_10 : decode cX1_of 10 = .ok (.iload_n 1, 1) := by decide +kernel
theorem dX1_of_11 : decode cX1_of 11 = .ok (.iconst 2, 1) := by decide +kernel
theorem dX1_of_12 : decode cX1_of 12 = .ok (.idiv, 1) := by decide +kernel
theorem dX1_of_13 : decode cX1_of 13 = .ok (.iaload, 1) := by decide +kernel
theorem dX1_of_14 : decode cX1_of 14 = .ok (.goto 13, 3) := by decide +kernel
theorem dX1_of_17 : decode cX1_of 17 = .ok (.iconst 1, 1) := by decide +kernel
end
section
set_option maxRecDepth 100000
theorem dX1_of_18 : decode cX1_of 18 = .ok (.aload_n 0, 1) := by decide +kernel
theorem dX1_of_19 : decode cX1_of 19 = .ok (.getfield 22, 3) := by decide +kernel
theorem dX1_of_22 : decode cX1_of 22 = .ok (.iload_n 1, 1) := by decide +kernel
theorem dX1_of_23 : decode cX1_of 23 = .ok (.iconst 2, 1) := by decide +kernel
theorem dX1_of_24 : decode cX1_of 24 = .ok (.idiv, 1) := by decide +kernel
theorem dX1_of_25 : decode cX1_of 25 = .ok (.iaload, 1) := by decide +kernel
theorem dX1_of_26 : decode cX1_of 26 = .ok (.isub, 1) := by decide +kernel
theorem dX1_of_27 : decode cX1_of 27 = .ok (.ireturn, 1) := by decide +kernel
theorem dX1_depth_0 : decode cX1_depth 0 = .ok (.iload_n 1, 1) := by decide +kernel
theorem dX1_depth_1 : decode cX1_depth 1 = .ok (.ifCond .lt 9, 3) := by decide +kernel
theorem dX1_depth_4 : decode cX1_depth 4 = .ok (.iload_n 1, 1) := by decide +kernel
theorem dX1_depth_5 : decode cX1_depth 5 = .ok (.bipush 6, 2) := by decide +kernel
theorem dX1_depth_7 : decode cX1_depth 7 = .ok (.if_icmp .le 7, 3) := by decide +kernel
theorem dX1_depth_10 : decode cX1_depth 10 = .ok (.iconst (-1), 1) := by decide +kernel
theorem dX1_depth_11 : decode cX1_depth 11 = .ok (.goto 8, 3) := by decide +kernel
theorem dX1_depth_14 : decode cX1_depth 14 = .ok (.aload_n 0, 1) := by decide +kernel
theorem dX1_depth_15 : decode cX1_depth 15 = .ok (.iload_n 1, 1) := by decide +kernel
theorem dX1_depth_16 : decode cX1_depth 16 = .ok (.invokevirtual 71, 3) := by decide +kernel
theorem dX1_depth_19 : decode cX1_depth 19 = .ok (.ireturn, 1) := by decide +kernel
theorem dX1_least_0 : decode cX1_least 0 = .ok (.iconst 0, 1) := by decide +kernel
theorem dX1_least_1 : decode cX1_least 1 = .ok (.istore_n 2, 1) := by decide +kernel
theorem dX1_least_2 : decode cX1_least 2 = .ok (.iload_n 2, 1) := by decide +kernel
theorem dX1_least_3 : decode cX1_least 3 = .ok (.iload_n 1, 1) := by decide +kernel
theorem dX1_least_4 : decode cX1_least 4 = .ok (.if_icmp .gt 19, 3) := by decide +kernel
theorem dX1_least_7 : decode cX1_least 7 = .ok (.aload_n 0, 1) := by decide +kernel
theorem dX1_least_8 : decode cX1_least 8 = .ok (.iload_n 2, 1) := by decide +kernel
theorem dX1_least_9 : decode cX1_least 9 = .ok (.invokevirtual 68, 3) := by decide +kernel
theorem dX1_least_12 : decode cX1_least 12 = .ok (.ifCond .eq 5, 3) := by decide +kernel
theorem dX1_least_15 : decode cX1_least 15 = .ok (.iload_n 2, 1) := by decide +kernel
theorem dX1_least_16 : decode cX1_least 16 = .ok (.ireturn, 1) := by decide +kernel
theorem dX1_least_17 : decode cX1_least 17 = .ok (.iinc 2 1, 3) := by decide +kernel
theorem dX1_least_20 : decode cX1_least 20 = .ok (.goto (-18), 3) := by decide +kernel
theorem dX1_least_23 : decode cX1_least 23 = .ok (.iconst (-1), 1) := by decide +kernel
theorem dX1_least_24 : decode cX1_least 24 = .ok (.ireturn, 1) := by decide +kernel
theorem dX1_found_0 : decode cX1_found 0 = .ok (.iconst 0, 1) := by decide +kernel
theorem dX1_found_1 : decode cX1_found 1 = .ok (.istore_n 2, 1) := by decide +kernel
theorem dX1_found_2 : decode cX1_found 2 = .ok (.iload_n 2, 1) := by decide +kernel
theorem dX1_found_3 : decode cX1_found 3 = .ok (.bipush 32, 2) := by decide +kernel
theorem dX1_found_5 : decode cX1_found 5 = .ok (.iload_n 1, 1) := by decide +kernel
theorem dX1_found_6 : decode cX1_found 6 = .ok (.ishl, 1) := by decide +kernel
theorem dX1_found_7 : decode cX1_found 7 = .ok (.if_icmp .ge 41, 3) := by decide +kernel
theorem dX1_found_10 : decode cX1_found 10 = .ok (.iload_n 2, 1) := by decide +kernel
theorem dX1_found_11 : decode cX1_found 11 = .ok (.iload_n 1, 1) := by decide +kernel
theorem dX1_found_12 : decode cX1_found 12 = .ok (.iconst 1, 1) := by decide +kernel
theorem dX1_found_13 : decode cX1_found 13 = .ok (.iadd, 1) := by decide +kernel
theorem dX1_found_14 : decode cX1_found 14 = .ok (.ishr, 1) := by decide +kernel
theorem dX1_found_15 : decode cX1_found 15 = .ok (.istore_n 3, 1) := by decide +kernel
theorem dX1_found_16 : decode cX1_found 16 = .ok (.aload_n 0, 1) := by decide +kernel
theorem dX1_found_17 : decode cX1_found 17 = .ok (.iload_n 3, 1) := by decide +kernel
theorem dX1_found_18 : decode cX1_found 18 = .ok (.invokevirtual 61, 3) := by decide +kernel
theorem dX1_found_21 : decode cX1_found 21 = .ok (.ifCond .eq 21, 3) := by decide +kernel
theorem dX1_found_24 : decode cX1_found 24 = .ok (.aload_n 0, 1) := by decide +kernel
theorem dX1_found_25 : decode cX1_found 25 = .ok (.iload_n 1, 1) := by decide +kernel
theorem dX1_found_26 : decode cX1_found 26 = .ok (.iload_n 3, 1) := by decide +kernel
theorem dX1_found_27 : decode cX1_found 27 = .ok (.iload_n 2, 1) := by decide +kernel
theorem dX1_found_28 : decode cX1_found 28 = .ok (.iconst 2, 1) := by decide +kernel
theorem dX1_found_29 : decode cX1_found 29 = .ok (.iload_n 1, 1) := by decide +kernel
theorem dX1_found_30 : decode cX1_found 30 = .ok (.ishl, 1) := by decide +kernel
theorem dX1_found_31 : decode cX1_found 31 = .ok (.iconst 1, 1) := by decide +kernel
theorem dX1_found_32 : decode cX1_found 32 = .ok (.isub, 1) := by decide +kernel
theorem dX1_found_33 : decode cX1_found 33 = .ok (.iand, 1) := by decide +kernel
theorem dX1_found_34 : decode cX1_found 34 = .ok (.invokevirtual 64, 3) := by decide +kernel
theorem dX1_found_37 : decode cX1_found 37 = .ok (.ifCond .eq 5, 3) := by decide +kernel
theorem dX1_found_40 : decode cX1_found 40 = .ok (.iconst 1, 1) := by decide +kernel
theorem dX1_found_41 : decode cX1_found 41 = .ok (.ireturn, 1) := by decide +kernel
theorem dX1_found_42 : decode cX1_found 42 = .ok (.iinc 2 1, 3) := by decide +kernel
theorem dX1_found_45 : decode cX1_found 45 = .ok (.goto (-43), 3) := by decide +kernel
theorem dX1_found_48 : decode cX1_found 48 = .ok (.iconst 0, 1) := by decide +kernel
theorem dX1_found_49 : decode cX1_found 49 = .ok (.ireturn, 1) := by decide +kernel
theorem dX1_beginning_0 : decode cX1_beginning 0 = .ok (.iconst 1, 1) := by decide +kernel
theorem dX1_beginning_1 : decode cX1_beginning 1 = .ok (.istore_n 2, 1) := by decide +kernel
theorem dX1_beginning_2 : decode cX1_beginning 2 = .ok (.iload_n 2, 1) := by decide +kernel
theorem dX1_beginning_3 : decode cX1_beginning 3 = .ok (.iconst 5, 1) := by decide +kernel
theorem dX1_beginning_4 : decode cX1_beginning 4 = .ok (.if_icmp .ge 37, 3) := by decide +kernel
theorem dX1_beginning_7 : decode cX1_beginning 7 = .ok (.aload_n 0, 1) := by decide +kernel
theorem dX1_beginning_8 : decode cX1_beginning 8 = .ok (.getfield 19, 3) := by decide +kernel
theorem dX1_beginning_11 : decode cX1_beginning 11 = .ok (.iload_n 2, 1) := by decide +kernel
theorem dX1_beginning_12 : decode cX1_beginning 12 = .ok (.iaload, 1) := by decide +kernel
theorem dX1_beginning_13 : decode cX1_beginning 13 = .ok (.iconst 2, 1) := by decide +kernel
theorem dX1_beginning_14 : decode cX1_beginning 14 = .ok (.if_icmp .eq 21, 3) := by decide +kernel
theorem dX1_beginning_17 : decode cX1_beginning 17 = .ok (.aload_n 0, 1) := by decide +kernel
theorem dX1_beginning_18 : decode cX1_beginning 18 = .ok (.getfield 19, 3) := by decide +kernel
theorem dX1_beginning_21 : decode cX1_beginning 21 = .ok (.iload_n 2, 1) := by decide +kernel
theorem dX1_beginning_22 : decode cX1_beginning 22 = .ok (.iaload, 1) := by decide +kernel
theorem dX1_beginning_23 : decode cX1_beginning 23 = .ok (.iload_n 1, 1) := by decide +kernel
theorem dX1_beginning_24 : decode cX1_beginning 24 = .ok (.iload_n 2, 1) := by decide +kernel
theorem dX1_beginning_25 : decode cX1_beginning 25 = .ok (.iconst 1, 1) := by decide +kernel
theorem dX1_beginning_26 : decode cX1_beginning 26 = .ok (.isub, 1) := by decide +kernel
theorem dX1_beginning_27 : decode cX1_beginning 27 = .ok (.ishr, 1) := by decide +kernel
theorem dX1_beginning_28 : decode cX1_beginning 28 = .ok (.iconst 1, 1) := by decide +kernel
theorem dX1_beginning_29 : decode cX1_beginning 29 = .ok (.iand, 1) := by decide +kernel
theorem dX1_beginning_30 : decode cX1_beginning 30 = .ok (.if_icmp .eq 5, 3) := by decide +kernel
theorem dX1_beginning_33 : decode cX1_beginning 33 = .ok (.iconst 0, 1) := by decide +kernel
theorem dX1_beginning_34 : decode cX1_beginning 34 = .ok (.ireturn, 1) := by decide +kernel
theorem dX1_beginning_35 : decode cX1_beginning 35 = .ok (.iinc 2 1, 3) := by decide +kernel
theorem dX1_beginning_38 : decode cX1_beginning 38 = .ok (.goto (-36), 3) := by decide +kernel
theorem dX1_beginning_41 : decode cX1_beginning 41 = .ok (.iconst 1, 1) := by decide +kernel
theorem dX1_beginning_42 : decode cX1_beginning 42 = .ok (.ireturn, 1) := by decide +kernel
theorem dX1_run_0 : decode cX1_run 0 = .ok (.iconst 1, 1) := by decide +kernel
theorem dX1_run_1 : decode cX1_run 1 = .ok (.istore 4, 2) := by decide +kernel
theorem dX1_run_3 : decode cX1_run 3 = .ok (.iload_n 2, 1) := by decide +kernel
theorem dX1_run_4 : decode cX1_run 4 = .ok (.istore 5, 2) := by decide +kernel
theorem dX1_run_6 : decode cX1_run 6 = .ok (.iconst 0, 1) := by decide +kernel
theorem dX1_run_7 : decode cX1_run 7 = .ok (.istore 6, 2) := by decide +kernel
theorem dX1_run_9 : decode cX1_run 9 = .ok (.iload 6, 2) := by decide +kernel
theorem dX1_run_11 : decode cX1_run 11 = .ok (.iload_n 1, 1) := by decide +kernel
theorem dX1_run_12 : decode cX1_run 12 = .ok (.if_icmp .gt 72, 3) := by decide +kernel
theorem dX1_run_15 : decode cX1_run 15 = .ok (.iload_n 3, 1) := by decide +kernel
theorem dX1_run_16 : decode cX1_run 16 = .ok (.iload_n 1, 1) := by decide +kernel
theorem dX1_run_17 : decode cX1_run 17 = .ok (.iload 6, 2) := by decide +kernel
theorem dX1_run_19 : decode cX1_run 19 = .ok (.isub, 1) := by decide +kernel
theorem dX1_run_20 : decode cX1_run 20 = .ok (.ishr, 1) := by decide +kernel
theorem dX1_run_21 : decode cX1_run 21 = .ok (.iconst 1, 1) := by decide +kernel
theorem dX1_run_22 : decode cX1_run 22 = .ok (.iand, 1) := by decide +kernel
theorem dX1_run_23 : decode cX1_run 23 = .ok (.istore 7, 2) := by decide +kernel
theorem dX1_run_25 : decode cX1_run 25 = .ok (.aload_n 0, 1) := by decide +kernel
theorem dX1_run_26 : decode cX1_run 26 = .ok (.getfield 25, 3) := by decide +kernel
theorem dX1_run_29 : decode cX1_run 29 = .ok (.iload 6, 2) := by decide +kernel
theorem dX1_run_31 : decode cX1_run 31 = .ok (.iload 5, 2) := by decide +kernel
theorem dX1_run_33 : decode cX1_run 33 = .ok (.iastore, 1) := by decide +kernel
theorem dX1_run_34 : decode cX1_run 34 = .ok (.aload_n 0, 1) := by decide +kernel
theorem dX1_run_35 : decode cX1_run 35 = .ok (.getfield 28, 3) := by decide +kernel
theorem dX1_run_38 : decode cX1_run 38 = .ok (.iload 6, 2) := by decide +kernel
theorem dX1_run_40 : decode cX1_run 40 = .ok (.iload 7, 2) := by decide +kernel
theorem dX1_run_42 : decode cX1_run 42 = .ok (.iastore, 1) := by decide +kernel
theorem dX1_run_43 : decode cX1_run 43 = .ok (.aload_n 0, 1) := by decide +kernel
theorem dX1_run_44 : decode cX1_run 44 = .ok (.iload 5, 2) := by decide +kernel
theorem dX1_run_46 : decode cX1_run 46 = .ok (.iload 7, 2) := by decide +kernel
theorem dX1_run_48 : decode cX1_run 48 = .ok (.invokevirtual 53, 3) := by decide +kernel
theorem dX1_run_51 : decode cX1_run 51 = .ok (.iload 6, 2) := by decide +kernel
theorem dX1_run_53 : decode cX1_run 53 = .ok (.iload_n 1, 1) := by decide +kernel
theorem dX1_run_54 : decode cX1_run 54 = .ok (.if_icmp .ne 7, 3) := by decide +kernel
theorem dX1_run_57 : decode cX1_run 57 = .ok (.iconst 1, 1) := by decide +kernel
theorem dX1_run_58 : decode cX1_run 58 = .ok (.goto 4, 3) := by decide +kernel
theorem dX1_run_61 : decode cX1_run 61 = .ok (.iconst 0, 1) := by decide +kernel
theorem dX1_run_62 : decode cX1_run 62 = .ok (.if_icmp .eq 6, 3) := by decide +kernel
theorem dX1_run_65 : decode cX1_run 65 = .ok (.iconst 0, 1) := by decide +kernel
theorem dX1_run_66 : decode cX1_run 66 = .ok (.istore 4, 2) := by decide +kernel
theorem dX1_run_68 : decode cX1_run 68 = .ok (.aload_n 0, 1) := by decide +kernel
theorem dX1_run_69 : decode cX1_run 69 = .ok (.iload 5, 2) := by decide +kernel
theorem dX1_run_71 : decode cX1_run 71 = .ok (.iload 7, 2) := by decide +kernel
theorem dX1_run_73 : decode cX1_run 73 = .ok (.invokevirtual 57, 3) := by decide +kernel
theorem dX1_run_76 : decode cX1_run 76 = .ok (.istore 5, 2) := by decide +kernel
theorem dX1_run_78 : decode cX1_run 78 = .ok (.iinc 6 1, 3) := by decide +kernel
theorem dX1_run_81 : decode cX1_run 81 = .ok (.goto (-72), 3) := by decide +kernel
theorem dX1_run_84 : decode cX1_run 84 = .ok (.iload 4, 2) := by decide +kernel
theorem dX1_run_86 : decode cX1_run 86 = .ok (.ireturn, 1) := by decide +kernel
theorem dX1_isBad_0 : decode cX1_isBad 0 = .ok (.aload_n 0, 1) := by decide +kernel
theorem dX1_isBad_1 : decode cX1_isBad 1 = .ok (.iload_n 1, 1) := by decide +kernel
theorem dX1_isBad_2 : decode cX1_isBad 2 = .ok (.iload_n 2, 1) := by decide +kernel
theorem dX1_isBad_3 : decode cX1_isBad 3 = .ok (.invokevirtual 49, 3) := by decide +kernel
theorem dX1_isBad_6 : decode cX1_isBad 6 = .ok (.aload_n 0, 1) := by decide +kernel
theorem dX1_isBad_7 : decode cX1_isBad 7 = .ok (.aload_n 0, 1) := by decide +kernel
theorem dX1_isBad_8 : decode cX1_isBad 8 = .ok (.getfield 42, 3) := by decide +kernel
theorem dX1_isBad_11 : decode cX1_isBad 11 = .ok (.invokevirtual 45, 3) := by decide +kernel
theorem dX1_isBad_14 : decode cX1_isBad 14 = .ok (.iconst 1, 1) := by decide +kernel
theorem dX1_isBad_15 : decode cX1_isBad 15 = .ok (.if_icmp .ne 7, 3) := by decide +kernel
theorem dX1_isBad_18 : decode cX1_isBad 18 = .ok (.iconst 1, 1) := by decide +kernel
theorem dX1_isBad_19 : decode cX1_isBad 19 = .ok (.goto 4, 3) := by decide +kernel
theorem dX1_isBad_22 : decode cX1_isBad 22 = .ok (.iconst 0, 1) := by decide +kernel
theorem dX1_isBad_23 : decode cX1_isBad 23 = .ok (.ireturn, 1) := by decide +kernel
theorem dX1_step_0 : decode cX1_step 0 = .ok (.aload_n 0, 1) := by decide +kernel
theorem dX1_step_1 : decode cX1_step 1 = .ok (.iload_n 1, 1) := by decide +kernel
theorem dX1_step_2 : decode cX1_step 2 = .ok (.iload_n 2, 1) := by decide +kernel
theorem dX1_step_3 : decode cX1_step 3 = .ok (.invokevirtual 49, 3) := by decide +kernel
theorem dX1_step_6 : decode cX1_step 6 = .ok (.iconst 0, 1) := by decide +kernel
theorem dX1_step_7 : decode cX1_step 7 = .ok (.istore_n 3, 1) := by decide +kernel
theorem dX1_step_8 : decode cX1_step 8 = .ok (.iconst 1, 1) := by decide +kernel
theorem dX1_step_9 : decode cX1_step 9 = .ok (.istore 4, 2) := by decide +kernel
theorem dX1_step_11 : decode cX1_step 11 = .ok (.iload 4, 2) := by decide +kernel
theorem dX1_step_13 : decode cX1_step 13 = .ok (.iconst 5, 1) := by decide +kernel
theorem dX1_step_14 : decode cX1_step 14 = .ok (.if_icmp .ge 28, 3) := by decide +kernel
theorem dX1_step_17 : decode cX1_step 17 = .ok (.iload_n 3, 1) := by decide +kernel
theorem dX1_step_18 : decode cX1_step 18 = .ok (.aload_n 0, 1) := by decide +kernel
theorem dX1_step_19 : decode cX1_step 19 = .ok (.aload_n 0, 1) := by decide +kernel
theorem dX1_step_20 : decode cX1_step 20 = .ok (.getfield 16, 3) := by decide +kernel
theorem dX1_step_23 : decode cX1_step 23 = .ok (.iload 4, 2) := by decide +kernel
theorem dX1_step_25 : decode cX1_step 25 = .ok (.iaload, 1) := by decide +kernel
theorem dX1_step_26 : decode cX1_step 26 = .ok (.invokevirtual 45, 3) := by decide +kernel
theorem dX1_step_29 : decode cX1_step 29 = .ok (.iload 4, 2) := by decide +kernel
theorem dX1_step_31 : decode cX1_step 31 = .ok (.iconst 1, 1) := by decide +kernel
theorem dX1_step_32 : decode cX1_step 32 = .ok (.isub, 1) := by decide +kernel
theorem dX1_step_33 : decode cX1_step 33 = .ok (.ishl, 1) := by decide +kernel
theorem dX1_step_34 : decode cX1_step 34 = .ok (.ior, 1) := by decide +kernel
theorem dX1_step_35 : decode cX1_step 35 = .ok (.istore_n 3, 1) := by decide +kernel
theorem dX1_step_36 : decode cX1_step 36 = .ok (.iinc 4 1, 3) := by decide +kernel
theorem dX1_step_39 : decode cX1_step 39 = .ok (.goto (-28), 3) := by decide +kernel
theorem dX1_step_42 : decode cX1_step 42 = .ok (.iload_n 3, 1) := by decide +kernel
theorem dX1_step_43 : decode cX1_step 43 = .ok (.ireturn, 1) := by decide +kernel
theorem dX1_holds_0 : decode cX1_holds 0 = .ok (.iload_n 1, 1) := by decide +kernel
theorem dX1_holds_1 : decode cX1_holds 1 = .ok (.ifCond .lt 9, 3) := by decide +kernel
theorem dX1_holds_4 : decode cX1_holds 4 = .ok (.iload_n 1, 1) := by decide +kernel
theorem dX1_holds_5 : decode cX1_holds 5 = .ok (.bipush 6, 2) := by decide +kernel
theorem dX1_holds_7 : decode cX1_holds 7 = .ok (.if_icmp .le 5, 3) := by decide +kernel
theorem dX1_holds_10 : decode cX1_holds 10 = .ok (.iconst (-1), 1) := by decide +kernel
theorem dX1_holds_11 : decode cX1_holds 11 = .ok (.ireturn, 1) := by decide +kernel
theorem dX1_holds_12 : decode cX1_holds 12 = .ok (.iconst 0, 1) := by decide +kernel
theorem dX1_holds_13 : decode cX1_holds 13 = .ok (.istore_n 2, 1) := by decide +kernel
theorem dX1_holds_14 : decode cX1_holds 14 = .ok (.iload_n 2, 1) := by decide +kernel
theorem dX1_holds_15 : decode cX1_holds 15 = .ok (.bipush 32, 2) := by decide +kernel
theorem dX1_holds_17 : decode cX1_holds 17 = .ok (.iload_n 1, 1) := by decide +kernel
theorem dX1_holds_18 : decode cX1_holds 18 = .ok (.ishl, 1) := by decide +kernel
theorem dX1_holds_19 : decode cX1_holds 19 = .ok (.if_icmp .ge 41, 3) := by decide +kernel
theorem dX1_holds_22 : decode cX1_holds 22 = .ok (.iload_n 2, 1) := by decide +kernel
theorem dX1_holds_23 : decode cX1_holds 23 = .ok (.iload_n 1, 1) := by decide +kernel
theorem dX1_holds_24 : decode cX1_holds 24 = .ok (.iconst 1, 1) := by decide +kernel
theorem dX1_holds_25 : decode cX1_holds 25 = .ok (.iadd, 1) := by decide +kernel
theorem dX1_holds_26 : decode cX1_holds 26 = .ok (.ishr, 1) := by decide +kernel
theorem dX1_holds_27 : decode cX1_holds 27 = .ok (.istore_n 3, 1) := by decide +kernel
theorem dX1_holds_28 : decode cX1_holds 28 = .ok (.aload_n 0, 1) := by decide +kernel
theorem dX1_holds_29 : decode cX1_holds 29 = .ok (.iload_n 1, 1) := by decide +kernel
theorem dX1_holds_30 : decode cX1_holds 30 = .ok (.iload_n 3, 1) := by decide +kernel
theorem dX1_holds_31 : decode cX1_holds 31 = .ok (.iload_n 2, 1) := by decide +kernel
theorem dX1_holds_32 : decode cX1_holds 32 = .ok (.iconst 2, 1) := by decide +kernel
theorem dX1_holds_33 : decode cX1_holds 33 = .ok (.iload_n 1, 1) := by decide +kernel
theorem dX1_holds_34 : decode cX1_holds 34 = .ok (.ishl, 1) := by decide +kernel
theorem dX1_holds_35 : decode cX1_holds 35 = .ok (.iconst 1, 1) := by decide +kernel
theorem dX1_holds_36 : decode cX1_holds 36 = .ok (.isub, 1) := by decide +kernel
theorem dX1_holds_37 : decode cX1_holds 37 = .ok (.iand, 1) := by decide +kernel
theorem dX1_holds_38 : decode cX1_holds 38 = .ok (.invokevirtual 64, 3) := by decide +kernel
theorem dX1_holds_41 : decode cX1_holds 41 = .ok (.ifCond .eq 13, 3) := by decide +kernel
theorem dX1_holds_44 : decode cX1_holds 44 = .ok (.aload_n 0, 1) := by decide +kernel
theorem dX1_holds_45 : decode cX1_holds 45 = .ok (.iload_n 1, 1) := by decide +kernel
theorem dX1_holds_46 : decode cX1_holds 46 = .ok (.invokevirtual 74, 3) := by decide +kernel
theorem dX1_holds_49 : decode cX1_holds 49 = .ok (.ifCond .eq 5, 3) := by decide +kernel
theorem dX1_holds_52 : decode cX1_holds 52 = .ok (.iconst 0, 1) := by decide +kernel
theorem dX1_holds_53 : decode cX1_holds 53 = .ok (.ireturn, 1) := by decide +kernel
theorem dX1_holds_54 : decode cX1_holds 54 = .ok (.iinc 2 1, 3) := by decide +kernel
theorem dX1_holds_57 : decode cX1_holds 57 = .ok (.goto (-43), 3) := by decide +kernel
theorem dX1_holds_60 : decode cX1_holds 60 = .ok (.iconst 1, 1) := by decide +kernel
theorem dX1_holds_61 : decode cX1_holds 61 = .ok (.ireturn, 1) := by decide +kernel
theorem dX1_different_0 : decode cX1_different 0 = .ok (.iconst 0, 1) := by decide +kernel
theorem dX1_different_1 : decode cX1_different 1 = .ok (.istore_n 2, 1) := by decide +kernel
theorem dX1_different_2 : decode cX1_different 2 = .ok (.iconst 0, 1) := by decide +kernel
theorem dX1_different_3 : decode cX1_different 3 = .ok (.istore_n 3, 1) := by decide +kernel
theorem dX1_different_4 : decode cX1_different 4 = .ok (.iload_n 3, 1) := by decide +kernel
theorem dX1_different_5 : decode cX1_different 5 = .ok (.iload_n 1, 1) := by decide +kernel
theorem dX1_different_6 : decode cX1_different 6 = .ok (.if_icmp .gt 36, 3) := by decide +kernel
theorem dX1_different_9 : decode cX1_different 9 = .ok (.iload_n 2, 1) := by decide +kernel
theorem dX1_different_10 : decode cX1_different 10 = .ok (.aload_n 0, 1) := by decide +kernel
theorem dX1_different_11 : decode cX1_different 11 = .ok (.getfield 25, 3) := by decide +kernel
theorem dX1_different_14 : decode cX1_different 14 = .ok (.iload_n 3, 1) := by decide +kernel
theorem dX1_different_15 : decode cX1_different 15 = .ok (.iaload, 1) := by decide +kernel
theorem dX1_different_16 : decode cX1_different 16 = .ok (.ishr, 1) := by decide +kernel
theorem dX1_different_17 : decode cX1_different 17 = .ok (.iconst 1, 1) := by decide +kernel
theorem dX1_different_18 : decode cX1_different 18 = .ok (.iand, 1) := by decide +kernel
theorem dX1_different_19 : decode cX1_different 19 = .ok (.iconst 1, 1) := by decide +kernel
theorem dX1_different_20 : decode cX1_different 20 = .ok (.if_icmp .ne 5, 3) := by decide +kernel
theorem dX1_different_23 : decode cX1_different 23 = .ok (.iconst 0, 1) := by decide +kernel
theorem dX1_different_24 : decode cX1_different 24 = .ok (.ireturn, 1) := by decide +kernel
theorem dX1_different_25 : decode cX1_different 25 = .ok (.iload_n 2, 1) := by decide +kernel
theorem dX1_different_26 : decode cX1_different 26 = .ok (.iconst 1, 1) := by decide +kernel
theorem dX1_different_27 : decode cX1_different 27 = .ok (.aload_n 0, 1) := by decide +kernel
theorem dX1_different_28 : decode cX1_different 28 = .ok (.getfield 25, 3) := by decide +kernel
theorem dX1_different_31 : decode cX1_different 31 = .ok (.iload_n 3, 1) := by decide +kernel
theorem dX1_different_32 : decode cX1_different 32 = .ok (.iaload, 1) := by decide +kernel
theorem dX1_different_33 : decode cX1_different 33 = .ok (.ishl, 1) := by decide +kernel
theorem dX1_different_34 : decode cX1_different 34 = .ok (.ior, 1) := by decide +kernel
theorem dX1_different_35 : decode cX1_different 35 = .ok (.istore_n 2, 1) := by decide +kernel
theorem dX1_different_36 : decode cX1_different 36 = .ok (.iinc 3 1, 3) := by decide +kernel
theorem dX1_different_39 : decode cX1_different 39 = .ok (.goto (-35), 3) := by decide +kernel
theorem dX1_different_42 : decode cX1_different 42 = .ok (.iconst 1, 1) := by decide +kernel
theorem dX1_different_43 : decode cX1_different 43 = .ok (.ireturn, 1) := by decide +kernel
theorem dX1_proof_0 : decode cX1_proof 0 = .ok (.iconst 0, 1) := by decide +kernel
theorem dX1_proof_1 : decode cX1_proof 1 = .ok (.istore_n 1, 1) := by decide +kernel
theorem dX1_proof_2 : decode cX1_proof 2 = .ok (.iload_n 1, 1) := by decide +kernel
theorem dX1_proof_3 : decode cX1_proof 3 = .ok (.bipush 6, 2) := by decide +kernel
theorem dX1_proof_5 : decode cX1_proof 5 = .ok (.if_icmp .gt 34, 3) := by decide +kernel
theorem dX1_proof_8 : decode cX1_proof 8 = .ok (.aload_n 0, 1) := by decide +kernel
theorem dX1_proof_9 : decode cX1_proof 9 = .ok (.iload_n 1, 1) := by decide +kernel
theorem dX1_proof_10 : decode cX1_proof 10 = .ok (.invokevirtual 77, 3) := by decide +kernel
theorem dX1_proof_13 : decode cX1_proof 13 = .ok (.iconst 1, 1) := by decide +kernel
theorem dX1_proof_14 : decode cX1_proof 14 = .ok (.if_icmp .ne 19, 3) := by decide +kernel
theorem dX1_proof_17 : decode cX1_proof 17 = .ok (.iload_n 1, 1) := by decide +kernel
theorem dX1_proof_18 : decode cX1_proof 18 = .ok (.ifCond .eq 13, 3) := by decide +kernel
theorem dX1_proof_21 : decode cX1_proof 21 = .ok (.aload_n 0, 1) := by decide +kernel
theorem dX1_proof_22 : decode cX1_proof 22 = .ok (.iload_n 1, 1) := by decide +kernel
theorem dX1_proof_23 : decode cX1_proof 23 = .ok (.iconst 1, 1) := by decide +kernel
theorem dX1_proof_24 : decode cX1_proof 24 = .ok (.isub, 1) := by decide +kernel
theorem dX1_proof_25 : decode cX1_proof 25 = .ok (.invokevirtual 71, 3) := by decide +kernel
theorem dX1_proof_28 : decode cX1_proof 28 = .ok (.ifCond .ge 5, 3) := by decide +kernel
theorem dX1_proof_31 : decode cX1_proof 31 = .ok (.iload_n 1, 1) := by decide +kernel
theorem dX1_proof_32 : decode cX1_proof 32 = .ok (.ireturn, 1) := by decide +kernel
theorem dX1_proof_33 : decode cX1_proof 33 = .ok (.iinc 1 1, 3) := by decide +kernel
theorem dX1_proof_36 : decode cX1_proof 36 = .ok (.goto (-34), 3) := by decide +kernel
theorem dX1_proof_39 : decode cX1_proof 39 = .ok (.iconst (-1), 1) := by decide +kernel
theorem dX1_proof_40 : decode cX1_proof 40 = .ok (.ireturn, 1) := by decide +kernel
theorem dX1_witness_0 : decode cX1_witness 0 = .ok (.aload_n 0, 1) := by decide +kernel
theorem dX1_witness_1 : decode cX1_witness 1 = .ok (.bipush 6, 2) := by decide +kernel
theorem dX1_witness_3 : decode cX1_witness 3 = .ok (.invokevirtual 71, 3) := by decide +kernel
theorem dX1_witness_6 : decode cX1_witness 6 = .ok (.istore_n 2, 1) := by decide +kernel
theorem dX1_witness_7 : decode cX1_witness 7 = .ok (.iload_n 1, 1) := by decide +kernel
theorem dX1_witness_8 : decode cX1_witness 8 = .ok (.ifCond .lt 8, 3) := by decide +kernel
theorem dX1_witness_11 : decode cX1_witness 11 = .ok (.iload_n 1, 1) := by decide +kernel
theorem dX1_witness_12 : decode cX1_witness 12 = .ok (.iload_n 2, 1) := by decide +kernel
theorem dX1_witness_13 : decode cX1_witness 13 = .ok (.if_icmp .le 7, 3) := by decide +kernel
theorem dX1_witness_16 : decode cX1_witness 16 = .ok (.iconst (-1), 1) := by decide +kernel
theorem dX1_witness_17 : decode cX1_witness 17 = .ok (.goto 9, 3) := by decide +kernel
theorem dX1_witness_20 : decode cX1_witness 20 = .ok (.aload_n 0, 1) := by decide +kernel
theorem dX1_witness_21 : decode cX1_witness 21 = .ok (.getfield 25, 3) := by decide +kernel
theorem dX1_witness_24 : decode cX1_witness 24 = .ok (.iload_n 1, 1) := by decide +kernel
theorem dX1_witness_25 : decode cX1_witness 25 = .ok (.iaload, 1) := by decide +kernel
theorem dX1_witness_26 : decode cX1_witness 26 = .ok (.ireturn, 1) := by decide +kernel
theorem dX1_input_0 : decode cX1_input 0 = .ok (.aload_n 0, 1) := by decide +kernel
theorem dX1_input_1 : decode cX1_input 1 = .ok (.bipush 6, 2) := by decide +kernel
theorem dX1_input_3 : decode cX1_input 3 = .ok (.invokevirtual 71, 3) := by decide +kernel
theorem dX1_input_6 : decode cX1_input 6 = .ok (.istore_n 2, 1) := by decide +kernel
theorem dX1_input_7 : decode cX1_input 7 = .ok (.iload_n 1, 1) := by decide +kernel
theorem dX1_input_8 : decode cX1_input 8 = .ok (.ifCond .lt 8, 3) := by decide +kernel
theorem dX1_input_11 : decode cX1_input 11 = .ok (.iload_n 1, 1) := by decide +kernel
theorem dX1_input_12 : decode cX1_input 12 = .ok (.iload_n 2, 1) := by decide +kernel
theorem dX1_input_13 : decode cX1_input 13 = .ok (.if_icmp .le 7, 3) := by decide +kernel
theorem dX1_input_16 : decode cX1_input 16 = .ok (.iconst (-1), 1) := by decide +kernel
theorem dX1_input_17 : decode cX1_input 17 = .ok (.goto 9, 3) := by decide +kernel
theorem dX1_input_20 : decode cX1_input 20 = .ok (.aload_n 0, 1) := by decide +kernel
theorem dX1_input_21 : decode cX1_input 21 = .ok (.getfield 28, 3) := by decide +kernel
theorem dX1_input_24 : decode cX1_input 24 = .ok (.iload_n 1, 1) := by decide +kernel
theorem dX1_input_25 : decode cX1_input 25 = .ok (.iaload, 1) := by decide +kernel
theorem dX1_input_26 : decode cX1_input 26 = .ok (.ireturn, 1) := by decide +kernel
/-! the law's own entry -/
abbrev cL_law : ByteArray := code
theorem dL_law_0 : decode cL_law 0 = .ok (.new 7, 3) := by decide +kernel
theorem dL_law_3 : decode cL_law 3 = .ok (.dup, 1) := by decide +kernel
theorem dL_law_4 : decode cL_law 4 = .ok (.invokespecial 9, 3) := by decide +kernel
theorem dL_law_7 : decode cL_law 7 = .ok (.astore_n 1, 1) := by decide +kernel
theorem dL_law_8 : decode cL_law 8 = .ok (.new 10, 3) := by decide +kernel
theorem dL_law_11 : decode cL_law 11 = .ok (.dup, 1) := by decide +kernel
theorem dL_law_12 : decode cL_law 12 = .ok (.invokespecial 12, 3) := by decide +kernel
theorem dL_law_15 : decode cL_law 15 = .ok (.astore_n 2, 1) := by decide +kernel
theorem dL_law_16 : decode cL_law 16 = .ok (.iconst 0, 1) := by decide +kernel
theorem dL_law_17 : decode cL_law 17 = .ok (.istore_n 3, 1) := by decide +kernel
theorem dL_law_18 : decode cL_law 18 = .ok (.iload_n 3, 1) := by decide +kernel
theorem dL_law_19 : decode cL_law 19 = .ok (.aload_n 0, 1) := by decide +kernel
theorem dL_law_20 : decode cL_law 20 = .ok (.arraylength, 1) := by decide +kernel
theorem dL_law_21 : decode cL_law 21 = .ok (.iconst 4, 1) := by decide +kernel
theorem dL_law_22 : decode cL_law 22 = .ok (.isub, 1) := by decide +kernel
theorem dL_law_23 : decode cL_law 23 = .ok (.if_icmp .gt 341, 3) := by decide +kernel
theorem dL_law_26 : decode cL_law 26 = .ok (.aload_n 0, 1) := by decide +kernel
theorem dL_law_27 : decode cL_law 27 = .ok (.iload_n 3, 1) := by decide +kernel
theorem dL_law_28 : decode cL_law 28 = .ok (.iaload, 1) := by decide +kernel
theorem dL_law_29 : decode cL_law 29 = .ok (.bipush 15, 2) := by decide +kernel
theorem dL_law_31 : decode cL_law 31 = .ok (.iand, 1) := by decide +kernel
theorem dL_law_32 : decode cL_law 32 = .ok (.tableswitch 326 0 9 #[56, 89, 122, 155, 178, 221, 244, 267, 280, 303], 56) := by decide +kernel
theorem dL_law_88 : decode cL_law 88 = .ok (.aload_n 1, 1) := by decide +kernel
theorem dL_law_89 : decode cL_law 89 = .ok (.aload_n 0, 1) := by decide +kernel
theorem dL_law_90 : decode cL_law 90 = .ok (.iload_n 3, 1) := by decide +kernel
theorem dL_law_91 : decode cL_law 91 = .ok (.iconst 1, 1) := by decide +kernel
theorem dL_law_92 : decode cL_law 92 = .ok (.iadd, 1) := by decide +kernel
theorem dL_law_93 : decode cL_law 93 = .ok (.iaload, 1) := by decide +kernel
theorem dL_law_94 : decode cL_law 94 = .ok (.aload_n 0, 1) := by decide +kernel
theorem dL_law_95 : decode cL_law 95 = .ok (.iload_n 3, 1) := by decide +kernel
theorem dL_law_96 : decode cL_law 96 = .ok (.iconst 2, 1) := by decide +kernel
theorem dL_law_97 : decode cL_law 97 = .ok (.iadd, 1) := by decide +kernel
theorem dL_law_98 : decode cL_law 98 = .ok (.iaload, 1) := by decide +kernel
theorem dL_law_99 : decode cL_law 99 = .ok (.invokevirtual 13, 3) := by decide +kernel
theorem dL_law_102 : decode cL_law 102 = .ok (.aload_n 2, 1) := by decide +kernel
theorem dL_law_103 : decode cL_law 103 = .ok (.aload_n 0, 1) := by decide +kernel
theorem dL_law_104 : decode cL_law 104 = .ok (.iload_n 3, 1) := by decide +kernel
theorem dL_law_105 : decode cL_law 105 = .ok (.iconst 1, 1) := by decide +kernel
theorem dL_law_106 : decode cL_law 106 = .ok (.iadd, 1) := by decide +kernel
theorem dL_law_107 : decode cL_law 107 = .ok (.iaload, 1) := by decide +kernel
theorem dL_law_108 : decode cL_law 108 = .ok (.aload_n 0, 1) := by decide +kernel
theorem dL_law_109 : decode cL_law 109 = .ok (.iload_n 3, 1) := by decide +kernel
theorem dL_law_110 : decode cL_law 110 = .ok (.iconst 2, 1) := by decide +kernel
theorem dL_law_111 : decode cL_law 111 = .ok (.iadd, 1) := by decide +kernel
theorem dL_law_112 : decode cL_law 112 = .ok (.iaload, 1) := by decide +kernel
theorem dL_law_113 : decode cL_law 113 = .ok (.invokevirtual 17, 3) := by decide +kernel
theorem dL_law_116 : decode cL_law 116 = .ok (.if_icmp .eq 242, 3) := by decide +kernel
theorem dL_law_119 : decode cL_law 119 = .ok (.iconst 0, 1) := by decide +kernel
theorem dL_law_120 : decode cL_law 120 = .ok (.ireturn, 1) := by decide +kernel
theorem dL_law_121 : decode cL_law 121 = .ok (.aload_n 1, 1) := by decide +kernel
theorem dL_law_122 : decode cL_law 122 = .ok (.aload_n 0, 1) := by decide +kernel
theorem dL_law_123 : decode cL_law 123 = .ok (.iload_n 3, 1) := by decide +kernel
theorem dL_law_124 : decode cL_law 124 = .ok (.iconst 1, 1) := by decide +kernel
theorem dL_law_125 : decode cL_law 125 = .ok (.iadd, 1) := by decide +kernel
theorem dL_law_126 : decode cL_law 126 = .ok (.iaload, 1) := by decide +kernel
theorem dL_law_127 : decode cL_law 127 = .ok (.aload_n 0, 1) := by decide +kernel
theorem dL_law_128 : decode cL_law 128 = .ok (.iload_n 3, 1) := by decide +kernel
theorem dL_law_129 : decode cL_law 129 = .ok (.iconst 2, 1) := by decide +kernel
theorem dL_law_130 : decode cL_law 130 = .ok (.iadd, 1) := by decide +kernel
theorem dL_law_131 : decode cL_law 131 = .ok (.iaload, 1) := by decide +kernel
theorem dL_law_132 : decode cL_law 132 = .ok (.invokevirtual 18, 3) := by decide +kernel
theorem dL_law_135 : decode cL_law 135 = .ok (.aload_n 2, 1) := by decide +kernel
theorem dL_law_136 : decode cL_law 136 = .ok (.aload_n 0, 1) := by decide +kernel
theorem dL_law_137 : decode cL_law 137 = .ok (.iload_n 3, 1) := by decide +kernel
theorem dL_law_138 : decode cL_law 138 = .ok (.iconst 1, 1) := by decide +kernel
theorem dL_law_139 : decode cL_law 139 = .ok (.iadd, 1) := by decide +kernel
theorem dL_law_140 : decode cL_law 140 = .ok (.iaload, 1) := by decide +kernel
theorem dL_law_141 : decode cL_law 141 = .ok (.aload_n 0, 1) := by decide +kernel
theorem dL_law_142 : decode cL_law 142 = .ok (.iload_n 3, 1) := by decide +kernel
theorem dL_law_143 : decode cL_law 143 = .ok (.iconst 2, 1) := by decide +kernel
theorem dL_law_144 : decode cL_law 144 = .ok (.iadd, 1) := by decide +kernel
theorem dL_law_145 : decode cL_law 145 = .ok (.iaload, 1) := by decide +kernel
theorem dL_law_146 : decode cL_law 146 = .ok (.invokevirtual 21, 3) := by decide +kernel
theorem dL_law_149 : decode cL_law 149 = .ok (.if_icmp .eq 209, 3) := by decide +kernel
theorem dL_law_152 : decode cL_law 152 = .ok (.iconst 0, 1) := by decide +kernel
theorem dL_law_153 : decode cL_law 153 = .ok (.ireturn, 1) := by decide +kernel
theorem dL_law_154 : decode cL_law 154 = .ok (.aload_n 1, 1) := by decide +kernel
theorem dL_law_155 : decode cL_law 155 = .ok (.aload_n 0, 1) := by decide +kernel
theorem dL_law_156 : decode cL_law 156 = .ok (.iload_n 3, 1) := by decide +kernel
end
section
set_option maxRecDepth 100000
theorem dL_law_157 : decode cL_law 157 = .ok (.iconst 1, 1) := by decide +kernel
theorem dL_law_158 : decode cL_law 158 = .ok (.iadd, 1) := by decide +kernel
theorem dL_law_159 : decode cL_law 159 = .ok (.iaload, 1) := by decide +kernel
theorem dL_law_160 : decode cL_law 160 = .ok (.aload_n 0, 1) := by decide +kernel
theorem dL_law_161 : decode cL_law 161 = .ok (.iload_n 3, 1) := by decide +kernel
theorem dL_law_162 : decode cL_law 162 = .ok (.iconst 2, 1) := by decide +kernel
theorem dL_law_163 : decode cL_law 163 = .ok (.iadd, 1) := by decide +kernel
theorem dL_law_164 : decode cL_law 164 = .ok (.iaload, 1) := by decide +kernel
theorem dL_law_165 : decode cL_law 165 = .ok (.invokevirtual 22, 3) := by decide +kernel
theorem dL_law_168 : decode cL_law 168 = .ok (.aload_n 2, 1) := by decide +kernel
theorem dL_law_169 : decode cL_law 169 = .ok (.aload_n 0, 1) := by decide +kernel
theorem dL_law_170 : decode cL_law 170 = .ok (.iload_n 3, 1) := by decide +kernel
theorem dL_law_171 : decode cL_law 171 = .ok (.iconst 1, 1) := by decide +kernel
theorem dL_law_172 : decode cL_law 172 = .ok (.iadd, 1) := by decide +kernel
theorem dL_law_173 : decode cL_law 173 = .ok (.iaload, 1) := by decide +kernel
theorem dL_law_174 : decode cL_law 174 = .ok (.aload_n 0, 1) := by decide +kernel
theorem dL_law_175 : decode cL_law 175 = .ok (.iload_n 3, 1) := by decide +kernel
theorem dL_law_176 : decode cL_law 176 = .ok (.iconst 2, 1) := by decide +kernel
theorem dL_law_177 : decode cL_law 177 = .ok (.iadd, 1) := by decide +kernel
theorem dL_law_178 : decode cL_law 178 = .ok (.iaload, 1) := by decide +kernel
theorem dL_law_179 : decode cL_law 179 = .ok (.invokevirtual 25, 3) := by decide +kernel
theorem dL_law_182 : decode cL_law 182 = .ok (.if_icmp .eq 176, 3) := by decide +kernel
theorem dL_law_185 : decode cL_law 185 = .ok (.iconst 0, 1) := by decide +kernel
theorem dL_law_186 : decode cL_law 186 = .ok (.ireturn, 1) := by decide +kernel
theorem dL_law_187 : decode cL_law 187 = .ok (.aload_n 1, 1) := by decide +kernel
theorem dL_law_188 : decode cL_law 188 = .ok (.aload_n 0, 1) := by decide +kernel
theorem dL_law_189 : decode cL_law 189 = .ok (.iload_n 3, 1) := by decide +kernel
theorem dL_law_190 : decode cL_law 190 = .ok (.iconst 1, 1) := by decide +kernel
theorem dL_law_191 : decode cL_law 191 = .ok (.iadd, 1) := by decide +kernel
theorem dL_law_192 : decode cL_law 192 = .ok (.iaload, 1) := by decide +kernel
theorem dL_law_193 : decode cL_law 193 = .ok (.invokevirtual 26, 3) := by decide +kernel
theorem dL_law_196 : decode cL_law 196 = .ok (.aload_n 2, 1) := by decide +kernel
theorem dL_law_197 : decode cL_law 197 = .ok (.aload_n 0, 1) := by decide +kernel
theorem dL_law_198 : decode cL_law 198 = .ok (.iload_n 3, 1) := by decide +kernel
theorem dL_law_199 : decode cL_law 199 = .ok (.iconst 1, 1) := by decide +kernel
theorem dL_law_200 : decode cL_law 200 = .ok (.iadd, 1) := by decide +kernel
theorem dL_law_201 : decode cL_law 201 = .ok (.iaload, 1) := by decide +kernel
theorem dL_law_202 : decode cL_law 202 = .ok (.invokevirtual 30, 3) := by decide +kernel
theorem dL_law_205 : decode cL_law 205 = .ok (.if_icmp .eq 153, 3) := by decide +kernel
theorem dL_law_208 : decode cL_law 208 = .ok (.iconst 0, 1) := by decide +kernel
theorem dL_law_209 : decode cL_law 209 = .ok (.ireturn, 1) := by decide +kernel
theorem dL_law_210 : decode cL_law 210 = .ok (.aload_n 1, 1) := by decide +kernel
theorem dL_law_211 : decode cL_law 211 = .ok (.aload_n 0, 1) := by decide +kernel
theorem dL_law_212 : decode cL_law 212 = .ok (.iload_n 3, 1) := by decide +kernel
theorem dL_law_213 : decode cL_law 213 = .ok (.iconst 1, 1) := by decide +kernel
theorem dL_law_214 : decode cL_law 214 = .ok (.iadd, 1) := by decide +kernel
theorem dL_law_215 : decode cL_law 215 = .ok (.iaload, 1) := by decide +kernel
theorem dL_law_216 : decode cL_law 216 = .ok (.aload_n 0, 1) := by decide +kernel
theorem dL_law_217 : decode cL_law 217 = .ok (.iload_n 3, 1) := by decide +kernel
theorem dL_law_218 : decode cL_law 218 = .ok (.iconst 2, 1) := by decide +kernel
theorem dL_law_219 : decode cL_law 219 = .ok (.iadd, 1) := by decide +kernel
theorem dL_law_220 : decode cL_law 220 = .ok (.iaload, 1) := by decide +kernel
theorem dL_law_221 : decode cL_law 221 = .ok (.aload_n 0, 1) := by decide +kernel
theorem dL_law_222 : decode cL_law 222 = .ok (.iload_n 3, 1) := by decide +kernel
theorem dL_law_223 : decode cL_law 223 = .ok (.iconst 3, 1) := by decide +kernel
theorem dL_law_224 : decode cL_law 224 = .ok (.iadd, 1) := by decide +kernel
theorem dL_law_225 : decode cL_law 225 = .ok (.iaload, 1) := by decide +kernel
theorem dL_law_226 : decode cL_law 226 = .ok (.invokevirtual 31, 3) := by decide +kernel
theorem dL_law_229 : decode cL_law 229 = .ok (.aload_n 2, 1) := by decide +kernel
theorem dL_law_230 : decode cL_law 230 = .ok (.aload_n 0, 1) := by decide +kernel
theorem dL_law_231 : decode cL_law 231 = .ok (.iload_n 3, 1) := by decide +kernel
theorem dL_law_232 : decode cL_law 232 = .ok (.iconst 1, 1) := by decide +kernel
theorem dL_law_233 : decode cL_law 233 = .ok (.iadd, 1) := by decide +kernel
theorem dL_law_234 : decode cL_law 234 = .ok (.iaload, 1) := by decide +kernel
theorem dL_law_235 : decode cL_law 235 = .ok (.aload_n 0, 1) := by decide +kernel
theorem dL_law_236 : decode cL_law 236 = .ok (.iload_n 3, 1) := by decide +kernel
theorem dL_law_237 : decode cL_law 237 = .ok (.iconst 2, 1) := by decide +kernel
theorem dL_law_238 : decode cL_law 238 = .ok (.iadd, 1) := by decide +kernel
theorem dL_law_239 : decode cL_law 239 = .ok (.iaload, 1) := by decide +kernel
theorem dL_law_240 : decode cL_law 240 = .ok (.aload_n 0, 1) := by decide +kernel
theorem dL_law_241 : decode cL_law 241 = .ok (.iload_n 3, 1) := by decide +kernel
theorem dL_law_242 : decode cL_law 242 = .ok (.iconst 3, 1) := by decide +kernel
theorem dL_law_243 : decode cL_law 243 = .ok (.iadd, 1) := by decide +kernel
theorem dL_law_244 : decode cL_law 244 = .ok (.iaload, 1) := by decide +kernel
theorem dL_law_245 : decode cL_law 245 = .ok (.invokevirtual 35, 3) := by decide +kernel
theorem dL_law_248 : decode cL_law 248 = .ok (.if_icmp .eq 110, 3) := by decide +kernel
theorem dL_law_251 : decode cL_law 251 = .ok (.iconst 0, 1) := by decide +kernel
theorem dL_law_252 : decode cL_law 252 = .ok (.ireturn, 1) := by decide +kernel
theorem dL_law_253 : decode cL_law 253 = .ok (.aload_n 1, 1) := by decide +kernel
theorem dL_law_254 : decode cL_law 254 = .ok (.aload_n 0, 1) := by decide +kernel
theorem dL_law_255 : decode cL_law 255 = .ok (.iload_n 3, 1) := by decide +kernel
theorem dL_law_256 : decode cL_law 256 = .ok (.iconst 1, 1) := by decide +kernel
theorem dL_law_257 : decode cL_law 257 = .ok (.iadd, 1) := by decide +kernel
theorem dL_law_258 : decode cL_law 258 = .ok (.iaload, 1) := by decide +kernel
theorem dL_law_259 : decode cL_law 259 = .ok (.invokevirtual 36, 3) := by decide +kernel
theorem dL_law_262 : decode cL_law 262 = .ok (.aload_n 2, 1) := by decide +kernel
theorem dL_law_263 : decode cL_law 263 = .ok (.aload_n 0, 1) := by decide +kernel
theorem dL_law_264 : decode cL_law 264 = .ok (.iload_n 3, 1) := by decide +kernel
theorem dL_law_265 : decode cL_law 265 = .ok (.iconst 1, 1) := by decide +kernel
theorem dL_law_266 : decode cL_law 266 = .ok (.iadd, 1) := by decide +kernel
theorem dL_law_267 : decode cL_law 267 = .ok (.iaload, 1) := by decide +kernel
theorem dL_law_268 : decode cL_law 268 = .ok (.invokevirtual 39, 3) := by decide +kernel
theorem dL_law_271 : decode cL_law 271 = .ok (.if_icmp .eq 87, 3) := by decide +kernel
theorem dL_law_274 : decode cL_law 274 = .ok (.iconst 0, 1) := by decide +kernel
theorem dL_law_275 : decode cL_law 275 = .ok (.ireturn, 1) := by decide +kernel
theorem dL_law_276 : decode cL_law 276 = .ok (.aload_n 1, 1) := by decide +kernel
theorem dL_law_277 : decode cL_law 277 = .ok (.aload_n 0, 1) := by decide +kernel
theorem dL_law_278 : decode cL_law 278 = .ok (.iload_n 3, 1) := by decide +kernel
theorem dL_law_279 : decode cL_law 279 = .ok (.iconst 1, 1) := by decide +kernel
theorem dL_law_280 : decode cL_law 280 = .ok (.iadd, 1) := by decide +kernel
theorem dL_law_281 : decode cL_law 281 = .ok (.iaload, 1) := by decide +kernel
theorem dL_law_282 : decode cL_law 282 = .ok (.invokevirtual 40, 3) := by decide +kernel
theorem dL_law_285 : decode cL_law 285 = .ok (.aload_n 2, 1) := by decide +kernel
theorem dL_law_286 : decode cL_law 286 = .ok (.aload_n 0, 1) := by decide +kernel
theorem dL_law_287 : decode cL_law 287 = .ok (.iload_n 3, 1) := by decide +kernel
theorem dL_law_288 : decode cL_law 288 = .ok (.iconst 1, 1) := by decide +kernel
theorem dL_law_289 : decode cL_law 289 = .ok (.iadd, 1) := by decide +kernel
theorem dL_law_290 : decode cL_law 290 = .ok (.iaload, 1) := by decide +kernel
theorem dL_law_291 : decode cL_law 291 = .ok (.invokevirtual 43, 3) := by decide +kernel
theorem dL_law_294 : decode cL_law 294 = .ok (.if_icmp .eq 64, 3) := by decide +kernel
theorem dL_law_297 : decode cL_law 297 = .ok (.iconst 0, 1) := by decide +kernel
theorem dL_law_298 : decode cL_law 298 = .ok (.ireturn, 1) := by decide +kernel
theorem dL_law_299 : decode cL_law 299 = .ok (.aload_n 1, 1) := by decide +kernel
theorem dL_law_300 : decode cL_law 300 = .ok (.invokevirtual 44, 3) := by decide +kernel
theorem dL_law_303 : decode cL_law 303 = .ok (.aload_n 2, 1) := by decide +kernel
theorem dL_law_304 : decode cL_law 304 = .ok (.invokevirtual 48, 3) := by decide +kernel
theorem dL_law_307 : decode cL_law 307 = .ok (.if_icmp .eq 51, 3) := by decide +kernel
theorem dL_law_310 : decode cL_law 310 = .ok (.iconst 0, 1) := by decide +kernel
theorem dL_law_311 : decode cL_law 311 = .ok (.ireturn, 1) := by decide +kernel
theorem dL_law_312 : decode cL_law 312 = .ok (.aload_n 1, 1) := by decide +kernel
theorem dL_law_313 : decode cL_law 313 = .ok (.aload_n 0, 1) := by decide +kernel
theorem dL_law_314 : decode cL_law 314 = .ok (.iload_n 3, 1) := by decide +kernel
theorem dL_law_315 : decode cL_law 315 = .ok (.iconst 1, 1) := by decide +kernel
theorem dL_law_316 : decode cL_law 316 = .ok (.iadd, 1) := by decide +kernel
theorem dL_law_317 : decode cL_law 317 = .ok (.iaload, 1) := by decide +kernel
theorem dL_law_318 : decode cL_law 318 = .ok (.invokevirtual 49, 3) := by decide +kernel
theorem dL_law_321 : decode cL_law 321 = .ok (.aload_n 2, 1) := by decide +kernel
theorem dL_law_322 : decode cL_law 322 = .ok (.aload_n 0, 1) := by decide +kernel
theorem dL_law_323 : decode cL_law 323 = .ok (.iload_n 3, 1) := by decide +kernel
theorem dL_law_324 : decode cL_law 324 = .ok (.iconst 1, 1) := by decide +kernel
theorem dL_law_325 : decode cL_law 325 = .ok (.iadd, 1) := by decide +kernel
theorem dL_law_326 : decode cL_law 326 = .ok (.iaload, 1) := by decide +kernel
theorem dL_law_327 : decode cL_law 327 = .ok (.invokevirtual 52, 3) := by decide +kernel
theorem dL_law_330 : decode cL_law 330 = .ok (.if_icmp .eq 28, 3) := by decide +kernel
theorem dL_law_333 : decode cL_law 333 = .ok (.iconst 0, 1) := by decide +kernel
theorem dL_law_334 : decode cL_law 334 = .ok (.ireturn, 1) := by decide +kernel
theorem dL_law_335 : decode cL_law 335 = .ok (.aload_n 1, 1) := by decide +kernel
theorem dL_law_336 : decode cL_law 336 = .ok (.aload_n 0, 1) := by decide +kernel
theorem dL_law_337 : decode cL_law 337 = .ok (.iload_n 3, 1) := by decide +kernel
theorem dL_law_338 : decode cL_law 338 = .ok (.iconst 1, 1) := by decide +kernel
theorem dL_law_339 : decode cL_law 339 = .ok (.iadd, 1) := by decide +kernel
theorem dL_law_340 : decode cL_law 340 = .ok (.iaload, 1) := by decide +kernel
theorem dL_law_341 : decode cL_law 341 = .ok (.invokevirtual 53, 3) := by decide +kernel
theorem dL_law_344 : decode cL_law 344 = .ok (.aload_n 2, 1) := by decide +kernel
theorem dL_law_345 : decode cL_law 345 = .ok (.aload_n 0, 1) := by decide +kernel
theorem dL_law_346 : decode cL_law 346 = .ok (.iload_n 3, 1) := by decide +kernel
theorem dL_law_347 : decode cL_law 347 = .ok (.iconst 1, 1) := by decide +kernel
theorem dL_law_348 : decode cL_law 348 = .ok (.iadd, 1) := by decide +kernel
theorem dL_law_349 : decode cL_law 349 = .ok (.iaload, 1) := by decide +kernel
theorem dL_law_350 : decode cL_law 350 = .ok (.invokevirtual 56, 3) := by decide +kernel
theorem dL_law_353 : decode cL_law 353 = .ok (.if_icmp .eq 5, 3) := by decide +kernel
theorem dL_law_356 : decode cL_law 356 = .ok (.iconst 0, 1) := by decide +kernel
theorem dL_law_357 : decode cL_law 357 = .ok (.ireturn, 1) := by decide +kernel
theorem dL_law_358 : decode cL_law 358 = .ok (.iinc 3 4, 3) := by decide +kernel
theorem dL_law_361 : decode cL_law 361 = .ok (.goto (-343), 3) := by decide +kernel
theorem dL_law_364 : decode cL_law 364 = .ok (.iconst 1, 1) := by decide +kernel
theorem dL_law_365 : decode cL_law 365 = .ok (.ireturn, 1) := by decide +kernel
end
section
/-! THE LAYER: tokens for ints, one world per method, contracts in one form, rows over them -/
set_option maxRecDepth 100000
abbrev Cl : List vw_C := [(RX0, TX0, 17), (RX1, TX1, 9)]
def bI (b : Bool) : Int32 := if b = true then 1 else 0
def oI (o : Option Bool) : Int32 := match o with
  | none => -1
  | some b => bI b
def zI (o : Option Nat) : Int32 := match o with
  | none => -1
  | some n => nI n
def wB (D : va_G) (A : Nat → Prop) (H0 : Heap) (ws : va_W) (H : Heap) (locs : List Loc) : Prop := va_P D Cl ws H ∧ va_D A ws ∧ va_S A H0 H locs
theorem wB.to {D : va_G} {A : Nat → Prop} {H0 : Heap} {ws ws' : va_W} {H : Heap} {locs : List Loc} (h : wB D A H0 ws H locs) (e : ws = ws') : wB D A H0 ws' H locs := e ▸ h
def ev (p : Program) (m : MethodId) (c : Code) (cc : ByteArray) (nL : Nat) (s : State) (args : Array Value) (own : String) (D : va_G) (tys : List (ClassId × FieldType)) : Prop := CallFix p m c cc nL s args lw_all own ∧ va_K D Cl tys s
def rmm (a b : Nat) : Room := { frames := a, cells := 0, slots := 0, locals := b }
def wP (D : va_G) (tys : List (ClassId × FieldType)) (ws : va_W) (sz : Nat) (U : State) : Prop := U.heap.size = sz ∧ va_P D Cl ws U.heap ∧ va_K D Cl tys U ∧ va_D (fun _ => True) ws
def wQ (D : va_G) (tys : List (ClassId × FieldType)) (A : Nat → Prop) (ws' : va_W) (t : State) : Prop := va_P D Cl ws' t.heap ∧ va_K D Cl tys t ∧ va_D A ws'
def ctV (l : Launch) (y : MethodName) (cc : ByteArray) (nL : Nat) (rm : Room) (D : va_G) (tys : List (ClassId × FieldType)) (ws ws' : va_W) (av : List Value) : Prop :=
  ∀ sz : Nat, Met l y (ws_ y cc nL none) rm (va_Pc av (wP D tys ws sz)) (va_Qv (fun _ : Unit => True) (fun _ => wQ D tys (va_A ws sz) ws') (va_A ws sz)) 0 0 (va_A ws sz)
def ctI (l : Launch) (y : MethodName) (cc : ByteArray) (nL : Nat) (rm : Room) (D : va_G) (tys : List (ClassId × FieldType)) (ws ws' : va_W) (av : List Value) (ty : FieldType) (r : Int32) : Prop :=
  ∀ sz : Nat, Met l y (ws_ y cc nL (some ty)) rm (va_Pc av (wP D tys ws sz)) (va_Qi (fun (x : Int32) (_ : Unit) => x = r) (fun _ => wQ D tys (va_A ws sz) ws') (va_A ws sz)) 0 0 (va_A ws sz)
abbrev qV (below : List Frame) (D : va_G) (tys : List (ClassId × FieldType)) (A : Nat → Prop) (ws : va_W) (args : Array Value) (s : State) : State → Prop := MQ below (va_Qv (fun _ : Unit => True) (fun _ => wQ D tys A ws) A) args s 0 0 A
abbrev qI (below : List Frame) (D : va_G) (tys : List (ClassId × FieldType)) (A : Nat → Prop) (ws : va_W) (r : Int32) (args : Array Value) (s : State) : State → Prop := MQ below (va_Qi (fun (x : Int32) (_ : Unit) => x = r) (fun _ => wQ D tys A ws) A) args s 0 0 A
theorem wP.blind {D : va_G} {tys : List (ClassId × FieldType)} {ws : va_W} {sz : Nat} {av : List Value} : FrameBlind (va_Pc av (wP D tys ws sz)) := by
  intro a U g mk q
  obtain ⟨q0, q1, qP, qK, qD⟩ := q
  exact ⟨q0, q1, qP, va_K.moved (u := U) (U := U.calling g mk a) (Vm.Alike.refl U.vm) qK, qD⟩
section LY
variable {p : Program} {l : Launch} {e : Env} {R : Room} {s : State} {m : MethodId} {args : Array Value} {below : List Frame} {meth : Method} {c : Code} {H : Heap} {locs : List Loc} {cells slots : Nat} {Q : State → Prop}
variable {cc : ByteArray} {pc nL : Nat} {ls : Array Slot} {rest : List Value} {own : String} {D : va_G} {A : Nat → Prop} {tys : List (ClassId × FieldType)} {ws : va_W} {H0 : Heap}
theorem ev.x (E : ev p m c cc nL s args own D tys) : p.tables.exec = Jvm.exec := E.1.1
theorem ev.b (E : ev p m c cc nL s args own D tys) : c.code = cc := E.1.2.1
theorem ev.ml (E : ev p m c cc nL s args own D tys) : c.maxLocals = nL := E.1.2.2.1
theorem ev.ow (E : ev p m c cc nL s args own D tys) : s.vm.findClass own = some m.cls := E.1.2.2.2.1
theorem ev.ts (E : ev p m c cc nL s args own D tys) : ∀ w ∈ lw_all, w.before args s = true := E.1.2.2.2.2
theorem ev.k (E : ev p m c cc nL s args own D tys) : va_K D Cl tys s := E.2
theorem mkV {l : Launch} {y : MethodName} {cc : ByteArray} {nL : Nat} {rm : Room} {D : va_G} {tys : List (ClassId × FieldType)} {ws ws' : va_W} {av : List Value} (own : String) (ho : y.cls = own) (hy : plainName y.cls = true) (hn : (lg_sl av).length ≤ nL) (lv : List (Nat × Value)) (hlv : lv_args 0 av = lv)
    (body : ∀ (p : Program) (e : Env) (s : State) (m : MethodId) (below : List Frame) (meth : Method) (c : Code) (A : Nat → Prop) (ls : Array Slot), ev p m c cc nL s av.toArray own D tys → meth.sig.returnType = none → meth.locks = false → (∀ q : Nat, s.heap.size ≤ q → A q) → wB D A s.heap ws s.heap [] → lv_has ls nL lv →
      W p l e rm s m av.toArray below meth c s.heap [] 0 0 (MQ below (va_Qv (fun _ : Unit => True) (fun _ => wQ D tys A ws') A) av.toArray s 0 0 A) (F0 m 0 ls [])) : ctV l y cc nL rm D tys ws ws' av := by
  intro sz
  refine Met.ofW (cc := cc) (maxL := nL) (ret := none) hy rfl ?_
  intro p e s m args below meth c s₁ B hml hv
  obtain ⟨rfl, hsz, hP, hK, hD0⟩ := hv
  have hts := atoms_spec (ws := ws_ y cc nL none) B.pre
  have hts : ∀ w ∈ lw_all, w.before _ s = true := fun w h => hts w (List.mem_cons_of_mem _ h)
  have hown : s.vm.findClass y.cls = some m.cls := findClass_of_methodNamed B.named
  subst hsz
  subst ho
  subst hlv
  have hl := lv_entry av (n := nL) hn
  rw [lg_entry_eq]
  exact body p e s m below meth c _ _ ⟨⟨B.exec, B.bytes, hml, hown, hts⟩, hK⟩ B.returns B.notSynchronized (fun q h => Or.inr h) ⟨hP, hD0.self, va_S.rf⟩ hl
theorem mkI {l : Launch} {y : MethodName} {cc : ByteArray} {nL : Nat} {rm : Room} {D : va_G} {tys : List (ClassId × FieldType)} {ws ws' : va_W} {av : List Value} {ty : FieldType} {r : Int32} (own : String) (ho : y.cls = own) (hy : plainName y.cls = true) (hn : (lg_sl av).length ≤ nL) (lv : List (Nat × Value)) (hlv : lv_args 0 av = lv)
    (body : ∀ (p : Program) (e : Env) (s : State) (m : MethodId) (below : List Frame) (meth : Method) (c : Code) (A : Nat → Prop) (ls : Array Slot), ev p m c cc nL s av.toArray own D tys → meth.sig.returnType = some ty → meth.locks = false → (∀ q : Nat, s.heap.size ≤ q → A q) → wB D A s.heap ws s.heap [] → lv_has ls nL lv →
      W p l e rm s m av.toArray below meth c s.heap [] 0 0 (MQ below (va_Qi (fun (x : Int32) (_ : Unit) => x = r) (fun _ => wQ D tys A ws') A) av.toArray s 0 0 A) (F0 m 0 ls [])) : ctI l y cc nL rm D tys ws ws' av ty r := by
  intro sz
  refine Met.ofW (cc := cc) (maxL := nL) (ret := some ty) hy rfl ?_
  intro p e s m args below meth c s₁ B hml hv
  obtain ⟨rfl, hsz, hP, hK, hD0⟩ := hv
  have hts := atoms_spec (ws := ws_ y cc nL (some ty)) B.pre
  have hts : ∀ w ∈ lw_all, w.before _ s = true := fun w h => hts w (List.mem_cons_of_mem _ h)
  have hown : s.vm.findClass y.cls = some m.cls := findClass_of_methodNamed B.named
  subst hsz
  subst ho
  subst hlv
  have hl := lv_entry av (n := nL) hn
  rw [lg_entry_eq]
  exact body p e s m below meth c _ _ ⟨⟨B.exec, B.bytes, hml, hown, hts⟩, hK⟩ B.returns B.notSynchronized (fun q h => Or.inr h) ⟨hP, hD0.self, va_S.rf⟩ hl
theorem r_vret (E : ev p m c cc nL s args own D tys) (hr : meth.sig.returnType = none) (hk : meth.locks = false) (hB : wB D A s.heap ws H locs) (hdg : decode cc pc = .ok (.return_, 1)) :
    W p l e R s m args below meth c H locs 0 0 (MQ below (va_Qv (fun _ : Unit => True) (fun _ => wQ D tys A ws) A) args s 0 0 A) (F0 m pc ls []) :=
  W.vret E.x E.b hr (fun t ht hW => ⟨⟨(), rfl, trivial, by rw [ht]; exact hB.1, va_K.moved hW.alike E.k, hB.2.1⟩, hB.2.2.F ht⟩) hB.2.2.2.2 hdg hk
theorem r_iret (E : ev p m c cc nL s args own D tys) (hr : meth.sig.returnType = some .int) (hk : meth.locks = false) (hB : wB D A s.heap ws H locs) (hdg : decode cc pc = .ok (.ireturn, 1)) {x r : Int32} (hx : x = r) :
    W p l e R s m args below meth c H locs 0 0 (MQ below (va_Qi (fun (x : Int32) (_ : Unit) => x = r) (fun _ => wQ D tys A ws) A) args s 0 0 A) (F0 m pc ls [.int x]) :=
  W.iret E.x E.b hr (fun t ht hW => ⟨⟨x, (), rfl, hx, by rw [ht]; exact hB.1, va_K.moved hW.alike E.k, hB.2.1⟩, hB.2.2.F ht⟩) hB.2.2.2.2 hdg hk
theorem nb_b (b : Bool) : narrow .boolean (.int (bI b)) = .int (bI b) := by cases b <;> first | rfl | decide +kernel
theorem fb_b (b : Bool) : fits .boolean (.int (bI b)) = true := by cases b <;> first | rfl | decide +kernel
theorem vb_b (b : Bool) : vp_nar .boolean (bI b) = bI b := by cases b <;> first | rfl | decide +kernel
theorem r_zret (E : ev p m c cc nL s args own D tys) (hr : meth.sig.returnType = some .boolean) (hk : meth.locks = false) (hB : wB D A s.heap ws H locs) (hdg : decode cc pc = .ok (.ireturn, 1)) {x : Bool} {r : Int32} (hx : bI x = r) :
    W p l e R s m args below meth c H locs 0 0 (MQ below (va_Qi (fun (x : Int32) (_ : Unit) => x = r) (fun _ => wQ D tys A ws) A) args s 0 0 A) (F0 m pc ls [.int (bI x)]) :=
  W.zret E.x E.b hr (nb_b x) (fun t ht hW => ⟨⟨bI x, (), rfl, hx, by rw [ht]; exact hB.1, va_K.moved hW.alike E.k, hB.2.1⟩, hB.2.2.F ht⟩) hB.2.2.2.2 hdg hk
theorem wB.free (hB : wB D A H0 ws H locs) (hA : ∀ q : Nat, H0.size ≤ q → A q) : ∀ q, va_A ws H.size q → A q := by
  intro q h
  rcases h with ⟨k, e, h⟩ | h
  · exact hB.2.1.2 k (q, e) h
  · exact hA q (Nat.le_trans hB.2.2.1 h)
theorem r_callv (E : ev p m c cc nL s args own D tys) (hA : ∀ q : Nat, s.heap.size ≤ q → A q) (hB : wB D A s.heap ws H locs) (hls : ls.size = nL) {y : MethodName} {cc' : ByteArray} {nL' : Nat} {rm : Room} {ws' : va_W} {a ci idx : Nat} {As st : List Value} {fs : List Value} {q : vw_C} (n : Nat)
    (ct : ctV l y cc' nL' rm D tys ws ws' (.ref a :: As)) (hc : Cl[ci]? = some q) (he : ws[0]? = some (a, .inr (ci, fs)))
    (h1 : Cond.methodLink own idx y ∈ lw_all) (h2 : Cond.instanceMethod y ∈ lw_all) (h3 : Cond.selects q.1 y y ∈ lw_all) (h4 : Cond.initialized q.1 ∈ lw_all) (h5 : Cond.code y cc' nL' none ∈ lw_all)
    (hd : y.cls = q.1 ∧ y.cls ≠ "java/lang/invoke/MethodHandle" ∧ y.cls ≠ "java/lang/invoke/VarHandle" ∧ (parseMethodDescriptor y.desc).map (fun d => d.parameters.length) = some n) (hn : As.length = n) (hrm : rm.cells = 0 ∧ rm.slots = 0) (hR : rm.frames + 1 ≤ R.frames ∧ 8 + (nL' + 11) + rm.locals ≤ R.locals) (hf : cells ≤ R.cells ∧ slots ≤ R.slots)
    (hst : st = As.reverse ++ .ref a :: rest) (hrest : (rest.map fun v => v.category).sum ≤ 8) (hdg : decode cc pc = .ok (.invokevirtual idx, 3))
    (kk : ∀ (H1 : Heap) (locs1 : List Loc), wB D A s.heap ws' H1 locs1 → W p l e R s m args below meth c H1 locs1 cells slots Q (F0 m (pc + 3) ls rest)) : W p l e R s m args below meth c H locs cells slots Q (F0 m pc ls st) := by
  have hF := hB.free hA
  subst hst
  refine va_callv (va_runV (As := As) (rest := rest) ⟨E.x, E.b, E.ml, E.ow, E.ts⟩ (ct H.size) (cwV n E.ts (lw_V h1 h2 h3 h4 h5) rfl hrm.1 hrm.2 hd hR) ⟨wP.blind, va_recv E.k hB.1 hc he, fun U hU hW => ⟨rfl, by rw [hU], by rw [hU]; exact hB.1, va_K.moved hW.alike E.k, hB.2.1.weaken (fun _ _ _ _ => trivial)⟩⟩ rfl hn hls rfl (lv_room hrest) hdg hf) hB.2.2 (fun q _ h => hF q h) hF (fun u t H1 locs ht hvm hw1 hB1 hz1 hk1 hS => ?_)
  obtain ⟨hP1, hK1, hD1⟩ := hB1
  rw [ht] at hP1
  exact kk H1 locs ⟨hP1, hD1.weaken (fun k q _ h => hF q.1 h), hS⟩
theorem r_calli (E : ev p m c cc nL s args own D tys) (hA : ∀ q : Nat, s.heap.size ≤ q → A q) (hB : wB D A s.heap ws H locs) (hls : ls.size = nL) {y : MethodName} {cc' : ByteArray} {nL' : Nat} {rm : Room} {ws' : va_W} {a ci idx : Nat} {As st : List Value} {fs : List Value} {q : vw_C} {ty : FieldType} {r : Int32} (n : Nat)
    (ct : ctI l y cc' nL' rm D tys ws ws' (.ref a :: As) ty r) (hc : Cl[ci]? = some q) (he : ws[0]? = some (a, .inr (ci, fs)))
    (h1 : Cond.methodLink own idx y ∈ lw_all) (h2 : Cond.instanceMethod y ∈ lw_all) (h3 : Cond.selects q.1 y y ∈ lw_all) (h4 : Cond.initialized q.1 ∈ lw_all) (h5 : Cond.code y cc' nL' (some ty) ∈ lw_all)
    (hd : y.cls = q.1 ∧ y.cls ≠ "java/lang/invoke/MethodHandle" ∧ y.cls ≠ "java/lang/invoke/VarHandle" ∧ (parseMethodDescriptor y.desc).map (fun d => d.parameters.length) = some n) (hn : As.length = n) (hrm : rm.cells = 0 ∧ rm.slots = 0) (hR : rm.frames + 1 ≤ R.frames ∧ 8 + (nL' + 11) + rm.locals ≤ R.locals) (hf : cells ≤ R.cells ∧ slots ≤ R.slots)
    (hst : st = As.reverse ++ .ref a :: rest) (hrest : (rest.map fun v => v.category).sum ≤ 8) (hdg : decode cc pc = .ok (.invokevirtual idx, 3))
    (kk : ∀ (H1 : Heap) (locs1 : List Loc), wB D A s.heap ws' H1 locs1 → W p l e R s m args below meth c H1 locs1 cells slots Q (F0 m (pc + 3) ls (.int r :: rest))) : W p l e R s m args below meth c H locs cells slots Q (F0 m pc ls st) := by
  have hF := hB.free hA
  subst hst
  refine va_calli (va_runV (As := As) (rest := rest) ⟨E.x, E.b, E.ml, E.ow, E.ts⟩ (ct H.size) (cwV n E.ts (lw_V h1 h2 h3 h4 h5) rfl hrm.1 hrm.2 hd hR) ⟨wP.blind, va_recv E.k hB.1 hc he, fun U hU hW => ⟨rfl, by rw [hU], by rw [hU]; exact hB.1, va_K.moved hW.alike E.k, hB.2.1.weaken (fun _ _ _ _ => trivial)⟩⟩ rfl hn hls rfl (lv_room hrest) hdg hf) hB.2.2 (fun q _ h => hF q h) hF (fun x u t H1 locs ht hvm hw1 hB1 hz1 hk1 hS => ?_)
  obtain ⟨hP1, hK1, hD1⟩ := hB1
  rw [ht] at hP1
  subst hw1
  exact kk H1 locs ⟨hP1, hD1.weaken (fun k q _ h => hF q.1 h), hS⟩
-- fields
theorem r_get0 (E : ev p m c cc nL s args RX0 D tys) (hB : wB D A H0 ws H locs) (k : Nat) {idx a : Nat} {fs : List Value} {v : Value} (he : ws[0]? = some (a, .inr (0, fs))) (hq : Cond.fieldLink RX0 idx RX0 (TX0 k).2.1 (TX0 k).2.2.1 ∈ lw_all) (hk : k < 17) (hs : (TX0 k).1 = RX0) (hv : fs[k]? = some v) (hdg : decode cc pc = .ok (.getfield idx, 3))
    (kk : W p l e R s m args below meth c H locs cells slots Q (F0 m (pc + 3) ls (v :: rest))) : W p l e R s m args below meth c H locs cells slots Q (F0 m pc ls (.ref a :: rest)) :=
  va_get (C := RX0) (T := TX0) (N := 17) (ref := RX0) E.x E.b E.ts in_X0 E.ow E.k hB.1 0 he rfl k hk (E.ts _ hq) (fun x h => by rw [hs] at h; exact h) hv hdg kk
theorem r_get1 (E : ev p m c cc nL s args RX1 D tys) (hB : wB D A H0 ws H locs) (k : Nat) {idx a : Nat} {fs : List Value} {v : Value} (he : ws[0]? = some (a, .inr (1, fs))) (hq : Cond.fieldLink RX1 idx RX1 (TX1 k).2.1 (TX1 k).2.2.1 ∈ lw_all) (hk : k < 9) (hs : (TX1 k).1 = RX1) (hv : fs[k]? = some v) (hdg : decode cc pc = .ok (.getfield idx, 3))
    (kk : W p l e R s m args below meth c H locs cells slots Q (F0 m (pc + 3) ls (v :: rest))) : W p l e R s m args below meth c H locs cells slots Q (F0 m pc ls (.ref a :: rest)) :=
  va_get (C := RX1) (T := TX1) (N := 9) (ref := RX1) E.x E.b E.ts in_X1 E.ow E.k hB.1 0 he rfl k hk (E.ts _ hq) (fun x h => by rw [hs] at h; exact h) hv hdg kk
theorem r_put0 (E : ev p m c cc nL s args RX0 D tys) (hB : wB D A H0 ws H locs) (k : Nat) {idx a : Nat} {fs : List Value} {v : Value} {ty : FieldType} {ws' : va_W} (he : ws[0]? = some (a, .inr (0, fs))) (hq : Cond.fieldLink RX0 idx RX0 (TX0 k).2.1 (TX0 k).2.2.1 ∈ lw_all) (hk : k < 17) (hs : (TX0 k).1 = RX0) (hfin : (TX0 k).2.2.2 = false) (hd : parseFieldDescriptor (TX0 k).2.2.1 = some ty) (hn : narrow ty v = v) (hfit : fits ty v = true) (hl : k < fs.length) (hw : ws.set 0 (a, .inr (0, fs.set k v)) = ws') (hdg : decode cc pc = .ok (.putfield idx, 3))
    (kk : ∀ (H1 : Heap) (locs1 : List Loc), wB D A H0 ws' H1 locs1 → W p l e R s m args below meth c H1 locs1 cells slots Q (F0 m (pc + 3) ls rest)) : W p l e R s m args below meth c H locs cells slots Q (F0 m pc ls (v :: .ref a :: rest)) :=
  va_put (C := RX0) (T := TX0) (N := 17) (ref := RX0) E.x E.b E.ts in_X0 tyX0 tyX0_ok nmX0 E.ow E.k hB.1 hB.2.1 hB.2.2 0 he rfl k hk (E.ts _ hq) (fun x h => by rw [hs] at h; exact h) hfin hd hn hfit hl hdg (fun H1 locs1 hP hD hS => kk H1 locs1 ⟨hw ▸ hP, hw ▸ hD, hS⟩)
theorem r_put1 (E : ev p m c cc nL s args RX1 D tys) (hB : wB D A H0 ws H locs) (k : Nat) {idx a : Nat} {fs : List Value} {v : Value} {ty : FieldType} {ws' : va_W} (he : ws[0]? = some (a, .inr (1, fs))) (hq : Cond.fieldLink RX1 idx RX1 (TX1 k).2.1 (TX1 k).2.2.1 ∈ lw_all) (hk : k < 9) (hs : (TX1 k).1 = RX1) (hfin : (TX1 k).2.2.2 = false) (hd : parseFieldDescriptor (TX1 k).2.2.1 = some ty) (hn : narrow ty v = v) (hfit : fits ty v = true) (hl : k < fs.length) (hw : ws.set 0 (a, .inr (1, fs.set k v)) = ws') (hdg : decode cc pc = .ok (.putfield idx, 3))
    (kk : ∀ (H1 : Heap) (locs1 : List Loc), wB D A H0 ws' H1 locs1 → W p l e R s m args below meth c H1 locs1 cells slots Q (F0 m (pc + 3) ls rest)) : W p l e R s m args below meth c H locs cells slots Q (F0 m pc ls (v :: .ref a :: rest)) :=
  va_put (C := RX1) (T := TX1) (N := 9) (ref := RX1) E.x E.b E.ts in_X1 tyX1 tyX1_ok nmX1 E.ow E.k hB.1 hB.2.1 hB.2.2 0 he rfl k hk (E.ts _ hq) (fun x h => by rw [hs] at h; exact h) hfin hd hn hfit hl hdg (fun H1 locs1 hP hD hS => kk H1 locs1 ⟨hw ▸ hP, hw ▸ hD, hS⟩)
-- arrays
theorem r_ild (E : ev p m c cc nL s args own D tys) (hB : wB D A H0 ws H locs) (q0 t0 : Nat) {a : Nat} {cA : ClassId} {n : Nat} {f : Nat → Int32} (ha : ws[q0]? = some (a, .inl (cA, n, .inl f))) (ht : tys[t0]? = some (cA, .int)) {i : Nat} (hi : i < n) (hn : n < 2 ^ 31) (hdg : decode cc pc = .ok (.iaload, 1))
    (kk : W p l e R s m args below meth c H locs cells slots Q (F0 m (pc + 1) ls (.int (f i) :: rest))) : W p l e R s m args below meth c H locs cells slots Q (F0 m pc ls (.int (nI i) :: .ref a :: rest)) := by
  refine va_iald E.x E.b E.k hB.1 q0 t0 ha ht (vp_in_nI hi hn) hdg ?_
  rw [nI_clamp (Nat.lt_trans hi hn)]
  exact kk
theorem r_zld (E : ev p m c cc nL s args own D tys) (hB : wB D A H0 ws H locs) (q0 t0 : Nat) {a : Nat} {cA : ClassId} {n : Nat} {f : Nat → Int32} (ha : ws[q0]? = some (a, .inl (cA, n, .inl f))) (ht : tys[t0]? = some (cA, .boolean)) {i : Nat} (hi : i < n) (hn : n < 2 ^ 31) (hdg : decode cc pc = .ok (.baload, 1))
    (kk : W p l e R s m args below meth c H locs cells slots Q (F0 m (pc + 1) ls (.int (f i) :: rest))) : W p l e R s m args below meth c H locs cells slots Q (F0 m pc ls (.int (nI i) :: .ref a :: rest)) := by
  refine va_zald E.x E.b E.k hB.1 q0 t0 ha ht (vp_in_nI hi hn) hdg ?_
  rw [nI_clamp (Nat.lt_trans hi hn)]
  exact kk
theorem r_ist (E : ev p m c cc nL s args own D tys) (hB : wB D A H0 ws H locs) (q0 t0 : Nat) {a : Nat} {cA : ClassId} {n : Nat} {f f' : Nat → Int32} (ha : ws[q0]? = some (a, .inl (cA, n, .inl f))) (ht : tys[t0]? = some (cA, .int)) {i : Nat} {x : Int32} (hi : i < n) (hn : n < 2 ^ 31) {ws' : va_W} (hf : upd f i x = f') (hw : ws.set q0 (a, .inl (cA, n, .inl f')) = ws') (hdg : decode cc pc = .ok (.iastore, 1))
    (kk : ∀ (H1 : Heap) (locs1 : List Loc), wB D A H0 ws' H1 locs1 → W p l e R s m args below meth c H1 locs1 cells slots Q (F0 m (pc + 1) ls rest)) : W p l e R s m args below meth c H locs cells slots Q (F0 m pc ls (.int x :: .int (nI i) :: .ref a :: rest)) := by
  refine va_iast E.x E.b E.k hB.1 hB.2.1 hB.2.2 q0 t0 ha ht (vp_in_nI hi hn) hdg (fun H1 locs1 hP hD hS => ?_)
  rw [nI_clamp (Nat.lt_trans hi hn), hf, hw] at hP hD
  exact kk H1 locs1 ⟨hP, hD, hS⟩
theorem r_zst (E : ev p m c cc nL s args own D tys) (hB : wB D A H0 ws H locs) (q0 t0 : Nat) {a : Nat} {cA : ClassId} {n : Nat} {f f' : Nat → Int32} (ha : ws[q0]? = some (a, .inl (cA, n, .inl f))) (ht : tys[t0]? = some (cA, .boolean)) {i : Nat} {x : Bool} (hi : i < n) (hn : n < 2 ^ 31) {ws' : va_W} (hf : upd f i (bI x) = f') (hw : ws.set q0 (a, .inl (cA, n, .inl f')) = ws') (hdg : decode cc pc = .ok (.bastore, 1))
    (kk : ∀ (H1 : Heap) (locs1 : List Loc), wB D A H0 ws' H1 locs1 → W p l e R s m args below meth c H1 locs1 cells slots Q (F0 m (pc + 1) ls rest)) : W p l e R s m args below meth c H locs cells slots Q (F0 m pc ls (.int (bI x) :: .int (nI i) :: .ref a :: rest)) := by
  refine va_zast E.x E.b E.k hB.1 hB.2.1 hB.2.2 q0 t0 ha ht (vp_in_nI hi hn) hdg (fun H1 locs1 hP hD hS => ?_)
  rw [nI_clamp (Nat.lt_trans hi hn), vb_b, hf, hw] at hP hD
  exact kk H1 locs1 ⟨hP, hD, hS⟩
end LY
theorem upL {N : Nat} (G : Nat → Prop) (hs : ∀ i, i ≤ N → (i < N → G (i + 1)) → G i) : ∀ i, i ≤ N → G i := by
  have key : ∀ k i, i + k = N → G i := by
    intro k
    induction k with
    | zero => intro i hi; exact hs i (by omega) (fun h => absurd h (by omega))
    | succ k ih => intro i hi; exact hs i (by omega) (fun _ => ih (i + 1) (by omega))
  intro i hi
  exact key (N - i) i (by omega)
theorem inc1 (a : Nat) : nI a + Int32.ofInt 1 = nI (a + 1) := nI_1 a
end
section
/-! rows over tokens: naturals nI, booleans bI, open values oI, places zI -/
set_option maxRecDepth 100000
theorem bI_inj {a b : Bool} (h : bI a = bI b) : a = b := by cases a <;> cases b <;> first | rfl | (exact absurd h (by decide +kernel))
theorem oI_inj {a b : Option Bool} (h : oI a = oI b) : a = b := by
  rcases a with _ | a <;> rcases b with _ | b
  · rfl
  · cases b <;> exact absurd h (by decide +kernel)
  · cases a <;> exact absurd h (by decide +kernel)
  · exact congrArg some (bI_inj h)
theorem bI_nat (b : Bool) : bI b = nI b.toNat := by cases b <;> decide +kernel
theorem nI_b {x : Nat} (h : x < 2) : nI x = bI (decide (x = 1)) := by
  rcases (show x = 0 ∨ x = 1 by omega) with rfl | rfl <;> decide +kernel
theorem bI_and (a b : Bool) : bI a * bI b = bI (a && b) := by cases a <;> cases b <;> decide +kernel
theorem bI_not (a : Bool) : nI 1 - bI a = bI (!a) := by cases a <;> decide +kernel
theorem bI_xor (a b : Bool) : bI a ^^^ bI b = bI (a ^^ b) := by cases a <;> cases b <;> decide +kernel
theorem oI_lt (o : Option Bool) : oI o < 0 ↔ o = none := by
  rcases o with _ | _ | _
  · exact ⟨fun _ => rfl, fun _ => by decide +kernel⟩
  · exact ⟨fun h => absurd h (by decide +kernel), fun h => by cases h⟩
  · exact ⟨fun h => absurd h (by decide +kernel), fun h => by cases h⟩
theorem oI_eq0 (o : Option Bool) : oI o = 0 ↔ o = some false := by
  rcases o with _ | _ | _
  · exact ⟨fun h => absurd h (by decide +kernel), fun h => by cases h⟩
  · exact ⟨fun _ => rfl, fun _ => by decide +kernel⟩
  · exact ⟨fun h => absurd h (by decide +kernel), fun h => by cases h⟩
theorem bI_eq0 (b : Bool) : bI b = 0 ↔ b = false := by
  cases b
  · exact ⟨fun _ => rfl, fun _ => by decide +kernel⟩
  · exact ⟨fun h => absurd h (by decide +kernel), fun h => by cases h⟩
theorem nI_ge0 {a : Nat} (h : a < 2 ^ 31) : ¬ nI a < 0 := nI_pos h
theorem i32_le {x y : Int32} : ¬ x < y ↔ y ≤ x := Int32.not_lt
theorem i32_lt {x y : Int32} : ¬ x ≤ y ↔ y < x := Int32.not_le
section LN
variable {p : Program} {l : Launch} {e : Env} {R : Room} {s : State} {m : MethodId} {args : Array Value} {below : List Frame} {meth : Method} {c : Code} {H : Heap} {locs : List Loc} {cells slots : Nat} {Q : State → Prop}
variable {cc : ByteArray} {pc nL : Nat} {ls : Array Slot} {rest : List Value} {own : String} {D : va_G} {A : Nat → Prop} {tys : List (ClassId × FieldType)} {ws : va_W} {H0 : Heap}
theorem r_eq {x y : Int32} (h : x = y) (k : W p l e R s m args below meth c H locs cells slots Q (F0 m pc ls (.int y :: rest))) : W p l e R s m args below meth c H locs cells slots Q (F0 m pc ls (.int x :: rest)) := by rw [h]; exact k
theorem n_add (E : ev p m c cc nL s args own D tys) {a b : Nat} (hdg : decode cc pc = .ok (.iadd, 1)) (k : W p l e R s m args below meth c H locs cells slots Q (F0 m (pc + 1) ls (.int (nI (a + b)) :: rest))) : W p l e R s m args below meth c H locs cells slots Q (F0 m pc ls (.int (nI b) :: .int (nI a) :: rest)) := lv_iadd E.x E.b hdg (by rw [nI_add]; exact k)
theorem n_mul (E : ev p m c cc nL s args own D tys) {a b : Nat} (hdg : decode cc pc = .ok (.imul, 1)) (k : W p l e R s m args below meth c H locs cells slots Q (F0 m (pc + 1) ls (.int (nI (a * b)) :: rest))) : W p l e R s m args below meth c H locs cells slots Q (F0 m pc ls (.int (nI b) :: .int (nI a) :: rest)) := lv_imul E.x E.b hdg (by rw [pk_mul]; exact k)
theorem n_sub (E : ev p m c cc nL s args own D tys) {a b : Nat} (h : b ≤ a) (hdg : decode cc pc = .ok (.isub, 1)) (k : W p l e R s m args below meth c H locs cells slots Q (F0 m (pc + 1) ls (.int (nI (a - b)) :: rest))) : W p l e R s m args below meth c H locs cells slots Q (F0 m pc ls (.int (nI b) :: .int (nI a) :: rest)) := lv_isub E.x E.b hdg (by rw [pk_sub h]; exact k)
theorem n_half (E : ev p m c cc nL s args own D tys) {a : Nat} (h : a < 2 ^ 31) (hdg : decode cc pc = .ok (.ishr, 1)) (k : W p l e R s m args below meth c H locs cells slots Q (F0 m (pc + 1) ls (.int (nI (a / 2)) :: rest))) : W p l e R s m args below meth c H locs cells slots Q (F0 m pc ls (.int (nI 1) :: .int (nI a) :: rest)) := lv_ishr E.x E.b hdg (by rw [pk_shrN h (nI 1 &&& 31) 1 (by decide +kernel)]; exact k)
theorem nI_par {a : Nat} (h : a < 2 ^ 31) : nI a &&& nI 1 = bI (decide (a % 2 = 1)) := by
  rw [pk_andN (n := a) (by omega) (m := nI 1) 1 (by decide +kernel)]
  exact nI_b (Nat.mod_lt _ (by decide))
theorem n_par (E : ev p m c cc nL s args own D tys) {a : Nat} (h : a < 2 ^ 31) (hdg : decode cc pc = .ok (.iand, 1)) (k : W p l e R s m args below meth c H locs cells slots Q (F0 m (pc + 1) ls (.int (bI (decide (a % 2 = 1))) :: rest))) : W p l e R s m args below meth c H locs cells slots Q (F0 m pc ls (.int (nI 1) :: .int (nI a) :: rest)) := lv_iand E.x E.b hdg (by rw [nI_par h]; exact k)
theorem b_xorr (E : ev p m c cc nL s args own D tys) {a b : Bool} (hdg : decode cc pc = .ok (.ixor, 1)) (k : W p l e R s m args below meth c H locs cells slots Q (F0 m (pc + 1) ls (.int (bI (a ^^ b)) :: rest))) : W p l e R s m args below meth c H locs cells slots Q (F0 m pc ls (.int (bI b) :: .int (bI a) :: rest)) := lv_ixor E.x E.b hdg (by rw [bI_xor]; exact k)
theorem n_icmp_eq (E : ev p m c cc nL s args own D tys) {a b : Nat} (ha : a < 2 ^ 31) (hb : b < 2 ^ 31) {off : Int} {tgt : Nat} (hdg : decode cc pc = .ok (.if_icmp .eq off, 3)) (ht : (pc : Int) + off = (tgt : Int)) (kt : a = b → W p l e R s m args below meth c H locs cells slots Q (F0 m tgt ls rest)) (kf : ¬ a = b → W p l e R s m args below meth c H locs cells slots Q (F0 m (pc + 3) ls rest)) : W p l e R s m args below meth c H locs cells slots Q (F0 m pc ls (.int (nI b) :: .int (nI a) :: rest)) :=
  lv_icmp_eq E.x E.b hdg ht (fun h => kt ((nI_eq ha hb).mp h)) (fun h => kf (fun q => h ((nI_eq ha hb).mpr q)))
theorem n_icmp_ne (E : ev p m c cc nL s args own D tys) {a b : Nat} (ha : a < 2 ^ 31) (hb : b < 2 ^ 31) {off : Int} {tgt : Nat} (hdg : decode cc pc = .ok (.if_icmp .ne off, 3)) (ht : (pc : Int) + off = (tgt : Int)) (kt : ¬ a = b → W p l e R s m args below meth c H locs cells slots Q (F0 m tgt ls rest)) (kf : a = b → W p l e R s m args below meth c H locs cells slots Q (F0 m (pc + 3) ls rest)) : W p l e R s m args below meth c H locs cells slots Q (F0 m pc ls (.int (nI b) :: .int (nI a) :: rest)) :=
  lv_icmp_ne E.x E.b hdg ht (fun h => kt (fun q => h ((nI_eq ha hb).mpr q))) (fun h => kf ((nI_eq ha hb).mp h))
theorem n_icmp_lt (E : ev p m c cc nL s args own D tys) {a b : Nat} (ha : a < 2 ^ 31) (hb : b < 2 ^ 31) {off : Int} {tgt : Nat} (hdg : decode cc pc = .ok (.if_icmp .lt off, 3)) (ht : (pc : Int) + off = (tgt : Int)) (kt : a < b → W p l e R s m args below meth c H locs cells slots Q (F0 m tgt ls rest)) (kf : b ≤ a → W p l e R s m args below meth c H locs cells slots Q (F0 m (pc + 3) ls rest)) : W p l e R s m args below meth c H locs cells slots Q (F0 m pc ls (.int (nI b) :: .int (nI a) :: rest)) :=
  lv_icmp_lt E.x E.b hdg ht (fun h => kt ((nI_ltI ha hb).mp h)) (fun h => kf (Nat.not_lt.mp fun q => h ((nI_ltI ha hb).mpr q)))
theorem n_icmp_ge (E : ev p m c cc nL s args own D tys) {a b : Nat} (ha : a < 2 ^ 31) (hb : b < 2 ^ 31) {off : Int} {tgt : Nat} (hdg : decode cc pc = .ok (.if_icmp .ge off, 3)) (ht : (pc : Int) + off = (tgt : Int)) (kt : b ≤ a → W p l e R s m args below meth c H locs cells slots Q (F0 m tgt ls rest)) (kf : a < b → W p l e R s m args below meth c H locs cells slots Q (F0 m (pc + 3) ls rest)) : W p l e R s m args below meth c H locs cells slots Q (F0 m pc ls (.int (nI b) :: .int (nI a) :: rest)) :=
  lv_icmp_ge E.x E.b hdg ht (fun h => kt ((nI_leI hb ha).mp h)) (fun h => kf (Nat.not_le.mp fun q => h ((nI_leI hb ha).mpr q)))
theorem n_icmp_gt (E : ev p m c cc nL s args own D tys) {a b : Nat} (ha : a < 2 ^ 31) (hb : b < 2 ^ 31) {off : Int} {tgt : Nat} (hdg : decode cc pc = .ok (.if_icmp .gt off, 3)) (ht : (pc : Int) + off = (tgt : Int)) (kt : b < a → W p l e R s m args below meth c H locs cells slots Q (F0 m tgt ls rest)) (kf : a ≤ b → W p l e R s m args below meth c H locs cells slots Q (F0 m (pc + 3) ls rest)) : W p l e R s m args below meth c H locs cells slots Q (F0 m pc ls (.int (nI b) :: .int (nI a) :: rest)) :=
  lv_icmp_gt E.x E.b hdg ht (fun h => kt ((nI_ltI hb ha).mp h)) (fun h => kf (Nat.not_lt.mp fun q => h ((nI_ltI hb ha).mpr q)))
theorem n_icmp_le (E : ev p m c cc nL s args own D tys) {a b : Nat} (ha : a < 2 ^ 31) (hb : b < 2 ^ 31) {off : Int} {tgt : Nat} (hdg : decode cc pc = .ok (.if_icmp .le off, 3)) (ht : (pc : Int) + off = (tgt : Int)) (kt : a ≤ b → W p l e R s m args below meth c H locs cells slots Q (F0 m tgt ls rest)) (kf : b < a → W p l e R s m args below meth c H locs cells slots Q (F0 m (pc + 3) ls rest)) : W p l e R s m args below meth c H locs cells slots Q (F0 m pc ls (.int (nI b) :: .int (nI a) :: rest)) :=
  lv_icmp_le E.x E.b hdg ht (fun h => kt ((nI_leI ha hb).mp h)) (fun h => kf (Nat.not_le.mp fun q => h ((nI_leI ha hb).mpr q)))
theorem b_if_eq (E : ev p m c cc nL s args own D tys) {b : Bool} {off : Int} {tgt : Nat} (hdg : decode cc pc = .ok (.ifCond .eq off, 3)) (ht : (pc : Int) + off = (tgt : Int)) (kt : b = false → W p l e R s m args below meth c H locs cells slots Q (F0 m tgt ls rest)) (kf : b = true → W p l e R s m args below meth c H locs cells slots Q (F0 m (pc + 3) ls rest)) : W p l e R s m args below meth c H locs cells slots Q (F0 m pc ls (.int (bI b) :: rest)) :=
  lv_if_eq E.x E.b hdg ht (fun h => kt ((bI_eq0 b).mp h)) (fun h => kf (by cases b; exact absurd ((bI_eq0 false).mpr rfl) h; rfl))
theorem b_if_ne (E : ev p m c cc nL s args own D tys) {b : Bool} {off : Int} {tgt : Nat} (hdg : decode cc pc = .ok (.ifCond .ne off, 3)) (ht : (pc : Int) + off = (tgt : Int)) (kt : b = true → W p l e R s m args below meth c H locs cells slots Q (F0 m tgt ls rest)) (kf : b = false → W p l e R s m args below meth c H locs cells slots Q (F0 m (pc + 3) ls rest)) : W p l e R s m args below meth c H locs cells slots Q (F0 m pc ls (.int (bI b) :: rest)) :=
  lv_if_ne E.x E.b hdg ht (fun h => kt (by cases b; exact absurd ((bI_eq0 false).mpr rfl) h; rfl)) (fun h => kf ((bI_eq0 b).mp h))
theorem o_if_ge (E : ev p m c cc nL s args own D tys) {o : Option Bool} {off : Int} {tgt : Nat} (hdg : decode cc pc = .ok (.ifCond .ge off, 3)) (ht : (pc : Int) + off = (tgt : Int)) (kt : ∀ b, o = some b → W p l e R s m args below meth c H locs cells slots Q (F0 m tgt ls rest)) (kf : o = none → W p l e R s m args below meth c H locs cells slots Q (F0 m (pc + 3) ls rest)) : W p l e R s m args below meth c H locs cells slots Q (F0 m pc ls (.int (oI o) :: rest)) :=
  lv_if_ge E.x E.b hdg ht (fun h => by rcases o with _ | b; exact absurd h (by decide +kernel); exact kt b rfl) (fun h => kf (by rcases o with _ | b; rfl; cases b <;> exact absurd (by decide +kernel) h))
theorem o_if_lt (E : ev p m c cc nL s args own D tys) {o : Option Bool} {off : Int} {tgt : Nat} (hdg : decode cc pc = .ok (.ifCond .lt off, 3)) (ht : (pc : Int) + off = (tgt : Int)) (kt : o = none → W p l e R s m args below meth c H locs cells slots Q (F0 m tgt ls rest)) (kf : ∀ b, o = some b → W p l e R s m args below meth c H locs cells slots Q (F0 m (pc + 3) ls rest)) : W p l e R s m args below meth c H locs cells slots Q (F0 m pc ls (.int (oI o) :: rest)) :=
  lv_if_lt E.x E.b hdg ht (fun h => kt ((oI_lt o).mp h)) (fun h => by rcases o with _ | b; exact absurd (by decide +kernel) h; exact kf b rfl)
theorem o_if_eq (E : ev p m c cc nL s args own D tys) {o : Option Bool} {off : Int} {tgt : Nat} (hdg : decode cc pc = .ok (.ifCond .eq off, 3)) (ht : (pc : Int) + off = (tgt : Int)) (kt : o = some false → W p l e R s m args below meth c H locs cells slots Q (F0 m tgt ls rest)) (kf : ¬ o = some false → W p l e R s m args below meth c H locs cells slots Q (F0 m (pc + 3) ls rest)) : W p l e R s m args below meth c H locs cells slots Q (F0 m pc ls (.int (oI o) :: rest)) :=
  lv_if_eq E.x E.b hdg ht (fun h => kt ((oI_eq0 o).mp h)) (fun h => kf (fun q => h ((oI_eq0 o).mpr q)))
theorem o_if_ne (E : ev p m c cc nL s args own D tys) {o : Option Bool} {off : Int} {tgt : Nat} (hdg : decode cc pc = .ok (.ifCond .ne off, 3)) (ht : (pc : Int) + off = (tgt : Int)) (kt : ¬ o = some false → W p l e R s m args below meth c H locs cells slots Q (F0 m tgt ls rest)) (kf : o = some false → W p l e R s m args below meth c H locs cells slots Q (F0 m (pc + 3) ls rest)) : W p l e R s m args below meth c H locs cells slots Q (F0 m pc ls (.int (oI o) :: rest)) :=
  lv_if_ne E.x E.b hdg ht (fun h => kt (fun q => h ((oI_eq0 o).mpr q))) (fun h => kf ((oI_eq0 o).mp h))
theorem oo_icmp_eq (E : ev p m c cc nL s args own D tys) {o o' : Option Bool} {off : Int} {tgt : Nat} (hdg : decode cc pc = .ok (.if_icmp .eq off, 3)) (ht : (pc : Int) + off = (tgt : Int)) (kt : o = o' → W p l e R s m args below meth c H locs cells slots Q (F0 m tgt ls rest)) (kf : ¬ o = o' → W p l e R s m args below meth c H locs cells slots Q (F0 m (pc + 3) ls rest)) : W p l e R s m args below meth c H locs cells slots Q (F0 m pc ls (.int (oI o') :: .int (oI o) :: rest)) :=
  lv_icmp_eq E.x E.b hdg ht (fun h => kt (oI_inj h)) (fun h => kf (fun q => h (by rw [q])))
theorem oo_icmp_ne (E : ev p m c cc nL s args own D tys) {o o' : Option Bool} {off : Int} {tgt : Nat} (hdg : decode cc pc = .ok (.if_icmp .ne off, 3)) (ht : (pc : Int) + off = (tgt : Int)) (kt : ¬ o = o' → W p l e R s m args below meth c H locs cells slots Q (F0 m tgt ls rest)) (kf : o = o' → W p l e R s m args below meth c H locs cells slots Q (F0 m (pc + 3) ls rest)) : W p l e R s m args below meth c H locs cells slots Q (F0 m pc ls (.int (oI o') :: .int (oI o) :: rest)) :=
  lv_icmp_ne E.x E.b hdg ht (fun h => kt (fun q => h (by rw [q]))) (fun h => kf (oI_inj h))
theorem ob_icmp_eq (E : ev p m c cc nL s args own D tys) {o : Option Bool} {b : Bool} {off : Int} {tgt : Nat} (hdg : decode cc pc = .ok (.if_icmp .eq off, 3)) (ht : (pc : Int) + off = (tgt : Int)) (kt : o = some b → W p l e R s m args below meth c H locs cells slots Q (F0 m tgt ls rest)) (kf : ¬ o = some b → W p l e R s m args below meth c H locs cells slots Q (F0 m (pc + 3) ls rest)) : W p l e R s m args below meth c H locs cells slots Q (F0 m pc ls (.int (bI b) :: .int (oI o) :: rest)) :=
  oo_icmp_eq (o' := some b) E hdg ht kt kf
theorem ob_icmp_ne (E : ev p m c cc nL s args own D tys) {o : Option Bool} {b : Bool} {off : Int} {tgt : Nat} (hdg : decode cc pc = .ok (.if_icmp .ne off, 3)) (ht : (pc : Int) + off = (tgt : Int)) (kt : ¬ o = some b → W p l e R s m args below meth c H locs cells slots Q (F0 m tgt ls rest)) (kf : o = some b → W p l e R s m args below meth c H locs cells slots Q (F0 m (pc + 3) ls rest)) : W p l e R s m args below meth c H locs cells slots Q (F0 m pc ls (.int (bI b) :: .int (oI o) :: rest)) :=
  oo_icmp_ne (o' := some b) E hdg ht kt kf
theorem bb_icmp_eq (E : ev p m c cc nL s args own D tys) {a b : Bool} {off : Int} {tgt : Nat} (hdg : decode cc pc = .ok (.if_icmp .eq off, 3)) (ht : (pc : Int) + off = (tgt : Int)) (kt : a = b → W p l e R s m args below meth c H locs cells slots Q (F0 m tgt ls rest)) (kf : ¬ a = b → W p l e R s m args below meth c H locs cells slots Q (F0 m (pc + 3) ls rest)) : W p l e R s m args below meth c H locs cells slots Q (F0 m pc ls (.int (bI b) :: .int (bI a) :: rest)) :=
  lv_icmp_eq E.x E.b hdg ht (fun h => kt (bI_inj h)) (fun h => kf (fun q => h (by rw [q])))
theorem bb_icmp_ne (E : ev p m c cc nL s args own D tys) {a b : Bool} {off : Int} {tgt : Nat} (hdg : decode cc pc = .ok (.if_icmp .ne off, 3)) (ht : (pc : Int) + off = (tgt : Int)) (kt : ¬ a = b → W p l e R s m args below meth c H locs cells slots Q (F0 m tgt ls rest)) (kf : a = b → W p l e R s m args below meth c H locs cells slots Q (F0 m (pc + 3) ls rest)) : W p l e R s m args below meth c H locs cells slots Q (F0 m pc ls (.int (bI b) :: .int (bI a) :: rest)) :=
  lv_icmp_ne E.x E.b hdg ht (fun h => kt (fun q => h (by rw [q]))) (fun h => kf (bI_inj h))
theorem z_if_ge (E : ev p m c cc nL s args own D tys) {o : Option Nat} (ho : ∀ n, o = some n → n < 2 ^ 31) {off : Int} {tgt : Nat} (hdg : decode cc pc = .ok (.ifCond .ge off, 3)) (ht : (pc : Int) + off = (tgt : Int)) (kt : ∀ n, o = some n → W p l e R s m args below meth c H locs cells slots Q (F0 m tgt ls rest)) (kf : o = none → W p l e R s m args below meth c H locs cells slots Q (F0 m (pc + 3) ls rest)) : W p l e R s m args below meth c H locs cells slots Q (F0 m pc ls (.int (zI o) :: rest)) :=
  lv_if_ge E.x E.b hdg ht (fun h => by rcases o with _ | n; exact absurd h (by decide +kernel); exact kt n rfl) (fun h => kf (by rcases o with _ | n; rfl; exact absurd (nI_pos' (ho n rfl)) h))
theorem z_if_lt (E : ev p m c cc nL s args own D tys) {o : Option Nat} (ho : ∀ n, o = some n → n < 2 ^ 31) {off : Int} {tgt : Nat} (hdg : decode cc pc = .ok (.ifCond .lt off, 3)) (ht : (pc : Int) + off = (tgt : Int)) (kt : o = none → W p l e R s m args below meth c H locs cells slots Q (F0 m tgt ls rest)) (kf : ∀ n, o = some n → W p l e R s m args below meth c H locs cells slots Q (F0 m (pc + 3) ls rest)) : W p l e R s m args below meth c H locs cells slots Q (F0 m pc ls (.int (zI o) :: rest)) :=
  lv_if_lt E.x E.b hdg ht (fun h => by rcases o with _ | n; exact kt rfl; exact absurd h (nI_pos (ho n rfl))) (fun h => by rcases o with _ | n; exact absurd (by decide +kernel) h; exact kf n rfl)
theorem n_if_le (E : ev p m c cc nL s args own D tys) {a : Nat} (ha : a < 2 ^ 31) {off : Int} {tgt : Nat} (hdg : decode cc pc = .ok (.ifCond .le off, 3)) (ht : (pc : Int) + off = (tgt : Int)) (kt : a = 0 → W p l e R s m args below meth c H locs cells slots Q (F0 m tgt ls rest)) (kf : 0 < a → W p l e R s m args below meth c H locs cells slots Q (F0 m (pc + 3) ls rest)) : W p l e R s m args below meth c H locs cells slots Q (F0 m pc ls (.int (nI a) :: rest)) :=
  lv_if_le E.x E.b hdg ht (fun h => kt (Classical.byContradiction fun q => nI_nle (by omega) ha h)) (fun h => kf (Nat.pos_of_ne_zero fun q => h (by rw [q]; decide +kernel)))
theorem n_if_eq (E : ev p m c cc nL s args own D tys) {a : Nat} (ha : a < 2 ^ 31) {off : Int} {tgt : Nat} (hdg : decode cc pc = .ok (.ifCond .eq off, 3)) (ht : (pc : Int) + off = (tgt : Int)) (kt : a = 0 → W p l e R s m args below meth c H locs cells slots Q (F0 m tgt ls rest)) (kf : 0 < a → W p l e R s m args below meth c H locs cells slots Q (F0 m (pc + 3) ls rest)) : W p l e R s m args below meth c H locs cells slots Q (F0 m pc ls (.int (nI a) :: rest)) :=
  lv_if_eq E.x E.b hdg ht (fun h => kt (Classical.byContradiction fun q => nI_ne0 (by omega) ha h)) (fun h => kf (Nat.pos_of_ne_zero fun q => h (by rw [q]; decide +kernel)))
end LN
theorem up_n (f : Nat → Nat) (k x : Nat) : upd (fun j => nI (f j)) k (nI x) = fun j => nI (va_up f k x j) := by
  funext j
  unfold upd va_up
  by_cases h : j = k <;> simp [h]
theorem up_b (f : Nat → Bool) (k : Nat) (x : Bool) : upd (fun j => bI (f j)) k (bI x) = fun j => bI (va_up f k x j) := by
  funext j
  unfold upd va_up
  by_cases h : j = k <;> simp [h]
theorem up_o (f : Nat → Option Bool) (k : Nat) (x : Option Bool) : upd (fun j => oI (f j)) k (oI x) = fun j => oI (va_up f k x j) := by
  funext j
  unfold upd va_up
  by_cases h : j = k <;> simp [h]
theorem up_n6 (f : Nat → Nat) (k x : Nat) : upd (fun j => nI (f (6 + j))) k (nI x) = fun j => nI (va_up f (6 + k) x (6 + j)) := by
  funext j
  unfold upd va_up
  by_cases h : j = k
  · subst h; simp
  · rw [if_neg h, if_neg (by omega)]
end
section
/-! THE PURE PICTURE: the states, and what each method does to them -/
set_option maxRecDepth 100000
-- circuit: gates, left, right, nextOf, beginning, bad literal
abbrev CS : Type := Nat × (Nat → Nat) × (Nat → Nat) × (Nat → Nat) × (Nat → Nat) × Nat
-- last, fromBeginning, different
abbrev PS : Type := Nat × Bool × Bool
-- value, settled, order, broken
abbrev VS : Type := (Nat → Option Bool) × Nat × (Nat → Nat) × Bool
-- choices, chosen, setBefore, second
abbrev KS : Type := Nat × (Nat → Nat) × (Nat → Nat) × (Nat → Bool)
-- the model: signals, states, inputs
abbrev MS : Type := (Nat → Bool) × (Nat → Nat) × (Nat → Bool)
def cL (C : CS) : Nat → Nat := C.2.1
def cR (C : CS) : Nat → Nat := C.2.2.1
def cN (C : CS) : Nat → Nat := C.2.2.2.1
def cB (C : CS) : Nat → Nat := C.2.2.2.2.1
def cX (C : CS) : Nat := C.2.2.2.2.2
def okC (C : CS) : Prop := C.1 ≤ 10 ∧ (∀ g, 6 ≤ g → g < 6 + C.1 → cL C g < 2 * g ∧ cR C g < 2 * g) ∧ (∀ k, 1 ≤ k → k < 5 → cN C k < 2 * (6 + C.1)) ∧ (∀ k, 1 ≤ k → k < 5 → cB C k ≤ 2) ∧ cX C < 2 * (6 + C.1)
/-- F lo, F (lo+1), .., F (lo+k-1) in this order -/
def itr {α : Type} (F : Nat → α → α) (lo : Nat) : Nat → α → α
  | 0, a => a
  | k + 1, a => F (lo + k) (itr F lo k a)
def anyb (q : Nat → Bool) : Nat → Bool
  | 0 => false
  | k + 1 => anyb q k || q k
theorem anyb_iff (q : Nat → Bool) : ∀ n, anyb q n = true ↔ ∃ i, i < n ∧ q i = true
  | 0 => by simp [anyb]
  | n + 1 => by
    rw [anyb, Bool.or_eq_true, anyb_iff q n]
    constructor
    · rintro (⟨i, h, e⟩ | h)
      · exact ⟨i, by omega, e⟩
      · exact ⟨n, by omega, h⟩
    · rintro ⟨i, h, e⟩
      by_cases hi : i = n
      · exact Or.inr (hi ▸ e)
      · exact Or.inl ⟨i, by omega, e⟩
theorem anyb_step {q : Nat → Bool} {n : Nat} (h : anyb q n = false) (e : q n = false) : anyb q (n + 1) = false := by rw [anyb, h, e]; rfl
theorem anyb_hit {q : Nat → Bool} {i n : Nat} (h : i < n) (e : q i = true) : anyb q n = true := (anyb_iff q n).mpr ⟨i, h, e⟩
def putF (V : VS) (a : Nat) (b : Bool) : VS := match V.1 a with
  | none => (va_up V.1 a (some b), V.2.1 + 1, va_up V.2.2.1 V.2.1 a, V.2.2.2)
  | some b' => if b' = b then V else (V.1, V.2.1, V.2.2.1, true)
def par (k : Nat) : Bool := decide (k % 2 = 1)
def vlit (v : Nat → Option Bool) (f k : Nat) : Option Bool := match v (16 * f + k / 2) with
  | none => none
  | some b => some (b ^^ par k)
def putL (V : VS) (f k : Nat) (b : Bool) : VS := putF V (16 * f + k / 2) (b ^^ par k)
def gateF (C : CS) (f g : Nat) (V : VS) : VS :=
  if vlit V.1 f (cL C g) = some false ∨ vlit V.1 f (cR C g) = some false then putF V (16 * f + g) false
  else if vlit V.1 f (cL C g) = some true ∧ vlit V.1 f (cR C g) = some true then putF V (16 * f + g) true
  else if V.1 (16 * f + g) = some true then putL (putL V f (cL C g) true) f (cR C g) true
  else if V.1 (16 * f + g) = some false ∧ vlit V.1 f (cL C g) = some true then putL V f (cR C g) false
  else if V.1 (16 * f + g) = some false ∧ vlit V.1 f (cR C g) = some true then putL V f (cL C g) false
  else V
def latchF (C : CS) (f k : Nat) (V : VS) : VS := match vlit V.1 f (cN C k) with
  | some b => putF V (16 * f + 16 + k) b
  | none => match V.1 (16 * f + 16 + k) with
    | some b => putL V f (cN C k) b
    | none => V
def copyF (C : CS) (n f : Nat) (V : VS) : VS := if f < n then itr (latchF C f) 1 4 (itr (gateF C f) 6 C.1 V) else itr (gateF C f) 6 C.1 V
def roundF (C : CS) (n : Nat) (V : VS) : VS := itr (copyF C n) 0 (n + 1) V
def followF (C : CS) (n : Nat) : Nat → Bool → VS → VS
  | 0, _, V => V
  | k + 1, ch, V => if ch = true ∧ V.2.2.2 = false then followF C n k (decide (V.2.1 < (roundF C n V).2.1)) (roundF C n V) else V
def followA (C : CS) (n : Nat) (V : VS) : VS := followF C n 113 true V
def fillV (v : Nat → Option Bool) : Nat → Option Bool := itr (fun k w => va_up w k none) 0 112 v
def openV (V : VS) (n : Nat) : VS := itr (fun f U => putF U (16 * f) false) 0 (n + 1) (fillV V.1, 0, V.2.2.1, false)
def sameAt (v : Nat → Option Bool) (f h k : Nat) : Bool := decide (v (16 * f + k) ≠ none ∧ v (16 * f + k) = v (16 * h + k))
def sameF (v : Nat → Option Bool) (f h : Nat) : Bool := !anyb (fun i => !sameAt v f h (1 + i)) 4
def repF (v : Nat → Option Bool) (n : Nat) : Bool := anyb (fun f => anyb (fun h => sameF v f h) f) (n + 1)
def begF (C : CS) (P : PS) (k : Nat) (V : VS) : VS := if P.2.1 = true ∧ cB C k < 2 then putF V k (decide (cB C k = 1)) else V
def demandF (C : CS) (P : PS) (V : VS) : VS := itr (begF C P) 1 4 (putL (itr (fun f U => putL U f (cX C) false) 0 P.1 V) P.1 (cX C) true)
def chF (v : Nat → Option Bool) : Nat → Option Nat → Option Nat
  | 0, a => a
  | j + 1, a => chF v j (if v (16 * j + 5) = none then some (16 * j + 5) else a)
def chG (v : Nat → Option Bool) (k : Nat) (a : Option Nat) : Option Nat := if v k = none then some k else a
def chooseAt (v : Nat → Option Bool) (n : Nat) : Option Nat := itr (chG v) 1 4 (chF v (n + 1) none)
def popV (V : VS) : VS := (va_up V.1 (V.2.2.1 (V.2.1 - 1)) none, V.2.1 - 1, V.2.2)
def popn : Nat → VS → VS
  | 0, V => V
  | j + 1, V => popn j (popV V)
def undoV (V : VS) (k : Nat) : VS := popn (V.2.1 - k) V
def unbr (V : VS) : VS := (V.1, V.2.1, V.2.2.1, false)
def gbF : Nat → VS → KS → Bool × VS × KS
  | 0, V, K => (false, V, (0, K.2))
  | k + 1, V, K => if K.2.2.2 k = false then (true, putF (unbr (undoV V (K.2.2.1 k))) (K.2.1 k) true, (k + 1, K.2.1, K.2.2.1, va_up K.2.2.2 k true))
    else gbF k (undoV V (K.2.2.1 k)) K
def pushK (V : VS) (K : KS) (a : Nat) : KS := (K.1 + 1, va_up K.2.1 K.1 a, va_up K.2.2.1 K.1 V.2.1, va_up K.2.2.2 K.1 false)
def wrongF (P : PS) (V : VS) : Bool := V.2.2.2 || (P.2.2 && repF V.1 P.1)
def srch (C : CS) (P : PS) : Nat → VS → KS → Bool × VS × KS
  | 0, V, K => (false, V, K)
  | k + 1, V, K =>
    if wrongF P (followA C P.1 V) = true then
      if (gbF K.1 (followA C P.1 V) K).1 = true then srch C P k (gbF K.1 (followA C P.1 V) K).2.1 (gbF K.1 (followA C P.1 V) K).2.2
      else gbF K.1 (followA C P.1 V) K
    else match chooseAt (followA C P.1 V).1 P.1 with
      | none => (true, followA C P.1 V, K)
      | some a => srch C P k (putF (followA C P.1 V) a false) (pushK (followA C P.1 V) K a)
def searchF (C : CS) (P : PS) (V : VS) (K : KS) : Bool × VS × KS := srch C P 5000 (demandF C P (openV V P.1)) (0, K.2)
-- the desk's whole working state behind the circuit
abbrev DS : Type := PS × VS × KS
def seekF (C : CS) (P : PS) (S : DS) : Bool × DS := ((searchF C P S.2.1 S.2.2).1, (P, (searchF C P S.2.1 S.2.2).2))
def depthL (C : CS) : Nat → Nat → DS → Option Nat × DS
  | 0, _, S => (none, S)
  | k + 1, n, S => if (seekF C (n, true, false) S).1 = true then (some n, (seekF C (n, true, false) S).2) else depthL C k (n + 1) (seekF C (n, true, false) S).2
def proofL (C : CS) : Nat → Nat → DS → Option Nat × DS
  | 0, _, S => (none, S)
  | j + 1, k, S => if (seekF C (k, false, true) S).1 = false then (some k, (seekF C (k, false, true) S).2)
    else if (seekF C (k, true, false) (seekF C (k, false, true) S).2).1 = true then (none, (seekF C (k, true, false) (seekF C (k, false, true) S).2).2)
    else proofL C j (k + 1) (seekF C (k, true, false) (seekF C (k, false, true) S).2).2
-- the model
def mof (g : Nat → Bool) (k : Nat) : Bool := g (k / 2) ^^ par k
def bitF (s k : Nat) : Bool := decide (s / 2 ^ k % 2 = 1)
def latM (s k : Nat) (g : Nat → Bool) : Nat → Bool := va_up g k (bitF s (k - 1))
def gatM (C : CS) (k : Nat) (g : Nat → Bool) : Nat → Bool := va_up g (6 + k) (mof g (cL C (6 + k)) && mof g (cR C (6 + k)))
def workM (C : CS) (s : Nat) (x : Bool) (g : Nat → Bool) : Nat → Bool := itr (gatM C) 0 C.1 (va_up (itr (latM s) 1 4 (va_up g 0 false)) 5 x)
def nxtM (C : CS) (g : Nat → Bool) (k r : Nat) : Nat := r + (mof g (cN C k)).toNat * 2 ^ (k - 1)
def stepM (C : CS) (g : Nat → Bool) : Nat := itr (nxtM C g) 1 4 0
-- a run's state: is bad, the next state, the model
abbrev RS : Type := Bool × Nat × MS
def runM (C : CS) (n num i : Nat) (S : RS) : RS :=
  (S.1 && (mof (workM C S.2.1 (bitF num (n - i)) S.2.2.1) (cX C) == decide (i = n)),
   stepM C (workM C S.2.1 (bitF num (n - i)) (workM C S.2.1 (bitF num (n - i)) S.2.2.1)),
   workM C S.2.1 (bitF num (n - i)) (workM C S.2.1 (bitF num (n - i)) S.2.2.1), va_up S.2.2.2.1 i S.2.1, va_up S.2.2.2.2 i (bitF num (n - i)))
def runR (C : CS) (n s num : Nat) (M : MS) : RS := itr (runM C n num) 0 (n + 1) (true, s, M)
def begAt (C : CS) (s k : Nat) : Bool := decide (cB C k = 2 ∨ cB C k = (bitF s (k - 1)).toNat)
def begM (C : CS) (s : Nat) : Bool := !anyb (fun i => !begAt C s (1 + i)) 4
/-- the first success -/
def firstF {α : Type} (F : Nat → α → Bool × α) : Nat → Nat → α → Bool × α
  | 0, _, a => (false, a)
  | k + 1, n, a => if (F n a).1 = true then (true, (F n a).2) else firstF F k (n + 1) (F n a).2
def foundStep (C : CS) (n num : Nat) (M : MS) : Bool × MS := if begM C (num / 2 ^ (n + 1)) = true then ((runR C n (num / 2 ^ (n + 1)) (num % 2 ^ (n + 1)) M).1, (runR C n (num / 2 ^ (n + 1)) (num % 2 ^ (n + 1)) M).2.2) else (false, M)
def foundM (C : CS) (n : Nat) (M : MS) : Bool × MS := firstF (foundStep C n) (32 * 2 ^ n) 0 M
def leastM (C : CS) : Nat → Nat → MS → Option Nat × MS
  | 0, _, M => (none, M)
  | k + 1, n, M => if (foundM C n M).1 = true then (some n, (foundM C n M).2) else leastM C k (n + 1) (foundM C n M).2
def seenF (st : Nat → Nat) : Nat → Nat
  | 0 => 0
  | i + 1 => seenF st i ||| 2 ^ st i
def diffM (st : Nat → Nat) (n : Nat) : Bool := !anyb (fun i => (seenF st i).testBit (st i)) (n + 1)
def holdStep (C : CS) (n num : Nat) (M : MS) : Bool × MS := ((runR C n (num / 2 ^ (n + 1)) (num % 2 ^ (n + 1)) M).1 && diffM (runR C n (num / 2 ^ (n + 1)) (num % 2 ^ (n + 1)) M).2.2.2.1 n, (runR C n (num / 2 ^ (n + 1)) (num % 2 ^ (n + 1)) M).2.2)
def holdM (C : CS) (n : Nat) (M : MS) : Bool × MS := firstF (holdStep C n) (32 * 2 ^ n) 0 M
def proofM (C : CS) : Nat → Nat → MS → Option Nat × MS
  | 0, _, M => (none, M)
  | j + 1, k, M => if (holdM C k M).1 = false then
      if k = 0 then (some k, (holdM C k M).2)
      else if (leastM C k 0 (holdM C k M).2).1 = none then (some k, (leastM C k 0 (holdM C k M).2).2)
      else proofM C j (k + 1) (leastM C k 0 (holdM C k M).2).2
    else proofM C j (k + 1) (holdM C k M).2
-- the states' own soundness
def cnt (v : Nat → Option Bool) : Nat → Nat
  | 0 => 0
  | k + 1 => cnt v k + (v k).isSome.toNat
def okV (V : VS) : Prop := V.2.1 = cnt V.1 112 ∧ (∀ i, i < V.2.1 → V.2.2.1 i < 112 ∧ V.1 (V.2.2.1 i) ≠ none) ∧ (∀ i j, i < V.2.1 → j < V.2.1 → V.2.2.1 i = V.2.2.1 j → i = j) ∧ (∀ a, a < 112 → V.1 a ≠ none → ∃ i, i < V.2.1 ∧ V.2.2.1 i = a)
theorem cnt_le (v : Nat → Option Bool) : ∀ k, cnt v k ≤ k
  | 0 => Nat.le_refl 0
  | k + 1 => by
    have h1 := cnt_le v k
    have h2 : (v k).isSome.toNat ≤ 1 := Bool.toNat_le _
    rw [cnt]; omega
theorem cnt_lt (v : Nat → Option Bool) {a : Nat} (h : v a = none) : ∀ k, a < k → cnt v k < k
  | 0, q => absurd q (Nat.not_lt_zero a)
  | k + 1, q => by
    rw [cnt]
    by_cases e : a = k
    · have h1 := cnt_le v k
      have h2 : (v k).isSome.toNat = 0 := by rw [← e, h]; rfl
      omega
    · have h1 := cnt_lt v h k (by omega)
      have h2 : (v k).isSome.toNat ≤ 1 := Bool.toNat_le _
      omega
theorem cnt_out (v : Nat → Option Bool) {a : Nat} (o : Option Bool) : ∀ k, k ≤ a → cnt (va_up v a o) k = cnt v k
  | 0, _ => rfl
  | k + 1, q => by
    rw [cnt, cnt, cnt_out v o k (by omega), va_up_ne v o (by omega)]
theorem cnt_put (v : Nat → Option Bool) {a : Nat} (b : Bool) (h : v a = none) : ∀ k, a < k → cnt (va_up v a (some b)) k = cnt v k + 1
  | 0, q => absurd q (Nat.not_lt_zero a)
  | k + 1, q => by
    rw [cnt, cnt]
    by_cases e : a = k
    · subst e
      rw [cnt_out v _ a (Nat.le_refl a), va_up_self, h]; rfl
    · rw [cnt_put v b h k (by omega), va_up_ne v _ (by omega)]; omega
theorem cnt_pop (v : Nat → Option Bool) {a : Nat} (h : v a ≠ none) : ∀ k, a < k → cnt (va_up v a none) k + 1 = cnt v k
  | 0, q => absurd q (Nat.not_lt_zero a)
  | k + 1, q => by
    rw [cnt, cnt]
    by_cases e : a = k
    · subst e
      rw [cnt_out v _ a (Nat.le_refl a), va_up_self]
      have h2 : (v a).isSome = true := by
        rcases hv : v a with _ | b
        · exact absurd hv h
        · rfl
      rw [h2]; rfl
    · have h1 := cnt_pop v h k (by omega)
      rw [va_up_ne v _ (by omega)]; omega
theorem okV.room {V : VS} (h : okV V) {a : Nat} (ha : a < 112) (e : V.1 a = none) : V.2.1 < 112 := by rw [h.1]; exact cnt_lt _ e 112 ha
theorem okV.le {V : VS} (h : okV V) : V.2.1 ≤ 112 := by rw [h.1]; exact cnt_le _ _
theorem okV.put {V : VS} (h : okV V) {a : Nat} (ha : a < 112) (b : Bool) : okV (putF V a b) := by
  obtain ⟨h1, h2, h3, h4⟩ := h
  unfold putF
  split
  · rename_i e
    refine ⟨?_, ?_, ?_, ?_⟩
    · show V.2.1 + 1 = cnt (va_up V.1 a (some b)) 112
      rw [cnt_put V.1 b e 112 ha, h1]
    · intro i hi
      show va_up V.2.2.1 V.2.1 a i < 112 ∧ va_up V.1 a (some b) (va_up V.2.2.1 V.2.1 a i) ≠ none
      by_cases q : i = V.2.1
      · rw [q, va_up_self, va_up_self]; exact ⟨ha, by simp⟩
      · have hi2 : i < V.2.1 := by
          have : i < V.2.1 + 1 := hi
          omega
        rw [va_up_ne _ _ q, va_up_ne _ _ (fun z => (h2 i hi2).2 (by rw [z]; exact e))]
        exact h2 i hi2
    · intro i j hi hj
      show va_up V.2.2.1 V.2.1 a i = va_up V.2.2.1 V.2.1 a j → i = j
      have hi : i < V.2.1 + 1 := hi
      have hj : j < V.2.1 + 1 := hj
      by_cases qi : i = V.2.1
      · by_cases qj : j = V.2.1
        · intro _; omega
        · rw [qi, va_up_self, va_up_ne _ _ qj]
          intro z; exact absurd (by rw [← z]; exact e) (h2 j (by omega)).2
      · by_cases qj : j = V.2.1
        · rw [qj, va_up_self, va_up_ne _ _ qi]
          intro z; exact absurd (by rw [z]; exact e) (h2 i (by omega)).2
        · rw [va_up_ne _ _ qi, va_up_ne _ _ qj]
          exact h3 i j (by omega) (by omega)
    · intro x hx
      show va_up V.1 a (some b) x ≠ none → ∃ i, i < V.2.1 + 1 ∧ va_up V.2.2.1 V.2.1 a i = x
      by_cases q : x = a
      · intro _; exact ⟨V.2.1, by omega, by rw [va_up_self, q]⟩
      · rw [va_up_ne _ _ q]
        intro z
        obtain ⟨i, i1, i2⟩ := h4 x hx z
        exact ⟨i, by omega, by rw [va_up_ne _ _ (by omega)]; exact i2⟩
  · split
    · exact ⟨h1, h2, h3, h4⟩
    · exact ⟨h1, h2, h3, h4⟩
theorem okV.pop {V : VS} (h : okV V) (hp : 0 < V.2.1) : okV (popV V) := by
  obtain ⟨h1, h2, h3, h4⟩ := h
  have hl := h2 (V.2.1 - 1) (by omega)
  refine ⟨?_, ?_, ?_, ?_⟩
  · show V.2.1 - 1 = cnt (va_up V.1 (V.2.2.1 (V.2.1 - 1)) none) 112
    have := cnt_pop V.1 hl.2 112 hl.1
    omega
  · intro i hi
    have hi : i < V.2.1 - 1 := hi
    show V.2.2.1 i < 112 ∧ va_up V.1 (V.2.2.1 (V.2.1 - 1)) none (V.2.2.1 i) ≠ none
    rw [va_up_ne _ _ (fun z => by have := h3 i (V.2.1 - 1) (by omega) (by omega) z; omega)]
    exact h2 i (by omega)
  · intro i j hi hj
    have hi : i < V.2.1 - 1 := hi
    have hj : j < V.2.1 - 1 := hj
    exact h3 i j (by omega) (by omega)
  · intro x hx
    show va_up V.1 (V.2.2.1 (V.2.1 - 1)) none x ≠ none → ∃ i, i < V.2.1 - 1 ∧ V.2.2.1 i = x
    by_cases q : x = V.2.2.1 (V.2.1 - 1)
    · rw [q, va_up_self]; intro z; exact absurd rfl z
    · rw [va_up_ne _ _ q]
      intro z
      obtain ⟨i, i1, i2⟩ := h4 x hx z
      refine ⟨i, ?_, i2⟩
      by_cases qi : i = V.2.1 - 1
      · exact absurd (by rw [← i2, qi]) q
      · omega
theorem okV.putL {V : VS} (h : okV V) {f k : Nat} (ha : 16 * f + k / 2 < 112) (b : Bool) : okV (putL V f k b) := h.put ha _
/-- a loop whose body keeps a property -/
theorem itr_ok {α : Type} {F : Nat → α → α} {lo : Nat} {q : α → Prop} : ∀ {n : Nat} {a : α}, q a → (∀ i a, i < n → q a → q (F (lo + i) a)) → q (itr F lo n a)
  | 0, _, h, _ => h
  | n + 1, _, h, hs => hs n _ (Nat.lt_succ_self n) (itr_ok h fun i a hi => hs i a (Nat.lt_succ_of_lt hi))
theorem gate_ix {C : CS} (hC : okC C) {g : Nat} (h1 : 6 ≤ g) (h2 : g < 6 + C.1) : cL C g < 2 * g ∧ cR C g < 2 * g ∧ g < 16 := ⟨(hC.2.1 g h1 h2).1, (hC.2.1 g h1 h2).2, by have := hC.1; omega⟩
theorem okV.gate {C : CS} (hC : okC C) {f g : Nat} (hf : f < 7) (h1 : 6 ≤ g) (h2 : g < 6 + C.1) {V : VS} (h : okV V) : okV (gateF C f g V) := by
  obtain ⟨a1, a2, a3⟩ := gate_ix hC h1 h2
  unfold gateF
  split
  · exact h.put (by omega) _
  split
  · exact h.put (by omega) _
  split
  · exact (h.putL (by omega) _).putL (by omega) _
  split
  · exact h.putL (by omega) _
  split
  · exact h.putL (by omega) _
  exact h
theorem latch_ix {C : CS} (hC : okC C) {k : Nat} (h1 : 1 ≤ k) (h2 : k < 5) : cN C k / 2 < 16 := by
  have := hC.2.2.1 k h1 h2
  have := hC.1
  omega
theorem okV.latch {C : CS} (hC : okC C) {f k : Nat} (hf : f < 6) (h1 : 1 ≤ k) (h2 : k < 5) {V : VS} (h : okV V) : okV (latchF C f k V) := by
  have a1 := latch_ix hC h1 h2
  unfold latchF
  split
  · exact h.put (by omega) _
  split
  · exact h.putL (by omega) _
  exact h
theorem okV.copy {C : CS} (hC : okC C) {n f : Nat} (hn : n < 7) (hf : f ≤ n) {V : VS} (h : okV V) : okV (copyF C n f V) := by
  have hg : okV (itr (gateF C f) 6 C.1 V) := itr_ok h fun i a hi ha => ha.gate hC (by omega) (by omega) (by omega)
  unfold copyF
  split
  · exact itr_ok hg fun i a hi ha => ha.latch hC (by omega) (by omega) (by omega)
  · exact hg
theorem okV.round {C : CS} (hC : okC C) {n : Nat} (hn : n < 7) {V : VS} (h : okV V) : okV (roundF C n V) := itr_ok h fun i a hi ha => ha.copy hC hn (by omega)
theorem okV.followF {C : CS} (hC : okC C) {n : Nat} (hn : n < 7) : ∀ (k : Nat) (ch : Bool) {V : VS}, okV V → okV (followF C n k ch V)
  | 0, _, _, h => h
  | k + 1, ch, V, h => by
    show okV (if ch = true ∧ V.2.2.2 = false then _ else V)
    split
    · exact okV.followF hC hn k _ (h.round hC hn)
    · exact h
theorem okV.follow {C : CS} (hC : okC C) {n : Nat} (hn : n < 7) {V : VS} (h : okV V) : okV (followA C n V) := okV.followF hC hn 113 true h
theorem fill_in (v : Nat → Option Bool) : ∀ (k a : Nat), a < k → itr (fun k w => va_up w k none) 0 k v a = none
  | 0, a, h => absurd h (Nat.not_lt_zero a)
  | k + 1, a, h => by
    show va_up (itr _ 0 k v) (0 + k) none a = none
    by_cases e : a = 0 + k
    · rw [e, va_up_self]
    · rw [va_up_ne _ _ e]; exact fill_in v k a (by omega)
theorem fillV_none (v : Nat → Option Bool) {a : Nat} (h : a < 112) : fillV v a = none := fill_in v 112 a h
theorem cnt_none (v : Nat → Option Bool) : ∀ k, (∀ a, a < k → v a = none) → cnt v k = 0
  | 0, _ => rfl
  | k + 1, h => by rw [cnt, cnt_none v k (fun a ha => h a (by omega)), h k (by omega)]; rfl
theorem okV.fill (v : Nat → Option Bool) (o : Nat → Nat) (b : Bool) : okV (fillV v, 0, o, b) := by
  refine ⟨(cnt_none _ 112 fun a ha => fillV_none v ha).symm, fun i hi => absurd hi (Nat.not_lt_zero i), fun i j hi => absurd hi (Nat.not_lt_zero i), fun a ha h => absurd (fillV_none v ha) h⟩
theorem okV.openV (V : VS) {n : Nat} (hn : n < 7) : okV (openV V n) := itr_ok (okV.fill _ _ _) fun i a hi ha => ha.put (by omega) _
theorem okV.unbr {V : VS} (h : okV V) : okV (unbr V) := h
theorem okV.popn : ∀ (j : Nat) {V : VS}, okV V → j ≤ V.2.1 → okV (popn j V)
  | 0, _, h, _ => h
  | j + 1, V, h, hj => okV.popn j (h.pop (by omega)) (by show j ≤ V.2.1 - 1; omega)
theorem okV.undo {V : VS} (h : okV V) (k : Nat) : okV (undoV V k) := okV.popn _ h (Nat.sub_le _ _)
theorem undo_0 {V : VS} {k : Nat} (h : V.2.1 ≤ k) : undoV V k = V := by unfold undoV; rw [Nat.sub_eq_zero_of_le h]; rfl
theorem undo_1 {V : VS} {k : Nat} (h : k < V.2.1) : undoV V k = undoV (popV V) k := by
  unfold undoV
  rw [show V.2.1 - k = ((popV V).2.1 - k) + 1 by show _ = (V.2.1 - 1 - k) + 1; omega]
  rfl
theorem undo_n (k : Nat) : ∀ (j : Nat) (V : VS), V.2.1 - k = j → k ≤ V.2.1 → (undoV V k).2.1 = k
  | 0, V, h, hk => by rw [undo_0 (by omega)]; omega
  | j + 1, V, h, hk => by
    rw [undo_1 (by omega)]
    exact undo_n k j (popV V) (by show V.2.1 - 1 - k = j; omega) (by show k ≤ V.2.1 - 1; omega)
end
section
/-! THE PICTURES of a desk and of a model, and a row for each field and each array -/
set_option maxRecDepth 100000
def dkf (h : Nat → Nat) (C : CS) (P : PS) (V : VS) (K : KS) : List Value := [.int (nI C.1), .ref (h 1), .ref (h 2), .ref (h 3), .ref (h 4), .int (nI C.2.2.2.2.2), .int (nI P.1), .int (bI P.2.1), .int (bI P.2.2), .ref (h 5), .int (nI V.2.1), .ref (h 6), .int (bI V.2.2.2), .int (nI K.1), .ref (h 7), .ref (h 8), .ref (h 9)]
def dk (h : Nat → Nat) (d : Nat → ClassId) (C : CS) (P : PS) (V : VS) (K : KS) : va_W := [(h 0, .inr (0, dkf h C P V K)), (h 1, .inl (d 1, 16, .inl (fun j => nI (C.2.1 j)))), (h 2, .inl (d 2, 16, .inl (fun j => nI (C.2.2.1 j)))), (h 3, .inl (d 3, 5, .inl (fun j => nI (C.2.2.2.1 j)))), (h 4, .inl (d 4, 5, .inl (fun j => nI (C.2.2.2.2.1 j)))), (h 5, .inl (d 5, 112, .inl (fun j => oI (V.1 j)))), (h 6, .inl (d 6, 112, .inl (fun j => nI (V.2.2.1 j)))), (h 7, .inl (d 7, 12, .inl (fun j => nI (K.2.1 j)))), (h 8, .inl (d 8, 12, .inl (fun j => nI (K.2.2.1 j)))), (h 9, .inl (d 9, 12, .inl (fun j => bI (K.2.2.2 j))))]
def tyD (d : Nat → ClassId) : List (ClassId × FieldType) := [(d 1, .int), (d 2, .int), (d 3, .int), (d 4, .int), (d 5, .int), (d 6, .int), (d 7, .int), (d 8, .int), (d 9, .boolean)]
def mkf (h : Nat → Nat) (C : CS) : List Value := [.int (nI C.1), .ref (h 1), .ref (h 2), .ref (h 3), .ref (h 4), .int (nI C.2.2.2.2.2), .ref (h 5), .ref (h 6), .ref (h 7)]
def mk (h : Nat → Nat) (d : Nat → ClassId) (C : CS) (M : MS) : va_W := [(h 0, .inr (1, mkf h C)), (h 1, .inl (d 1, 10, .inl (fun j => nI (C.2.1 (6 + j))))), (h 2, .inl (d 2, 10, .inl (fun j => nI (C.2.2.1 (6 + j))))), (h 3, .inl (d 3, 5, .inl (fun j => nI (C.2.2.2.1 j)))), (h 4, .inl (d 4, 5, .inl (fun j => nI (C.2.2.2.2.1 j)))), (h 5, .inl (d 5, 16, .inl (fun j => bI (M.1 j)))), (h 6, .inl (d 6, 7, .inl (fun j => nI (M.2.1 j)))), (h 7, .inl (d 7, 7, .inl (fun j => bI (M.2.2 j))))]
def tyM (d : Nat → ClassId) : List (ClassId × FieldType) := [(d 1, .int), (d 2, .int), (d 3, .int), (d 4, .int), (d 5, .int), (d 6, .int), (d 7, .int)]
section PD
variable {p : Program} {l : Launch} {e : Env} {R : Room} {s : State} {m : MethodId} {args : Array Value} {below : List Frame} {meth : Method} {c : Code} {H : Heap} {locs : List Loc} {cells slots : Nat} {Q : State → Prop}
variable {cc : ByteArray} {pc nL : Nat} {ls : Array Slot} {rest : List Value} {D : va_G} {A : Nat → Prop} {H0 : Heap} {h : Nat → Nat} {d : Nat → ClassId} {C : CS} {P : PS} {V : VS} {K : KS} {M : MS}
theorem gd_gates (E : ev p m c cc nL s args RX0 D (tyD d)) (hB : wB D A H0 (dk h d C P V K) H locs) (hdg : decode cc pc = .ok (.getfield 42, 3)) (kk : W p l e R s m args below meth c H locs cells slots Q (F0 m (pc + 3) ls (.int (nI C.1) :: rest))) : W p l e R s m args below meth c H locs cells slots Q (F0 m pc ls (.ref (h 0) :: rest)) :=
  r_get0 E hB 0 (v := .int (nI C.1)) rfl q35 (by decide) rfl rfl hdg kk
theorem gd_left (E : ev p m c cc nL s args RX0 D (tyD d)) (hB : wB D A H0 (dk h d C P V K) H locs) (hdg : decode cc pc = .ok (.getfield 7, 3)) (kk : W p l e R s m args below meth c H locs cells slots Q (F0 m (pc + 3) ls (.ref (h 1) :: rest))) : W p l e R s m args below meth c H locs cells slots Q (F0 m pc ls (.ref (h 0) :: rest)) :=
  r_get0 E hB 1 (v := .ref (h 1)) rfl q36 (by decide) rfl rfl hdg kk
theorem gd_right (E : ev p m c cc nL s args RX0 D (tyD d)) (hB : wB D A H0 (dk h d C P V K) H locs) (hdg : decode cc pc = .ok (.getfield 13, 3)) (kk : W p l e R s m args below meth c H locs cells slots Q (F0 m (pc + 3) ls (.ref (h 2) :: rest))) : W p l e R s m args below meth c H locs cells slots Q (F0 m pc ls (.ref (h 0) :: rest)) :=
  r_get0 E hB 2 (v := .ref (h 2)) rfl q37 (by decide) rfl rfl hdg kk
theorem gd_nextOf (E : ev p m c cc nL s args RX0 D (tyD d)) (hB : wB D A H0 (dk h d C P V K) H locs) (hdg : decode cc pc = .ok (.getfield 16, 3)) (kk : W p l e R s m args below meth c H locs cells slots Q (F0 m (pc + 3) ls (.ref (h 3) :: rest))) : W p l e R s m args below meth c H locs cells slots Q (F0 m pc ls (.ref (h 0) :: rest)) :=
  r_get0 E hB 3 (v := .ref (h 3)) rfl q38 (by decide) rfl rfl hdg kk
theorem gd_beginning (E : ev p m c cc nL s args RX0 D (tyD d)) (hB : wB D A H0 (dk h d C P V K) H locs) (hdg : decode cc pc = .ok (.getfield 19, 3)) (kk : W p l e R s m args below meth c H locs cells slots Q (F0 m (pc + 3) ls (.ref (h 4) :: rest))) : W p l e R s m args below meth c H locs cells slots Q (F0 m pc ls (.ref (h 0) :: rest)) :=
  r_get0 E hB 4 (v := .ref (h 4)) rfl q39 (by decide) rfl rfl hdg kk
theorem gd_badLiteral (E : ev p m c cc nL s args RX0 D (tyD d)) (hB : wB D A H0 (dk h d C P V K) H locs) (hdg : decode cc pc = .ok (.getfield 46, 3)) (kk : W p l e R s m args below meth c H locs cells slots Q (F0 m (pc + 3) ls (.int (nI (cX C)) :: rest))) : W p l e R s m args below meth c H locs cells slots Q (F0 m pc ls (.ref (h 0) :: rest)) :=
  r_get0 E hB 5 (v := .int (nI (cX C))) rfl q40 (by decide) rfl rfl hdg kk
theorem gd_last (E : ev p m c cc nL s args RX0 D (tyD d)) (hB : wB D A H0 (dk h d C P V K) H locs) (hdg : decode cc pc = .ok (.getfield 72, 3)) (kk : W p l e R s m args below meth c H locs cells slots Q (F0 m (pc + 3) ls (.int (nI P.1) :: rest))) : W p l e R s m args below meth c H locs cells slots Q (F0 m pc ls (.ref (h 0) :: rest)) :=
  r_get0 E hB 6 (v := .int (nI P.1)) rfl q41 (by decide) rfl rfl hdg kk
theorem gd_fromBeginning (E : ev p m c cc nL s args RX0 D (tyD d)) (hB : wB D A H0 (dk h d C P V K) H locs) (hdg : decode cc pc = .ok (.getfield 99, 3)) (kk : W p l e R s m args below meth c H locs cells slots Q (F0 m (pc + 3) ls (.int (bI P.2.1) :: rest))) : W p l e R s m args below meth c H locs cells slots Q (F0 m pc ls (.ref (h 0) :: rest)) :=
  r_get0 E hB 7 (v := .int (bI P.2.1)) rfl q42 (by decide) rfl rfl hdg kk
theorem gd_different (E : ev p m c cc nL s args RX0 D (tyD d)) (hB : wB D A H0 (dk h d C P V K) H locs) (hdg : decode cc pc = .ok (.getfield 102, 3)) (kk : W p l e R s m args below meth c H locs cells slots Q (F0 m (pc + 3) ls (.int (bI P.2.2) :: rest))) : W p l e R s m args below meth c H locs cells slots Q (F0 m pc ls (.ref (h 0) :: rest)) :=
  r_get0 E hB 8 (v := .int (bI P.2.2)) rfl q43 (by decide) rfl rfl hdg kk
theorem gd_value (E : ev p m c cc nL s args RX0 D (tyD d)) (hB : wB D A H0 (dk h d C P V K) H locs) (hdg : decode cc pc = .ok (.getfield 22, 3)) (kk : W p l e R s m args below meth c H locs cells slots Q (F0 m (pc + 3) ls (.ref (h 5) :: rest))) : W p l e R s m args below meth c H locs cells slots Q (F0 m pc ls (.ref (h 0) :: rest)) :=
  r_get0 E hB 9 (v := .ref (h 5)) rfl q44 (by decide) rfl rfl hdg kk
theorem gd_settled (E : ev p m c cc nL s args RX0 D (tyD d)) (hB : wB D A H0 (dk h d C P V K) H locs) (hdg : decode cc pc = .ok (.getfield 75, 3)) (kk : W p l e R s m args below meth c H locs cells slots Q (F0 m (pc + 3) ls (.int (nI V.2.1) :: rest))) : W p l e R s m args below meth c H locs cells slots Q (F0 m pc ls (.ref (h 0) :: rest)) :=
  r_get0 E hB 10 (v := .int (nI V.2.1)) rfl q45 (by decide) rfl rfl hdg kk
theorem gd_order (E : ev p m c cc nL s args RX0 D (tyD d)) (hB : wB D A H0 (dk h d C P V K) H locs) (hdg : decode cc pc = .ok (.getfield 25, 3)) (kk : W p l e R s m args below meth c H locs cells slots Q (F0 m (pc + 3) ls (.ref (h 6) :: rest))) : W p l e R s m args below meth c H locs cells slots Q (F0 m pc ls (.ref (h 0) :: rest)) :=
  r_get0 E hB 11 (v := .ref (h 6)) rfl q46 (by decide) rfl rfl hdg kk
theorem gd_broken (E : ev p m c cc nL s args RX0 D (tyD d)) (hB : wB D A H0 (dk h d C P V K) H locs) (hdg : decode cc pc = .ok (.getfield 81, 3)) (kk : W p l e R s m args below meth c H locs cells slots Q (F0 m (pc + 3) ls (.int (bI V.2.2.2) :: rest))) : W p l e R s m args below meth c H locs cells slots Q (F0 m pc ls (.ref (h 0) :: rest)) :=
  r_get0 E hB 12 (v := .int (bI V.2.2.2)) rfl q47 (by decide) rfl rfl hdg kk
theorem gd_choices (E : ev p m c cc nL s args RX0 D (tyD d)) (hB : wB D A H0 (dk h d C P V K) H locs) (hdg : decode cc pc = .ok (.getfield 78, 3)) (kk : W p l e R s m args below meth c H locs cells slots Q (F0 m (pc + 3) ls (.int (nI K.1) :: rest))) : W p l e R s m args below meth c H locs cells slots Q (F0 m pc ls (.ref (h 0) :: rest)) :=
  r_get0 E hB 13 (v := .int (nI K.1)) rfl q48 (by decide) rfl rfl hdg kk
theorem gd_chosen (E : ev p m c cc nL s args RX0 D (tyD d)) (hB : wB D A H0 (dk h d C P V K) H locs) (hdg : decode cc pc = .ok (.getfield 28, 3)) (kk : W p l e R s m args below meth c H locs cells slots Q (F0 m (pc + 3) ls (.ref (h 7) :: rest))) : W p l e R s m args below meth c H locs cells slots Q (F0 m pc ls (.ref (h 0) :: rest)) :=
  r_get0 E hB 14 (v := .ref (h 7)) rfl q49 (by decide) rfl rfl hdg kk
theorem gd_setBefore (E : ev p m c cc nL s args RX0 D (tyD d)) (hB : wB D A H0 (dk h d C P V K) H locs) (hdg : decode cc pc = .ok (.getfield 31, 3)) (kk : W p l e R s m args below meth c H locs cells slots Q (F0 m (pc + 3) ls (.ref (h 8) :: rest))) : W p l e R s m args below meth c H locs cells slots Q (F0 m pc ls (.ref (h 0) :: rest)) :=
  r_get0 E hB 15 (v := .ref (h 8)) rfl q50 (by decide) rfl rfl hdg kk
theorem gd_second (E : ev p m c cc nL s args RX0 D (tyD d)) (hB : wB D A H0 (dk h d C P V K) H locs) (hdg : decode cc pc = .ok (.getfield 34, 3)) (kk : W p l e R s m args below meth c H locs cells slots Q (F0 m (pc + 3) ls (.ref (h 9) :: rest))) : W p l e R s m args below meth c H locs cells slots Q (F0 m pc ls (.ref (h 0) :: rest)) :=
  r_get0 E hB 16 (v := .ref (h 9)) rfl q51 (by decide) rfl rfl hdg kk
theorem gm_gates (E : ev p m c cc nL s args RX1 D (tyM d)) (hB : wB D A H0 (mk h d C M) H locs) (hdg : decode cc pc = .ok (.getfield 31, 3)) (kk : W p l e R s m args below meth c H locs cells slots Q (F0 m (pc + 3) ls (.int (nI C.1) :: rest))) : W p l e R s m args below meth c H locs cells slots Q (F0 m pc ls (.ref (h 0) :: rest)) :=
  r_get1 E hB 0 (v := .int (nI C.1)) rfl q192 (by decide) rfl rfl hdg kk
theorem gm_firsts (E : ev p m c cc nL s args RX1 D (tyM d)) (hB : wB D A H0 (mk h d C M) H locs) (hdg : decode cc pc = .ok (.getfield 7, 3)) (kk : W p l e R s m args below meth c H locs cells slots Q (F0 m (pc + 3) ls (.ref (h 1) :: rest))) : W p l e R s m args below meth c H locs cells slots Q (F0 m pc ls (.ref (h 0) :: rest)) :=
  r_get1 E hB 1 (v := .ref (h 1)) rfl q193 (by decide) rfl rfl hdg kk
theorem gm_seconds (E : ev p m c cc nL s args RX1 D (tyM d)) (hB : wB D A H0 (mk h d C M) H locs) (hdg : decode cc pc = .ok (.getfield 13, 3)) (kk : W p l e R s m args below meth c H locs cells slots Q (F0 m (pc + 3) ls (.ref (h 2) :: rest))) : W p l e R s m args below meth c H locs cells slots Q (F0 m pc ls (.ref (h 0) :: rest)) :=
  r_get1 E hB 2 (v := .ref (h 2)) rfl q194 (by decide) rfl rfl hdg kk
theorem gm_nexts (E : ev p m c cc nL s args RX1 D (tyM d)) (hB : wB D A H0 (mk h d C M) H locs) (hdg : decode cc pc = .ok (.getfield 16, 3)) (kk : W p l e R s m args below meth c H locs cells slots Q (F0 m (pc + 3) ls (.ref (h 3) :: rest))) : W p l e R s m args below meth c H locs cells slots Q (F0 m pc ls (.ref (h 0) :: rest)) :=
  r_get1 E hB 3 (v := .ref (h 3)) rfl q195 (by decide) rfl rfl hdg kk
theorem gm_begins (E : ev p m c cc nL s args RX1 D (tyM d)) (hB : wB D A H0 (mk h d C M) H locs) (hdg : decode cc pc = .ok (.getfield 19, 3)) (kk : W p l e R s m args below meth c H locs cells slots Q (F0 m (pc + 3) ls (.ref (h 4) :: rest))) : W p l e R s m args below meth c H locs cells slots Q (F0 m pc ls (.ref (h 0) :: rest)) :=
  r_get1 E hB 4 (v := .ref (h 4)) rfl q196 (by decide) rfl rfl hdg kk
theorem gm_badLiteral (E : ev p m c cc nL s args RX1 D (tyM d)) (hB : wB D A H0 (mk h d C M) H locs) (hdg : decode cc pc = .ok (.getfield 42, 3)) (kk : W p l e R s m args below meth c H locs cells slots Q (F0 m (pc + 3) ls (.int (nI (cX C)) :: rest))) : W p l e R s m args below meth c H locs cells slots Q (F0 m pc ls (.ref (h 0) :: rest)) :=
  r_get1 E hB 5 (v := .int (nI (cX C))) rfl q197 (by decide) rfl rfl hdg kk
theorem gm_signals (E : ev p m c cc nL s args RX1 D (tyM d)) (hB : wB D A H0 (mk h d C M) H locs) (hdg : decode cc pc = .ok (.getfield 22, 3)) (kk : W p l e R s m args below meth c H locs cells slots Q (F0 m (pc + 3) ls (.ref (h 5) :: rest))) : W p l e R s m args below meth c H locs cells slots Q (F0 m pc ls (.ref (h 0) :: rest)) :=
  r_get1 E hB 6 (v := .ref (h 5)) rfl q198 (by decide) rfl rfl hdg kk
theorem gm_states (E : ev p m c cc nL s args RX1 D (tyM d)) (hB : wB D A H0 (mk h d C M) H locs) (hdg : decode cc pc = .ok (.getfield 25, 3)) (kk : W p l e R s m args below meth c H locs cells slots Q (F0 m (pc + 3) ls (.ref (h 6) :: rest))) : W p l e R s m args below meth c H locs cells slots Q (F0 m pc ls (.ref (h 0) :: rest)) :=
  r_get1 E hB 7 (v := .ref (h 6)) rfl q199 (by decide) rfl rfl hdg kk
theorem gm_inputs (E : ev p m c cc nL s args RX1 D (tyM d)) (hB : wB D A H0 (mk h d C M) H locs) (hdg : decode cc pc = .ok (.getfield 28, 3)) (kk : W p l e R s m args below meth c H locs cells slots Q (F0 m (pc + 3) ls (.ref (h 7) :: rest))) : W p l e R s m args below meth c H locs cells slots Q (F0 m pc ls (.ref (h 0) :: rest)) :=
  r_get1 E hB 8 (v := .ref (h 7)) rfl q200 (by decide) rfl rfl hdg kk
theorem pd_gates (E : ev p m c cc nL s args RX0 D (tyD d)) (hB : wB D A H0 (dk h d C P V K) H locs) {n : Nat} (hdg : decode cc pc = .ok (.putfield 42, 3)) (kk : ∀ (H1 : Heap) (locs1 : List Loc), wB D A H0 (dk h d (n, C.2) P V K) H1 locs1 → W p l e R s m args below meth c H1 locs1 cells slots Q (F0 m (pc + 3) ls rest)) : W p l e R s m args below meth c H locs cells slots Q (F0 m pc ls (.int (nI n) :: .ref (h 0) :: rest)) :=
  r_put0 E hB 0 (v := .int (nI n)) (ty := .int) rfl q35 (by decide) rfl rfl (by decide +kernel) rfl rfl (Nat.le_of_ble_eq_true rfl) rfl hdg kk
theorem pd_badLiteral (E : ev p m c cc nL s args RX0 D (tyD d)) (hB : wB D A H0 (dk h d C P V K) H locs) {n : Nat} (hdg : decode cc pc = .ok (.putfield 46, 3)) (kk : ∀ (H1 : Heap) (locs1 : List Loc), wB D A H0 (dk h d (C.1, C.2.1, C.2.2.1, C.2.2.2.1, C.2.2.2.2.1, n) P V K) H1 locs1 → W p l e R s m args below meth c H1 locs1 cells slots Q (F0 m (pc + 3) ls rest)) : W p l e R s m args below meth c H locs cells slots Q (F0 m pc ls (.int (nI n) :: .ref (h 0) :: rest)) :=
  r_put0 E hB 5 (v := .int (nI n)) (ty := .int) rfl q40 (by decide) rfl rfl (by decide +kernel) rfl rfl (Nat.le_of_ble_eq_true rfl) rfl hdg kk
theorem pd_last (E : ev p m c cc nL s args RX0 D (tyD d)) (hB : wB D A H0 (dk h d C P V K) H locs) {n : Nat} (hdg : decode cc pc = .ok (.putfield 72, 3)) (kk : ∀ (H1 : Heap) (locs1 : List Loc), wB D A H0 (dk h d C (n, P.2) V K) H1 locs1 → W p l e R s m args below meth c H1 locs1 cells slots Q (F0 m (pc + 3) ls rest)) : W p l e R s m args below meth c H locs cells slots Q (F0 m pc ls (.int (nI n) :: .ref (h 0) :: rest)) :=
  r_put0 E hB 6 (v := .int (nI n)) (ty := .int) rfl q41 (by decide) rfl rfl (by decide +kernel) rfl rfl (Nat.le_of_ble_eq_true rfl) rfl hdg kk
theorem pd_fromBeginning (E : ev p m c cc nL s args RX0 D (tyD d)) (hB : wB D A H0 (dk h d C P V K) H locs) {b : Bool} (hdg : decode cc pc = .ok (.putfield 99, 3)) (kk : ∀ (H1 : Heap) (locs1 : List Loc), wB D A H0 (dk h d C (P.1, b, P.2.2) V K) H1 locs1 → W p l e R s m args below meth c H1 locs1 cells slots Q (F0 m (pc + 3) ls rest)) : W p l e R s m args below meth c H locs cells slots Q (F0 m pc ls (.int (bI b) :: .ref (h 0) :: rest)) :=
  r_put0 E hB 7 (v := .int (bI b)) (ty := .boolean) rfl q42 (by decide) rfl rfl (by decide +kernel) (nb_b b) (fb_b b) (Nat.le_of_ble_eq_true rfl) rfl hdg kk
theorem pd_different (E : ev p m c cc nL s args RX0 D (tyD d)) (hB : wB D A H0 (dk h d C P V K) H locs) {b : Bool} (hdg : decode cc pc = .ok (.putfield 102, 3)) (kk : ∀ (H1 : Heap) (locs1 : List Loc), wB D A H0 (dk h d C (P.1, P.2.1, b) V K) H1 locs1 → W p l e R s m args below meth c H1 locs1 cells slots Q (F0 m (pc + 3) ls rest)) : W p l e R s m args below meth c H locs cells slots Q (F0 m pc ls (.int (bI b) :: .ref (h 0) :: rest)) :=
  r_put0 E hB 8 (v := .int (bI b)) (ty := .boolean) rfl q43 (by decide) rfl rfl (by decide +kernel) (nb_b b) (fb_b b) (Nat.le_of_ble_eq_true rfl) rfl hdg kk
theorem pd_settled (E : ev p m c cc nL s args RX0 D (tyD d)) (hB : wB D A H0 (dk h d C P V K) H locs) {n : Nat} (hdg : decode cc pc = .ok (.putfield 75, 3)) (kk : ∀ (H1 : Heap) (locs1 : List Loc), wB D A H0 (dk h d C P (V.1, n, V.2.2) K) H1 locs1 → W p l e R s m args below meth c H1 locs1 cells slots Q (F0 m (pc + 3) ls rest)) : W p l e R s m args below meth c H locs cells slots Q (F0 m pc ls (.int (nI n) :: .ref (h 0) :: rest)) :=
  r_put0 E hB 10 (v := .int (nI n)) (ty := .int) rfl q45 (by decide) rfl rfl (by decide +kernel) rfl rfl (Nat.le_of_ble_eq_true rfl) rfl hdg kk
theorem pd_broken (E : ev p m c cc nL s args RX0 D (tyD d)) (hB : wB D A H0 (dk h d C P V K) H locs) {b : Bool} (hdg : decode cc pc = .ok (.putfield 81, 3)) (kk : ∀ (H1 : Heap) (locs1 : List Loc), wB D A H0 (dk h d C P (V.1, V.2.1, V.2.2.1, b) K) H1 locs1 → W p l e R s m args below meth c H1 locs1 cells slots Q (F0 m (pc + 3) ls rest)) : W p l e R s m args below meth c H locs cells slots Q (F0 m pc ls (.int (bI b) :: .ref (h 0) :: rest)) :=
  r_put0 E hB 12 (v := .int (bI b)) (ty := .boolean) rfl q47 (by decide) rfl rfl (by decide +kernel) (nb_b b) (fb_b b) (Nat.le_of_ble_eq_true rfl) rfl hdg kk
theorem pd_choices (E : ev p m c cc nL s args RX0 D (tyD d)) (hB : wB D A H0 (dk h d C P V K) H locs) {n : Nat} (hdg : decode cc pc = .ok (.putfield 78, 3)) (kk : ∀ (H1 : Heap) (locs1 : List Loc), wB D A H0 (dk h d C P V (n, K.2)) H1 locs1 → W p l e R s m args below meth c H1 locs1 cells slots Q (F0 m (pc + 3) ls rest)) : W p l e R s m args below meth c H locs cells slots Q (F0 m pc ls (.int (nI n) :: .ref (h 0) :: rest)) :=
  r_put0 E hB 13 (v := .int (nI n)) (ty := .int) rfl q48 (by decide) rfl rfl (by decide +kernel) rfl rfl (Nat.le_of_ble_eq_true rfl) rfl hdg kk
theorem pm_gates (E : ev p m c cc nL s args RX1 D (tyM d)) (hB : wB D A H0 (mk h d C M) H locs) {n : Nat} (hdg : decode cc pc = .ok (.putfield 31, 3)) (kk : ∀ (H1 : Heap) (locs1 : List Loc), wB D A H0 (mk h d (n, C.2) M) H1 locs1 → W p l e R s m args below meth c H1 locs1 cells slots Q (F0 m (pc + 3) ls rest)) : W p l e R s m args below meth c H locs cells slots Q (F0 m pc ls (.int (nI n) :: .ref (h 0) :: rest)) :=
  r_put1 E hB 0 (v := .int (nI n)) (ty := .int) rfl q192 (by decide) rfl rfl (by decide +kernel) rfl rfl (Nat.le_of_ble_eq_true rfl) rfl hdg kk
theorem pm_badLiteral (E : ev p m c cc nL s args RX1 D (tyM d)) (hB : wB D A H0 (mk h d C M) H locs) {n : Nat} (hdg : decode cc pc = .ok (.putfield 42, 3)) (kk : ∀ (H1 : Heap) (locs1 : List Loc), wB D A H0 (mk h d (C.1, C.2.1, C.2.2.1, C.2.2.2.1, C.2.2.2.2.1, n) M) H1 locs1 → W p l e R s m args below meth c H1 locs1 cells slots Q (F0 m (pc + 3) ls rest)) : W p l e R s m args below meth c H locs cells slots Q (F0 m pc ls (.int (nI n) :: .ref (h 0) :: rest)) :=
  r_put1 E hB 5 (v := .int (nI n)) (ty := .int) rfl q197 (by decide) rfl rfl (by decide +kernel) rfl rfl (Nat.le_of_ble_eq_true rfl) rfl hdg kk
theorem ld_left (E : ev p m c cc nL s args RX0 D (tyD d)) (hB : wB D A H0 (dk h d C P V K) H locs) {i : Nat} (hi : i < 16) (hdg : decode cc pc = .ok (.iaload, 1)) (kk : W p l e R s m args below meth c H locs cells slots Q (F0 m (pc + 1) ls (.int (nI (cL C i)) :: rest))) : W p l e R s m args below meth c H locs cells slots Q (F0 m pc ls (.int (nI i) :: .ref (h 1) :: rest)) :=
  r_ild E hB 1 0 rfl rfl hi (by decide) hdg kk
theorem sd_left (E : ev p m c cc nL s args RX0 D (tyD d)) (hB : wB D A H0 (dk h d C P V K) H locs) {i : Nat} {x : Nat} (hi : i < 16) (hdg : decode cc pc = .ok (.iastore, 1)) (kk : ∀ (H1 : Heap) (locs1 : List Loc), wB D A H0 (dk h d (C.1, va_up C.2.1 i x, C.2.2) P V K) H1 locs1 → W p l e R s m args below meth c H1 locs1 cells slots Q (F0 m (pc + 1) ls rest)) : W p l e R s m args below meth c H locs cells slots Q (F0 m pc ls (.int (nI x) :: .int (nI i) :: .ref (h 1) :: rest)) :=
  r_ist E hB 1 0 rfl rfl hi (by decide) (up_n C.2.1 i x) rfl hdg kk
theorem ld_right (E : ev p m c cc nL s args RX0 D (tyD d)) (hB : wB D A H0 (dk h d C P V K) H locs) {i : Nat} (hi : i < 16) (hdg : decode cc pc = .ok (.iaload, 1)) (kk : W p l e R s m args below meth c H locs cells slots Q (F0 m (pc + 1) ls (.int (nI (cR C i)) :: rest))) : W p l e R s m args below meth c H locs cells slots Q (F0 m pc ls (.int (nI i) :: .ref (h 2) :: rest)) :=
  r_ild E hB 2 1 rfl rfl hi (by decide) hdg kk
theorem sd_right (E : ev p m c cc nL s args RX0 D (tyD d)) (hB : wB D A H0 (dk h d C P V K) H locs) {i : Nat} {x : Nat} (hi : i < 16) (hdg : decode cc pc = .ok (.iastore, 1)) (kk : ∀ (H1 : Heap) (locs1 : List Loc), wB D A H0 (dk h d (C.1, C.2.1, va_up C.2.2.1 i x, C.2.2.2) P V K) H1 locs1 → W p l e R s m args below meth c H1 locs1 cells slots Q (F0 m (pc + 1) ls rest)) : W p l e R s m args below meth c H locs cells slots Q (F0 m pc ls (.int (nI x) :: .int (nI i) :: .ref (h 2) :: rest)) :=
  r_ist E hB 2 1 rfl rfl hi (by decide) (up_n C.2.2.1 i x) rfl hdg kk
theorem ld_nextOf (E : ev p m c cc nL s args RX0 D (tyD d)) (hB : wB D A H0 (dk h d C P V K) H locs) {i : Nat} (hi : i < 5) (hdg : decode cc pc = .ok (.iaload, 1)) (kk : W p l e R s m args below meth c H locs cells slots Q (F0 m (pc + 1) ls (.int (nI (cN C i)) :: rest))) : W p l e R s m args below meth c H locs cells slots Q (F0 m pc ls (.int (nI i) :: .ref (h 3) :: rest)) :=
  r_ild E hB 3 2 rfl rfl hi (by decide) hdg kk
theorem sd_nextOf (E : ev p m c cc nL s args RX0 D (tyD d)) (hB : wB D A H0 (dk h d C P V K) H locs) {i : Nat} {x : Nat} (hi : i < 5) (hdg : decode cc pc = .ok (.iastore, 1)) (kk : ∀ (H1 : Heap) (locs1 : List Loc), wB D A H0 (dk h d (C.1, C.2.1, C.2.2.1, va_up C.2.2.2.1 i x, C.2.2.2.2) P V K) H1 locs1 → W p l e R s m args below meth c H1 locs1 cells slots Q (F0 m (pc + 1) ls rest)) : W p l e R s m args below meth c H locs cells slots Q (F0 m pc ls (.int (nI x) :: .int (nI i) :: .ref (h 3) :: rest)) :=
  r_ist E hB 3 2 rfl rfl hi (by decide) (up_n C.2.2.2.1 i x) rfl hdg kk
theorem ld_beginning (E : ev p m c cc nL s args RX0 D (tyD d)) (hB : wB D A H0 (dk h d C P V K) H locs) {i : Nat} (hi : i < 5) (hdg : decode cc pc = .ok (.iaload, 1)) (kk : W p l e R s m args below meth c H locs cells slots Q (F0 m (pc + 1) ls (.int (nI (cB C i)) :: rest))) : W p l e R s m args below meth c H locs cells slots Q (F0 m pc ls (.int (nI i) :: .ref (h 4) :: rest)) :=
  r_ild E hB 4 3 rfl rfl hi (by decide) hdg kk
theorem sd_beginning (E : ev p m c cc nL s args RX0 D (tyD d)) (hB : wB D A H0 (dk h d C P V K) H locs) {i : Nat} {x : Nat} (hi : i < 5) (hdg : decode cc pc = .ok (.iastore, 1)) (kk : ∀ (H1 : Heap) (locs1 : List Loc), wB D A H0 (dk h d (C.1, C.2.1, C.2.2.1, C.2.2.2.1, va_up C.2.2.2.2.1 i x, C.2.2.2.2.2) P V K) H1 locs1 → W p l e R s m args below meth c H1 locs1 cells slots Q (F0 m (pc + 1) ls rest)) : W p l e R s m args below meth c H locs cells slots Q (F0 m pc ls (.int (nI x) :: .int (nI i) :: .ref (h 4) :: rest)) :=
  r_ist E hB 4 3 rfl rfl hi (by decide) (up_n C.2.2.2.2.1 i x) rfl hdg kk
theorem ld_value (E : ev p m c cc nL s args RX0 D (tyD d)) (hB : wB D A H0 (dk h d C P V K) H locs) {i : Nat} (hi : i < 112) (hdg : decode cc pc = .ok (.iaload, 1)) (kk : W p l e R s m args below meth c H locs cells slots Q (F0 m (pc + 1) ls (.int (oI (V.1 i)) :: rest))) : W p l e R s m args below meth c H locs cells slots Q (F0 m pc ls (.int (nI i) :: .ref (h 5) :: rest)) :=
  r_ild E hB 5 4 rfl rfl hi (by decide) hdg kk
theorem sd_value (E : ev p m c cc nL s args RX0 D (tyD d)) (hB : wB D A H0 (dk h d C P V K) H locs) {i : Nat} (x : Option Bool) (hi : i < 112) (hdg : decode cc pc = .ok (.iastore, 1)) (kk : ∀ (H1 : Heap) (locs1 : List Loc), wB D A H0 (dk h d C P (va_up V.1 i x, V.2) K) H1 locs1 → W p l e R s m args below meth c H1 locs1 cells slots Q (F0 m (pc + 1) ls rest)) : W p l e R s m args below meth c H locs cells slots Q (F0 m pc ls (.int (oI x) :: .int (nI i) :: .ref (h 5) :: rest)) :=
  r_ist E hB 5 4 rfl rfl hi (by decide) (up_o V.1 i x) rfl hdg kk
theorem ld_order (E : ev p m c cc nL s args RX0 D (tyD d)) (hB : wB D A H0 (dk h d C P V K) H locs) {i : Nat} (hi : i < 112) (hdg : decode cc pc = .ok (.iaload, 1)) (kk : W p l e R s m args below meth c H locs cells slots Q (F0 m (pc + 1) ls (.int (nI (V.2.2.1 i)) :: rest))) : W p l e R s m args below meth c H locs cells slots Q (F0 m pc ls (.int (nI i) :: .ref (h 6) :: rest)) :=
  r_ild E hB 6 5 rfl rfl hi (by decide) hdg kk
theorem sd_order (E : ev p m c cc nL s args RX0 D (tyD d)) (hB : wB D A H0 (dk h d C P V K) H locs) {i : Nat} {x : Nat} (hi : i < 112) (hdg : decode cc pc = .ok (.iastore, 1)) (kk : ∀ (H1 : Heap) (locs1 : List Loc), wB D A H0 (dk h d C P (V.1, V.2.1, va_up V.2.2.1 i x, V.2.2.2) K) H1 locs1 → W p l e R s m args below meth c H1 locs1 cells slots Q (F0 m (pc + 1) ls rest)) : W p l e R s m args below meth c H locs cells slots Q (F0 m pc ls (.int (nI x) :: .int (nI i) :: .ref (h 6) :: rest)) :=
  r_ist E hB 6 5 rfl rfl hi (by decide) (up_n V.2.2.1 i x) rfl hdg kk
theorem ld_chosen (E : ev p m c cc nL s args RX0 D (tyD d)) (hB : wB D A H0 (dk h d C P V K) H locs) {i : Nat} (hi : i < 12) (hdg : decode cc pc = .ok (.iaload, 1)) (kk : W p l e R s m args below meth c H locs cells slots Q (F0 m (pc + 1) ls (.int (nI (K.2.1 i)) :: rest))) : W p l e R s m args below meth c H locs cells slots Q (F0 m pc ls (.int (nI i) :: .ref (h 7) :: rest)) :=
  r_ild E hB 7 6 rfl rfl hi (by decide) hdg kk
theorem sd_chosen (E : ev p m c cc nL s args RX0 D (tyD d)) (hB : wB D A H0 (dk h d C P V K) H locs) {i : Nat} {x : Nat} (hi : i < 12) (hdg : decode cc pc = .ok (.iastore, 1)) (kk : ∀ (H1 : Heap) (locs1 : List Loc), wB D A H0 (dk h d C P V (K.1, va_up K.2.1 i x, K.2.2)) H1 locs1 → W p l e R s m args below meth c H1 locs1 cells slots Q (F0 m (pc + 1) ls rest)) : W p l e R s m args below meth c H locs cells slots Q (F0 m pc ls (.int (nI x) :: .int (nI i) :: .ref (h 7) :: rest)) :=
  r_ist E hB 7 6 rfl rfl hi (by decide) (up_n K.2.1 i x) rfl hdg kk
theorem ld_setBefore (E : ev p m c cc nL s args RX0 D (tyD d)) (hB : wB D A H0 (dk h d C P V K) H locs) {i : Nat} (hi : i < 12) (hdg : decode cc pc = .ok (.iaload, 1)) (kk : W p l e R s m args below meth c H locs cells slots Q (F0 m (pc + 1) ls (.int (nI (K.2.2.1 i)) :: rest))) : W p l e R s m args below meth c H locs cells slots Q (F0 m pc ls (.int (nI i) :: .ref (h 8) :: rest)) :=
  r_ild E hB 8 7 rfl rfl hi (by decide) hdg kk
theorem sd_setBefore (E : ev p m c cc nL s args RX0 D (tyD d)) (hB : wB D A H0 (dk h d C P V K) H locs) {i : Nat} {x : Nat} (hi : i < 12) (hdg : decode cc pc = .ok (.iastore, 1)) (kk : ∀ (H1 : Heap) (locs1 : List Loc), wB D A H0 (dk h d C P V (K.1, K.2.1, va_up K.2.2.1 i x, K.2.2.2)) H1 locs1 → W p l e R s m args below meth c H1 locs1 cells slots Q (F0 m (pc + 1) ls rest)) : W p l e R s m args below meth c H locs cells slots Q (F0 m pc ls (.int (nI x) :: .int (nI i) :: .ref (h 8) :: rest)) :=
  r_ist E hB 8 7 rfl rfl hi (by decide) (up_n K.2.2.1 i x) rfl hdg kk
theorem ld_second (E : ev p m c cc nL s args RX0 D (tyD d)) (hB : wB D A H0 (dk h d C P V K) H locs) {i : Nat} (hi : i < 12) (hdg : decode cc pc = .ok (.baload, 1)) (kk : W p l e R s m args below meth c H locs cells slots Q (F0 m (pc + 1) ls (.int (bI (K.2.2.2 i)) :: rest))) : W p l e R s m args below meth c H locs cells slots Q (F0 m pc ls (.int (nI i) :: .ref (h 9) :: rest)) :=
  r_zld E hB 9 8 rfl rfl hi (by decide) hdg kk
theorem sd_second (E : ev p m c cc nL s args RX0 D (tyD d)) (hB : wB D A H0 (dk h d C P V K) H locs) {i : Nat} {x : Bool} (hi : i < 12) (hdg : decode cc pc = .ok (.bastore, 1)) (kk : ∀ (H1 : Heap) (locs1 : List Loc), wB D A H0 (dk h d C P V (K.1, K.2.1, K.2.2.1, va_up K.2.2.2 i x)) H1 locs1 → W p l e R s m args below meth c H1 locs1 cells slots Q (F0 m (pc + 1) ls rest)) : W p l e R s m args below meth c H locs cells slots Q (F0 m pc ls (.int (bI x) :: .int (nI i) :: .ref (h 9) :: rest)) :=
  r_zst E hB 9 8 rfl rfl hi (by decide) (up_b K.2.2.2 i x) rfl hdg kk
theorem lm_firsts (E : ev p m c cc nL s args RX1 D (tyM d)) (hB : wB D A H0 (mk h d C M) H locs) {i : Nat} (hi : i < 10) (hdg : decode cc pc = .ok (.iaload, 1)) (kk : W p l e R s m args below meth c H locs cells slots Q (F0 m (pc + 1) ls (.int (nI (cL C (6 + i))) :: rest))) : W p l e R s m args below meth c H locs cells slots Q (F0 m pc ls (.int (nI i) :: .ref (h 1) :: rest)) :=
  r_ild E hB 1 0 rfl rfl hi (by decide) hdg kk
theorem sm_firsts (E : ev p m c cc nL s args RX1 D (tyM d)) (hB : wB D A H0 (mk h d C M) H locs) {i : Nat} {x : Nat} (hi : i < 10) (hdg : decode cc pc = .ok (.iastore, 1)) (kk : ∀ (H1 : Heap) (locs1 : List Loc), wB D A H0 (mk h d (C.1, va_up C.2.1 (6 + i) x, C.2.2) M) H1 locs1 → W p l e R s m args below meth c H1 locs1 cells slots Q (F0 m (pc + 1) ls rest)) : W p l e R s m args below meth c H locs cells slots Q (F0 m pc ls (.int (nI x) :: .int (nI i) :: .ref (h 1) :: rest)) :=
  r_ist E hB 1 0 rfl rfl hi (by decide) (up_n6 C.2.1 i x) rfl hdg kk
theorem lm_seconds (E : ev p m c cc nL s args RX1 D (tyM d)) (hB : wB D A H0 (mk h d C M) H locs) {i : Nat} (hi : i < 10) (hdg : decode cc pc = .ok (.iaload, 1)) (kk : W p l e R s m args below meth c H locs cells slots Q (F0 m (pc + 1) ls (.int (nI (cR C (6 + i))) :: rest))) : W p l e R s m args below meth c H locs cells slots Q (F0 m pc ls (.int (nI i) :: .ref (h 2) :: rest)) :=
  r_ild E hB 2 1 rfl rfl hi (by decide) hdg kk
theorem sm_seconds (E : ev p m c cc nL s args RX1 D (tyM d)) (hB : wB D A H0 (mk h d C M) H locs) {i : Nat} {x : Nat} (hi : i < 10) (hdg : decode cc pc = .ok (.iastore, 1)) (kk : ∀ (H1 : Heap) (locs1 : List Loc), wB D A H0 (mk h d (C.1, C.2.1, va_up C.2.2.1 (6 + i) x, C.2.2.2) M) H1 locs1 → W p l e R s m args below meth c H1 locs1 cells slots Q (F0 m (pc + 1) ls rest)) : W p l e R s m args below meth c H locs cells slots Q (F0 m pc ls (.int (nI x) :: .int (nI i) :: .ref (h 2) :: rest)) :=
  r_ist E hB 2 1 rfl rfl hi (by decide) (up_n6 C.2.2.1 i x) rfl hdg kk
theorem lm_nexts (E : ev p m c cc nL s args RX1 D (tyM d)) (hB : wB D A H0 (mk h d C M) H locs) {i : Nat} (hi : i < 5) (hdg : decode cc pc = .ok (.iaload, 1)) (kk : W p l e R s m args below meth c H locs cells slots Q (F0 m (pc + 1) ls (.int (nI (cN C i)) :: rest))) : W p l e R s m args below meth c H locs cells slots Q (F0 m pc ls (.int (nI i) :: .ref (h 3) :: rest)) :=
  r_ild E hB 3 2 rfl rfl hi (by decide) hdg kk
theorem sm_nexts (E : ev p m c cc nL s args RX1 D (tyM d)) (hB : wB D A H0 (mk h d C M) H locs) {i : Nat} {x : Nat} (hi : i < 5) (hdg : decode cc pc = .ok (.iastore, 1)) (kk : ∀ (H1 : Heap) (locs1 : List Loc), wB D A H0 (mk h d (C.1, C.2.1, C.2.2.1, va_up C.2.2.2.1 i x, C.2.2.2.2) M) H1 locs1 → W p l e R s m args below meth c H1 locs1 cells slots Q (F0 m (pc + 1) ls rest)) : W p l e R s m args below meth c H locs cells slots Q (F0 m pc ls (.int (nI x) :: .int (nI i) :: .ref (h 3) :: rest)) :=
  r_ist E hB 3 2 rfl rfl hi (by decide) (up_n C.2.2.2.1 i x) rfl hdg kk
theorem lm_begins (E : ev p m c cc nL s args RX1 D (tyM d)) (hB : wB D A H0 (mk h d C M) H locs) {i : Nat} (hi : i < 5) (hdg : decode cc pc = .ok (.iaload, 1)) (kk : W p l e R s m args below meth c H locs cells slots Q (F0 m (pc + 1) ls (.int (nI (cB C i)) :: rest))) : W p l e R s m args below meth c H locs cells slots Q (F0 m pc ls (.int (nI i) :: .ref (h 4) :: rest)) :=
  r_ild E hB 4 3 rfl rfl hi (by decide) hdg kk
theorem sm_begins (E : ev p m c cc nL s args RX1 D (tyM d)) (hB : wB D A H0 (mk h d C M) H locs) {i : Nat} {x : Nat} (hi : i < 5) (hdg : decode cc pc = .ok (.iastore, 1)) (kk : ∀ (H1 : Heap) (locs1 : List Loc), wB D A H0 (mk h d (C.1, C.2.1, C.2.2.1, C.2.2.2.1, va_up C.2.2.2.2.1 i x, C.2.2.2.2.2) M) H1 locs1 → W p l e R s m args below meth c H1 locs1 cells slots Q (F0 m (pc + 1) ls rest)) : W p l e R s m args below meth c H locs cells slots Q (F0 m pc ls (.int (nI x) :: .int (nI i) :: .ref (h 4) :: rest)) :=
  r_ist E hB 4 3 rfl rfl hi (by decide) (up_n C.2.2.2.2.1 i x) rfl hdg kk
theorem lm_signals (E : ev p m c cc nL s args RX1 D (tyM d)) (hB : wB D A H0 (mk h d C M) H locs) {i : Nat} (hi : i < 16) (hdg : decode cc pc = .ok (.iaload, 1)) (kk : W p l e R s m args below meth c H locs cells slots Q (F0 m (pc + 1) ls (.int (bI (M.1 i)) :: rest))) : W p l e R s m args below meth c H locs cells slots Q (F0 m pc ls (.int (nI i) :: .ref (h 5) :: rest)) :=
  r_ild E hB 5 4 rfl rfl hi (by decide) hdg kk
theorem sm_signals (E : ev p m c cc nL s args RX1 D (tyM d)) (hB : wB D A H0 (mk h d C M) H locs) {i : Nat} {x : Bool} (hi : i < 16) (hdg : decode cc pc = .ok (.iastore, 1)) (kk : ∀ (H1 : Heap) (locs1 : List Loc), wB D A H0 (mk h d C (va_up M.1 i x, M.2)) H1 locs1 → W p l e R s m args below meth c H1 locs1 cells slots Q (F0 m (pc + 1) ls rest)) : W p l e R s m args below meth c H locs cells slots Q (F0 m pc ls (.int (bI x) :: .int (nI i) :: .ref (h 5) :: rest)) :=
  r_ist E hB 5 4 rfl rfl hi (by decide) (up_b M.1 i x) rfl hdg kk
theorem lm_states (E : ev p m c cc nL s args RX1 D (tyM d)) (hB : wB D A H0 (mk h d C M) H locs) {i : Nat} (hi : i < 7) (hdg : decode cc pc = .ok (.iaload, 1)) (kk : W p l e R s m args below meth c H locs cells slots Q (F0 m (pc + 1) ls (.int (nI (M.2.1 i)) :: rest))) : W p l e R s m args below meth c H locs cells slots Q (F0 m pc ls (.int (nI i) :: .ref (h 6) :: rest)) :=
  r_ild E hB 6 5 rfl rfl hi (by decide) hdg kk
theorem sm_states (E : ev p m c cc nL s args RX1 D (tyM d)) (hB : wB D A H0 (mk h d C M) H locs) {i : Nat} {x : Nat} (hi : i < 7) (hdg : decode cc pc = .ok (.iastore, 1)) (kk : ∀ (H1 : Heap) (locs1 : List Loc), wB D A H0 (mk h d C (M.1, va_up M.2.1 i x, M.2.2)) H1 locs1 → W p l e R s m args below meth c H1 locs1 cells slots Q (F0 m (pc + 1) ls rest)) : W p l e R s m args below meth c H locs cells slots Q (F0 m pc ls (.int (nI x) :: .int (nI i) :: .ref (h 6) :: rest)) :=
  r_ist E hB 6 5 rfl rfl hi (by decide) (up_n M.2.1 i x) rfl hdg kk
theorem lm_inputs (E : ev p m c cc nL s args RX1 D (tyM d)) (hB : wB D A H0 (mk h d C M) H locs) {i : Nat} (hi : i < 7) (hdg : decode cc pc = .ok (.iaload, 1)) (kk : W p l e R s m args below meth c H locs cells slots Q (F0 m (pc + 1) ls (.int (bI (M.2.2 i)) :: rest))) : W p l e R s m args below meth c H locs cells slots Q (F0 m pc ls (.int (nI i) :: .ref (h 7) :: rest)) :=
  r_ild E hB 7 6 rfl rfl hi (by decide) hdg kk
theorem sm_inputs (E : ev p m c cc nL s args RX1 D (tyM d)) (hB : wB D A H0 (mk h d C M) H locs) {i : Nat} {x : Bool} (hi : i < 7) (hdg : decode cc pc = .ok (.iastore, 1)) (kk : ∀ (H1 : Heap) (locs1 : List Loc), wB D A H0 (mk h d C (M.1, M.2.1, va_up M.2.2 i x)) H1 locs1 → W p l e R s m args below meth c H1 locs1 cells slots Q (F0 m (pc + 1) ls rest)) : W p l e R s m args below meth c H locs cells slots Q (F0 m pc ls (.int (bI x) :: .int (nI i) :: .ref (h 7) :: rest)) :=
  r_ist E hB 7 6 rfl rfl hi (by decide) (up_b M.2.2 i x) rfl hdg kk
end PD
end
section
/-! WHAT THE PUBLIC METHODS DO, over raw ints -/
set_option maxRecDepth 100000
def inT (x : Int32) (lo hi : Nat) : Option Nat := if (lo : Int) ≤ x.toInt ∧ x.toInt < (hi : Int) then some x.toInt.toNat else none
theorem inT_some {x : Int32} {lo hi k : Nat} (h : inT x lo hi = some k) (hh : hi < 2 ^ 31) : lo ≤ k ∧ k < hi ∧ x = nI k := by
  unfold inT at h
  split at h
  · rename_i q
    cases h
    refine ⟨by omega, by omega, Int32.toInt_inj.mp ?_⟩
    rw [nI_toInt (by omega)]
    omega
  · cases h
theorem inT_none {x : Int32} {lo hi : Nat} (h : inT x lo hi = none) : ¬ ((lo : Int) ≤ x.toInt ∧ x.toInt < (hi : Int)) := by
  unfold inT at h
  split at h
  · cases h
  · assumption
theorem t_neg {x : Int32} : x < 0 ↔ x.toInt < 0 := by rw [Int32.lt_iff_toInt_lt, Int32.toInt_zero]
theorem t_lt {x : Int32} {a : Nat} (h : a < 2 ^ 31) : x < nI a ↔ x.toInt < a := by rw [Int32.lt_iff_toInt_lt, nI_toInt h]
theorem t_le {x : Int32} {a : Nat} (h : a < 2 ^ 31) : x ≤ nI a ↔ x.toInt ≤ a := by rw [Int32.le_iff_toInt_le, nI_toInt h]
theorem t_gt {x : Int32} {a : Nat} (h : a < 2 ^ 31) : nI a < x ↔ (a : Int) < x.toInt := by rw [Int32.lt_iff_toInt_lt, nI_toInt h]
theorem t_ge {x : Int32} {a : Nat} (h : a < 2 ^ 31) : nI a ≤ x ↔ (a : Int) ≤ x.toInt := by rw [Int32.le_iff_toInt_le, nI_toInt h]
theorem dead_le {x : Int32} {hi : Nat} (N : Nat) (h : inT x 0 hi = none) (h1 : ¬ x < 0) (h2 : x ≤ nI N) (hN : N < hi) (hh : hi < 2 ^ 31) : False := by
  have q := inT_none h
  rw [t_neg] at h1
  rw [t_le (by omega)] at h2
  omega
theorem dead_lt {x : Int32} {hi : Nat} (h : inT x 0 hi = none) (h1 : ¬ x < 0) (h2 : ¬ nI hi ≤ x) (hh : hi < 2 ^ 31) : False := by
  have q := inT_none h
  rw [t_neg] at h1
  rw [t_ge hh] at h2
  omega
theorem dead_la {x : Int32} (h : inT x 1 5 = none) (h1 : ¬ x < nI 1) (h2 : ¬ nI 4 < x) : False := by
  have q := inT_none h
  rw [t_lt (by decide)] at h1
  rw [t_gt (by decide)] at h2
  omega
theorem dead_lb {x : Int32} (h : inT x 1 5 = none) (h1 : ¬ x < nI 1) (h2 : x ≤ nI 4) : False := by
  have q := inT_none h
  rw [t_lt (by decide)] at h1
  rw [t_le (by decide)] at h2
  omega
def litOf (C : CS) (x : Int32) : Option Nat := inT x 0 (2 * (6 + C.1))
def gateC (C : CS) (x y : Int32) : Option Nat × CS := match litOf C x, litOf C y with
  | some i, some j => if C.1 < 10 then (some (5 + (C.1 + 1)), (C.1 + 1, va_up C.2.1 (6 + C.1) i, va_up C.2.2.1 (6 + C.1) j, C.2.2.2)) else (none, C)
  | _, _ => (none, C)
def nextC (C : CS) (x y : Int32) : Option Nat × CS := match inT x 1 5, litOf C y with
  | some k, some i => (some (cN C k), (C.1, C.2.1, C.2.2.1, va_up C.2.2.2.1 k i, C.2.2.2.2))
  | _, _ => (none, C)
def beginC (C : CS) (x y : Int32) : Option Nat × CS := match inT x 1 5, inT y 0 3 with
  | some k, some i => (some 0, (C.1, C.2.1, C.2.2.1, C.2.2.2.1, va_up C.2.2.2.2.1 k i, C.2.2.2.2.2))
  | _, _ => (none, C)
def badC (C : CS) (x : Int32) : Option Nat × CS := match litOf C x with
  | some i => (some (cX C), (C.1, C.2.1, C.2.2.1, C.2.2.2.1, C.2.2.2.2.1, i))
  | none => (none, C)
def b0 (x : Int32) : Bool := decide (x.toBitVec.toNat % 2 = 1)
theorem b0_and (x : Int32) : x &&& nI 1 = bI (b0 x) := by
  rw [pk_and x (m := nI 1) 1 (by decide +kernel)]
  exact nI_b (Nat.mod_lt _ (by decide))
theorem b0_b (b : Bool) : b0 (bI b) = b := by cases b <;> decide +kernel
def valF (s k : Nat) (V : VS) : VS := putF V k (bitF s (k - 1))
def valV (V : VS) (s : Nat) (b : Bool) : VS := putF (itr (valF s) 1 4 (openV V 0)) 5 b
def valueD (C : CS) (x y z : Int32) (S : DS) : Option Bool × DS := match litOf C x, inT y 0 16 with
  | some k, some s => (vlit (followA C 0 (valV S.2.1 s (b0 z))).1 0 k, ((0, S.1.2), followA C 0 (valV S.2.1 s (b0 z)), (0, S.2.2.2)))
  | _, _ => (none, S)
def depthD (C : CS) (x : Int32) (S : DS) : Option Nat × DS := match inT x 0 7 with
  | some k => depthL C (k + 1) 0 S
  | none => (none, S)
def holdsD (C : CS) (x : Int32) (S : DS) : Option Bool × DS := match inT x 0 7 with
  | some k => (some (!(seekF C (k, false, true) S).1), (seekF C (k, false, true) S).2)
  | none => (none, S)
def bitN (o : Option Bool) : Nat := match o with
  | some true => 1
  | _ => 0
def witF (v : Nat → Option Bool) (i k r : Nat) : Nat := r + bitN (v (16 * i + k)) * 2 ^ (k - 1)
def witN (v : Nat → Option Bool) (i : Nat) : Nat := itr (witF v i) 1 4 0
def atD (x : Int32) (r : Option Nat × DS) : Option Nat := match r.1 with
  | none => none
  | some n => inT x 0 (n + 1)
def witnessD (C : CS) (x : Int32) (S : DS) : Option Nat × DS := match atD x (depthL C 7 0 S) with
  | none => (none, (depthL C 7 0 S).2)
  | some i => (some (witN (depthL C 7 0 S).2.2.1.1 i), (depthL C 7 0 S).2)
def inputD (C : CS) (x : Int32) (S : DS) : Option Bool × DS := match atD x (depthL C 7 0 S) with
  | none => (none, (depthL C 7 0 S).2)
  | some i => ((depthL C 7 0 S).2.2.1.1 (16 * i + 5), (depthL C 7 0 S).2)
/-- what a search needs of its states, all along -/
def SOK (C : CS) : Prop := ∀ (P : PS) (V : VS) (K : KS), P.1 < 7 → ∃ I : VS → KS → Prop, I (demandF C P (openV V P.1)) (0, K.2) ∧
  (∀ V1 K1, I V1 K1 → okV V1 ∧ K1.1 ≤ 11 ∧ ∀ j, j < K1.1 → K1.2.1 j < 112 ∧ K1.2.2.1 j ≤ 112) ∧
  (∀ V1 K1, I V1 K1 → wrongF P (followA C P.1 V1) = true → (gbF K1.1 (followA C P.1 V1) K1).1 = true → I (gbF K1.1 (followA C P.1 V1) K1).2.1 (gbF K1.1 (followA C P.1 V1) K1).2.2) ∧
  (∀ V1 K1 a, I V1 K1 → wrongF P (followA C P.1 V1) = false → chooseAt (followA C P.1 V1).1 P.1 = some a → I (putF (followA C P.1 V1) a false) (pushK (followA C P.1 V1) K1 a))
theorem srch_1 {C : CS} {P : PS} {k : Nat} {V : VS} {K : KS} (hw : wrongF P (followA C P.1 V) = true) (hg : (gbF K.1 (followA C P.1 V) K).1 = true) : srch C P (k + 1) V K = srch C P k (gbF K.1 (followA C P.1 V) K).2.1 (gbF K.1 (followA C P.1 V) K).2.2 := by
  show (if _ then (if _ then _ else _) else _) = _
  rw [if_pos hw, if_pos hg]
theorem srch_2 {C : CS} {P : PS} {k : Nat} {V : VS} {K : KS} (hw : wrongF P (followA C P.1 V) = true) (hg : (gbF K.1 (followA C P.1 V) K).1 = false) : srch C P (k + 1) V K = gbF K.1 (followA C P.1 V) K := by
  show (if _ then (if _ then _ else _) else _) = _
  rw [if_pos hw, if_neg (by rw [hg]; simp)]
theorem srch_3 {C : CS} {P : PS} {k : Nat} {V : VS} {K : KS} (hw : wrongF P (followA C P.1 V) = false) (hc : chooseAt (followA C P.1 V).1 P.1 = none) : srch C P (k + 1) V K = (true, followA C P.1 V, K) := by
  show (if _ then (if _ then _ else _) else _) = _
  rw [if_neg (by rw [hw]; simp), hc]
theorem srch_4 {C : CS} {P : PS} {k a : Nat} {V : VS} {K : KS} (hw : wrongF P (followA C P.1 V) = false) (hc : chooseAt (followA C P.1 V).1 P.1 = some a) : srch C P (k + 1) V K = srch C P k (putF (followA C P.1 V) a false) (pushK (followA C P.1 V) K a) := by
  show (if _ then (if _ then _ else _) else _) = _
  rw [if_neg (by rw [hw]; simp), hc]
theorem bit_16 : ∀ s, s < 16 → ∀ k, k < 4 → ((nI s).toUInt32 >>> ((nI k).toUInt32 &&& Int32.toUInt32 31)).toInt32 &&& nI 1 = bI (bitF s k) := by decide +kernel
theorem sbit_16 : ∀ s, s < 16 → ∀ k, k < 4 → nI s >>> (nI k &&& 31) &&& nI 1 = bI (bitF s k) := by decide +kernel
theorem or_16 : ∀ r, r < 16 → ∀ k, k < 4 → ∀ b : Bool, r < 2 ^ k → nI r ||| (bI b <<< (nI k &&& 31)) = nI (r + b.toNat * 2 ^ k) := by decide +kernel
end
section
/-! WALKS of the desk, first part: values -/
set_option maxRecDepth 100000
theorem followF_stop {C : CS} {n k : Nat} {ch : Bool} {V : VS} (h : k = 0 ∨ ch = false ∨ V.2.2.2 = true) : followF C n k ch V = V := by
  cases k with
  | zero => rfl
  | succ k =>
    show (if ch = true ∧ V.2.2.2 = false then _ else V) = V
    rw [if_neg]
    rintro ⟨h1, h2⟩
    rcases h with h | h | h
    · omega
    · rw [h] at h1; cases h1
    · rw [h] at h2; cases h2
theorem followF_step {C : CS} {n r : Nat} {ch ch' : Bool} {V : VS} (hr : r < 113) (h1 : ch = true) (h2 : V.2.2.2 = false) (h3 : decide (V.2.1 < (roundF C n V).2.1) = ch') : followF C n (113 - (r + 1)) ch' (roundF C n V) = followF C n (113 - r) ch V := by
  rw [show 113 - r = (113 - (r + 1)) + 1 by omega]
  show _ = (if ch = true ∧ V.2.2.2 = false then followF C n (113 - (r + 1)) (decide (V.2.1 < (roundF C n V).2.1)) (roundF C n V) else V)
  rw [if_pos ⟨h1, h2⟩, h3]
theorem latch_1 {C : CS} {f k : Nat} {V : VS} {b : Bool} (h : vlit V.1 f (cN C k) = some b) : latchF C f k V = putF V (16 * f + 16 + k) b := by unfold latchF; rw [h]
theorem latch_2 {C : CS} {f k : Nat} {V : VS} {b : Bool} (h : vlit V.1 f (cN C k) = none) (h2 : V.1 (16 * f + 16 + k) = some b) : latchF C f k V = putL V f (cN C k) b := by unfold latchF; rw [h]; simp only []; rw [h2]
theorem latch_3 {C : CS} {f k : Nat} {V : VS} (h : vlit V.1 f (cN C k) = none) (h2 : V.1 (16 * f + 16 + k) = none) : latchF C f k V = V := by unfold latchF; rw [h]; simp only []; rw [h2]
set_option maxHeartbeats 4000000 in
set_option maxRecDepth 100000 in
/-- put(a, b) -/
theorem m_put (l : Launch) (D : va_G) (h : Nat → Nat) (d : Nat → ClassId) (C : CS) (P : PS) (V : VS) (K : KS) (a : Nat) (b : Bool) (ha : a < 112) (hV : okV V) : ctV l yX0_put cX0_put 3 (rmm 0 0) D (tyD d) (dk h d C P V K) (dk h d C P (putF V a b) K) [.ref (h 0), .int (nI (a)), .int (bI (b))] := by
  refine mkV RX0 rfl (by decide) (Nat.le_of_ble_eq_true rfl) [(0, .ref (h 0)), (1, .int (nI (a))), (2, .int (bI (b)))] rfl ?_
  intro p e s m below meth c A ls E hr hk hA hB hl
  refine lv_aload_n E.x E.b dX0_put_0 rfl (lv_at hl 0 rfl) ?_
  refine gd_value E hB dX0_put_1 ?_
  refine lv_iload_n E.x E.b dX0_put_4 rfl (lv_at hl 1 rfl) ?_
  refine ld_value E hB (by omega) dX0_put_5 ?_
  refine o_if_ge (tgt := 39) E dX0_put_6 (by decide) (fun b6 hc6 => ?_) (fun hc6 => ?_)
  · skip
    refine lv_aload_n E.x E.b dX0_put_39 rfl (lv_at hl 0 rfl) ?_
    refine gd_value E hB dX0_put_40 ?_
    refine lv_iload_n E.x E.b dX0_put_43 rfl (lv_at hl 1 rfl) ?_
    refine ld_value E hB (by omega) dX0_put_44 ?_
    refine lv_iload_n E.x E.b dX0_put_45 rfl (lv_at hl 2 rfl) ?_
    refine ob_icmp_eq (tgt := 54) E dX0_put_46 (by decide) (fun hc46 => ?_) (fun hc46 => ?_)
    · skip
      exact r_vret E hr hk (hB.to (by unfold putF; rw [hc6]; simp only []; rw [if_pos (Option.some.inj (hc6.symm.trans hc46))])) dX0_put_54
    · skip
      refine lv_aload_n E.x E.b dX0_put_49 rfl (lv_at hl 0 rfl) ?_
      refine lv_iconst (v := bI (true)) E.x E.b dX0_put_50 (by decide +kernel) ?_
      refine pd_broken E hB (b := true) dX0_put_51 (fun H locs (hB : wB D A s.heap (dk h d C P (V.1, V.2.1, V.2.2.1, true) K) H locs) => ?_)
      exact r_vret E hr hk (hB.to (by unfold putF; rw [hc6]; simp only []; rw [if_neg (fun z => hc46 (by rw [hc6, z]))])) dX0_put_54
  · skip
    have hroom := hV.room ha hc6
    refine lv_aload_n E.x E.b dX0_put_9 rfl (lv_at hl 0 rfl) ?_
    refine gd_value E hB dX0_put_10 ?_
    refine lv_iload_n E.x E.b dX0_put_13 rfl (lv_at hl 1 rfl) ?_
    refine lv_iload_n E.x E.b dX0_put_14 rfl (lv_at hl 2 rfl) ?_
    refine sd_value E hB (i := a) (x := some b) (by omega) dX0_put_15 (fun H locs (hB : wB D A s.heap (dk h d C P (va_up V.1 a (some b), V.2) K) H locs) => ?_)
    refine lv_aload_n E.x E.b dX0_put_16 rfl (lv_at hl 0 rfl) ?_
    refine gd_order E hB dX0_put_17 ?_
    refine lv_aload_n E.x E.b dX0_put_20 rfl (lv_at hl 0 rfl) ?_
    refine gd_settled E hB dX0_put_21 ?_
    refine r_eq (y := nI (V.2.1)) rfl ?_
    refine lv_iload_n E.x E.b dX0_put_24 rfl (lv_at hl 1 rfl) ?_
    refine sd_order E hB (i := V.2.1) (x := a) (hroom) dX0_put_25 (fun H locs (hB : wB D A s.heap (dk h d C P (va_up V.1 a (some b), V.2.1, va_up V.2.2.1 V.2.1 a, V.2.2.2) K) H locs) => ?_)
    refine lv_aload_n E.x E.b dX0_put_26 rfl (lv_at hl 0 rfl) ?_
    refine lv_dup E.x E.b dX0_put_27 rfl ?_
    refine gd_settled E hB dX0_put_28 ?_
    refine r_eq (y := nI (V.2.1)) rfl ?_
    refine lv_iconst (v := nI (1)) E.x E.b dX0_put_31 (by decide +kernel) ?_
    refine n_add E dX0_put_32 ?_
    refine pd_settled E hB (n := (V.2.1 + 1)) dX0_put_33 (fun H locs (hB : wB D A s.heap (dk h d C P (va_up V.1 a (some b), V.2.1 + 1, va_up V.2.2.1 V.2.1 a, V.2.2.2) K) H locs) => ?_)
    refine lv_goto (tgt := 54) E.x E.b dX0_put_36 (by decide) ?_
    exact r_vret E hr hk (hB.to (by unfold putF; rw [hc6])) dX0_put_54
theorem k_put {p : Program} {l : Launch} {e : Env} {R : Room} {s : State} {m : MethodId} {args : Array Value} {below : List Frame} {meth : Method} {c : Code} {H : Heap} {locs : List Loc} {cells slots : Nat} {Q : State → Prop} {cc : ByteArray} {pc nL : Nat} {ls : Array Slot} {rest : List Value} {D : va_G} {A : Nat → Prop} {h : Nat → Nat} {d : Nat → ClassId} {C : CS} {P : PS} {V : VS} {K : KS} {a : Nat} {b : Bool} (E : ev p m c cc nL s args RX0 D (tyD d)) (hA : ∀ q : Nat, s.heap.size ≤ q → A q) (hB : wB D A s.heap (dk h d C P V K) H locs) (hls : ls.size = nL) (hRm : 1 ≤ R.frames ∧ 22 ≤ R.locals) (hfm : cells ≤ R.cells ∧ slots ≤ R.slots) (hrest : (rest.map fun v => v.category).sum ≤ 8) (ha : a < 112) (hV : okV V) (hdg : decode cc pc = .ok (.invokevirtual 53, 3)) (kk : ∀ (H1 : Heap) (locs1 : List Loc), wB D A s.heap (dk h d C P (putF V a b) K) H1 locs1 → W p l e R s m args below meth c H1 locs1 cells slots Q (F0 m (pc + 3) ls (rest))) : W p l e R s m args below meth c H locs cells slots Q (F0 m pc ls (.int (bI (b)) :: .int (nI (a)) :: .ref (h 0) :: rest)) :=
  r_callv (ci := 0) (q := (RX0, TX0, 17)) E hA hB hls 2 (m_put l D h d C P V K a b ha hV) rfl rfl q117 q119 qs2 q25 q120 (by decide +kernel) rfl ⟨rfl, rfl⟩ hRm hfm rfl hrest hdg kk
set_option maxHeartbeats 4000000 in
set_option maxRecDepth 100000 in
/-- valueOf(f, k) -/
theorem m_valueOf (l : Launch) (D : va_G) (h : Nat → Nat) (d : Nat → ClassId) (C : CS) (P : PS) (V : VS) (K : KS) (f k : Nat) (hk2 : 16 * f + k / 2 < 112) : ctI l yX0_valueOf cX0_valueOf 4 (rmm 0 0) D (tyD d) (dk h d C P V K) (dk h d C P V K) [.ref (h 0), .int (nI (f)), .int (nI (k))] .int (oI (vlit V.1 f k)) := by
  refine mkI RX0 rfl (by decide) (Nat.le_of_ble_eq_true rfl) [(0, .ref (h 0)), (1, .int (nI (f))), (2, .int (nI (k)))] rfl ?_
  intro p e s m below meth c A ls E hr hk hA hB hl
  refine lv_aload_n E.x E.b dX0_valueOf_0 rfl (lv_at hl 0 rfl) ?_
  refine gd_value E hB dX0_valueOf_1 ?_
  refine lv_bipush (v := nI (16)) E.x E.b dX0_valueOf_4 (by decide +kernel) ?_
  refine lv_iload_n E.x E.b dX0_valueOf_6 rfl (lv_at hl 1 rfl) ?_
  refine n_mul E dX0_valueOf_7 ?_
  refine lv_iload_n E.x E.b dX0_valueOf_8 rfl (lv_at hl 2 rfl) ?_
  refine lv_iconst (v := nI (1)) E.x E.b dX0_valueOf_9 (by decide +kernel) ?_
  refine n_half E (by omega) dX0_valueOf_10 ?_
  refine n_add E dX0_valueOf_11 ?_
  refine ld_value E hB (by omega) dX0_valueOf_12 ?_
  refine lv_istore_n (lv' := [(3, .int (oI (V.1 ((16 * f) + (k / 2))))), (0, .ref (h 0)), (1, .int (nI (f))), (2, .int (nI (k)))]) E.x E.b dX0_valueOf_13 rfl hl (by decide) rfl (fun ls hl => ?_)
  refine lv_iload_n E.x E.b dX0_valueOf_14 rfl (lv_at hl 0 rfl) ?_
  refine o_if_ge (tgt := 22) E dX0_valueOf_15 (by decide) (fun b15 hc15 => ?_) (fun hc15 => ?_)
  · skip
    have hl : lv_has ls 4 [(3, .int (bI (b15))), (0, .ref (h 0)), (1, .int (nI (f))), (2, .int (nI (k)))] := by rw [hc15] at hl; exact hl
    refine lv_iload_n E.x E.b dX0_valueOf_22 rfl (lv_at hl 0 rfl) ?_
    refine lv_iload_n E.x E.b dX0_valueOf_23 rfl (lv_at hl 3 rfl) ?_
    refine lv_iconst (v := nI (1)) E.x E.b dX0_valueOf_24 (by decide +kernel) ?_
    refine n_par E (by omega) dX0_valueOf_25 ?_
    refine b_xorr E dX0_valueOf_26 ?_
    exact r_iret (x := bI (b15 ^^ (par k))) E hr hk (hB) dX0_valueOf_27 (by unfold vlit; rw [hc15]; try rfl)
  · skip
    refine lv_iconst (v := oI (none)) E.x E.b dX0_valueOf_18 (by decide +kernel) ?_
    refine lv_goto (tgt := 27) E.x E.b dX0_valueOf_19 (by decide) ?_
    exact r_iret (x := oI (none)) E hr hk (hB) dX0_valueOf_27 (by unfold vlit; rw [hc15]; try rfl)
theorem k_valueOf {p : Program} {l : Launch} {e : Env} {R : Room} {s : State} {m : MethodId} {args : Array Value} {below : List Frame} {meth : Method} {c : Code} {H : Heap} {locs : List Loc} {cells slots : Nat} {Q : State → Prop} {cc : ByteArray} {pc nL : Nat} {ls : Array Slot} {rest : List Value} {D : va_G} {A : Nat → Prop} {h : Nat → Nat} {d : Nat → ClassId} {C : CS} {P : PS} {V : VS} {K : KS} {f k : Nat} (E : ev p m c cc nL s args RX0 D (tyD d)) (hA : ∀ q : Nat, s.heap.size ≤ q → A q) (hB : wB D A s.heap (dk h d C P V K) H locs) (hls : ls.size = nL) (hRm : 1 ≤ R.frames ∧ 23 ≤ R.locals) (hfm : cells ≤ R.cells ∧ slots ≤ R.slots) (hrest : (rest.map fun v => v.category).sum ≤ 8) (hk2 : 16 * f + k / 2 < 112) (hdg : decode cc pc = .ok (.invokevirtual 60, 3)) (kk : ∀ (H1 : Heap) (locs1 : List Loc), wB D A s.heap (dk h d C P V K) H1 locs1 → W p l e R s m args below meth c H1 locs1 cells slots Q (F0 m (pc + 3) ls (.int (oI (vlit V.1 f k)) :: rest))) : W p l e R s m args below meth c H locs cells slots Q (F0 m pc ls (.int (nI (k)) :: .int (nI (f)) :: .ref (h 0) :: rest)) :=
  r_calli (ci := 0) (q := (RX0, TX0, 17)) E hA hB hls 2 (m_valueOf l D h d C P V K f k hk2) rfl rfl q133 q135 qs6 q25 q136 (by decide +kernel) rfl ⟨rfl, rfl⟩ hRm hfm rfl hrest hdg kk
set_option maxHeartbeats 4000000 in
set_option maxRecDepth 100000 in
/-- putLiteral(f, k, b) -/
theorem m_putLiteral (l : Launch) (D : va_G) (h : Nat → Nat) (d : Nat → ClassId) (C : CS) (P : PS) (V : VS) (K : KS) (f k : Nat) (b : Bool) (hk2 : 16 * f + k / 2 < 112) (hV : okV V) : ctV l yX0_putLiteral cX0_putLiteral 4 (rmm 1 22) D (tyD d) (dk h d C P V K) (dk h d C P (putL V f k b) K) [.ref (h 0), .int (nI (f)), .int (nI (k)), .int (bI (b))] := by
  refine mkV RX0 rfl (by decide) (Nat.le_of_ble_eq_true rfl) [(0, .ref (h 0)), (1, .int (nI (f))), (2, .int (nI (k))), (3, .int (bI (b)))] rfl ?_
  intro p e s m below meth c A ls E hr hk hA hB hl
  refine lv_aload_n E.x E.b dX0_putLiteral_0 rfl (lv_at hl 0 rfl) ?_
  refine lv_bipush (v := nI (16)) E.x E.b dX0_putLiteral_1 (by decide +kernel) ?_
  refine lv_iload_n E.x E.b dX0_putLiteral_3 rfl (lv_at hl 1 rfl) ?_
  refine n_mul E dX0_putLiteral_4 ?_
  refine lv_iload_n E.x E.b dX0_putLiteral_5 rfl (lv_at hl 2 rfl) ?_
  refine lv_iconst (v := nI (1)) E.x E.b dX0_putLiteral_6 (by decide +kernel) ?_
  refine n_half E (by omega) dX0_putLiteral_7 ?_
  refine n_add E dX0_putLiteral_8 ?_
  refine lv_iload_n E.x E.b dX0_putLiteral_9 rfl (lv_at hl 3 rfl) ?_
  refine lv_iload_n E.x E.b dX0_putLiteral_10 rfl (lv_at hl 2 rfl) ?_
  refine lv_iconst (v := nI (1)) E.x E.b dX0_putLiteral_11 (by decide +kernel) ?_
  refine n_par E (by omega) dX0_putLiteral_12 ?_
  refine b_xorr E dX0_putLiteral_13 ?_
  refine k_put E hA hB hl.1 ⟨Nat.le_of_ble_eq_true rfl, Nat.le_of_ble_eq_true rfl⟩ ⟨Nat.le_refl 0, Nat.le_refl 0⟩ (Nat.le_of_ble_eq_true rfl) (by omega) hV dX0_putLiteral_14 (fun H locs (hB : wB D A s.heap (dk h d C P (putF V ((16 * f) + (k / 2)) (b ^^ (par k))) K) H locs) => ?_)
  have hV : okV (putF V ((16 * f) + (k / 2)) (b ^^ (par k))) := hV.put (by omega) _
  exact r_vret E hr hk hB dX0_putLiteral_17
theorem k_putLiteral {p : Program} {l : Launch} {e : Env} {R : Room} {s : State} {m : MethodId} {args : Array Value} {below : List Frame} {meth : Method} {c : Code} {H : Heap} {locs : List Loc} {cells slots : Nat} {Q : State → Prop} {cc : ByteArray} {pc nL : Nat} {ls : Array Slot} {rest : List Value} {D : va_G} {A : Nat → Prop} {h : Nat → Nat} {d : Nat → ClassId} {C : CS} {P : PS} {V : VS} {K : KS} {f k : Nat} {b : Bool} (E : ev p m c cc nL s args RX0 D (tyD d)) (hA : ∀ q : Nat, s.heap.size ≤ q → A q) (hB : wB D A s.heap (dk h d C P V K) H locs) (hls : ls.size = nL) (hRm : 2 ≤ R.frames ∧ 45 ≤ R.locals) (hfm : cells ≤ R.cells ∧ slots ≤ R.slots) (hrest : (rest.map fun v => v.category).sum ≤ 8) (hk2 : 16 * f + k / 2 < 112) (hV : okV V) (hdg : decode cc pc = .ok (.invokevirtual 91, 3)) (kk : ∀ (H1 : Heap) (locs1 : List Loc), wB D A s.heap (dk h d C P (putL V f k b) K) H1 locs1 → W p l e R s m args below meth c H1 locs1 cells slots Q (F0 m (pc + 3) ls (rest))) : W p l e R s m args below meth c H locs cells slots Q (F0 m pc ls (.int (bI (b)) :: .int (nI (k)) :: .int (nI (f)) :: .ref (h 0) :: rest)) :=
  r_callv (ci := 0) (q := (RX0, TX0, 17)) E hA hB hls 3 (m_putLiteral l D h d C P V K f k b hk2 hV) rfl rfl q137 q139 qs7 q25 q140 (by decide +kernel) rfl ⟨rfl, rfl⟩ hRm hfm rfl hrest hdg kk
set_option maxHeartbeats 4000000 in
set_option maxRecDepth 100000 in
/-- followGate(f, g) -/
theorem m_followGate (l : Launch) (D : va_G) (h : Nat → Nat) (d : Nat → ClassId) (C : CS) (P : PS) (V : VS) (K : KS) (f g : Nat) (hC : okC C) (hf : f < 7) (hg1 : 6 ≤ g) (hg2 : g < 6 + C.1) (hV : okV V) : ctV l yX0_followGate cX0_followGate 6 (rmm 2 45) D (tyD d) (dk h d C P V K) (dk h d C P (gateF C f g V) K) [.ref (h 0), .int (nI (f)), .int (nI (g))] := by
  refine mkV RX0 rfl (by decide) (Nat.le_of_ble_eq_true rfl) [(0, .ref (h 0)), (1, .int (nI (f))), (2, .int (nI (g)))] rfl ?_
  intro p e s m below meth c A ls E hr hk hA hB hl
  obtain ⟨g1, g2, g3⟩ := gate_ix hC hg1 hg2
  refine lv_aload_n E.x E.b dX0_followGate_0 rfl (lv_at hl 0 rfl) ?_
  refine lv_iload_n E.x E.b dX0_followGate_1 rfl (lv_at hl 1 rfl) ?_
  refine lv_aload_n E.x E.b dX0_followGate_2 rfl (lv_at hl 0 rfl) ?_
  refine gd_left E hB dX0_followGate_3 ?_
  refine lv_iload_n E.x E.b dX0_followGate_6 rfl (lv_at hl 2 rfl) ?_
  refine ld_left E hB (by omega) dX0_followGate_7 ?_
  refine k_valueOf E hA hB hl.1 ⟨Nat.le_of_ble_eq_true rfl, Nat.le_of_ble_eq_true rfl⟩ ⟨Nat.le_refl 0, Nat.le_refl 0⟩ (Nat.le_of_ble_eq_true rfl) (by omega) dX0_followGate_8 (fun H locs (hB : wB D A s.heap (dk h d C P V K) H locs) => ?_)
  refine lv_istore_n (lv' := [(3, .int (oI (vlit V.1 f (cL C (g))))), (0, .ref (h 0)), (1, .int (nI (f))), (2, .int (nI (g)))]) E.x E.b dX0_followGate_11 rfl hl (by decide) rfl (fun ls hl => ?_)
  refine lv_aload_n E.x E.b dX0_followGate_12 rfl (lv_at hl 1 rfl) ?_
  refine lv_iload_n E.x E.b dX0_followGate_13 rfl (lv_at hl 2 rfl) ?_
  refine lv_aload_n E.x E.b dX0_followGate_14 rfl (lv_at hl 1 rfl) ?_
  refine gd_right E hB dX0_followGate_15 ?_
  refine lv_iload_n E.x E.b dX0_followGate_18 rfl (lv_at hl 3 rfl) ?_
  refine ld_right E hB (by omega) dX0_followGate_19 ?_
  refine k_valueOf E hA hB hl.1 ⟨Nat.le_of_ble_eq_true rfl, Nat.le_of_ble_eq_true rfl⟩ ⟨Nat.le_refl 0, Nat.le_refl 0⟩ (Nat.le_of_ble_eq_true rfl) (by omega) dX0_followGate_20 (fun H locs (hB : wB D A s.heap (dk h d C P V K) H locs) => ?_)
  refine lv_istore (lv' := [(4, .int (oI (vlit V.1 f (cR C (g))))), (3, .int (oI (vlit V.1 f (cL C (g))))), (0, .ref (h 0)), (1, .int (nI (f))), (2, .int (nI (g)))]) E.x E.b dX0_followGate_23 hl (by decide) rfl (fun ls hl => ?_)
  refine lv_aload_n E.x E.b dX0_followGate_25 rfl (lv_at hl 2 rfl) ?_
  refine gd_value E hB dX0_followGate_26 ?_
  refine lv_bipush (v := nI (16)) E.x E.b dX0_followGate_29 (by decide +kernel) ?_
  refine lv_iload_n E.x E.b dX0_followGate_31 rfl (lv_at hl 3 rfl) ?_
  refine n_mul E dX0_followGate_32 ?_
  refine lv_iload_n E.x E.b dX0_followGate_33 rfl (lv_at hl 4 rfl) ?_
  refine n_add E dX0_followGate_34 ?_
  refine ld_value E hB (by omega) dX0_followGate_35 ?_
  refine lv_istore (lv' := [(5, .int (oI (V.1 ((16 * f) + g)))), (4, .int (oI (vlit V.1 f (cR C (g))))), (3, .int (oI (vlit V.1 f (cL C (g))))), (0, .ref (h 0)), (1, .int (nI (f))), (2, .int (nI (g)))]) E.x E.b dX0_followGate_36 hl (by decide) rfl (fun ls hl => ?_)
  refine lv_iload_n E.x E.b dX0_followGate_38 rfl (lv_at hl 2 rfl) ?_
  refine o_if_eq (tgt := 47) E dX0_followGate_39 (by decide) (fun hc39 => ?_) (fun hc39 => ?_)
  · skip
    refine lv_aload_n E.x E.b dX0_followGate_47 rfl (lv_at hl 3 rfl) ?_
    refine lv_bipush (v := nI (16)) E.x E.b dX0_followGate_48 (by decide +kernel) ?_
    refine lv_iload_n E.x E.b dX0_followGate_50 rfl (lv_at hl 4 rfl) ?_
    refine n_mul E dX0_followGate_51 ?_
    refine lv_iload_n E.x E.b dX0_followGate_52 rfl (lv_at hl 5 rfl) ?_
    refine n_add E dX0_followGate_53 ?_
    refine lv_iconst (v := bI (false)) E.x E.b dX0_followGate_54 (by decide +kernel) ?_
    refine k_put E hA hB hl.1 ⟨Nat.le_of_ble_eq_true rfl, Nat.le_of_ble_eq_true rfl⟩ ⟨Nat.le_refl 0, Nat.le_refl 0⟩ (Nat.le_of_ble_eq_true rfl) (by omega) hV dX0_followGate_55 (fun H locs (hB : wB D A s.heap (dk h d C P (putF V ((16 * f) + g) false) K) H locs) => ?_)
    have hV : okV (putF V ((16 * f) + g) false) := hV.put (by omega) _
    refine lv_goto (tgt := 167) E.x E.b dX0_followGate_58 (by decide) ?_
    exact r_vret E hr hk (hB.to (by first | contradiction | (unfold gateF; simp [hc39]))) dX0_followGate_167
  · skip
    refine lv_iload E.x E.b dX0_followGate_42 (lv_at hl 1 rfl) ?_
    refine o_if_ne (tgt := 61) E dX0_followGate_44 (by decide) (fun hc44 => ?_) (fun hc44 => ?_)
    · skip
      refine lv_iload_n E.x E.b dX0_followGate_61 rfl (lv_at hl 2 rfl) ?_
      refine lv_iconst (v := bI (true)) E.x E.b dX0_followGate_62 (by decide +kernel) ?_
      refine ob_icmp_ne (tgt := 86) E dX0_followGate_63 (by decide) (fun hc63 => ?_) (fun hc63 => ?_)
      · skip
        refine lv_iload E.x E.b dX0_followGate_86 (lv_at hl 0 rfl) ?_
        refine lv_iconst (v := bI (true)) E.x E.b dX0_followGate_88 (by decide +kernel) ?_
        refine ob_icmp_ne (tgt := 119) E dX0_followGate_89 (by decide) (fun hc89 => ?_) (fun hc89 => ?_)
        · skip
          refine lv_iload E.x E.b dX0_followGate_119 (lv_at hl 0 rfl) ?_
          refine o_if_ne (tgt := 144) E dX0_followGate_121 (by decide) (fun hc121 => ?_) (fun hc121 => ?_)
          · skip
            refine lv_iload E.x E.b dX0_followGate_144 (lv_at hl 0 rfl) ?_
            refine o_if_ne (tgt := 167) E dX0_followGate_146 (by decide) (fun hc146 => ?_) (fun hc146 => ?_)
            · skip
              exact r_vret E hr hk (hB.to (by first | contradiction | (unfold gateF; simp [hc39, hc44, hc63, hc89, hc121, hc146]))) dX0_followGate_167
            · skip
              refine lv_iload E.x E.b dX0_followGate_149 (lv_at hl 1 rfl) ?_
              refine lv_iconst (v := bI (true)) E.x E.b dX0_followGate_151 (by decide +kernel) ?_
              refine ob_icmp_ne (tgt := 167) E dX0_followGate_152 (by decide) (fun hc152 => ?_) (fun hc152 => ?_)
              · skip
                exact r_vret E hr hk (hB.to (by first | contradiction | (unfold gateF; simp [hc39, hc44, hc63, hc89, hc121, hc146, hc152]))) dX0_followGate_167
              · skip
                refine lv_aload_n E.x E.b dX0_followGate_155 rfl (lv_at hl 3 rfl) ?_
                refine lv_iload_n E.x E.b dX0_followGate_156 rfl (lv_at hl 4 rfl) ?_
                refine lv_aload_n E.x E.b dX0_followGate_157 rfl (lv_at hl 3 rfl) ?_
                refine gd_left E hB dX0_followGate_158 ?_
                refine lv_iload_n E.x E.b dX0_followGate_161 rfl (lv_at hl 5 rfl) ?_
                refine ld_left E hB (by omega) dX0_followGate_162 ?_
                refine lv_iconst (v := bI (false)) E.x E.b dX0_followGate_163 (by decide +kernel) ?_
                refine k_putLiteral E hA hB hl.1 ⟨Nat.le_of_ble_eq_true rfl, Nat.le_of_ble_eq_true rfl⟩ ⟨Nat.le_refl 0, Nat.le_refl 0⟩ (Nat.le_of_ble_eq_true rfl) (by omega) hV dX0_followGate_164 (fun H locs (hB : wB D A s.heap (dk h d C P (putL V f (cL C (g)) false) K) H locs) => ?_)
                have hV : okV (putL V f (cL C (g)) false) := hV.putL (by omega) _
                exact r_vret E hr hk (hB.to (by first | contradiction | (unfold gateF; simp [hc39, hc44, hc63, hc89, hc121, hc146, hc152]))) dX0_followGate_167
          · skip
            refine lv_iload_n E.x E.b dX0_followGate_124 rfl (lv_at hl 2 rfl) ?_
            refine lv_iconst (v := bI (true)) E.x E.b dX0_followGate_125 (by decide +kernel) ?_
            refine ob_icmp_ne (tgt := 144) E dX0_followGate_126 (by decide) (fun hc126 => ?_) (fun hc126 => ?_)
            · skip
              refine lv_iload E.x E.b dX0_followGate_144 (lv_at hl 0 rfl) ?_
              refine o_if_ne (tgt := 167) E dX0_followGate_146 (by decide) (fun hc146 => ?_) (fun hc146 => ?_)
              · skip
                exact r_vret E hr hk (hB.to (by first | contradiction | (unfold gateF; simp [hc39, hc44, hc63, hc89, hc121, hc126, hc146]))) dX0_followGate_167
              · skip
                refine lv_iload E.x E.b dX0_followGate_149 (lv_at hl 1 rfl) ?_
                refine lv_iconst (v := bI (true)) E.x E.b dX0_followGate_151 (by decide +kernel) ?_
                refine ob_icmp_ne (tgt := 167) E dX0_followGate_152 (by decide) (fun hc152 => ?_) (fun hc152 => ?_)
                · skip
                  exact r_vret E hr hk (hB.to (by first | contradiction | (unfold gateF; simp [hc39, hc44, hc63, hc89, hc121, hc126, hc146, hc152]))) dX0_followGate_167
                · skip
                  refine lv_aload_n E.x E.b dX0_followGate_155 rfl (lv_at hl 3 rfl) ?_
                  refine lv_iload_n E.x E.b dX0_followGate_156 rfl (lv_at hl 4 rfl) ?_
                  refine lv_aload_n E.x E.b dX0_followGate_157 rfl (lv_at hl 3 rfl) ?_
                  refine gd_left E hB dX0_followGate_158 ?_
                  refine lv_iload_n E.x E.b dX0_followGate_161 rfl (lv_at hl 5 rfl) ?_
                  refine ld_left E hB (by omega) dX0_followGate_162 ?_
                  refine lv_iconst (v := bI (false)) E.x E.b dX0_followGate_163 (by decide +kernel) ?_
                  refine k_putLiteral E hA hB hl.1 ⟨Nat.le_of_ble_eq_true rfl, Nat.le_of_ble_eq_true rfl⟩ ⟨Nat.le_refl 0, Nat.le_refl 0⟩ (Nat.le_of_ble_eq_true rfl) (by omega) hV dX0_followGate_164 (fun H locs (hB : wB D A s.heap (dk h d C P (putL V f (cL C (g)) false) K) H locs) => ?_)
                  have hV : okV (putL V f (cL C (g)) false) := hV.putL (by omega) _
                  exact r_vret E hr hk (hB.to (by first | contradiction | (unfold gateF; simp [hc39, hc44, hc63, hc89, hc121, hc126, hc146, hc152]))) dX0_followGate_167
            · skip
              refine lv_aload_n E.x E.b dX0_followGate_129 rfl (lv_at hl 3 rfl) ?_
              refine lv_iload_n E.x E.b dX0_followGate_130 rfl (lv_at hl 4 rfl) ?_
              refine lv_aload_n E.x E.b dX0_followGate_131 rfl (lv_at hl 3 rfl) ?_
              refine gd_right E hB dX0_followGate_132 ?_
              refine lv_iload_n E.x E.b dX0_followGate_135 rfl (lv_at hl 5 rfl) ?_
              refine ld_right E hB (by omega) dX0_followGate_136 ?_
              refine lv_iconst (v := bI (false)) E.x E.b dX0_followGate_137 (by decide +kernel) ?_
              refine k_putLiteral E hA hB hl.1 ⟨Nat.le_of_ble_eq_true rfl, Nat.le_of_ble_eq_true rfl⟩ ⟨Nat.le_refl 0, Nat.le_refl 0⟩ (Nat.le_of_ble_eq_true rfl) (by omega) hV dX0_followGate_138 (fun H locs (hB : wB D A s.heap (dk h d C P (putL V f (cR C (g)) false) K) H locs) => ?_)
              have hV : okV (putL V f (cR C (g)) false) := hV.putL (by omega) _
              refine lv_goto (tgt := 167) E.x E.b dX0_followGate_141 (by decide) ?_
              exact r_vret E hr hk (hB.to (by first | contradiction | (unfold gateF; simp [hc39, hc44, hc63, hc89, hc121, hc126]))) dX0_followGate_167
        · skip
          refine lv_aload_n E.x E.b dX0_followGate_92 rfl (lv_at hl 3 rfl) ?_
          refine lv_iload_n E.x E.b dX0_followGate_93 rfl (lv_at hl 4 rfl) ?_
          refine lv_aload_n E.x E.b dX0_followGate_94 rfl (lv_at hl 3 rfl) ?_
          refine gd_left E hB dX0_followGate_95 ?_
          refine lv_iload_n E.x E.b dX0_followGate_98 rfl (lv_at hl 5 rfl) ?_
          refine ld_left E hB (by omega) dX0_followGate_99 ?_
          refine lv_iconst (v := bI (true)) E.x E.b dX0_followGate_100 (by decide +kernel) ?_
          refine k_putLiteral E hA hB hl.1 ⟨Nat.le_of_ble_eq_true rfl, Nat.le_of_ble_eq_true rfl⟩ ⟨Nat.le_refl 0, Nat.le_refl 0⟩ (Nat.le_of_ble_eq_true rfl) (by omega) hV dX0_followGate_101 (fun H locs (hB : wB D A s.heap (dk h d C P (putL V f (cL C (g)) true) K) H locs) => ?_)
          have hV : okV (putL V f (cL C (g)) true) := hV.putL (by omega) _
          refine lv_aload_n E.x E.b dX0_followGate_104 rfl (lv_at hl 3 rfl) ?_
          refine lv_iload_n E.x E.b dX0_followGate_105 rfl (lv_at hl 4 rfl) ?_
          refine lv_aload_n E.x E.b dX0_followGate_106 rfl (lv_at hl 3 rfl) ?_
          refine gd_right E hB dX0_followGate_107 ?_
          refine lv_iload_n E.x E.b dX0_followGate_110 rfl (lv_at hl 5 rfl) ?_
          refine ld_right E hB (by omega) dX0_followGate_111 ?_
          refine lv_iconst (v := bI (true)) E.x E.b dX0_followGate_112 (by decide +kernel) ?_
          refine k_putLiteral E hA hB hl.1 ⟨Nat.le_of_ble_eq_true rfl, Nat.le_of_ble_eq_true rfl⟩ ⟨Nat.le_refl 0, Nat.le_refl 0⟩ (Nat.le_of_ble_eq_true rfl) (by omega) hV dX0_followGate_113 (fun H locs (hB : wB D A s.heap (dk h d C P (putL (putL V f (cL C (g)) true) f (cR C (g)) true) K) H locs) => ?_)
          have hV : okV (putL (putL V f (cL C (g)) true) f (cR C (g)) true) := hV.putL (by omega) _
          refine lv_goto (tgt := 167) E.x E.b dX0_followGate_116 (by decide) ?_
          exact r_vret E hr hk (hB.to (by first | contradiction | (unfold gateF; simp [hc39, hc44, hc63, hc89]))) dX0_followGate_167
      · skip
        refine lv_iload E.x E.b dX0_followGate_66 (lv_at hl 1 rfl) ?_
        refine lv_iconst (v := bI (true)) E.x E.b dX0_followGate_68 (by decide +kernel) ?_
        refine ob_icmp_ne (tgt := 86) E dX0_followGate_69 (by decide) (fun hc69 => ?_) (fun hc69 => ?_)
        · skip
          refine lv_iload E.x E.b dX0_followGate_86 (lv_at hl 0 rfl) ?_
          refine lv_iconst (v := bI (true)) E.x E.b dX0_followGate_88 (by decide +kernel) ?_
          refine ob_icmp_ne (tgt := 119) E dX0_followGate_89 (by decide) (fun hc89 => ?_) (fun hc89 => ?_)
          · skip
            refine lv_iload E.x E.b dX0_followGate_119 (lv_at hl 0 rfl) ?_
            refine o_if_ne (tgt := 144) E dX0_followGate_121 (by decide) (fun hc121 => ?_) (fun hc121 => ?_)
            · skip
              refine lv_iload E.x E.b dX0_followGate_144 (lv_at hl 0 rfl) ?_
              refine o_if_ne (tgt := 167) E dX0_followGate_146 (by decide) (fun hc146 => ?_) (fun hc146 => ?_)
              · skip
                exact r_vret E hr hk (hB.to (by first | contradiction | (unfold gateF; simp [hc39, hc44, hc63, hc69, hc89, hc121, hc146]))) dX0_followGate_167
              · skip
                refine lv_iload E.x E.b dX0_followGate_149 (lv_at hl 1 rfl) ?_
                refine lv_iconst (v := bI (true)) E.x E.b dX0_followGate_151 (by decide +kernel) ?_
                refine ob_icmp_ne (tgt := 167) E dX0_followGate_152 (by decide) (fun hc152 => ?_) (fun hc152 => ?_)
                · skip
                  exact r_vret E hr hk (hB.to (by first | contradiction | (unfold gateF; simp [hc39, hc44, hc63, hc69, hc89, hc121, hc146, hc152]))) dX0_followGate_167
                · skip
                  refine lv_aload_n E.x E.b dX0_followGate_155 rfl (lv_at hl 3 rfl) ?_
                  refine lv_iload_n E.x E.b dX0_followGate_156 rfl (lv_at hl 4 rfl) ?_
                  refine lv_aload_n E.x E.b dX0_followGate_157 rfl (lv_at hl 3 rfl) ?_
                  refine gd_left E hB dX0_followGate_158 ?_
                  refine lv_iload_n E.x E.b dX0_followGate_161 rfl (lv_at hl 5 rfl) ?_
                  refine ld_left E hB (by omega) dX0_followGate_162 ?_
                  refine lv_iconst (v := bI (false)) E.x E.b dX0_followGate_163 (by decide +kernel) ?_
                  refine k_putLiteral E hA hB hl.1 ⟨Nat.le_of_ble_eq_true rfl, Nat.le_of_ble_eq_true rfl⟩ ⟨Nat.le_refl 0, Nat.le_refl 0⟩ (Nat.le_of_ble_eq_true rfl) (by omega) hV dX0_followGate_164 (fun H locs (hB : wB D A s.heap (dk h d C P (putL V f (cL C (g)) false) K) H locs) => ?_)
                  have hV : okV (putL V f (cL C (g)) false) := hV.putL (by omega) _
                  exact r_vret E hr hk (hB.to (by first | contradiction | (unfold gateF; simp [hc39, hc44, hc63, hc69, hc89, hc121, hc146, hc152]))) dX0_followGate_167
            · skip
              refine lv_iload_n E.x E.b dX0_followGate_124 rfl (lv_at hl 2 rfl) ?_
              refine lv_iconst (v := bI (true)) E.x E.b dX0_followGate_125 (by decide +kernel) ?_
              refine ob_icmp_ne (tgt := 144) E dX0_followGate_126 (by decide) (fun hc126 => ?_) (fun hc126 => ?_)
              · skip
                refine lv_iload E.x E.b dX0_followGate_144 (lv_at hl 0 rfl) ?_
                refine o_if_ne (tgt := 167) E dX0_followGate_146 (by decide) (fun hc146 => ?_) (fun hc146 => ?_)
                · skip
                  exact r_vret E hr hk (hB.to (by first | contradiction | (unfold gateF; simp [hc39, hc44, hc63, hc69, hc89, hc121, hc126, hc146]))) dX0_followGate_167
                · skip
                  refine lv_iload E.x E.b dX0_followGate_149 (lv_at hl 1 rfl) ?_
                  refine lv_iconst (v := bI (true)) E.x E.b dX0_followGate_151 (by decide +kernel) ?_
                  refine ob_icmp_ne (tgt := 167) E dX0_followGate_152 (by decide) (fun hc152 => ?_) (fun hc152 => ?_)
                  · skip
                    exact r_vret E hr hk (hB.to (by first | contradiction | (unfold gateF; simp [hc39, hc44, hc63, hc69, hc89, hc121, hc126, hc146, hc152]))) dX0_followGate_167
                  · skip
                    refine lv_aload_n E.x E.b dX0_followGate_155 rfl (lv_at hl 3 rfl) ?_
                    refine lv_iload_n E.x E.b dX0_followGate_156 rfl (lv_at hl 4 rfl) ?_
                    refine lv_aload_n E.x E.b dX0_followGate_157 rfl (lv_at hl 3 rfl) ?_
                    refine gd_left E hB dX0_followGate_158 ?_
                    refine lv_iload_n E.x E.b dX0_followGate_161 rfl (lv_at hl 5 rfl) ?_
                    refine ld_left E hB (by omega) dX0_followGate_162 ?_
                    refine lv_iconst (v := bI (false)) E.x E.b dX0_followGate_163 (by decide +kernel) ?_
                    refine k_putLiteral E hA hB hl.1 ⟨Nat.le_of_ble_eq_true rfl, Nat.le_of_ble_eq_true rfl⟩ ⟨Nat.le_refl 0, Nat.le_refl 0⟩ (Nat.le_of_ble_eq_true rfl) (by omega) hV dX0_followGate_164 (fun H locs (hB : wB D A s.heap (dk h d C P (putL V f (cL C (g)) false) K) H locs) => ?_)
                    have hV : okV (putL V f (cL C (g)) false) := hV.putL (by omega) _
                    exact r_vret E hr hk (hB.to (by first | contradiction | (unfold gateF; simp [hc39, hc44, hc63, hc69, hc89, hc121, hc126, hc146, hc152]))) dX0_followGate_167
              · skip
                refine lv_aload_n E.x E.b dX0_followGate_129 rfl (lv_at hl 3 rfl) ?_
                refine lv_iload_n E.x E.b dX0_followGate_130 rfl (lv_at hl 4 rfl) ?_
                refine lv_aload_n E.x E.b dX0_followGate_131 rfl (lv_at hl 3 rfl) ?_
                refine gd_right E hB dX0_followGate_132 ?_
                refine lv_iload_n E.x E.b dX0_followGate_135 rfl (lv_at hl 5 rfl) ?_
                refine ld_right E hB (by omega) dX0_followGate_136 ?_
                refine lv_iconst (v := bI (false)) E.x E.b dX0_followGate_137 (by decide +kernel) ?_
                refine k_putLiteral E hA hB hl.1 ⟨Nat.le_of_ble_eq_true rfl, Nat.le_of_ble_eq_true rfl⟩ ⟨Nat.le_refl 0, Nat.le_refl 0⟩ (Nat.le_of_ble_eq_true rfl) (by omega) hV dX0_followGate_138 (fun H locs (hB : wB D A s.heap (dk h d C P (putL V f (cR C (g)) false) K) H locs) => ?_)
                have hV : okV (putL V f (cR C (g)) false) := hV.putL (by omega) _
                refine lv_goto (tgt := 167) E.x E.b dX0_followGate_141 (by decide) ?_
                exact r_vret E hr hk (hB.to (by first | contradiction | (unfold gateF; simp [hc39, hc44, hc63, hc69, hc89, hc121, hc126]))) dX0_followGate_167
          · skip
            refine lv_aload_n E.x E.b dX0_followGate_92 rfl (lv_at hl 3 rfl) ?_
            refine lv_iload_n E.x E.b dX0_followGate_93 rfl (lv_at hl 4 rfl) ?_
            refine lv_aload_n E.x E.b dX0_followGate_94 rfl (lv_at hl 3 rfl) ?_
            refine gd_left E hB dX0_followGate_95 ?_
            refine lv_iload_n E.x E.b dX0_followGate_98 rfl (lv_at hl 5 rfl) ?_
            refine ld_left E hB (by omega) dX0_followGate_99 ?_
            refine lv_iconst (v := bI (true)) E.x E.b dX0_followGate_100 (by decide +kernel) ?_
            refine k_putLiteral E hA hB hl.1 ⟨Nat.le_of_ble_eq_true rfl, Nat.le_of_ble_eq_true rfl⟩ ⟨Nat.le_refl 0, Nat.le_refl 0⟩ (Nat.le_of_ble_eq_true rfl) (by omega) hV dX0_followGate_101 (fun H locs (hB : wB D A s.heap (dk h d C P (putL V f (cL C (g)) true) K) H locs) => ?_)
            have hV : okV (putL V f (cL C (g)) true) := hV.putL (by omega) _
            refine lv_aload_n E.x E.b dX0_followGate_104 rfl (lv_at hl 3 rfl) ?_
            refine lv_iload_n E.x E.b dX0_followGate_105 rfl (lv_at hl 4 rfl) ?_
            refine lv_aload_n E.x E.b dX0_followGate_106 rfl (lv_at hl 3 rfl) ?_
            refine gd_right E hB dX0_followGate_107 ?_
            refine lv_iload_n E.x E.b dX0_followGate_110 rfl (lv_at hl 5 rfl) ?_
            refine ld_right E hB (by omega) dX0_followGate_111 ?_
            refine lv_iconst (v := bI (true)) E.x E.b dX0_followGate_112 (by decide +kernel) ?_
            refine k_putLiteral E hA hB hl.1 ⟨Nat.le_of_ble_eq_true rfl, Nat.le_of_ble_eq_true rfl⟩ ⟨Nat.le_refl 0, Nat.le_refl 0⟩ (Nat.le_of_ble_eq_true rfl) (by omega) hV dX0_followGate_113 (fun H locs (hB : wB D A s.heap (dk h d C P (putL (putL V f (cL C (g)) true) f (cR C (g)) true) K) H locs) => ?_)
            have hV : okV (putL (putL V f (cL C (g)) true) f (cR C (g)) true) := hV.putL (by omega) _
            refine lv_goto (tgt := 167) E.x E.b dX0_followGate_116 (by decide) ?_
            exact r_vret E hr hk (hB.to (by first | contradiction | (unfold gateF; simp [hc39, hc44, hc63, hc69, hc89]))) dX0_followGate_167
        · skip
          refine lv_aload_n E.x E.b dX0_followGate_72 rfl (lv_at hl 3 rfl) ?_
          refine lv_bipush (v := nI (16)) E.x E.b dX0_followGate_73 (by decide +kernel) ?_
          refine lv_iload_n E.x E.b dX0_followGate_75 rfl (lv_at hl 4 rfl) ?_
          refine n_mul E dX0_followGate_76 ?_
          refine lv_iload_n E.x E.b dX0_followGate_77 rfl (lv_at hl 5 rfl) ?_
          refine n_add E dX0_followGate_78 ?_
          refine lv_iconst (v := bI (true)) E.x E.b dX0_followGate_79 (by decide +kernel) ?_
          refine k_put E hA hB hl.1 ⟨Nat.le_of_ble_eq_true rfl, Nat.le_of_ble_eq_true rfl⟩ ⟨Nat.le_refl 0, Nat.le_refl 0⟩ (Nat.le_of_ble_eq_true rfl) (by omega) hV dX0_followGate_80 (fun H locs (hB : wB D A s.heap (dk h d C P (putF V ((16 * f) + g) true) K) H locs) => ?_)
          have hV : okV (putF V ((16 * f) + g) true) := hV.put (by omega) _
          refine lv_goto (tgt := 167) E.x E.b dX0_followGate_83 (by decide) ?_
          exact r_vret E hr hk (hB.to (by first | contradiction | (unfold gateF; simp [hc39, hc44, hc63, hc69]))) dX0_followGate_167
    · skip
      refine lv_aload_n E.x E.b dX0_followGate_47 rfl (lv_at hl 3 rfl) ?_
      refine lv_bipush (v := nI (16)) E.x E.b dX0_followGate_48 (by decide +kernel) ?_
      refine lv_iload_n E.x E.b dX0_followGate_50 rfl (lv_at hl 4 rfl) ?_
      refine n_mul E dX0_followGate_51 ?_
      refine lv_iload_n E.x E.b dX0_followGate_52 rfl (lv_at hl 5 rfl) ?_
      refine n_add E dX0_followGate_53 ?_
      refine lv_iconst (v := bI (false)) E.x E.b dX0_followGate_54 (by decide +kernel) ?_
      refine k_put E hA hB hl.1 ⟨Nat.le_of_ble_eq_true rfl, Nat.le_of_ble_eq_true rfl⟩ ⟨Nat.le_refl 0, Nat.le_refl 0⟩ (Nat.le_of_ble_eq_true rfl) (by omega) hV dX0_followGate_55 (fun H locs (hB : wB D A s.heap (dk h d C P (putF V ((16 * f) + g) false) K) H locs) => ?_)
      have hV : okV (putF V ((16 * f) + g) false) := hV.put (by omega) _
      refine lv_goto (tgt := 167) E.x E.b dX0_followGate_58 (by decide) ?_
      exact r_vret E hr hk (hB.to (by first | contradiction | (unfold gateF; simp [hc39, hc44]))) dX0_followGate_167
theorem k_followGate {p : Program} {l : Launch} {e : Env} {R : Room} {s : State} {m : MethodId} {args : Array Value} {below : List Frame} {meth : Method} {c : Code} {H : Heap} {locs : List Loc} {cells slots : Nat} {Q : State → Prop} {cc : ByteArray} {pc nL : Nat} {ls : Array Slot} {rest : List Value} {D : va_G} {A : Nat → Prop} {h : Nat → Nat} {d : Nat → ClassId} {C : CS} {P : PS} {V : VS} {K : KS} {f g : Nat} (E : ev p m c cc nL s args RX0 D (tyD d)) (hA : ∀ q : Nat, s.heap.size ≤ q → A q) (hB : wB D A s.heap (dk h d C P V K) H locs) (hls : ls.size = nL) (hRm : 3 ≤ R.frames ∧ 70 ≤ R.locals) (hfm : cells ≤ R.cells ∧ slots ≤ R.slots) (hrest : (rest.map fun v => v.category).sum ≤ 8) (hC : okC C) (hf : f < 7) (hg1 : 6 ≤ g) (hg2 : g < 6 + C.1) (hV : okV V) (hdg : decode cc pc = .ok (.invokevirtual 88, 3)) (kk : ∀ (H1 : Heap) (locs1 : List Loc), wB D A s.heap (dk h d C P (gateF C f g V) K) H1 locs1 → W p l e R s m args below meth c H1 locs1 cells slots Q (F0 m (pc + 3) ls (rest))) : W p l e R s m args below meth c H locs cells slots Q (F0 m pc ls (.int (nI (g)) :: .int (nI (f)) :: .ref (h 0) :: rest)) :=
  r_callv (ci := 0) (q := (RX0, TX0, 17)) E hA hB hls 2 (m_followGate l D h d C P V K f g hC hf hg1 hg2 hV) rfl rfl q129 q131 qs5 q25 q132 (by decide +kernel) rfl ⟨rfl, rfl⟩ hRm hfm rfl hrest hdg kk
set_option maxHeartbeats 4000000 in
set_option maxRecDepth 100000 in
/-- followCopy(f) -/
theorem m_followCopy (l : Launch) (D : va_G) (h : Nat → Nat) (d : Nat → ClassId) (C : CS) (P : PS) (V : VS) (K : KS) (f : Nat) (hC : okC C) (hf : f ≤ P.1) (hP : P.1 < 7) (hV : okV V) : ctV l yX0_followCopy cX0_followCopy 5 (rmm 3 70) D (tyD d) (dk h d C P V K) (dk h d C P (copyF C P.1 f V) K) [.ref (h 0), .int (nI (f))] := by
  refine mkV RX0 rfl (by decide) (Nat.le_of_ble_eq_true rfl) [(0, .ref (h 0)), (1, .int (nI (f)))] rfl ?_
  intro p e s m below meth c A ls E hr hk hA hB hl
  refine lv_bipush (v := nI (6)) E.x E.b dX0_followCopy_0 (by decide +kernel) ?_
  refine lv_istore_n (lv' := [(2, .int (nI (6))), (0, .ref (h 0)), (1, .int (nI (f)))]) E.x E.b dX0_followCopy_2 rfl hl (by decide) rfl (fun ls hl => ?_)
  refine upL (N := C.1) (fun i => ∀ (ls : Array Slot) (H : Heap) (locs : List Loc), lv_has ls 5 [(0, .ref (h 0)), (1, .int (nI (f))), (2, .int (nI (6 + i)))] → wB D A s.heap (dk h d C P (itr (gateF C f) 6 i V) K) H locs → W p l e (rmm 3 70) s m ([.ref (h 0), .int (nI (f))] : List Value).toArray below meth c H locs 0 0 (qV below D (tyD d) A (dk h d C P (copyF C P.1 f V) K) ([.ref (h 0), .int (nI (f))] : List Value).toArray s) (F0 m 3 ls [])) ?_ 0 (Nat.zero_le _)  ls _ _  (lv_sub hl [1, 2, 0] rfl) hB
  intro i hii ih  ls H locs  hl hB
  have hg := hC.1
  have hV : okV (itr (gateF C f) 6 i V) := itr_ok hV (fun j a hj ha => ha.gate hC (by omega) (by omega) (by omega))
  refine lv_iload_n E.x E.b dX0_followCopy_3 rfl (lv_at hl 2 rfl) ?_
  refine lv_bipush (v := nI (6)) E.x E.b dX0_followCopy_4 (by decide +kernel) ?_
  refine lv_aload_n E.x E.b dX0_followCopy_6 rfl (lv_at hl 0 rfl) ?_
  refine gd_gates E hB dX0_followCopy_7 ?_
  refine n_add E dX0_followCopy_10 ?_
  refine n_icmp_ge (tgt := 26) E (by omega) (by omega) dX0_followCopy_11 (by decide) (fun hc11 => ?_) (fun hc11 => ?_)
  · skip
    obtain rfl : i = C.1 := by omega
    by_cases hfl : f < P.1
    · skip
      refine lv_iconst (v := nI (1)) E.x E.b dX0_followCopy_26 (by decide +kernel) ?_
      refine lv_istore_n (lv' := [(2, .int (nI (1))), (0, .ref (h 0)), (1, .int (nI (f)))]) E.x E.b dX0_followCopy_27 rfl hl (by decide) rfl (fun ls hl => ?_)
      refine upL (N := 4) (fun j => ∀ (ls : Array Slot) (H : Heap) (locs : List Loc), lv_has ls 5 [(0, .ref (h 0)), (1, .int (nI (f))), (2, .int (nI (1 + j)))] → wB D A s.heap (dk h d C P (itr (latchF C f) 1 j (itr (gateF C f) 6 C.1 V)) K) H locs → W p l e (rmm 3 70) s m ([.ref (h 0), .int (nI (f))] : List Value).toArray below meth c H locs 0 0 (qV below D (tyD d) A (dk h d C P (copyF C P.1 f V) K) ([.ref (h 0), .int (nI (f))] : List Value).toArray s) (F0 m 28 ls [])) ?_ 0 (Nat.zero_le _)  ls _ _  (lv_sub hl [1, 2, 0] rfl) hB
      intro j hij ih  ls H locs  hl hB
      have hx := latch_ix hC (k := 1 + j)
      have hV : okV (itr (latchF C f) 1 j (itr (gateF C f) 6 C.1 V)) := itr_ok hV (fun j a hj ha => ha.latch hC (by omega) (by omega) (by omega))
      refine lv_iload_n E.x E.b dX0_followCopy_28 rfl (lv_at hl 2 rfl) ?_
      refine lv_iconst (v := nI (5)) E.x E.b dX0_followCopy_29 (by decide +kernel) ?_
      refine n_icmp_ge (tgt := 114) E (by omega) (by omega) dX0_followCopy_30 (by decide) (fun hc30 => ?_) (fun hc30 => ?_)
      · skip
        obtain rfl : j = 4 := by omega
        exact r_vret E hr hk (hB.to (by unfold copyF; rw [if_pos hfl])) dX0_followCopy_114
      · skip
        have hx := hx (by omega) (by omega)
        refine lv_iload_n E.x E.b dX0_followCopy_33 rfl (lv_at hl 1 rfl) ?_
        refine lv_aload_n E.x E.b dX0_followCopy_34 rfl (lv_at hl 0 rfl) ?_
        refine gd_last E hB dX0_followCopy_35 ?_
        refine n_icmp_ge (tgt := 114) E (by omega) (by omega) dX0_followCopy_38 (by decide) (fun hc38 => absurd hc38 (by omega)) (fun hc38 => ?_)
        refine lv_aload_n E.x E.b dX0_followCopy_41 rfl (lv_at hl 0 rfl) ?_
        refine lv_iload_n E.x E.b dX0_followCopy_42 rfl (lv_at hl 1 rfl) ?_
        refine lv_aload_n E.x E.b dX0_followCopy_43 rfl (lv_at hl 0 rfl) ?_
        refine gd_nextOf E hB dX0_followCopy_44 ?_
        refine lv_iload_n E.x E.b dX0_followCopy_47 rfl (lv_at hl 2 rfl) ?_
        refine ld_nextOf E hB (by omega) dX0_followCopy_48 ?_
        refine k_valueOf E hA hB hl.1 ⟨Nat.le_of_ble_eq_true rfl, Nat.le_of_ble_eq_true rfl⟩ ⟨Nat.le_refl 0, Nat.le_refl 0⟩ (Nat.le_of_ble_eq_true rfl) (by omega) dX0_followCopy_49 (fun H locs (hB : wB D A s.heap (dk h d C P (itr (latchF C f) 1 j (itr (gateF C f) 6 C.1 V)) K) H locs) => ?_)
        refine lv_istore_n (lv' := [(3, .int (oI (vlit (itr (latchF C f) 1 j (itr (gateF C f) 6 C.1 V)).1 f (cN C (1 + j))))), (0, .ref (h 0)), (1, .int (nI (f))), (2, .int (nI (1 + j)))]) E.x E.b dX0_followCopy_52 rfl hl (by decide) rfl (fun ls hl => ?_)
        refine lv_aload_n E.x E.b dX0_followCopy_53 rfl (lv_at hl 1 rfl) ?_
        refine gd_value E hB dX0_followCopy_54 ?_
        refine lv_bipush (v := nI (16)) E.x E.b dX0_followCopy_57 (by decide +kernel) ?_
        refine lv_iload_n E.x E.b dX0_followCopy_59 rfl (lv_at hl 2 rfl) ?_
        refine n_mul E dX0_followCopy_60 ?_
        refine lv_bipush (v := nI (16)) E.x E.b dX0_followCopy_61 (by decide +kernel) ?_
        refine n_add E dX0_followCopy_63 ?_
        refine lv_iload_n E.x E.b dX0_followCopy_64 rfl (lv_at hl 3 rfl) ?_
        refine n_add E dX0_followCopy_65 ?_
        refine ld_value E hB (by omega) dX0_followCopy_66 ?_
        refine lv_istore (lv' := [(4, .int (oI ((itr (latchF C f) 1 j (itr (gateF C f) 6 C.1 V)).1 (((16 * f) + 16) + (1 + j))))), (3, .int (oI (vlit (itr (latchF C f) 1 j (itr (gateF C f) 6 C.1 V)).1 f (cN C (1 + j))))), (0, .ref (h 0)), (1, .int (nI (f))), (2, .int (nI (1 + j)))]) E.x E.b dX0_followCopy_67 hl (by decide) rfl (fun ls hl => ?_)
        refine lv_iload_n E.x E.b dX0_followCopy_69 rfl (lv_at hl 1 rfl) ?_
        refine o_if_lt (tgt := 90) E dX0_followCopy_70 (by decide) (fun hc70 => ?_) (fun b70 hc70 => ?_)
        · skip
          refine lv_iload E.x E.b dX0_followCopy_90 (lv_at hl 0 rfl) ?_
          refine o_if_lt (tgt := 108) E dX0_followCopy_92 (by decide) (fun hc92 => ?_) (fun b92 hc92 => ?_)
          · skip
            have hB : wB D A s.heap (dk h d C P (itr (latchF C f) 1 (j + 1) (itr (gateF C f) 6 C.1 V)) K) H locs := hB.to (by show _ = dk h d C P (latchF C f (1 + j) (itr (latchF C f) 1 j (itr (gateF C f) 6 C.1 V))) K; rw [latch_3 hc70 hc92])
            refine lv_iinc (v := nI (1 + j + 1)) (lv' := [(2, .int (nI (1 + j + 1))), (4, .int (oI ((itr (latchF C f) 1 j (itr (gateF C f) 6 C.1 V)).1 (((16 * f) + 16) + (1 + j))))), (3, .int (oI (vlit (itr (latchF C f) 1 j (itr (gateF C f) 6 C.1 V)).1 f (cN C (1 + j))))), (0, .ref (h 0)), (1, .int (nI (f)))]) E.x E.b dX0_followCopy_108 hl (k := 4) rfl (inc1 _) (by decide) rfl (fun ls hl => ?_)
            refine lv_goto (tgt := 28) E.x E.b dX0_followCopy_111 (by decide) ?_
            exact ih (by omega)  ls H locs  (lv_sub hl [3, 4, 0] rfl) hB
          · skip
            have hl : lv_has ls 5 [(4, .int (bI (b92))), (3, .int (oI (vlit (itr (latchF C f) 1 j (itr (gateF C f) 6 C.1 V)).1 f (cN C (1 + j))))), (0, .ref (h 0)), (1, .int (nI (f))), (2, .int (nI (1 + j)))] := by rw [hc92] at hl; exact hl
            refine lv_aload_n E.x E.b dX0_followCopy_95 rfl (lv_at hl 2 rfl) ?_
            refine lv_iload_n E.x E.b dX0_followCopy_96 rfl (lv_at hl 3 rfl) ?_
            refine lv_aload_n E.x E.b dX0_followCopy_97 rfl (lv_at hl 2 rfl) ?_
            refine gd_nextOf E hB dX0_followCopy_98 ?_
            refine lv_iload_n E.x E.b dX0_followCopy_101 rfl (lv_at hl 4 rfl) ?_
            refine ld_nextOf E hB (by omega) dX0_followCopy_102 ?_
            refine lv_iload E.x E.b dX0_followCopy_103 (lv_at hl 0 rfl) ?_
            refine k_putLiteral E hA hB hl.1 ⟨Nat.le_of_ble_eq_true rfl, Nat.le_of_ble_eq_true rfl⟩ ⟨Nat.le_refl 0, Nat.le_refl 0⟩ (Nat.le_of_ble_eq_true rfl) (by omega) hV dX0_followCopy_105 (fun H locs (hB : wB D A s.heap (dk h d C P (putL (itr (latchF C f) 1 j (itr (gateF C f) 6 C.1 V)) f (cN C (1 + j)) b92) K) H locs) => ?_)
            have hV : okV (putL (itr (latchF C f) 1 j (itr (gateF C f) 6 C.1 V)) f (cN C (1 + j)) b92) := hV.putL (by omega) _
            have hB : wB D A s.heap (dk h d C P (itr (latchF C f) 1 (j + 1) (itr (gateF C f) 6 C.1 V)) K) H locs := hB.to (by show _ = dk h d C P (latchF C f (1 + j) (itr (latchF C f) 1 j (itr (gateF C f) 6 C.1 V))) K; rw [latch_2 hc70 hc92])
            refine lv_iinc (v := nI (1 + j + 1)) (lv' := [(2, .int (nI (1 + j + 1))), (4, .int (bI (b92))), (3, .int (oI (vlit (itr (latchF C f) 1 j (itr (gateF C f) 6 C.1 V)).1 f (cN C (1 + j))))), (0, .ref (h 0)), (1, .int (nI (f)))]) E.x E.b dX0_followCopy_108 hl (k := 4) rfl (inc1 _) (by decide) rfl (fun ls hl => ?_)
            refine lv_goto (tgt := 28) E.x E.b dX0_followCopy_111 (by decide) ?_
            exact ih (by omega)  ls H locs  (lv_sub hl [3, 4, 0] rfl) hB
        · skip
          have hl : lv_has ls 5 [(4, .int (oI ((itr (latchF C f) 1 j (itr (gateF C f) 6 C.1 V)).1 (((16 * f) + 16) + (1 + j))))), (3, .int (bI (b70))), (0, .ref (h 0)), (1, .int (nI (f))), (2, .int (nI (1 + j)))] := by rw [hc70] at hl; exact hl
          refine lv_aload_n E.x E.b dX0_followCopy_73 rfl (lv_at hl 2 rfl) ?_
          refine lv_bipush (v := nI (16)) E.x E.b dX0_followCopy_74 (by decide +kernel) ?_
          refine lv_iload_n E.x E.b dX0_followCopy_76 rfl (lv_at hl 3 rfl) ?_
          refine n_mul E dX0_followCopy_77 ?_
          refine lv_bipush (v := nI (16)) E.x E.b dX0_followCopy_78 (by decide +kernel) ?_
          refine n_add E dX0_followCopy_80 ?_
          refine lv_iload_n E.x E.b dX0_followCopy_81 rfl (lv_at hl 4 rfl) ?_
          refine n_add E dX0_followCopy_82 ?_
          refine lv_iload_n E.x E.b dX0_followCopy_83 rfl (lv_at hl 1 rfl) ?_
          refine k_put E hA hB hl.1 ⟨Nat.le_of_ble_eq_true rfl, Nat.le_of_ble_eq_true rfl⟩ ⟨Nat.le_refl 0, Nat.le_refl 0⟩ (Nat.le_of_ble_eq_true rfl) (by omega) hV dX0_followCopy_84 (fun H locs (hB : wB D A s.heap (dk h d C P (putF (itr (latchF C f) 1 j (itr (gateF C f) 6 C.1 V)) (((16 * f) + 16) + (1 + j)) b70) K) H locs) => ?_)
          have hV : okV (putF (itr (latchF C f) 1 j (itr (gateF C f) 6 C.1 V)) (((16 * f) + 16) + (1 + j)) b70) := hV.put (by omega) _
          refine lv_goto (tgt := 108) E.x E.b dX0_followCopy_87 (by decide) ?_
          have hB : wB D A s.heap (dk h d C P (itr (latchF C f) 1 (j + 1) (itr (gateF C f) 6 C.1 V)) K) H locs := hB.to (by show _ = dk h d C P (latchF C f (1 + j) (itr (latchF C f) 1 j (itr (gateF C f) 6 C.1 V))) K; rw [latch_1 hc70])
          refine lv_iinc (v := nI (1 + j + 1)) (lv' := [(2, .int (nI (1 + j + 1))), (4, .int (oI ((itr (latchF C f) 1 j (itr (gateF C f) 6 C.1 V)).1 (((16 * f) + 16) + (1 + j))))), (3, .int (bI (b70))), (0, .ref (h 0)), (1, .int (nI (f)))]) E.x E.b dX0_followCopy_108 hl (k := 4) rfl (inc1 _) (by decide) rfl (fun ls hl => ?_)
          refine lv_goto (tgt := 28) E.x E.b dX0_followCopy_111 (by decide) ?_
          exact ih (by omega)  ls H locs  (lv_sub hl [3, 4, 0] rfl) hB
    · skip
      refine lv_iconst (v := nI (1)) E.x E.b dX0_followCopy_26 (by decide +kernel) ?_
      refine lv_istore_n (lv' := [(2, .int (nI (1))), (0, .ref (h 0)), (1, .int (nI (f)))]) E.x E.b dX0_followCopy_27 rfl hl (by decide) rfl (fun ls hl => ?_)
      refine lv_iload_n E.x E.b dX0_followCopy_28 rfl (lv_at hl 0 rfl) ?_
      refine lv_iconst (v := nI (5)) E.x E.b dX0_followCopy_29 (by decide +kernel) ?_
      refine n_icmp_ge (tgt := 114) E (by omega) (by omega) dX0_followCopy_30 (by decide) (fun hc30 => absurd hc30 (by decide)) (fun hc30 => ?_)
      refine lv_iload_n E.x E.b dX0_followCopy_33 rfl (lv_at hl 2 rfl) ?_
      refine lv_aload_n E.x E.b dX0_followCopy_34 rfl (lv_at hl 1 rfl) ?_
      refine gd_last E hB dX0_followCopy_35 ?_
      refine n_icmp_ge (tgt := 114) E (by omega) (by omega) dX0_followCopy_38 (by decide) (fun hc38 => ?_) (fun hc38 => absurd hc38 hfl)
      exact r_vret E hr hk (hB.to (by unfold copyF; rw [if_neg hfl])) dX0_followCopy_114
  · skip
    refine lv_aload_n E.x E.b dX0_followCopy_14 rfl (lv_at hl 0 rfl) ?_
    refine lv_iload_n E.x E.b dX0_followCopy_15 rfl (lv_at hl 1 rfl) ?_
    refine lv_iload_n E.x E.b dX0_followCopy_16 rfl (lv_at hl 2 rfl) ?_
    refine k_followGate E hA hB hl.1 ⟨Nat.le_of_ble_eq_true rfl, Nat.le_of_ble_eq_true rfl⟩ ⟨Nat.le_refl 0, Nat.le_refl 0⟩ (Nat.le_of_ble_eq_true rfl) hC (by omega) (by omega) (by omega) hV dX0_followCopy_17 (fun H locs (hB : wB D A s.heap (dk h d C P (gateF C f (6 + i) (itr (gateF C f) 6 i V)) K) H locs) => ?_)
    refine lv_iinc (v := nI (6 + i + 1)) (lv' := [(2, .int (nI (6 + i + 1))), (0, .ref (h 0)), (1, .int (nI (f)))]) E.x E.b dX0_followCopy_20 hl (k := 2) rfl (inc1 _) (by decide) rfl (fun ls hl => ?_)
    refine lv_goto (tgt := 3) E.x E.b dX0_followCopy_23 (by decide) ?_
    exact ih (by omega)  ls H locs  (lv_sub hl [1, 2, 0] rfl) hB
theorem k_followCopy {p : Program} {l : Launch} {e : Env} {R : Room} {s : State} {m : MethodId} {args : Array Value} {below : List Frame} {meth : Method} {c : Code} {H : Heap} {locs : List Loc} {cells slots : Nat} {Q : State → Prop} {cc : ByteArray} {pc nL : Nat} {ls : Array Slot} {rest : List Value} {D : va_G} {A : Nat → Prop} {h : Nat → Nat} {d : Nat → ClassId} {C : CS} {P : PS} {V : VS} {K : KS} {f : Nat} (E : ev p m c cc nL s args RX0 D (tyD d)) (hA : ∀ q : Nat, s.heap.size ≤ q → A q) (hB : wB D A s.heap (dk h d C P V K) H locs) (hls : ls.size = nL) (hRm : 4 ≤ R.frames ∧ 94 ≤ R.locals) (hfm : cells ≤ R.cells ∧ slots ≤ R.slots) (hrest : (rest.map fun v => v.category).sum ≤ 8) (hC : okC C) (hf : f ≤ P.1) (hP : P.1 < 7) (hV : okV V) (hdg : decode cc pc = .ok (.invokevirtual 85, 3)) (kk : ∀ (H1 : Heap) (locs1 : List Loc), wB D A s.heap (dk h d C P (copyF C P.1 f V) K) H1 locs1 → W p l e R s m args below meth c H1 locs1 cells slots Q (F0 m (pc + 3) ls (rest))) : W p l e R s m args below meth c H locs cells slots Q (F0 m pc ls (.int (nI (f)) :: .ref (h 0) :: rest)) :=
  r_callv (ci := 0) (q := (RX0, TX0, 17)) E hA hB hls 1 (m_followCopy l D h d C P V K f hC hf hP hV) rfl rfl q125 q127 qs4 q25 q128 (by decide +kernel) rfl ⟨rfl, rfl⟩ hRm hfm rfl hrest hdg kk
set_option maxHeartbeats 4000000 in
set_option maxRecDepth 100000 in
/-- follow() -/
theorem m_follow (l : Launch) (D : va_G) (h : Nat → Nat) (d : Nat → ClassId) (C : CS) (P : PS) (V : VS) (K : KS)  (hC : okC C) (hP : P.1 < 7) (hV : okV V) : ctV l yX0_follow cX0_follow 5 (rmm 4 94) D (tyD d) (dk h d C P V K) (dk h d C P (followA C P.1 V) K) [.ref (h 0)] := by
  refine mkV RX0 rfl (by decide) (Nat.le_of_ble_eq_true rfl) [(0, .ref (h 0))] rfl ?_
  intro p e s m below meth c A ls E hr hk hA hB hl
  refine lv_iconst (v := bI (true)) E.x E.b dX0_follow_0 (by decide +kernel) ?_
  refine lv_istore_n (lv' := [(1, .int (bI (true))), (0, .ref (h 0))]) E.x E.b dX0_follow_1 rfl hl (by decide) rfl (fun ls hl => ?_)
  refine lv_iconst (v := nI (0)) E.x E.b dX0_follow_2 (by decide +kernel) ?_
  refine lv_istore_n (lv' := [(2, .int (nI (0))), (1, .int (bI (true))), (0, .ref (h 0))]) E.x E.b dX0_follow_3 rfl hl (by decide) rfl (fun ls hl => ?_)
  refine upL (N := 113) (fun r => ∀ (ch : Bool) (V1 : VS) (ls : Array Slot) (H : Heap) (locs : List Loc), okV V1 → followF C P.1 (113 - r) ch V1 = followA C P.1 V → lv_has ls 5 [(0, .ref (h 0)), (1, .int (bI (ch))), (2, .int (nI (0 + r)))] → wB D A s.heap (dk h d C P V1 K) H locs → W p l e (rmm 4 94) s m ([.ref (h 0)] : List Value).toArray below meth c H locs 0 0 (qV below D (tyD d) A (dk h d C P (followA C P.1 V) K) ([.ref (h 0)] : List Value).toArray s) (F0 m 4 ls [])) ?_ 0 (Nat.zero_le _) true V ls _ _ hV rfl (lv_sub hl [2, 1, 0] rfl) hB
  intro r hir ihr ch V1 ls H locs hV hq hl hB
  have hle := hV.le
  refine lv_iload_n E.x E.b dX0_follow_4 rfl (lv_at hl 2 rfl) ?_
  refine lv_bipush (v := nI (113)) E.x E.b dX0_follow_5 (by decide +kernel) ?_
  refine n_icmp_ge (tgt := 70) E (by omega) (by omega) dX0_follow_7 (by decide) (fun hc7 => ?_) (fun hc7 => ?_)
  · skip
    exact r_vret E hr hk (hB.to (by rw [← hq, followF_stop (Or.inl (by omega))])) dX0_follow_70
  · skip
    have hrr : r < 113 := by omega
    refine lv_iload_n E.x E.b dX0_follow_10 rfl (lv_at hl 1 rfl) ?_
    refine b_if_eq (tgt := 70) E dX0_follow_11 (by decide) (fun hc11 => ?_) (fun hc11 => ?_)
    · skip
      exact r_vret E hr hk (hB.to (by rw [← hq, followF_stop (Or.inr (Or.inl hc11))])) dX0_follow_70
    · skip
      refine lv_aload_n E.x E.b dX0_follow_14 rfl (lv_at hl 0 rfl) ?_
      refine gd_broken E hB dX0_follow_15 ?_
      refine b_if_ne (tgt := 70) E dX0_follow_18 (by decide) (fun hc18 => ?_) (fun hc18 => ?_)
      · skip
        exact r_vret E hr hk (hB.to (by rw [← hq, followF_stop (Or.inr (Or.inr hc18))])) dX0_follow_70
      · skip
        refine lv_aload_n E.x E.b dX0_follow_21 rfl (lv_at hl 0 rfl) ?_
        refine gd_settled E hB dX0_follow_22 ?_
        refine lv_istore_n (lv' := [(3, .int (nI (V1.2.1))), (0, .ref (h 0)), (1, .int (bI (ch))), (2, .int (nI (0 + r)))]) E.x E.b dX0_follow_25 rfl hl (by decide) rfl (fun ls hl => ?_)
        refine lv_iconst (v := nI (0)) E.x E.b dX0_follow_26 (by decide +kernel) ?_
        refine lv_istore (lv' := [(4, .int (nI (0))), (3, .int (nI (V1.2.1))), (0, .ref (h 0)), (1, .int (bI (ch))), (2, .int (nI (0 + r)))]) E.x E.b dX0_follow_27 hl (by decide) rfl (fun ls hl => ?_)
        refine upL (N := P.1 + 1) (fun j => ∀ (ls : Array Slot) (H : Heap) (locs : List Loc), lv_has ls 5 [(0, .ref (h 0)), (1, .int (bI (ch))), (2, .int (nI (0 + r))), (3, .int (nI (V1.2.1))), (4, .int (nI (0 + j)))] → wB D A s.heap (dk h d C P (itr (copyF C P.1) 0 j V1) K) H locs → W p l e (rmm 4 94) s m ([.ref (h 0)] : List Value).toArray below meth c H locs 0 0 (qV below D (tyD d) A (dk h d C P (followA C P.1 V) K) ([.ref (h 0)] : List Value).toArray s) (F0 m 29 ls [])) ?_ 0 (Nat.zero_le _)  ls _ _  (lv_sub hl [2, 3, 4, 1, 0] rfl) hB
        intro j hij ihj  ls H locs  hl hB
        have hV2 : okV (itr (copyF C P.1) 0 j V1) := itr_ok hV (fun j a hj ha => ha.copy hC hP (by omega))
        have hle2 := hV2.le
        refine lv_iload E.x E.b dX0_follow_29 (lv_at hl 4 rfl) ?_
        refine lv_aload_n E.x E.b dX0_follow_31 rfl (lv_at hl 0 rfl) ?_
        refine gd_last E hB dX0_follow_32 ?_
        refine n_icmp_gt (tgt := 50) E (by omega) (by omega) dX0_follow_35 (by decide) (fun hc35 => ?_) (fun hc35 => ?_)
        · skip
          obtain rfl : j = P.1 + 1 := by omega
          have hB : wB D A s.heap (dk h d C P (roundF C P.1 V1) K) H locs := hB
          have hV2 : okV (roundF C P.1 V1) := hV2
          have hle2 := hV2.le
          refine lv_aload_n E.x E.b dX0_follow_50 rfl (lv_at hl 0 rfl) ?_
          refine gd_settled E hB dX0_follow_51 ?_
          refine lv_iload_n E.x E.b dX0_follow_54 rfl (lv_at hl 3 rfl) ?_
          refine n_icmp_le (tgt := 62) E (by omega) (by omega) dX0_follow_55 (by decide) (fun hc55 => ?_) (fun hc55 => ?_)
          · skip
            refine lv_iconst (v := bI (false)) E.x E.b dX0_follow_62 (by decide +kernel) ?_
            refine lv_istore_n (lv' := [(1, .int (bI (false))), (0, .ref (h 0)), (2, .int (nI (0 + r))), (3, .int (nI (V1.2.1))), (4, .int (nI (0 + (P.1 + 1))))]) E.x E.b dX0_follow_63 rfl hl (by decide) rfl (fun ls hl => ?_)
            refine lv_iinc (v := nI (0 + r + 1)) (lv' := [(2, .int (nI (0 + r + 1))), (1, .int (bI (false))), (0, .ref (h 0)), (3, .int (nI (V1.2.1))), (4, .int (nI (0 + (P.1 + 1))))]) E.x E.b dX0_follow_64 hl (k := 2) rfl (inc1 _) (by decide) rfl (fun ls hl => ?_)
            refine lv_goto (tgt := 4) E.x E.b dX0_follow_67 (by decide) ?_
            exact ihr (by omega) false (roundF C P.1 V1) ls H locs hV2 ((followF_step hrr hc11 hc18 (decide_eq_false (by omega))).trans hq) (lv_sub hl [2, 1, 0] rfl) hB
          · skip
            refine lv_iconst (v := bI (true)) E.x E.b dX0_follow_58 (by decide +kernel) ?_
            refine lv_goto (tgt := 63) E.x E.b dX0_follow_59 (by decide) ?_
            refine lv_istore_n (lv' := [(1, .int (bI (true))), (0, .ref (h 0)), (2, .int (nI (0 + r))), (3, .int (nI (V1.2.1))), (4, .int (nI (0 + (P.1 + 1))))]) E.x E.b dX0_follow_63 rfl hl (by decide) rfl (fun ls hl => ?_)
            refine lv_iinc (v := nI (0 + r + 1)) (lv' := [(2, .int (nI (0 + r + 1))), (1, .int (bI (true))), (0, .ref (h 0)), (3, .int (nI (V1.2.1))), (4, .int (nI (0 + (P.1 + 1))))]) E.x E.b dX0_follow_64 hl (k := 2) rfl (inc1 _) (by decide) rfl (fun ls hl => ?_)
            refine lv_goto (tgt := 4) E.x E.b dX0_follow_67 (by decide) ?_
            exact ihr (by omega) true (roundF C P.1 V1) ls H locs hV2 ((followF_step hrr hc11 hc18 (decide_eq_true hc55)).trans hq) (lv_sub hl [2, 1, 0] rfl) hB
        · skip
          refine lv_aload_n E.x E.b dX0_follow_38 rfl (lv_at hl 0 rfl) ?_
          refine lv_iload E.x E.b dX0_follow_39 (lv_at hl 4 rfl) ?_
          refine k_followCopy E hA hB hl.1 ⟨Nat.le_of_ble_eq_true rfl, Nat.le_of_ble_eq_true rfl⟩ ⟨Nat.le_refl 0, Nat.le_refl 0⟩ (Nat.le_of_ble_eq_true rfl) hC (by omega) hP hV2 dX0_follow_41 (fun H locs (hB : wB D A s.heap (dk h d C P (copyF C P.1 (0 + j) (itr (copyF C P.1) 0 j V1)) K) H locs) => ?_)
          refine lv_iinc (v := nI (0 + j + 1)) (lv' := [(4, .int (nI (0 + j + 1))), (0, .ref (h 0)), (1, .int (bI (ch))), (2, .int (nI (0 + r))), (3, .int (nI (V1.2.1)))]) E.x E.b dX0_follow_44 hl (k := 4) rfl (inc1 _) (by decide) rfl (fun ls hl => ?_)
          refine lv_goto (tgt := 29) E.x E.b dX0_follow_47 (by decide) ?_
          exact ihj (by omega)  ls H locs  (lv_sub hl [1, 2, 3, 4, 0] rfl) hB
theorem k_follow {p : Program} {l : Launch} {e : Env} {R : Room} {s : State} {m : MethodId} {args : Array Value} {below : List Frame} {meth : Method} {c : Code} {H : Heap} {locs : List Loc} {cells slots : Nat} {Q : State → Prop} {cc : ByteArray} {pc nL : Nat} {ls : Array Slot} {rest : List Value} {D : va_G} {A : Nat → Prop} {h : Nat → Nat} {d : Nat → ClassId} {C : CS} {P : PS} {V : VS} {K : KS}  (E : ev p m c cc nL s args RX0 D (tyD d)) (hA : ∀ q : Nat, s.heap.size ≤ q → A q) (hB : wB D A s.heap (dk h d C P V K) H locs) (hls : ls.size = nL) (hRm : 5 ≤ R.frames ∧ 118 ≤ R.locals) (hfm : cells ≤ R.cells ∧ slots ≤ R.slots) (hrest : (rest.map fun v => v.category).sum ≤ 8) (hC : okC C) (hP : P.1 < 7) (hV : okV V) (hdg : decode cc pc = .ok (.invokevirtual 57, 3)) (kk : ∀ (H1 : Heap) (locs1 : List Loc), wB D A s.heap (dk h d C P (followA C P.1 V) K) H1 locs1 → W p l e R s m args below meth c H1 locs1 cells slots Q (F0 m (pc + 3) ls (rest))) : W p l e R s m args below meth c H locs cells slots Q (F0 m pc ls (.ref (h 0) :: rest)) :=
  r_callv (ci := 0) (q := (RX0, TX0, 17)) E hA hB hls 0 (m_follow l D h d C P V K  hC hP hV) rfl rfl q121 q123 qs3 q25 q124 (by decide +kernel) rfl ⟨rfl, rfl⟩ hRm hfm rfl hrest hdg kk
end
section
/-! WALKS of the desk, second part: opening, repeats, demand, choose, goBack -/
set_option maxRecDepth 100000
theorem dec1 (x : Int32) : x + Int32.ofInt (-1) = x - 1 := by rw [Int32.sub_eq_add_neg]; rfl
theorem same_no {v : Nat → Option Bool} {f q i : Nat} (hi : i < 4) (h : sameAt v f q (1 + i) = false) : bI false = bI (sameF v f q) := by
  unfold sameF
  rw [anyb_hit hi (by rw [h]; rfl)]; rfl
theorem same_yes {v : Nat → Option Bool} {f q : Nat} (h : anyb (fun i => !sameAt v f q (1 + i)) 4 = false) : bI true = bI (sameF v f q) := by
  unfold sameF
  rw [h]; rfl
theorem beg_1 {C : CS} {P : PS} {k : Nat} {V : VS} (h : P.2.1 = true) (h2 : cB C k < 2) : begF C P k V = putF V k (decide (cB C k = 1)) := by unfold begF; rw [if_pos ⟨h, h2⟩]
theorem beg_2 {C : CS} {P : PS} {k : Nat} {V : VS} (h : P.2.1 = false) : begF C P k V = V := by unfold begF; rw [if_neg (fun z => by rw [h] at z; cases z.1)]
theorem beg_3 {C : CS} {P : PS} {k : Nat} {V : VS} (h : 2 ≤ cB C k) : begF C P k V = V := by unfold begF; rw [if_neg (fun z => by omega)]
theorem chF_spec (v : Nat → Option Bool) : ∀ (j : Nat) (a : Option Nat) (x : Nat), chF v j a = some x → a = some x ∨ (v x = none ∧ ∃ i, i < j ∧ x = 16 * i + 5)
  | 0, a, x, h => Or.inl h
  | j + 1, a, x, h => by
    rcases chF_spec v j _ x h with q | ⟨q, i, h1, h2⟩
    · split at q
      · rename_i e
        cases q
        exact Or.inr ⟨e, j, by omega, rfl⟩
      · exact Or.inl q
    · exact Or.inr ⟨q, i, by omega, h2⟩
theorem chG_spec (v : Nat → Option Bool) : ∀ (j : Nat) (a : Option Nat) (x : Nat), itr (chG v) 1 j a = some x → a = some x ∨ (v x = none ∧ ∃ i, i < j ∧ x = 1 + i)
  | 0, a, x, h => Or.inl h
  | j + 1, a, x, h => by
    have h : chG v (1 + j) (itr (chG v) 1 j a) = some x := h
    unfold chG at h
    split at h
    · rename_i e
      cases h
      exact Or.inr ⟨e, j, by omega, rfl⟩
    · rcases chG_spec v j a x h with q | ⟨q, i, h1, h2⟩
      · exact Or.inl q
      · exact Or.inr ⟨q, i, by omega, h2⟩
theorem choose_spec {v : Nat → Option Bool} {n x : Nat} (hn : n < 7) (h : chooseAt v n = some x) : v x = none ∧ x < 112 := by
  rcases chG_spec v 4 _ x h with q | ⟨q, i, h1, h2⟩
  · rcases chF_spec v (n + 1) none x q with q | ⟨q, i, h1, h2⟩
    · cases q
    · exact ⟨q, by omega⟩
  · exact ⟨q, by omega⟩
def chV (V : VS) (n : Nat) : VS := match chooseAt V.1 n with
  | none => V
  | some a => putF V a false
def chK (V : VS) (K : KS) (n : Nat) : KS := match chooseAt V.1 n with
  | none => K
  | some a => pushK V K a
theorem chG_1 {v : Nat → Option Bool} {k : Nat} {a : Option Nat} (h : v k = none) : chG v k a = some k := by unfold chG; rw [if_pos h]
theorem chG_2 {v : Nat → Option Bool} {k : Nat} {a : Option Nat} {b : Bool} (h : v k = some b) : chG v k a = a := by unfold chG; rw [if_neg (by rw [h]; simp)]
theorem chF_1 {v : Nat → Option Bool} {j : Nat} {a : Option Nat} (h : v (16 * j + 5) = none) : chF v (j + 1) a = chF v j (some (16 * j + 5)) := by
  show chF v j (if _ then _ else _) = _
  rw [if_pos h]
theorem chF_2 {v : Nat → Option Bool} {j : Nat} {a : Option Nat} {b : Bool} (h : v (16 * j + 5) = some b) : chF v (j + 1) a = chF v j a := by
  show chF v j (if _ then _ else _) = _
  rw [if_neg (by rw [h]; simp)]
theorem gbF_1 {k : Nat} {V : VS} {K : KS} (h : K.2.2.2 k = false) : gbF (k + 1) V K = (true, putF (unbr (undoV V (K.2.2.1 k))) (K.2.1 k) true, (k + 1, K.2.1, K.2.2.1, va_up K.2.2.2 k true)) := by
  show (if _ then _ else _) = _
  rw [if_pos h]
theorem gbF_2 {k : Nat} {V : VS} {K : KS} (h : K.2.2.2 k = true) : gbF (k + 1) V K = gbF k (undoV V (K.2.2.1 k)) K := by
  show (if _ then _ else _) = _
  rw [if_neg (by rw [h]; simp)]
set_option maxHeartbeats 4000000 in
set_option maxRecDepth 100000 in
/-- the opening of n + 1 copies -/
theorem m_open (l : Launch) (D : va_G) (h : Nat → Nat) (d : Nat → ClassId) (C : CS) (P : PS) (V : VS) (K : KS) (n : Nat) (hn : n < 7) : ctV l yX0_open cX0_open 3 (rmm 1 22) D (tyD d) (dk h d C P V K) (dk h d C (n, P.2) (openV V n) (0, K.2)) [.ref (h 0), .int (nI (n))] := by
  refine mkV RX0 rfl (by decide) (Nat.le_of_ble_eq_true rfl) [(0, .ref (h 0)), (1, .int (nI (n)))] rfl ?_
  intro p e s m below meth c A ls E hr hk hA hB hl
  refine lv_aload_n E.x E.b dX0_open_0 rfl (lv_at hl 0 rfl) ?_
  refine lv_iload_n E.x E.b dX0_open_1 rfl (lv_at hl 1 rfl) ?_
  refine pd_last E hB (n := n) dX0_open_2 (fun H locs (hB : wB D A s.heap (dk h d C (n, P.2) V K) H locs) => ?_)
  refine lv_aload_n E.x E.b dX0_open_5 rfl (lv_at hl 0 rfl) ?_
  refine lv_iconst (v := nI (0)) E.x E.b dX0_open_6 (by decide +kernel) ?_
  refine pd_settled E hB (n := 0) dX0_open_7 (fun H locs (hB : wB D A s.heap (dk h d C (n, P.2) (V.1, 0, V.2.2) K) H locs) => ?_)
  refine lv_aload_n E.x E.b dX0_open_10 rfl (lv_at hl 0 rfl) ?_
  refine lv_iconst (v := nI (0)) E.x E.b dX0_open_11 (by decide +kernel) ?_
  refine pd_choices E hB (n := 0) dX0_open_12 (fun H locs (hB : wB D A s.heap (dk h d C (n, P.2) (V.1, 0, V.2.2) (0, K.2)) H locs) => ?_)
  refine lv_aload_n E.x E.b dX0_open_15 rfl (lv_at hl 0 rfl) ?_
  refine lv_iconst (v := bI (false)) E.x E.b dX0_open_16 (by decide +kernel) ?_
  refine pd_broken E hB (b := false) dX0_open_17 (fun H locs (hB : wB D A s.heap (dk h d C (n, P.2) (V.1, 0, V.2.2.1, false) (0, K.2)) H locs) => ?_)
  refine lv_iconst (v := nI (0)) E.x E.b dX0_open_20 (by decide +kernel) ?_
  refine lv_istore_n (lv' := [(2, .int (nI (0))), (0, .ref (h 0)), (1, .int (nI (n)))]) E.x E.b dX0_open_21 rfl hl (by decide) rfl (fun ls hl => ?_)
  refine upL (N := 112) (fun i => ∀ (ls : Array Slot) (H : Heap) (locs : List Loc), lv_has ls 3 [(0, .ref (h 0)), (1, .int (nI (n))), (2, .int (nI (0 + i)))] → wB D A s.heap (dk h d C (n, P.2) (itr (fun k w => va_up w k none) 0 i V.1, 0, V.2.2.1, false) (0, K.2)) H locs → W p l e (rmm 1 22) s m ([.ref (h 0), .int (nI (n))] : List Value).toArray below meth c H locs 0 0 (qV below D (tyD d) A (dk h d C (n, P.2) (openV V n) (0, K.2)) ([.ref (h 0), .int (nI (n))] : List Value).toArray s) (F0 m 22 ls [])) ?_ 0 (Nat.zero_le _)  ls _ _  (lv_sub hl [1, 2, 0] rfl) hB
  intro i hii ih  ls H locs  hl hB
  refine lv_iload_n E.x E.b dX0_open_22 rfl (lv_at hl 2 rfl) ?_
  refine lv_bipush (v := nI (112)) E.x E.b dX0_open_23 (by decide +kernel) ?_
  refine n_icmp_ge (tgt := 41) E (by omega) (by omega) dX0_open_25 (by decide) (fun hc25 => ?_) (fun hc25 => ?_)
  · skip
    obtain rfl : i = 112 := by omega
    have hB : wB D A s.heap (dk h d C (n, P.2) (fillV V.1, 0, V.2.2.1, false) (0, K.2)) H locs := hB
    refine lv_iconst (v := nI (0)) E.x E.b dX0_open_41 (by decide +kernel) ?_
    refine lv_istore_n (lv' := [(2, .int (nI (0))), (0, .ref (h 0)), (1, .int (nI (n)))]) E.x E.b dX0_open_42 rfl hl (by decide) rfl (fun ls hl => ?_)
    refine upL (N := n + 1) (fun j => ∀ (ls : Array Slot) (H : Heap) (locs : List Loc), lv_has ls 3 [(0, .ref (h 0)), (1, .int (nI (n))), (2, .int (nI (0 + j)))] → wB D A s.heap (dk h d C (n, P.2) (itr (fun f U => putF U (16 * f) false) 0 j (fillV V.1, 0, V.2.2.1, false)) (0, K.2)) H locs → W p l e (rmm 1 22) s m ([.ref (h 0), .int (nI (n))] : List Value).toArray below meth c H locs 0 0 (qV below D (tyD d) A (dk h d C (n, P.2) (openV V n) (0, K.2)) ([.ref (h 0), .int (nI (n))] : List Value).toArray s) (F0 m 43 ls [])) ?_ 0 (Nat.zero_le _)  ls _ _  (lv_sub hl [1, 2, 0] rfl) hB
    intro j hij ihj  ls H locs  hl hB
    have hV : okV (itr (fun f U => putF U (16 * f) false) 0 j (fillV V.1, 0, V.2.2.1, false)) := itr_ok (okV.fill _ _ _) (fun j a hj ha => ha.put (by omega) _)
    refine lv_iload_n E.x E.b dX0_open_43 rfl (lv_at hl 2 rfl) ?_
    refine lv_iload_n E.x E.b dX0_open_44 rfl (lv_at hl 1 rfl) ?_
    refine n_icmp_gt (tgt := 63) E (by omega) (by omega) dX0_open_45 (by decide) (fun hc45 => ?_) (fun hc45 => ?_)
    · skip
      obtain rfl : j = (n + 1) := by omega
      exact r_vret E hr hk hB dX0_open_63
    · skip
      refine lv_aload_n E.x E.b dX0_open_48 rfl (lv_at hl 0 rfl) ?_
      refine lv_bipush (v := nI (16)) E.x E.b dX0_open_49 (by decide +kernel) ?_
      refine lv_iload_n E.x E.b dX0_open_51 rfl (lv_at hl 2 rfl) ?_
      refine n_mul E dX0_open_52 ?_
      refine lv_iconst (v := bI (false)) E.x E.b dX0_open_53 (by decide +kernel) ?_
      refine k_put E hA hB hl.1 ⟨Nat.le_of_ble_eq_true rfl, Nat.le_of_ble_eq_true rfl⟩ ⟨Nat.le_refl 0, Nat.le_refl 0⟩ (Nat.le_of_ble_eq_true rfl) (by omega) hV dX0_open_54 (fun H locs (hB : wB D A s.heap (dk h d C (n, P.2) (putF (itr (fun f U => putF U (16 * f) false) 0 j (fillV V.1, 0, V.2.2.1, false)) (16 * (0 + j)) false) (0, K.2)) H locs) => ?_)
      have hV : okV (putF (itr (fun f U => putF U (16 * f) false) 0 j (fillV V.1, 0, V.2.2.1, false)) (16 * (0 + j)) false) := hV.put (by omega) _
      refine lv_iinc (v := nI (0 + j + 1)) (lv' := [(2, .int (nI (0 + j + 1))), (0, .ref (h 0)), (1, .int (nI (n)))]) E.x E.b dX0_open_57 hl (k := 2) rfl (inc1 _) (by decide) rfl (fun ls hl => ?_)
      refine lv_goto (tgt := 43) E.x E.b dX0_open_60 (by decide) ?_
      exact ihj (by omega)  ls H locs  (lv_sub hl [1, 2, 0] rfl) hB
  · skip
    refine lv_aload_n E.x E.b dX0_open_28 rfl (lv_at hl 0 rfl) ?_
    refine gd_value E hB dX0_open_29 ?_
    refine lv_iload_n E.x E.b dX0_open_32 rfl (lv_at hl 2 rfl) ?_
    refine lv_iconst (v := oI (none)) E.x E.b dX0_open_33 (by decide +kernel) ?_
    refine sd_value E hB (i := 0 + i) (x := none) (by omega) dX0_open_34 (fun H locs (hB : wB D A s.heap (dk h d C (n, P.2) (itr (fun k w => va_up w k none) 0 (i + 1) V.1, 0, V.2.2.1, false) (0, K.2)) H locs) => ?_)
    refine lv_iinc (v := nI (0 + i + 1)) (lv' := [(2, .int (nI (0 + i + 1))), (0, .ref (h 0)), (1, .int (nI (n)))]) E.x E.b dX0_open_35 hl (k := 2) rfl (inc1 _) (by decide) rfl (fun ls hl => ?_)
    refine lv_goto (tgt := 22) E.x E.b dX0_open_38 (by decide) ?_
    exact ih (by omega)  ls H locs  (lv_sub hl [1, 2, 0] rfl) hB
theorem k_open {p : Program} {l : Launch} {e : Env} {R : Room} {s : State} {m : MethodId} {args : Array Value} {below : List Frame} {meth : Method} {c : Code} {H : Heap} {locs : List Loc} {cells slots : Nat} {Q : State → Prop} {cc : ByteArray} {pc nL : Nat} {ls : Array Slot} {rest : List Value} {D : va_G} {A : Nat → Prop} {h : Nat → Nat} {d : Nat → ClassId} {C : CS} {P : PS} {V : VS} {K : KS} {n : Nat} (E : ev p m c cc nL s args RX0 D (tyD d)) (hA : ∀ q : Nat, s.heap.size ≤ q → A q) (hB : wB D A s.heap (dk h d C P V K) H locs) (hls : ls.size = nL) (hRm : 2 ≤ R.frames ∧ 44 ≤ R.locals) (hfm : cells ≤ R.cells ∧ slots ≤ R.slots) (hrest : (rest.map fun v => v.category).sum ≤ 8) (hn : n < 7) (hdg : decode cc pc = .ok (.invokevirtual 49, 3)) (kk : ∀ (H1 : Heap) (locs1 : List Loc), wB D A s.heap (dk h d C (n, P.2) (openV V n) (0, K.2)) H1 locs1 → W p l e R s m args below meth c H1 locs1 cells slots Q (F0 m (pc + 3) ls (rest))) : W p l e R s m args below meth c H locs cells slots Q (F0 m pc ls (.int (nI (n)) :: .ref (h 0) :: rest)) :=
  r_callv (ci := 0) (q := (RX0, TX0, 17)) E hA hB hls 1 (m_open l D h d C P V K n hn) rfl rfl q113 q115 qs1 q25 q116 (by decide +kernel) rfl ⟨rfl, rfl⟩ hRm hfm rfl hrest hdg kk
set_option maxHeartbeats 4000000 in
set_option maxRecDepth 100000 in
/-- sameState(f, q) -/
theorem m_sameState (l : Launch) (D : va_G) (h : Nat → Nat) (d : Nat → ClassId) (C : CS) (P : PS) (V : VS) (K : KS) (f q : Nat) (hf : f < 7) (hq : q < 7) : ctI l yX0_sameState cX0_sameState 5 (rmm 0 0) D (tyD d) (dk h d C P V K) (dk h d C P V K) [.ref (h 0), .int (nI (f)), .int (nI (q))] .boolean (bI (sameF V.1 f q)) := by
  refine mkI RX0 rfl (by decide) (Nat.le_of_ble_eq_true rfl) [(0, .ref (h 0)), (1, .int (nI (f))), (2, .int (nI (q)))] rfl ?_
  intro p e s m below meth c A ls E hr hk hA hB hl
  refine lv_iconst (v := nI (1)) E.x E.b dX0_sameState_0 (by decide +kernel) ?_
  refine lv_istore_n (lv' := [(3, .int (nI (1))), (0, .ref (h 0)), (1, .int (nI (f))), (2, .int (nI (q)))]) E.x E.b dX0_sameState_1 rfl hl (by decide) rfl (fun ls hl => ?_)
  refine upL (N := 4) (fun i => ∀ (ls : Array Slot) (H : Heap) (locs : List Loc), anyb (fun i => !sameAt V.1 f q (1 + i)) i = false → lv_has ls 5 [(0, .ref (h 0)), (1, .int (nI (f))), (2, .int (nI (q))), (3, .int (nI (1 + i)))] → wB D A s.heap (dk h d C P V K) H locs → W p l e (rmm 0 0) s m ([.ref (h 0), .int (nI (f)), .int (nI (q))] : List Value).toArray below meth c H locs 0 0 (qI below D (tyD d) A (dk h d C P V K) (bI (sameF V.1 f q)) ([.ref (h 0), .int (nI (f)), .int (nI (q))] : List Value).toArray s) (F0 m 2 ls [])) ?_ 0 (Nat.zero_le _)  ls _ _ rfl (lv_sub hl [1, 2, 3, 0] rfl) hB
  intro i hii ih  ls H locs hq2 hl hB
  refine lv_iload_n E.x E.b dX0_sameState_2 rfl (lv_at hl 3 rfl) ?_
  refine lv_iconst (v := nI (5)) E.x E.b dX0_sameState_3 (by decide +kernel) ?_
  refine n_icmp_ge (tgt := 49) E (by omega) (by omega) dX0_sameState_4 (by decide) (fun hc4 => ?_) (fun hc4 => ?_)
  · skip
    obtain rfl : i = 4 := by omega
    refine lv_iconst (v := bI (true)) E.x E.b dX0_sameState_49 (by decide +kernel) ?_
    exact r_zret (x := true) E hr hk (hB) dX0_sameState_50 (same_yes hq2)
  · skip
    refine lv_aload_n E.x E.b dX0_sameState_7 rfl (lv_at hl 0 rfl) ?_
    refine gd_value E hB dX0_sameState_8 ?_
    refine lv_bipush (v := nI (16)) E.x E.b dX0_sameState_11 (by decide +kernel) ?_
    refine lv_iload_n E.x E.b dX0_sameState_13 rfl (lv_at hl 1 rfl) ?_
    refine n_mul E dX0_sameState_14 ?_
    refine lv_iload_n E.x E.b dX0_sameState_15 rfl (lv_at hl 3 rfl) ?_
    refine n_add E dX0_sameState_16 ?_
    refine ld_value E hB (by omega) dX0_sameState_17 ?_
    refine lv_istore (lv' := [(4, .int (oI (V.1 ((16 * f) + (1 + i))))), (0, .ref (h 0)), (1, .int (nI (f))), (2, .int (nI (q))), (3, .int (nI (1 + i)))]) E.x E.b dX0_sameState_18 hl (by decide) rfl (fun ls hl => ?_)
    refine lv_iload E.x E.b dX0_sameState_20 (lv_at hl 0 rfl) ?_
    refine o_if_lt (tgt := 41) E dX0_sameState_22 (by decide) (fun hc22 => ?_) (fun b22 hc22 => ?_)
    · skip
      refine lv_iconst (v := bI (false)) E.x E.b dX0_sameState_41 (by decide +kernel) ?_
      exact r_zret (x := false) E hr hk (hB) dX0_sameState_42 (same_no (i := i) (by omega) (by simp [sameAt, hc22]))
    · skip
      refine lv_iload E.x E.b dX0_sameState_25 (lv_at hl 0 rfl) ?_
      refine lv_aload_n E.x E.b dX0_sameState_27 rfl (lv_at hl 1 rfl) ?_
      refine gd_value E hB dX0_sameState_28 ?_
      refine lv_bipush (v := nI (16)) E.x E.b dX0_sameState_31 (by decide +kernel) ?_
      refine lv_iload_n E.x E.b dX0_sameState_33 rfl (lv_at hl 3 rfl) ?_
      refine n_mul E dX0_sameState_34 ?_
      refine lv_iload_n E.x E.b dX0_sameState_35 rfl (lv_at hl 4 rfl) ?_
      refine n_add E dX0_sameState_36 ?_
      refine ld_value E hB (by omega) dX0_sameState_37 ?_
      refine oo_icmp_eq (tgt := 43) E dX0_sameState_38 (by decide) (fun hc38 => ?_) (fun hc38 => ?_)
      · skip
        refine lv_iinc (v := nI (1 + i + 1)) (lv' := [(3, .int (nI (1 + i + 1))), (4, .int (oI (V.1 ((16 * f) + (1 + i))))), (0, .ref (h 0)), (1, .int (nI (f))), (2, .int (nI (q)))]) E.x E.b dX0_sameState_43 hl (k := 4) rfl (inc1 _) (by decide) rfl (fun ls hl => ?_)
        refine lv_goto (tgt := 2) E.x E.b dX0_sameState_46 (by decide) ?_
        exact ih (by omega)  ls H locs (anyb_step hq2 (by simp [sameAt, hc22, ← hc38])) (lv_sub hl [2, 3, 4, 0] rfl) hB
      · skip
        refine lv_iconst (v := bI (false)) E.x E.b dX0_sameState_41 (by decide +kernel) ?_
        exact r_zret (x := false) E hr hk (hB) dX0_sameState_42 (same_no (i := i) (by omega) (by unfold sameAt; exact decide_eq_false (fun z => hc38 z.2)))
theorem k_sameState {p : Program} {l : Launch} {e : Env} {R : Room} {s : State} {m : MethodId} {args : Array Value} {below : List Frame} {meth : Method} {c : Code} {H : Heap} {locs : List Loc} {cells slots : Nat} {Q : State → Prop} {cc : ByteArray} {pc nL : Nat} {ls : Array Slot} {rest : List Value} {D : va_G} {A : Nat → Prop} {h : Nat → Nat} {d : Nat → ClassId} {C : CS} {P : PS} {V : VS} {K : KS} {f q : Nat} (E : ev p m c cc nL s args RX0 D (tyD d)) (hA : ∀ q : Nat, s.heap.size ≤ q → A q) (hB : wB D A s.heap (dk h d C P V K) H locs) (hls : ls.size = nL) (hRm : 1 ≤ R.frames ∧ 24 ≤ R.locals) (hfm : cells ≤ R.cells ∧ slots ≤ R.slots) (hrest : (rest.map fun v => v.category).sum ≤ 8) (hf : f < 7) (hq : q < 7) (hdg : decode cc pc = .ok (.invokevirtual 95, 3)) (kk : ∀ (H1 : Heap) (locs1 : List Loc), wB D A s.heap (dk h d C P V K) H1 locs1 → W p l e R s m args below meth c H1 locs1 cells slots Q (F0 m (pc + 3) ls (.int (bI (sameF V.1 f q)) :: rest))) : W p l e R s m args below meth c H locs cells slots Q (F0 m pc ls (.int (nI (q)) :: .int (nI (f)) :: .ref (h 0) :: rest)) :=
  r_calli (ci := 0) (q := (RX0, TX0, 17)) E hA hB hls 2 (m_sameState l D h d C P V K f q hf hq) rfl rfl q157 q159 qs11 q25 q160 (by decide +kernel) rfl ⟨rfl, rfl⟩ hRm hfm rfl hrest hdg kk
set_option maxHeartbeats 4000000 in
set_option maxRecDepth 100000 in
/-- repeats() -/
theorem m_repeats (l : Launch) (D : va_G) (h : Nat → Nat) (d : Nat → ClassId) (C : CS) (P : PS) (V : VS) (K : KS)  (hP : P.1 < 7) : ctI l yX0_repeats cX0_repeats 3 (rmm 1 24) D (tyD d) (dk h d C P V K) (dk h d C P V K) [.ref (h 0)] .boolean (bI (repF V.1 P.1)) := by
  refine mkI RX0 rfl (by decide) (Nat.le_of_ble_eq_true rfl) [(0, .ref (h 0))] rfl ?_
  intro p e s m below meth c A ls E hr hk hA hB hl
  refine lv_iconst (v := nI (0)) E.x E.b dX0_repeats_0 (by decide +kernel) ?_
  refine lv_istore_n (lv' := [(1, .int (nI (0))), (0, .ref (h 0))]) E.x E.b dX0_repeats_1 rfl hl (by decide) rfl (fun ls hl => ?_)
  refine upL (N := P.1 + 1) (fun i => ∀ (ls : Array Slot) (H : Heap) (locs : List Loc), anyb (fun f => anyb (fun h => sameF V.1 f h) f) i = false → lv_has ls 3 [(0, .ref (h 0)), (1, .int (nI (i)))] → wB D A s.heap (dk h d C P V K) H locs → W p l e (rmm 1 24) s m ([.ref (h 0)] : List Value).toArray below meth c H locs 0 0 (qI below D (tyD d) A (dk h d C P V K) (bI (repF V.1 P.1)) ([.ref (h 0)] : List Value).toArray s) (F0 m 2 ls [])) ?_ 0 (Nat.zero_le _)  ls _ _ rfl (lv_sub hl [1, 0] rfl) hB
  intro i hii ih  ls H locs hq hl hB
  refine lv_iload_n E.x E.b dX0_repeats_2 rfl (lv_at hl 1 rfl) ?_
  refine lv_aload_n E.x E.b dX0_repeats_3 rfl (lv_at hl 0 rfl) ?_
  refine gd_last E hB dX0_repeats_4 ?_
  refine n_icmp_gt (tgt := 40) E (by omega) (by omega) dX0_repeats_7 (by decide) (fun hc7 => ?_) (fun hc7 => ?_)
  · skip
    have hiN : i = P.1 + 1 := by omega
    rw [hiN] at hq
    refine lv_iconst (v := bI (false)) E.x E.b dX0_repeats_40 (by decide +kernel) ?_
    exact r_zret (x := false) E hr hk (hB) dX0_repeats_41 (by unfold repF; rw [hq])
  · skip
    refine lv_iconst (v := nI (0)) E.x E.b dX0_repeats_10 (by decide +kernel) ?_
    refine lv_istore_n (lv' := [(2, .int (nI (0))), (0, .ref (h 0)), (1, .int (nI (i)))]) E.x E.b dX0_repeats_11 rfl hl (by decide) rfl (fun ls hl => ?_)
    refine upL (N := i) (fun j => ∀ (ls : Array Slot) (H : Heap) (locs : List Loc), anyb (fun h => sameF V.1 i h) j = false → lv_has ls 3 [(0, .ref (h 0)), (1, .int (nI (i))), (2, .int (nI (j)))] → wB D A s.heap (dk h d C P V K) H locs → W p l e (rmm 1 24) s m ([.ref (h 0)] : List Value).toArray below meth c H locs 0 0 (qI below D (tyD d) A (dk h d C P V K) (bI (repF V.1 P.1)) ([.ref (h 0)] : List Value).toArray s) (F0 m 12 ls [])) ?_ 0 (Nat.zero_le _)  ls _ _ rfl (lv_sub hl [1, 2, 0] rfl) hB
    intro j hij ihj  ls H locs hqj hl hB
    refine lv_iload_n E.x E.b dX0_repeats_12 rfl (lv_at hl 2 rfl) ?_
    refine lv_iload_n E.x E.b dX0_repeats_13 rfl (lv_at hl 1 rfl) ?_
    refine n_icmp_ge (tgt := 34) E (by omega) (by omega) dX0_repeats_14 (by decide) (fun hc14 => ?_) (fun hc14 => ?_)
    · skip
      have hji : j = i := by omega
      rw [hji] at hqj
      refine lv_iinc (v := nI (i + 1)) (lv' := [(1, .int (nI (i + 1))), (0, .ref (h 0)), (2, .int (nI (j)))]) E.x E.b dX0_repeats_34 hl (k := 1) rfl (inc1 _) (by decide) rfl (fun ls hl => ?_)
      refine lv_goto (tgt := 2) E.x E.b dX0_repeats_37 (by decide) ?_
      exact ih (by omega)  ls H locs (anyb_step hq hqj) (lv_sub hl [1, 0] rfl) hB
    · skip
      refine lv_aload_n E.x E.b dX0_repeats_17 rfl (lv_at hl 0 rfl) ?_
      refine lv_iload_n E.x E.b dX0_repeats_18 rfl (lv_at hl 1 rfl) ?_
      refine lv_iload_n E.x E.b dX0_repeats_19 rfl (lv_at hl 2 rfl) ?_
      refine k_sameState E hA hB hl.1 ⟨Nat.le_of_ble_eq_true rfl, Nat.le_of_ble_eq_true rfl⟩ ⟨Nat.le_refl 0, Nat.le_refl 0⟩ (Nat.le_of_ble_eq_true rfl) (by omega) (by omega) dX0_repeats_20 (fun H locs (hB : wB D A s.heap (dk h d C P V K) H locs) => ?_)
      refine b_if_eq (tgt := 28) E dX0_repeats_23 (by decide) (fun hc23 => ?_) (fun hc23 => ?_)
      · skip
        refine lv_iinc (v := nI (j + 1)) (lv' := [(2, .int (nI (j + 1))), (0, .ref (h 0)), (1, .int (nI (i)))]) E.x E.b dX0_repeats_28 hl (k := 2) rfl (inc1 _) (by decide) rfl (fun ls hl => ?_)
        refine lv_goto (tgt := 12) E.x E.b dX0_repeats_31 (by decide) ?_
        exact ihj (by omega)  ls H locs (anyb_step hqj hc23) (lv_sub hl [1, 2, 0] rfl) hB
      · skip
        refine lv_iconst (v := bI (true)) E.x E.b dX0_repeats_26 (by decide +kernel) ?_
        exact r_zret (x := true) E hr hk (hB) dX0_repeats_27 (congrArg bI (anyb_hit (q := fun f => anyb (fun h => sameF V.1 f h) f) (i := i) (n := P.1 + 1) (by omega) (anyb_hit (q := fun h => sameF V.1 i h) (i := j) (by omega) hc23)).symm)
theorem k_repeats {p : Program} {l : Launch} {e : Env} {R : Room} {s : State} {m : MethodId} {args : Array Value} {below : List Frame} {meth : Method} {c : Code} {H : Heap} {locs : List Loc} {cells slots : Nat} {Q : State → Prop} {cc : ByteArray} {pc nL : Nat} {ls : Array Slot} {rest : List Value} {D : va_G} {A : Nat → Prop} {h : Nat → Nat} {d : Nat → ClassId} {C : CS} {P : PS} {V : VS} {K : KS}  (E : ev p m c cc nL s args RX0 D (tyD d)) (hA : ∀ q : Nat, s.heap.size ≤ q → A q) (hB : wB D A s.heap (dk h d C P V K) H locs) (hls : ls.size = nL) (hRm : 2 ≤ R.frames ∧ 46 ≤ R.locals) (hfm : cells ≤ R.cells ∧ slots ≤ R.slots) (hrest : (rest.map fun v => v.category).sum ≤ 8) (hP : P.1 < 7) (hdg : decode cc pc = .ok (.invokevirtual 108, 3)) (kk : ∀ (H1 : Heap) (locs1 : List Loc), wB D A s.heap (dk h d C P V K) H1 locs1 → W p l e R s m args below meth c H1 locs1 cells slots Q (F0 m (pc + 3) ls (.int (bI (repF V.1 P.1)) :: rest))) : W p l e R s m args below meth c H locs cells slots Q (F0 m pc ls (.ref (h 0) :: rest)) :=
  r_calli (ci := 0) (q := (RX0, TX0, 17)) E hA hB hls 0 (m_repeats l D h d C P V K  hP) rfl rfl q153 q155 qs10 q25 q156 (by decide +kernel) rfl ⟨rfl, rfl⟩ hRm hfm rfl hrest hdg kk
set_option maxHeartbeats 4000000 in
set_option maxRecDepth 100000 in
/-- demand() -/
theorem m_demand (l : Launch) (D : va_G) (h : Nat → Nat) (d : Nat → ClassId) (C : CS) (P : PS) (V : VS) (K : KS)  (hC : okC C) (hP : P.1 < 7) (hV : okV V) : ctV l yX0_demand cX0_demand 2 (rmm 2 45) D (tyD d) (dk h d C P V K) (dk h d C P (demandF C P V) K) [.ref (h 0)] := by
  refine mkV RX0 rfl (by decide) (Nat.le_of_ble_eq_true rfl) [(0, .ref (h 0))] rfl ?_
  intro p e s m below meth c A ls E hr hk hA hB hl
  have hx1 := hC.1
  have hx2 := hC.2.2.2.2
  have hx3 := hC.2.2.2.1
  refine lv_iconst (v := nI (0)) E.x E.b dX0_demand_0 (by decide +kernel) ?_
  refine lv_istore_n (lv' := [(1, .int (nI (0))), (0, .ref (h 0))]) E.x E.b dX0_demand_1 rfl hl (by decide) rfl (fun ls hl => ?_)
  refine upL (N := P.1) (fun i => ∀ (ls : Array Slot) (H : Heap) (locs : List Loc), lv_has ls 2 [(0, .ref (h 0)), (1, .int (nI (0 + i)))] → wB D A s.heap (dk h d C P (itr (fun f U => putL U f (cX C) false) 0 i V) K) H locs → W p l e (rmm 2 45) s m ([.ref (h 0)] : List Value).toArray below meth c H locs 0 0 (qV below D (tyD d) A (dk h d C P (demandF C P V) K) ([.ref (h 0)] : List Value).toArray s) (F0 m 2 ls [])) ?_ 0 (Nat.zero_le _)  ls _ _  (lv_sub hl [1, 0] rfl) hB
  intro i hii ih  ls H locs  hl hB
  have hV : okV (itr (fun f U => putL U f (cX C) false) 0 i V) := itr_ok hV (fun j a hj ha => ha.putL (by omega) _)
  refine lv_iload_n E.x E.b dX0_demand_2 rfl (lv_at hl 1 rfl) ?_
  refine lv_aload_n E.x E.b dX0_demand_3 rfl (lv_at hl 0 rfl) ?_
  refine gd_last E hB dX0_demand_4 ?_
  refine n_icmp_ge (tgt := 26) E (by omega) (by omega) dX0_demand_7 (by decide) (fun hc7 => ?_) (fun hc7 => ?_)
  · skip
    obtain rfl : i = P.1 := by omega
    refine lv_aload_n E.x E.b dX0_demand_26 rfl (lv_at hl 0 rfl) ?_
    refine lv_aload_n E.x E.b dX0_demand_27 rfl (lv_at hl 0 rfl) ?_
    refine gd_last E hB dX0_demand_28 ?_
    refine lv_aload_n E.x E.b dX0_demand_31 rfl (lv_at hl 0 rfl) ?_
    refine gd_badLiteral E hB dX0_demand_32 ?_
    refine lv_iconst (v := bI (true)) E.x E.b dX0_demand_35 (by decide +kernel) ?_
    refine k_putLiteral E hA hB hl.1 ⟨Nat.le_of_ble_eq_true rfl, Nat.le_of_ble_eq_true rfl⟩ ⟨Nat.le_refl 0, Nat.le_refl 0⟩ (Nat.le_of_ble_eq_true rfl) (by omega) hV dX0_demand_36 (fun H locs (hB : wB D A s.heap (dk h d C P (putL (itr (fun f U => putL U f (cX C) false) 0 P.1 V) P.1 (cX C) true) K) H locs) => ?_)
    have hV : okV (putL (itr (fun f U => putL U f (cX C) false) 0 P.1 V) P.1 (cX C) true) := hV.putL (by omega) _
    refine lv_iconst (v := nI (1)) E.x E.b dX0_demand_39 (by decide +kernel) ?_
    refine lv_istore_n (lv' := [(1, .int (nI (1))), (0, .ref (h 0))]) E.x E.b dX0_demand_40 rfl hl (by decide) rfl (fun ls hl => ?_)
    refine upL (N := 4) (fun j => ∀ (ls : Array Slot) (H : Heap) (locs : List Loc), lv_has ls 2 [(0, .ref (h 0)), (1, .int (nI (1 + j)))] → wB D A s.heap (dk h d C P (itr (begF C P) 1 j (putL (itr (fun f U => putL U f (cX C) false) 0 P.1 V) P.1 (cX C) true)) K) H locs → W p l e (rmm 2 45) s m ([.ref (h 0)] : List Value).toArray below meth c H locs 0 0 (qV below D (tyD d) A (dk h d C P (demandF C P V) K) ([.ref (h 0)] : List Value).toArray s) (F0 m 41 ls [])) ?_ 0 (Nat.zero_le _)  ls _ _  (lv_sub hl [1, 0] rfl) hB
    intro j hij ihj  ls H locs  hl hB
    have hV : okV (itr (begF C P) 1 j (putL (itr (fun f U => putL U f (cX C) false) 0 P.1 V) P.1 (cX C) true)) := itr_ok hV (fun j a hj ha => by unfold begF; split; exact ha.put (by omega) _; exact ha)
    have hx4 := hx3 (1 + j)
    refine lv_iload_n E.x E.b dX0_demand_41 rfl (lv_at hl 1 rfl) ?_
    refine lv_iconst (v := nI (5)) E.x E.b dX0_demand_42 (by decide +kernel) ?_
    refine n_icmp_ge (tgt := 80) E (by omega) (by omega) dX0_demand_43 (by decide) (fun hc43 => ?_) (fun hc43 => ?_)
    · skip
      obtain rfl : j = 4 := by omega
      exact r_vret E hr hk hB dX0_demand_80
    · skip
      have hx4 := hx4 (by omega) (by omega)
      refine lv_aload_n E.x E.b dX0_demand_46 rfl (lv_at hl 0 rfl) ?_
      refine gd_fromBeginning E hB dX0_demand_47 ?_
      refine b_if_eq (tgt := 74) E dX0_demand_50 (by decide) (fun hc50 => ?_) (fun hc50 => ?_)
      · skip
        have hB : wB D A s.heap (dk h d C P (itr (begF C P) 1 (j + 1) (putL (itr (fun f U => putL U f (cX C) false) 0 P.1 V) P.1 (cX C) true)) K) H locs := hB.to (by show _ = dk h d C P (begF C P (1 + j) (itr (begF C P) 1 j (putL (itr (fun f U => putL U f (cX C) false) 0 P.1 V) P.1 (cX C) true))) K; rw [beg_2 hc50])
        refine lv_iinc (v := nI (1 + j + 1)) (lv' := [(1, .int (nI (1 + j + 1))), (0, .ref (h 0))]) E.x E.b dX0_demand_74 hl (k := 1) rfl (inc1 _) (by decide) rfl (fun ls hl => ?_)
        refine lv_goto (tgt := 41) E.x E.b dX0_demand_77 (by decide) ?_
        exact ihj (by omega)  ls H locs  (lv_sub hl [1, 0] rfl) hB
      · skip
        refine lv_aload_n E.x E.b dX0_demand_53 rfl (lv_at hl 0 rfl) ?_
        refine gd_beginning E hB dX0_demand_54 ?_
        refine lv_iload_n E.x E.b dX0_demand_57 rfl (lv_at hl 1 rfl) ?_
        refine ld_beginning E hB (by omega) dX0_demand_58 ?_
        refine lv_iconst (v := nI (2)) E.x E.b dX0_demand_59 (by decide +kernel) ?_
        refine n_icmp_ge (tgt := 74) E (by omega) (by omega) dX0_demand_60 (by decide) (fun hc60 => ?_) (fun hc60 => ?_)
        · skip
          have hB : wB D A s.heap (dk h d C P (itr (begF C P) 1 (j + 1) (putL (itr (fun f U => putL U f (cX C) false) 0 P.1 V) P.1 (cX C) true)) K) H locs := hB.to (by show _ = dk h d C P (begF C P (1 + j) (itr (begF C P) 1 j (putL (itr (fun f U => putL U f (cX C) false) 0 P.1 V) P.1 (cX C) true))) K; rw [beg_3 hc60])
          refine lv_iinc (v := nI (1 + j + 1)) (lv' := [(1, .int (nI (1 + j + 1))), (0, .ref (h 0))]) E.x E.b dX0_demand_74 hl (k := 1) rfl (inc1 _) (by decide) rfl (fun ls hl => ?_)
          refine lv_goto (tgt := 41) E.x E.b dX0_demand_77 (by decide) ?_
          exact ihj (by omega)  ls H locs  (lv_sub hl [1, 0] rfl) hB
        · skip
          refine lv_aload_n E.x E.b dX0_demand_63 rfl (lv_at hl 0 rfl) ?_
          refine lv_iload_n E.x E.b dX0_demand_64 rfl (lv_at hl 1 rfl) ?_
          refine lv_aload_n E.x E.b dX0_demand_65 rfl (lv_at hl 0 rfl) ?_
          refine gd_beginning E hB dX0_demand_66 ?_
          refine lv_iload_n E.x E.b dX0_demand_69 rfl (lv_at hl 1 rfl) ?_
          refine ld_beginning E hB (by omega) dX0_demand_70 ?_
          refine r_eq (y := bI (decide (cB C (1 + j) = 1))) (nI_b hc60) ?_
          refine k_put E hA hB hl.1 ⟨Nat.le_of_ble_eq_true rfl, Nat.le_of_ble_eq_true rfl⟩ ⟨Nat.le_refl 0, Nat.le_refl 0⟩ (Nat.le_of_ble_eq_true rfl) (by omega) hV dX0_demand_71 (fun H locs (hB : wB D A s.heap (dk h d C P (putF (itr (begF C P) 1 j (putL (itr (fun f U => putL U f (cX C) false) 0 P.1 V) P.1 (cX C) true)) (1 + j) (decide (cB C (1 + j) = 1))) K) H locs) => ?_)
          have hV : okV (putF (itr (begF C P) 1 j (putL (itr (fun f U => putL U f (cX C) false) 0 P.1 V) P.1 (cX C) true)) (1 + j) (decide (cB C (1 + j) = 1))) := hV.put (by omega) _
          have hB : wB D A s.heap (dk h d C P (itr (begF C P) 1 (j + 1) (putL (itr (fun f U => putL U f (cX C) false) 0 P.1 V) P.1 (cX C) true)) K) H locs := hB.to (by show _ = dk h d C P (begF C P (1 + j) (itr (begF C P) 1 j (putL (itr (fun f U => putL U f (cX C) false) 0 P.1 V) P.1 (cX C) true))) K; rw [beg_1 hc50 hc60])
          refine lv_iinc (v := nI (1 + j + 1)) (lv' := [(1, .int (nI (1 + j + 1))), (0, .ref (h 0))]) E.x E.b dX0_demand_74 hl (k := 1) rfl (inc1 _) (by decide) rfl (fun ls hl => ?_)
          refine lv_goto (tgt := 41) E.x E.b dX0_demand_77 (by decide) ?_
          exact ihj (by omega)  ls H locs  (lv_sub hl [1, 0] rfl) hB
  · skip
    refine lv_aload_n E.x E.b dX0_demand_10 rfl (lv_at hl 0 rfl) ?_
    refine lv_iload_n E.x E.b dX0_demand_11 rfl (lv_at hl 1 rfl) ?_
    refine lv_aload_n E.x E.b dX0_demand_12 rfl (lv_at hl 0 rfl) ?_
    refine gd_badLiteral E hB dX0_demand_13 ?_
    refine lv_iconst (v := bI (false)) E.x E.b dX0_demand_16 (by decide +kernel) ?_
    refine k_putLiteral E hA hB hl.1 ⟨Nat.le_of_ble_eq_true rfl, Nat.le_of_ble_eq_true rfl⟩ ⟨Nat.le_refl 0, Nat.le_refl 0⟩ (Nat.le_of_ble_eq_true rfl) (by omega) hV dX0_demand_17 (fun H locs (hB : wB D A s.heap (dk h d C P (putL (itr (fun f U => putL U f (cX C) false) 0 i V) (0 + i) (cX C) false) K) H locs) => ?_)
    have hV : okV (putL (itr (fun f U => putL U f (cX C) false) 0 i V) (0 + i) (cX C) false) := hV.putL (by omega) _
    refine lv_iinc (v := nI (0 + i + 1)) (lv' := [(1, .int (nI (0 + i + 1))), (0, .ref (h 0))]) E.x E.b dX0_demand_20 hl (k := 1) rfl (inc1 _) (by decide) rfl (fun ls hl => ?_)
    refine lv_goto (tgt := 2) E.x E.b dX0_demand_23 (by decide) ?_
    exact ih (by omega)  ls H locs  (lv_sub hl [1, 0] rfl) hB
theorem k_demand {p : Program} {l : Launch} {e : Env} {R : Room} {s : State} {m : MethodId} {args : Array Value} {below : List Frame} {meth : Method} {c : Code} {H : Heap} {locs : List Loc} {cells slots : Nat} {Q : State → Prop} {cc : ByteArray} {pc nL : Nat} {ls : Array Slot} {rest : List Value} {D : va_G} {A : Nat → Prop} {h : Nat → Nat} {d : Nat → ClassId} {C : CS} {P : PS} {V : VS} {K : KS}  (E : ev p m c cc nL s args RX0 D (tyD d)) (hA : ∀ q : Nat, s.heap.size ≤ q → A q) (hB : wB D A s.heap (dk h d C P V K) H locs) (hls : ls.size = nL) (hRm : 3 ≤ R.frames ∧ 66 ≤ R.locals) (hfm : cells ≤ R.cells ∧ slots ≤ R.slots) (hrest : (rest.map fun v => v.category).sum ≤ 8) (hC : okC C) (hP : P.1 < 7) (hV : okV V) (hdg : decode cc pc = .ok (.invokevirtual 105, 3)) (kk : ∀ (H1 : Heap) (locs1 : List Loc), wB D A s.heap (dk h d C P (demandF C P V) K) H1 locs1 → W p l e R s m args below meth c H1 locs1 cells slots Q (F0 m (pc + 3) ls (rest))) : W p l e R s m args below meth c H locs cells slots Q (F0 m pc ls (.ref (h 0) :: rest)) :=
  r_callv (ci := 0) (q := (RX0, TX0, 17)) E hA hB hls 0 (m_demand l D h d C P V K  hC hP hV) rfl rfl q149 q151 qs9 q25 q152 (by decide +kernel) rfl ⟨rfl, rfl⟩ hRm hfm rfl hrest hdg kk
set_option maxHeartbeats 4000000 in
set_option maxRecDepth 100000 in
/-- choose() -/
theorem m_choose (l : Launch) (D : va_G) (h : Nat → Nat) (d : Nat → ClassId) (C : CS) (P : PS) (V : VS) (K : KS)  (hP : P.1 < 7) (hV : okV V) (hK : ∀ x, chooseAt V.1 P.1 = some x → K.1 < 12) : ctI l yX0_choose cX0_choose 3 (rmm 1 22) D (tyD d) (dk h d C P V K) (dk h d C P (chV V P.1) (chK V K P.1)) [.ref (h 0)] .boolean (bI (chooseAt V.1 P.1).isSome) := by
  refine mkI RX0 rfl (by decide) (Nat.le_of_ble_eq_true rfl) [(0, .ref (h 0))] rfl ?_
  intro p e s m below meth c A ls E hr hk hA hB hl
  refine lv_iconst (v := zI (none)) E.x E.b dX0_choose_0 (by decide +kernel) ?_
  refine lv_istore_n (lv' := [(1, .int (zI (none))), (0, .ref (h 0))]) E.x E.b dX0_choose_1 rfl hl (by decide) rfl (fun ls hl => ?_)
  refine lv_aload_n E.x E.b dX0_choose_2 rfl (lv_at hl 1 rfl) ?_
  refine gd_last E hB dX0_choose_3 ?_
  refine lv_istore_n (lv' := [(2, .int (nI (P.1))), (1, .int (zI (none))), (0, .ref (h 0))]) E.x E.b dX0_choose_6 rfl hl (by decide) rfl (fun ls hl => ?_)
  have main : ∀ (j : Nat) (a : Option Nat) (ls : Array Slot) (H : Heap) (locs : List Loc), chF V.1 j a = chF V.1 (P.1 + 1) none → j ≤ P.1 + 1 → lv_has ls 3 [(0, .ref (h 0)), (1, .int (zI (a))), (2, .int (nI j - 1))] → wB D A s.heap (dk h d C P V K) H locs → W p l e (rmm 1 22) s m ([.ref (h 0)] : List Value).toArray below meth c H locs 0 0 (qI below D (tyD d) A (dk h d C P (chV V P.1) (chK V K P.1)) (bI (chooseAt V.1 P.1).isSome) ([.ref (h 0)] : List Value).toArray s) (F0 m 7 ls []) := by
    intro j
    induction j with
    | zero =>
      intro a ls H locs hq hj hl hB
      have hl : lv_has ls 3 [(0, .ref (h 0)), (1, .int (zI a)), (2, .int (-1 : Int32))] := by rw [show nI 0 - 1 = (-1 : Int32) by decide +kernel] at hl; exact hl
      refine lv_iload_n E.x E.b dX0_choose_7 rfl (lv_at hl 2 rfl) ?_
      refine lv_if_lt (tgt := 42) E.x E.b dX0_choose_8 (by decide) (fun hc8 => ?_) (fun hc8 => absurd (by decide +kernel) hc8)
      have hq : a = chF V.1 (P.1 + 1) none := hq
      subst hq
      refine lv_iconst (v := nI (1)) E.x E.b dX0_choose_42 (by decide +kernel) ?_
      refine lv_istore_n (lv' := [(2, .int (nI (1))), (0, .ref (h 0)), (1, .int (zI ((chF V.1 (P.1 + 1) none))))]) E.x E.b dX0_choose_43 rfl hl (by decide) rfl (fun ls hl => ?_)
      refine upL (N := 4) (fun i => ∀ (ls : Array Slot) (H : Heap) (locs : List Loc), lv_has ls 3 [(0, .ref (h 0)), (1, .int (zI (itr (chG V.1) 1 i (chF V.1 (P.1 + 1) none)))), (2, .int (nI (1 + i)))] → wB D A s.heap (dk h d C P V K) H locs → W p l e (rmm 1 22) s m ([.ref (h 0)] : List Value).toArray below meth c H locs 0 0 (qI below D (tyD d) A (dk h d C P (chV V P.1) (chK V K P.1)) (bI (chooseAt V.1 P.1).isSome) ([.ref (h 0)] : List Value).toArray s) (F0 m 44 ls [])) ?_ 0 (Nat.zero_le _)  ls _ _  (lv_sub hl [1, 2, 0] rfl) hB
      intro i hii ihi  ls H locs  hl hB
      refine lv_iload_n E.x E.b dX0_choose_44 rfl (lv_at hl 2 rfl) ?_
      refine lv_iconst (v := nI (5)) E.x E.b dX0_choose_45 (by decide +kernel) ?_
      refine n_icmp_ge (tgt := 70) E (by omega) (by omega) dX0_choose_46 (by decide) (fun hc46 => ?_) (fun hc46 => ?_)
      · skip
        obtain rfl : i = 4 := by omega
        have hl : lv_has ls 3 [(0, .ref (h 0)), (1, .int (zI (chooseAt V.1 P.1))), (2, .int (nI (1 + 4)))] := hl
        refine lv_iload_n E.x E.b dX0_choose_70 rfl (lv_at hl 1 rfl) ?_
        refine z_if_ge (tgt := 76) E (fun n hn => by have := (choose_spec hP hn).2; omega) dX0_choose_71 (by decide) (fun b71 hc71 => ?_) (fun hc71 => ?_)
        · skip
          have hl : lv_has ls 3 [(0, .ref (h 0)), (1, .int (nI (b71))), (2, .int (nI (1 + 4)))] := by rw [hc71] at hl; exact hl
          have hx := choose_spec hP hc71
          have hx1 := hx.2
          have hx2 := hK _ hc71
          have hx3 := hV.le
          refine lv_aload_n E.x E.b dX0_choose_76 rfl (lv_at hl 0 rfl) ?_
          refine gd_chosen E hB dX0_choose_77 ?_
          refine lv_aload_n E.x E.b dX0_choose_80 rfl (lv_at hl 0 rfl) ?_
          refine gd_choices E hB dX0_choose_81 ?_
          refine lv_iload_n E.x E.b dX0_choose_84 rfl (lv_at hl 1 rfl) ?_
          refine sd_chosen E hB (i := K.1) (x := b71) (hx2) dX0_choose_85 (fun H locs (hB : wB D A s.heap (dk h d C P V (K.1, va_up K.2.1 K.1 b71, K.2.2)) H locs) => ?_)
          refine lv_aload_n E.x E.b dX0_choose_86 rfl (lv_at hl 0 rfl) ?_
          refine gd_setBefore E hB dX0_choose_87 ?_
          refine lv_aload_n E.x E.b dX0_choose_90 rfl (lv_at hl 0 rfl) ?_
          refine gd_choices E hB dX0_choose_91 ?_
          refine r_eq (y := nI (K.1)) rfl ?_
          refine lv_aload_n E.x E.b dX0_choose_94 rfl (lv_at hl 0 rfl) ?_
          refine gd_settled E hB dX0_choose_95 ?_
          refine sd_setBefore E hB (i := K.1) (x := V.2.1) (hx2) dX0_choose_98 (fun H locs (hB : wB D A s.heap (dk h d C P V (K.1, (va_up K.2.1 K.1 b71), va_up K.2.2.1 K.1 V.2.1, K.2.2.2)) H locs) => ?_)
          refine lv_aload_n E.x E.b dX0_choose_99 rfl (lv_at hl 0 rfl) ?_
          refine gd_second E hB dX0_choose_100 ?_
          refine lv_aload_n E.x E.b dX0_choose_103 rfl (lv_at hl 0 rfl) ?_
          refine gd_choices E hB dX0_choose_104 ?_
          refine r_eq (y := nI (K.1)) rfl ?_
          refine lv_iconst (v := bI (false)) E.x E.b dX0_choose_107 (by decide +kernel) ?_
          refine sd_second E hB (i := K.1) (x := false) (hx2) dX0_choose_108 (fun H locs (hB : wB D A s.heap (dk h d C P V (K.1, (va_up K.2.1 K.1 b71), (va_up K.2.2.1 K.1 V.2.1), va_up K.2.2.2 K.1 false)) H locs) => ?_)
          refine lv_aload_n E.x E.b dX0_choose_109 rfl (lv_at hl 0 rfl) ?_
          refine lv_dup E.x E.b dX0_choose_110 rfl ?_
          refine gd_choices E hB dX0_choose_111 ?_
          refine r_eq (y := nI (K.1)) rfl ?_
          refine lv_iconst (v := nI (1)) E.x E.b dX0_choose_114 (by decide +kernel) ?_
          refine n_add E dX0_choose_115 ?_
          refine pd_choices E hB (n := (K.1 + 1)) dX0_choose_116 (fun H locs (hB : wB D A s.heap (dk h d C P V (pushK V K b71)) H locs) => ?_)
          refine lv_aload_n E.x E.b dX0_choose_119 rfl (lv_at hl 0 rfl) ?_
          refine lv_iload_n E.x E.b dX0_choose_120 rfl (lv_at hl 1 rfl) ?_
          refine lv_iconst (v := bI (false)) E.x E.b dX0_choose_121 (by decide +kernel) ?_
          refine k_put E hA hB hl.1 ⟨Nat.le_of_ble_eq_true rfl, Nat.le_of_ble_eq_true rfl⟩ ⟨Nat.le_refl 0, Nat.le_refl 0⟩ (Nat.le_of_ble_eq_true rfl) (by omega) hV dX0_choose_122 (fun H locs (hB : wB D A s.heap (dk h d C P (putF V b71 false) (pushK V K b71)) H locs) => ?_)
          have hV : okV (putF V b71 false) := hV.put (by omega) _
          refine lv_iconst (v := bI (true)) E.x E.b dX0_choose_125 (by decide +kernel) ?_
          exact r_zret (x := true) E hr hk (hB.to (by unfold chV chK; rw [hc71])) dX0_choose_126 (by rw [hc71]; rfl)
        · skip
          refine lv_iconst (v := bI (false)) E.x E.b dX0_choose_74 (by decide +kernel) ?_
          exact r_zret (x := false) E hr hk (hB.to (by unfold chV chK; rw [hc71])) dX0_choose_75 (by rw [hc71]; rfl)
      · skip
        refine lv_aload_n E.x E.b dX0_choose_49 rfl (lv_at hl 0 rfl) ?_
        refine gd_value E hB dX0_choose_50 ?_
        refine lv_iload_n E.x E.b dX0_choose_53 rfl (lv_at hl 2 rfl) ?_
        refine ld_value E hB (by omega) dX0_choose_54 ?_
        refine o_if_ge (tgt := 62) E dX0_choose_55 (by decide) (fun b55 hc55 => ?_) (fun hc55 => ?_)
        · skip
          refine lv_iload_n E.x E.b dX0_choose_62 rfl (lv_at hl 1 rfl) ?_
          refine lv_istore_n (lv' := [(1, .int (zI (itr (chG V.1) 1 i (chF V.1 (P.1 + 1) none)))), (0, .ref (h 0)), (2, .int (nI (1 + i)))]) E.x E.b dX0_choose_63 rfl hl (by decide) rfl (fun ls hl => ?_)
          have hl : lv_has ls 3 [(1, .int (zI (itr (chG V.1) 1 (i + 1) (chF V.1 (P.1 + 1) none)))), (0, .ref (h 0)), (2, .int (nI (1 + i)))] := by rw [show itr (chG V.1) 1 (i + 1) (chF V.1 (P.1 + 1) none) = itr (chG V.1) 1 i (chF V.1 (P.1 + 1) none) from chG_2 hc55]; exact hl
          refine lv_iinc (v := nI (1 + i + 1)) (lv' := [(2, .int (nI (1 + i + 1))), (1, .int (zI (itr (chG V.1) 1 (i + 1) (chF V.1 (P.1 + 1) none)))), (0, .ref (h 0))]) E.x E.b dX0_choose_64 hl (k := 2) rfl (inc1 _) (by decide) rfl (fun ls hl => ?_)
          refine lv_goto (tgt := 44) E.x E.b dX0_choose_67 (by decide) ?_
          exact ihi (by omega)  ls H locs  (lv_sub hl [2, 1, 0] rfl) hB
        · skip
          refine lv_iload_n E.x E.b dX0_choose_58 rfl (lv_at hl 2 rfl) ?_
          refine lv_goto (tgt := 63) E.x E.b dX0_choose_59 (by decide) ?_
          refine lv_istore_n (lv' := [(1, .int (zI (some (1 + i)))), (0, .ref (h 0)), (2, .int (nI (1 + i)))]) E.x E.b dX0_choose_63 rfl hl (by decide) rfl (fun ls hl => ?_)
          have hl : lv_has ls 3 [(1, .int (zI (itr (chG V.1) 1 (i + 1) (chF V.1 (P.1 + 1) none)))), (0, .ref (h 0)), (2, .int (nI (1 + i)))] := by rw [show itr (chG V.1) 1 (i + 1) (chF V.1 (P.1 + 1) none) = some (1 + i) from chG_1 hc55]; exact hl
          refine lv_iinc (v := nI (1 + i + 1)) (lv' := [(2, .int (nI (1 + i + 1))), (1, .int (zI (itr (chG V.1) 1 (i + 1) (chF V.1 (P.1 + 1) none)))), (0, .ref (h 0))]) E.x E.b dX0_choose_64 hl (k := 2) rfl (inc1 _) (by decide) rfl (fun ls hl => ?_)
          refine lv_goto (tgt := 44) E.x E.b dX0_choose_67 (by decide) ?_
          exact ihi (by omega)  ls H locs  (lv_sub hl [2, 1, 0] rfl) hB
    | succ j ih =>
      intro a ls H locs hq hj hl hB
      have hl : lv_has ls 3 [(0, .ref (h 0)), (1, .int (zI a)), (2, .int (nI j))] := by rw [nI_pred] at hl; exact hl
      refine lv_iload_n E.x E.b dX0_choose_7 rfl (lv_at hl 2 rfl) ?_
      refine lv_if_lt (tgt := 42) E.x E.b dX0_choose_8 (by decide) (fun hc8 => absurd hc8 (nI_pos (by omega))) (fun hc8 => ?_)
      refine lv_aload_n E.x E.b dX0_choose_11 rfl (lv_at hl 0 rfl) ?_
      refine gd_value E hB dX0_choose_12 ?_
      refine lv_bipush (v := nI (16)) E.x E.b dX0_choose_15 (by decide +kernel) ?_
      refine lv_iload_n E.x E.b dX0_choose_17 rfl (lv_at hl 2 rfl) ?_
      refine n_mul E dX0_choose_18 ?_
      refine lv_iconst (v := nI (5)) E.x E.b dX0_choose_19 (by decide +kernel) ?_
      refine n_add E dX0_choose_20 ?_
      refine ld_value E hB (by omega) dX0_choose_21 ?_
      refine o_if_ge (tgt := 34) E dX0_choose_22 (by decide) (fun b22 hc22 => ?_) (fun hc22 => ?_)
      · skip
        refine lv_iload_n E.x E.b dX0_choose_34 rfl (lv_at hl 1 rfl) ?_
        refine lv_istore_n (lv' := [(1, .int (zI (a))), (0, .ref (h 0)), (2, .int (nI (j)))]) E.x E.b dX0_choose_35 rfl hl (by decide) rfl (fun ls hl => ?_)
        refine lv_iinc (v := nI j - 1) (lv' := [(2, .int (nI j - 1)), (1, .int (zI (a))), (0, .ref (h 0))]) E.x E.b dX0_choose_36 hl (k := 2) rfl (dec1 _) (by decide) rfl (fun ls hl => ?_)
        refine lv_goto (tgt := 7) E.x E.b dX0_choose_39 (by decide) ?_
        exact ih a ls H locs (by rw [← hq, chF_2 hc22]) (by omega) (lv_sub hl [2, 1, 0] rfl) hB
      · skip
        refine lv_bipush (v := nI (16)) E.x E.b dX0_choose_25 (by decide +kernel) ?_
        refine lv_iload_n E.x E.b dX0_choose_27 rfl (lv_at hl 2 rfl) ?_
        refine n_mul E dX0_choose_28 ?_
        refine lv_iconst (v := nI (5)) E.x E.b dX0_choose_29 (by decide +kernel) ?_
        refine n_add E dX0_choose_30 ?_
        refine lv_goto (tgt := 35) E.x E.b dX0_choose_31 (by decide) ?_
        refine lv_istore_n (lv' := [(1, .int (zI (some ((16 * j) + 5)))), (0, .ref (h 0)), (2, .int (nI (j)))]) E.x E.b dX0_choose_35 rfl hl (by decide) rfl (fun ls hl => ?_)
        refine lv_iinc (v := nI j - 1) (lv' := [(2, .int (nI j - 1)), (1, .int (zI (some ((16 * j) + 5)))), (0, .ref (h 0))]) E.x E.b dX0_choose_36 hl (k := 2) rfl (dec1 _) (by decide) rfl (fun ls hl => ?_)
        refine lv_goto (tgt := 7) E.x E.b dX0_choose_39 (by decide) ?_
        exact ih (some ((16 * j) + 5)) ls H locs (by rw [← hq, chF_1 hc22]) (by omega) (lv_sub hl [2, 1, 0] rfl) hB
  exact main (P.1 + 1) none ls _ _ rfl (Nat.le_refl _) (by rw [nI_pred]; exact lv_sub hl [2, 1, 0] rfl) hB
theorem k_choose {p : Program} {l : Launch} {e : Env} {R : Room} {s : State} {m : MethodId} {args : Array Value} {below : List Frame} {meth : Method} {c : Code} {H : Heap} {locs : List Loc} {cells slots : Nat} {Q : State → Prop} {cc : ByteArray} {pc nL : Nat} {ls : Array Slot} {rest : List Value} {D : va_G} {A : Nat → Prop} {h : Nat → Nat} {d : Nat → ClassId} {C : CS} {P : PS} {V : VS} {K : KS}  (E : ev p m c cc nL s args RX0 D (tyD d)) (hA : ∀ q : Nat, s.heap.size ≤ q → A q) (hB : wB D A s.heap (dk h d C P V K) H locs) (hls : ls.size = nL) (hRm : 2 ≤ R.frames ∧ 44 ≤ R.locals) (hfm : cells ≤ R.cells ∧ slots ≤ R.slots) (hrest : (rest.map fun v => v.category).sum ≤ 8) (hP : P.1 < 7) (hV : okV V) (hK : ∀ x, chooseAt V.1 P.1 = some x → K.1 < 12) (hdg : decode cc pc = .ok (.invokevirtual 115, 3)) (kk : ∀ (H1 : Heap) (locs1 : List Loc), wB D A s.heap (dk h d C P (chV V P.1) (chK V K P.1)) H1 locs1 → W p l e R s m args below meth c H1 locs1 cells slots Q (F0 m (pc + 3) ls (.int (bI (chooseAt V.1 P.1).isSome) :: rest))) : W p l e R s m args below meth c H locs cells slots Q (F0 m pc ls (.ref (h 0) :: rest)) :=
  r_calli (ci := 0) (q := (RX0, TX0, 17)) E hA hB hls 0 (m_choose l D h d C P V K  hP hV hK) rfl rfl q165 q167 qs13 q25 q168 (by decide +kernel) rfl ⟨rfl, rfl⟩ hRm hfm rfl hrest hdg kk
set_option maxHeartbeats 4000000 in
set_option maxRecDepth 100000 in
/-- goBack() -/
theorem m_goBack (l : Launch) (D : va_G) (h : Nat → Nat) (d : Nat → ClassId) (C : CS) (P : PS) (V : VS) (K : KS)  (hV : okV V) (hK : K.1 ≤ 11) (hK2 : ∀ j, j < K.1 → K.2.1 j < 112 ∧ K.2.2.1 j ≤ 112) : ctI l yX0_goBack cX0_goBack 3 (rmm 1 22) D (tyD d) (dk h d C P V K) (dk h d C P ((gbF K.1 V K).2.1) ((gbF K.1 V K).2.2)) [.ref (h 0)] .boolean (bI (gbF K.1 V K).1) := by
  refine mkI RX0 rfl (by decide) (Nat.le_of_ble_eq_true rfl) [(0, .ref (h 0))] rfl ?_
  intro p e s m below meth c A ls E hr hk hA hB hl
  refine lv_iconst (v := nI (0)) E.x E.b dX0_goBack_0 (by decide +kernel) ?_
  refine lv_istore_n (lv' := [(1, .int (nI (0))), (0, .ref (h 0))]) E.x E.b dX0_goBack_1 rfl hl (by decide) rfl (fun ls hl => ?_)
  have main : ∀ (k : Nat) (r : Nat) (V1 : VS) (ls : Array Slot) (H : Heap) (locs : List Loc), okV V1 → r + (k) ≤ 11 → k ≤ K.1 → gbF (k) V1 K = gbF K.1 V K → lv_has ls 3 [(0, .ref (h 0)), (1, .int (nI (r)))] → wB D A s.heap (dk h d C P V1 (k, K.2)) H locs → W p l e (rmm 1 22) s m ([.ref (h 0)] : List Value).toArray below meth c H locs 0 0 (qI below D (tyD d) A (dk h d C P ((gbF K.1 V K).2.1) ((gbF K.1 V K).2.2)) (bI (gbF K.1 V K).1) ([.ref (h 0)] : List Value).toArray s) (F0 m 2 ls []) := by
    intro k
    induction k with
    | zero =>
      intro r V1 ls H locs hV1 hr1 hkK hq hl hB
      refine lv_iload_n E.x E.b dX0_goBack_2 rfl (lv_at hl 1 rfl) ?_
      refine lv_bipush (v := nI (12)) E.x E.b dX0_goBack_3 (by decide +kernel) ?_
      refine n_icmp_ge (tgt := 113) E (by omega) (by omega) dX0_goBack_5 (by decide) (fun hc5 => absurd hc5 (by omega)) (fun hc5 => ?_)
      refine lv_aload_n E.x E.b dX0_goBack_8 rfl (lv_at hl 0 rfl) ?_
      refine gd_choices E hB dX0_goBack_9 ?_
      refine r_eq (y := nI (0)) rfl ?_
      refine n_if_le (tgt := 113) E (by omega) dX0_goBack_12 (by decide) (fun hc12 => ?_) (fun hc12 => absurd hc12 (by omega))
      refine lv_iconst (v := bI (false)) E.x E.b dX0_goBack_113 (by decide +kernel) ?_
      exact r_zret (x := false) E hr hk (hB.to (by rw [← hq]; rfl)) dX0_goBack_114 (by rw [← hq]; rfl)
    | succ k ih =>
      intro r V1 ls H locs hV1 hr1 hkK hq hl hB
      have hx := hK2 k (by omega)
      have hx1 := hx.1
      have hx2 := hx.2
      refine lv_iload_n E.x E.b dX0_goBack_2 rfl (lv_at hl 1 rfl) ?_
      refine lv_bipush (v := nI (12)) E.x E.b dX0_goBack_3 (by decide +kernel) ?_
      refine n_icmp_ge (tgt := 113) E (by omega) (by omega) dX0_goBack_5 (by decide) (fun hc5 => absurd hc5 (by omega)) (fun hc5 => ?_)
      refine lv_aload_n E.x E.b dX0_goBack_8 rfl (lv_at hl 0 rfl) ?_
      refine gd_choices E hB dX0_goBack_9 ?_
      refine r_eq (y := nI ((k + 1))) rfl ?_
      refine n_if_le (tgt := 113) E (by omega) dX0_goBack_12 (by decide) (fun hc12 => absurd hc12 (by omega)) (fun hc12 => ?_)
      refine lv_aload_n E.x E.b dX0_goBack_15 rfl (lv_at hl 0 rfl) ?_
      refine gd_choices E hB dX0_goBack_16 ?_
      refine r_eq (y := nI ((k + 1))) rfl ?_
      refine lv_iconst (v := nI (1)) E.x E.b dX0_goBack_19 (by decide +kernel) ?_
      refine n_sub E (by omega) dX0_goBack_20 ?_
      refine lv_istore_n (lv' := [(2, .int (nI (k))), (0, .ref (h 0)), (1, .int (nI (r)))]) E.x E.b dX0_goBack_21 rfl hl (by decide) rfl (fun ls hl => ?_)
      have inner : ∀ (j : Nat) (V2 : VS) (ls : Array Slot) (H : Heap) (locs : List Loc), okV V2 → V2.2.1 - K.2.2.1 k = j → undoV V2 (K.2.2.1 k) = undoV V1 (K.2.2.1 k) → lv_has ls 3 [(0, .ref (h 0)), (1, .int (nI (r))), (2, .int (nI (k)))] → wB D A s.heap (dk h d C P V2 (k + 1, K.2)) H locs → W p l e (rmm 1 22) s m ([.ref (h 0)] : List Value).toArray below meth c H locs 0 0 (qI below D (tyD d) A (dk h d C P ((gbF K.1 V K).2.1) ((gbF K.1 V K).2.2)) (bI (gbF K.1 V K).1) ([.ref (h 0)] : List Value).toArray s) (F0 m 22 ls []) := by
        intro j
        induction j with
        | zero =>
          intro V2 ls H locs hV2 hj hu hl hB
          have hle := hV2.le
          refine lv_aload_n E.x E.b dX0_goBack_22 rfl (lv_at hl 0 rfl) ?_
          refine gd_settled E hB dX0_goBack_23 ?_
          refine lv_aload_n E.x E.b dX0_goBack_26 rfl (lv_at hl 0 rfl) ?_
          refine gd_setBefore E hB dX0_goBack_27 ?_
          refine lv_iload_n E.x E.b dX0_goBack_30 rfl (lv_at hl 2 rfl) ?_
          refine ld_setBefore E hB (by omega) dX0_goBack_31 ?_
          refine r_eq (y := nI (K.2.2.1 (k))) rfl ?_
          refine n_icmp_le (tgt := 63) E (by omega) (by omega) dX0_goBack_32 (by decide) (fun hc32 => ?_) (fun hc32 => absurd hc32 (by omega))
          have hV3 : V2 = undoV V1 (K.2.2.1 k) := by rw [← hu, undo_0 (by omega)]
          subst hV3
          refine lv_aload_n E.x E.b dX0_goBack_63 rfl (lv_at hl 0 rfl) ?_
          refine gd_second E hB dX0_goBack_64 ?_
          refine lv_iload_n E.x E.b dX0_goBack_67 rfl (lv_at hl 2 rfl) ?_
          refine ld_second E hB (by omega) dX0_goBack_68 ?_
          refine r_eq (y := bI (K.2.2.2 (k))) rfl ?_
          refine b_if_ne (tgt := 97) E dX0_goBack_69 (by decide) (fun hc69 => ?_) (fun hc69 => ?_)
          · skip
            refine lv_aload_n E.x E.b dX0_goBack_97 rfl (lv_at hl 0 rfl) ?_
            refine lv_dup E.x E.b dX0_goBack_98 rfl ?_
            refine gd_choices E hB dX0_goBack_99 ?_
            refine r_eq (y := nI ((k + 1))) rfl ?_
            refine lv_iconst (v := nI (1)) E.x E.b dX0_goBack_102 (by decide +kernel) ?_
            refine n_sub E (by omega) dX0_goBack_103 ?_
            refine pd_choices E hB (n := ((k + 1) - 1)) dX0_goBack_104 (fun H locs (hB : wB D A s.heap (dk h d C P (undoV V1 (K.2.2.1 k)) (k, K.2)) H locs) => ?_)
            refine lv_iinc (v := nI (r + 1)) (lv' := [(1, .int (nI (r + 1))), (0, .ref (h 0)), (2, .int (nI (k)))]) E.x E.b dX0_goBack_107 hl (k := 1) rfl (inc1 _) (by decide) rfl (fun ls hl => ?_)
            refine lv_goto (tgt := 2) E.x E.b dX0_goBack_110 (by decide) ?_
            exact ih (r + 1) (undoV V1 (K.2.2.1 k)) ls H locs hV2 (by omega) (by omega) ((gbF_2 hc69).symm.trans hq) (lv_sub hl [1, 0] rfl) hB
          · skip
            refine lv_aload_n E.x E.b dX0_goBack_72 rfl (lv_at hl 0 rfl) ?_
            refine gd_second E hB dX0_goBack_73 ?_
            refine lv_iload_n E.x E.b dX0_goBack_76 rfl (lv_at hl 2 rfl) ?_
            refine lv_iconst (v := bI (true)) E.x E.b dX0_goBack_77 (by decide +kernel) ?_
            refine sd_second E hB (i := k) (x := true) (by omega) dX0_goBack_78 (fun H locs (hB : wB D A s.heap (dk h d C P (undoV V1 (K.2.2.1 k)) (k + 1, K.2.1, K.2.2.1, va_up K.2.2.2 k true)) H locs) => ?_)
            refine lv_aload_n E.x E.b dX0_goBack_79 rfl (lv_at hl 0 rfl) ?_
            refine lv_iconst (v := bI (false)) E.x E.b dX0_goBack_80 (by decide +kernel) ?_
            refine pd_broken E hB (b := false) dX0_goBack_81 (fun H locs (hB : wB D A s.heap (dk h d C P (unbr (undoV V1 (K.2.2.1 k))) (k + 1, K.2.1, K.2.2.1, va_up K.2.2.2 k true)) H locs) => ?_)
            refine lv_aload_n E.x E.b dX0_goBack_84 rfl (lv_at hl 0 rfl) ?_
            refine lv_aload_n E.x E.b dX0_goBack_85 rfl (lv_at hl 0 rfl) ?_
            refine gd_chosen E hB dX0_goBack_86 ?_
            refine lv_iload_n E.x E.b dX0_goBack_89 rfl (lv_at hl 2 rfl) ?_
            refine ld_chosen E hB (by omega) dX0_goBack_90 ?_
            refine r_eq (y := nI (K.2.1 (k))) rfl ?_
            refine lv_iconst (v := bI (true)) E.x E.b dX0_goBack_91 (by decide +kernel) ?_
            refine k_put E hA hB hl.1 ⟨Nat.le_of_ble_eq_true rfl, Nat.le_of_ble_eq_true rfl⟩ ⟨Nat.le_refl 0, Nat.le_refl 0⟩ (Nat.le_of_ble_eq_true rfl) hx1 hV2 dX0_goBack_92 (fun H locs (hB : wB D A s.heap (dk h d C P (putF (unbr (undoV V1 (K.2.2.1 k))) (K.2.1 (k)) true) (k + 1, K.2.1, K.2.2.1, va_up K.2.2.2 k true)) H locs) => ?_)
            refine lv_iconst (v := bI (true)) E.x E.b dX0_goBack_95 (by decide +kernel) ?_
            exact r_zret (x := true) E hr hk (hB.to (by rw [← hq, gbF_1 hc69])) dX0_goBack_96 (by rw [← hq, gbF_1 hc69])
        | succ j ihj =>
          intro V2 ls H locs hV2 hj hu hl hB
          have hle := hV2.le
          have ho := (hV2.2.1 (V2.2.1 - 1) (by omega)).1
          refine lv_aload_n E.x E.b dX0_goBack_22 rfl (lv_at hl 0 rfl) ?_
          refine gd_settled E hB dX0_goBack_23 ?_
          refine lv_aload_n E.x E.b dX0_goBack_26 rfl (lv_at hl 0 rfl) ?_
          refine gd_setBefore E hB dX0_goBack_27 ?_
          refine lv_iload_n E.x E.b dX0_goBack_30 rfl (lv_at hl 2 rfl) ?_
          refine ld_setBefore E hB (by omega) dX0_goBack_31 ?_
          refine r_eq (y := nI (K.2.2.1 (k))) rfl ?_
          refine n_icmp_le (tgt := 63) E (by omega) (by omega) dX0_goBack_32 (by decide) (fun hc32 => absurd hc32 (by omega)) (fun hc32 => ?_)
          refine lv_aload_n E.x E.b dX0_goBack_35 rfl (lv_at hl 0 rfl) ?_
          refine lv_dup E.x E.b dX0_goBack_36 rfl ?_
          refine gd_settled E hB dX0_goBack_37 ?_
          refine lv_iconst (v := nI (1)) E.x E.b dX0_goBack_40 (by decide +kernel) ?_
          refine n_sub E (by omega) dX0_goBack_41 ?_
          refine pd_settled E hB (n := (V2.2.1 - 1)) dX0_goBack_42 (fun H locs (hB : wB D A s.heap (dk h d C P (V2.1, V2.2.1 - 1, V2.2.2) (k + 1, K.2)) H locs) => ?_)
          refine lv_aload_n E.x E.b dX0_goBack_45 rfl (lv_at hl 0 rfl) ?_
          refine gd_value E hB dX0_goBack_46 ?_
          refine lv_aload_n E.x E.b dX0_goBack_49 rfl (lv_at hl 0 rfl) ?_
          refine gd_order E hB dX0_goBack_50 ?_
          refine lv_aload_n E.x E.b dX0_goBack_53 rfl (lv_at hl 0 rfl) ?_
          refine gd_settled E hB dX0_goBack_54 ?_
          refine r_eq (y := nI ((V2.2.1 - 1))) rfl ?_
          refine ld_order E hB (by show V2.2.1 - 1 < 112; omega) dX0_goBack_57 ?_
          refine r_eq (y := nI (V2.2.2.1 ((V2.2.1 - 1)))) rfl ?_
          refine lv_iconst (v := oI (none)) E.x E.b dX0_goBack_58 (by decide +kernel) ?_
          refine sd_value E hB (i := V2.2.2.1 ((V2.2.1 - 1))) (x := none) (ho) dX0_goBack_59 (fun H locs (hB : wB D A s.heap (dk h d C P (popV V2) (k + 1, K.2)) H locs) => ?_)
          refine lv_goto (tgt := 22) E.x E.b dX0_goBack_60 (by decide) ?_
          exact ihj (popV V2) ls H locs (hV2.pop (by omega)) (by show V2.2.1 - 1 - K.2.2.1 k = j; omega) (by rw [← hu, undo_1 (V := V2) (by omega)]) (lv_sub hl [0, 1, 2] rfl) hB
      exact inner (V1.2.1 - K.2.2.1 k) V1 ls _ _ hV1 rfl rfl (lv_sub hl [1, 2, 0] rfl) hB
  exact main K.1 0 V ls _ _ hV (by omega) (Nat.le_refl _) rfl (lv_sub hl [1, 0] rfl) hB
theorem k_goBack {p : Program} {l : Launch} {e : Env} {R : Room} {s : State} {m : MethodId} {args : Array Value} {below : List Frame} {meth : Method} {c : Code} {H : Heap} {locs : List Loc} {cells slots : Nat} {Q : State → Prop} {cc : ByteArray} {pc nL : Nat} {ls : Array Slot} {rest : List Value} {D : va_G} {A : Nat → Prop} {h : Nat → Nat} {d : Nat → ClassId} {C : CS} {P : PS} {V : VS} {K : KS}  (E : ev p m c cc nL s args RX0 D (tyD d)) (hA : ∀ q : Nat, s.heap.size ≤ q → A q) (hB : wB D A s.heap (dk h d C P V K) H locs) (hls : ls.size = nL) (hRm : 2 ≤ R.frames ∧ 44 ≤ R.locals) (hfm : cells ≤ R.cells ∧ slots ≤ R.slots) (hrest : (rest.map fun v => v.category).sum ≤ 8) (hV : okV V) (hK : K.1 ≤ 11) (hK2 : ∀ j, j < K.1 → K.2.1 j < 112 ∧ K.2.2.1 j ≤ 112) (hdg : decode cc pc = .ok (.invokevirtual 112, 3)) (kk : ∀ (H1 : Heap) (locs1 : List Loc), wB D A s.heap (dk h d C P ((gbF K.1 V K).2.1) ((gbF K.1 V K).2.2)) H1 locs1 → W p l e R s m args below meth c H1 locs1 cells slots Q (F0 m (pc + 3) ls (.int (bI (gbF K.1 V K).1) :: rest))) : W p l e R s m args below meth c H locs cells slots Q (F0 m pc ls (.ref (h 0) :: rest)) :=
  r_calli (ci := 0) (q := (RX0, TX0, 17)) E hA hB hls 0 (m_goBack l D h d C P V K  hV hK hK2) rfl rfl q161 q163 qs12 q25 q164 (by decide +kernel) rfl ⟨rfl, rfl⟩ hRm hfm rfl hrest hdg kk
end
section
/-! WALKS of the desk, third part: search and the public methods -/
set_option maxRecDepth 100000
theorem depthL_no {C : CS} {k i : Nat} {S : DS} (hi : i < k + 1) (h : (seekF C (i, true, false) S).1 = false) : depthL C (k + 1 - (i + 1)) (i + 1) (seekF C (i, true, false) S).2 = depthL C (k + 1 - i) i S := by
  rw [show k + 1 - i = (k + 1 - (i + 1)) + 1 by omega]
  show _ = (if _ then _ else _)
  rw [if_neg (by rw [h]; simp)]
theorem depthL_yes {C : CS} {k i : Nat} {S : DS} (hi : i < k + 1) (h : (seekF C (i, true, false) S).1 = true) : depthL C (k + 1 - i) i S = (some i, (seekF C (i, true, false) S).2) := by
  rw [show k + 1 - i = (k + 1 - (i + 1)) + 1 by omega]
  show (if _ then _ else _) = _
  rw [if_pos h]
theorem depthL_lt {C : CS} : ∀ (k i : Nat) (S : DS) (n : Nat), (depthL C k i S).1 = some n → n < i + k
  | 0, i, S, n, h => by cases h
  | k + 1, i, S, n, h => by
    have h : (if (seekF C (i, true, false) S).1 = true then (some i, (seekF C (i, true, false) S).2) else depthL C k (i + 1) (seekF C (i, true, false) S).2).1 = some n := h
    split at h
    · cases h; omega
    · have := depthL_lt k (i + 1) _ n h; omega
theorem depthD_some {C : CS} {x : Int32} {k : Nat} {S : DS} (h : inT x 0 7 = some k) : depthD C x S = depthL C (k + 1) 0 S := by unfold depthD; rw [h]
theorem depthD_none {C : CS} {x : Int32} {S : DS} (h : inT x 0 7 = none) : depthD C x S = (none, S) := by unfold depthD; rw [h]
theorem depthD_6 {C : CS} {S : DS} : depthD C (nI 6) S = depthL C 7 0 S := depthD_some (by decide +kernel)
theorem holdsD_some {C : CS} {x : Int32} {k : Nat} {S : DS} (h : inT x 0 7 = some k) : holdsD C x S = (some (!(seekF C (k, false, true) S).1), (seekF C (k, false, true) S).2) := by unfold holdsD; rw [h]
theorem holdsD_none {C : CS} {x : Int32} {S : DS} (h : inT x 0 7 = none) : holdsD C x S = (none, S) := by unfold holdsD; rw [h]
theorem proofL_1 {C : CS} {k : Nat} {S : DS} (hk : k < 7) (h : (seekF C (k, false, true) S).1 = false) : proofL C (7 - k) k S = (some k, (seekF C (k, false, true) S).2) := by
  rw [show 7 - k = (7 - (k + 1)) + 1 by omega]
  show (if _ then _ else _) = _
  rw [if_pos h]
theorem proofL_2 {C : CS} {k : Nat} {S : DS} (hk : k < 7) (h : (seekF C (k, false, true) S).1 = true) (h2 : (seekF C (k, true, false) (seekF C (k, false, true) S).2).1 = true) : proofL C (7 - k) k S = (none, (seekF C (k, true, false) (seekF C (k, false, true) S).2).2) := by
  rw [show 7 - k = (7 - (k + 1)) + 1 by omega]
  show (if _ then _ else (if _ then _ else _)) = _
  rw [if_neg (by rw [h]; simp), if_pos h2]
theorem proofL_3 {C : CS} {k : Nat} {S : DS} (hk : k < 7) (h : (seekF C (k, false, true) S).1 = true) (h2 : (seekF C (k, true, false) (seekF C (k, false, true) S).2).1 = false) : proofL C (7 - (k + 1)) (k + 1) (seekF C (k, true, false) (seekF C (k, false, true) S).2).2 = proofL C (7 - k) k S := by
  rw [show 7 - k = (7 - (k + 1)) + 1 by omega]
  show _ = (if _ then _ else (if _ then _ else _))
  rw [if_neg (by rw [h]; simp), if_neg (by rw [h2]; simp)]
theorem wit_lt (v : Nat → Option Bool) (i : Nat) : ∀ j, itr (witF v i) 1 j 0 < 2 ^ j
  | 0 => by show 0 < 1; omega
  | j + 1 => by
    have h := wit_lt v i j
    show itr (witF v i) 1 j 0 + bitN (v (16 * i + (1 + j))) * 2 ^ (1 + j - 1) < 2 ^ (j + 1)
    have h2 : bitN (v (16 * i + (1 + j))) ≤ 1 := by
      unfold bitN
      split <;> omega
    rw [show 1 + j - 1 = j by omega, Nat.pow_succ]
    rcases (show bitN (v (16 * i + (1 + j))) = 0 ∨ bitN (v (16 * i + (1 + j))) = 1 by omega) with e | e <;> rw [e] <;> omega
theorem wit_or {v : Nat → Option Bool} {i j : Nat} {b : Bool} (hj : j < 4) (h : v (16 * i + (1 + j)) = some b) : nI (itr (witF v i) 1 j 0) ||| (bI b <<< (nI ((1 + j) - 1) &&& 31)) = nI (witF v i (1 + j) (itr (witF v i) 1 j 0)) := by
  have hl := wit_lt v i j
  rw [show (1 + j) - 1 = j by omega, or_16 _ (Nat.lt_of_lt_of_le hl (by rcases (show j = 0 ∨ j = 1 ∨ j = 2 ∨ j = 3 by omega) with e | e | e | e <;> rw [e] <;> decide)) j hj b hl]
  unfold witF
  rw [h, show (1 + j) - 1 = j by omega]
  cases b <;> rfl
theorem atD_none {x : Int32} {S : DS} : atD x (none, S) = none := rfl
theorem atD_some {x : Int32} {n : Nat} {S : DS} : atD x (some n, S) = inT x 0 (n + 1) := rfl
theorem wrong_1 {P : PS} {V : VS} (h : V.2.2.2 = true) : wrongF P V = true := by unfold wrongF; rw [h]; rfl
theorem wrong_2 {P : PS} {V : VS} (h : P.2.2 = true) (h2 : repF V.1 P.1 = true) : wrongF P V = true := by unfold wrongF; rw [h, h2]; simp
theorem wrong_3 {P : PS} {V : VS} (h : V.2.2.2 = false) (h2 : P.2.2 = false) : wrongF P V = false := by unfold wrongF; rw [h, h2]; rfl
theorem wrong_4 {P : PS} {V : VS} (h : V.2.2.2 = false) (h2 : repF V.1 P.1 = false) : wrongF P V = false := by unfold wrongF; rw [h, h2]; simp
theorem chV_some {V : VS} {n a : Nat} (h : chooseAt V.1 n = some a) : chV V n = putF V a false := by unfold chV; rw [h]
theorem chV_none {V : VS} {n : Nat} (h : chooseAt V.1 n = none) : chV V n = V := by unfold chV; rw [h]
theorem chK_some {V : VS} {K : KS} {n a : Nat} (h : chooseAt V.1 n = some a) : chK V K n = pushK V K a := by unfold chK; rw [h]
theorem chK_none {V : VS} {K : KS} {n : Nat} (h : chooseAt V.1 n = none) : chK V K n = K := by unfold chK; rw [h]
theorem gateC_n1 {C : CS} {x y : Int32} (h : litOf C x = none) : gateC C x y = (none, C) := by unfold gateC; rw [h]
theorem gateC_n2 {C : CS} {x y : Int32} (h : litOf C y = none) : gateC C x y = (none, C) := by unfold gateC; rw [h]; cases litOf C x <;> rfl
theorem gateC_n3 {C : CS} {x y : Int32} (h : ¬ C.1 < 10) : gateC C x y = (none, C) := by unfold gateC; rcases litOf C x with _ | i <;> rcases litOf C y with _ | j <;> simp [h]
theorem gateC_y {C : CS} {x y : Int32} {i j : Nat} (h : litOf C x = some i) (h2 : litOf C y = some j) (h3 : C.1 < 10) : gateC C x y = (some (5 + (C.1 + 1)), (C.1 + 1, va_up C.2.1 (6 + C.1) i, va_up C.2.2.1 (6 + C.1) j, C.2.2.2)) := by unfold gateC; rw [h, h2]; simp [h3]
theorem nextC_n1 {C : CS} {x y : Int32} (h : inT x 1 5 = none) : nextC C x y = (none, C) := by unfold nextC; rw [h]
theorem nextC_n2 {C : CS} {x y : Int32} (h : litOf C y = none) : nextC C x y = (none, C) := by unfold nextC; rw [h]; cases inT x 1 5 <;> rfl
theorem nextC_y {C : CS} {x y : Int32} {k i : Nat} (h : inT x 1 5 = some k) (h2 : litOf C y = some i) : nextC C x y = (some (cN C k), (C.1, C.2.1, C.2.2.1, va_up C.2.2.2.1 k i, C.2.2.2.2)) := by unfold nextC; rw [h, h2]
theorem beginC_n1 {C : CS} {x y : Int32} (h : inT x 1 5 = none) : beginC C x y = (none, C) := by unfold beginC; rw [h]
theorem beginC_n2 {C : CS} {x y : Int32} (h : inT y 0 3 = none) : beginC C x y = (none, C) := by unfold beginC; rw [h]; cases inT x 1 5 <;> rfl
theorem beginC_y {C : CS} {x y : Int32} {k i : Nat} (h : inT x 1 5 = some k) (h2 : inT y 0 3 = some i) : beginC C x y = (some 0, (C.1, C.2.1, C.2.2.1, C.2.2.2.1, va_up C.2.2.2.2.1 k i, C.2.2.2.2.2)) := by unfold beginC; rw [h, h2]
theorem badC_n {C : CS} {x : Int32} (h : litOf C x = none) : badC C x = (none, C) := by unfold badC; rw [h]
theorem badC_y {C : CS} {x : Int32} {i : Nat} (h : litOf C x = some i) : badC C x = (some (cX C), (C.1, C.2.1, C.2.2.1, C.2.2.2.1, C.2.2.2.2.1, i)) := by unfold badC; rw [h]
theorem isS {α : Type} {o : Option α} (h : o.isSome = true) : ∃ a, o = some a := Option.isSome_iff_exists.mp h
theorem isN {α : Type} {o : Option α} (h : o.isSome = false) : o = none := by cases o; rfl; cases h
theorem lit_some {C : CS} (hC : okC C) {x : Int32} {i : Nat} (h : litOf C x = some i) : i < 2 * (6 + C.1) ∧ i < 32 ∧ x = nI i := by
  have := hC.1
  obtain ⟨-, h1, h2⟩ := inT_some h (by omega)
  exact ⟨h1, by omega, h2⟩
set_option maxHeartbeats 4000000 in
set_option maxRecDepth 100000 in
/-- isLiteral(x) -/
theorem m_isLiteral (l : Launch) (D : va_G) (h : Nat → Nat) (d : Nat → ClassId) (C : CS) (P : PS) (V : VS) (K : KS) (x : Int32) (hC : okC C) : ctI l yX0_isLiteral cX0_isLiteral 2 (rmm 0 0) D (tyD d) (dk h d C P V K) (dk h d C P V K) [.ref (h 0), .int (x)] .boolean (bI (litOf C x).isSome) := by
  refine mkI RX0 rfl (by decide) (Nat.le_of_ble_eq_true rfl) [(0, .ref (h 0)), (1, .int (x))] rfl ?_
  intro p e s m below meth c A ls E hr hk hA hB hl
  have hg := hC.1
  rcases hx : litOf C x with _ | i
  · skip
    refine lv_iload_n E.x E.b dX0_isLiteral_0 rfl (lv_at hl 1 rfl) ?_
    refine lv_if_lt (tgt := 21) E.x E.b dX0_isLiteral_1 (by decide) (fun hc1 => ?_) (fun hc1 => ?_)
    · skip
      refine lv_iconst (v := bI (false)) E.x E.b dX0_isLiteral_21 (by decide +kernel) ?_
      exact r_zret (x := false) E hr hk (hB) dX0_isLiteral_22 (rfl)
    · skip
      refine lv_iload_n E.x E.b dX0_isLiteral_4 rfl (lv_at hl 1 rfl) ?_
      refine lv_iconst (v := nI (2)) E.x E.b dX0_isLiteral_5 (by decide +kernel) ?_
      refine lv_bipush (v := nI (6)) E.x E.b dX0_isLiteral_6 (by decide +kernel) ?_
      refine lv_aload_n E.x E.b dX0_isLiteral_8 rfl (lv_at hl 0 rfl) ?_
      refine gd_gates E hB dX0_isLiteral_9 ?_
      refine n_add E dX0_isLiteral_12 ?_
      refine n_mul E dX0_isLiteral_13 ?_
      refine lv_icmp_ge (tgt := 21) E.x E.b dX0_isLiteral_14 (by decide) (fun hc14 => ?_) (fun hc14 => (dead_lt hx hc1 hc14 (by omega)).elim)
      refine lv_iconst (v := bI (false)) E.x E.b dX0_isLiteral_21 (by decide +kernel) ?_
      exact r_zret (x := false) E hr hk (hB) dX0_isLiteral_22 (rfl)
  · obtain ⟨hi, -, rfl⟩ := lit_some hC hx
    refine lv_iload_n E.x E.b dX0_isLiteral_0 rfl (lv_at hl 1 rfl) ?_
    refine lv_if_lt (tgt := 21) E.x E.b dX0_isLiteral_1 (by decide) (fun hc1 => absurd hc1 (nI_pos (by omega))) (fun hc1 => ?_)
    refine lv_iload_n E.x E.b dX0_isLiteral_4 rfl (lv_at hl 1 rfl) ?_
    refine lv_iconst (v := nI (2)) E.x E.b dX0_isLiteral_5 (by decide +kernel) ?_
    refine lv_bipush (v := nI (6)) E.x E.b dX0_isLiteral_6 (by decide +kernel) ?_
    refine lv_aload_n E.x E.b dX0_isLiteral_8 rfl (lv_at hl 0 rfl) ?_
    refine gd_gates E hB dX0_isLiteral_9 ?_
    refine n_add E dX0_isLiteral_12 ?_
    refine n_mul E dX0_isLiteral_13 ?_
    refine n_icmp_ge (tgt := 21) E (by omega) (by omega) dX0_isLiteral_14 (by decide) (fun hc14 => absurd hc14 (by omega)) (fun hc14 => ?_)
    refine lv_iconst (v := bI (true)) E.x E.b dX0_isLiteral_17 (by decide +kernel) ?_
    refine lv_goto (tgt := 22) E.x E.b dX0_isLiteral_18 (by decide) ?_
    exact r_zret (x := true) E hr hk (hB) dX0_isLiteral_22 (rfl)
theorem k_isLiteral {p : Program} {l : Launch} {e : Env} {R : Room} {s : State} {m : MethodId} {args : Array Value} {below : List Frame} {meth : Method} {c : Code} {H : Heap} {locs : List Loc} {cells slots : Nat} {Q : State → Prop} {cc : ByteArray} {pc nL : Nat} {ls : Array Slot} {rest : List Value} {D : va_G} {A : Nat → Prop} {h : Nat → Nat} {d : Nat → ClassId} {C : CS} {P : PS} {V : VS} {K : KS} {x : Int32} (E : ev p m c cc nL s args RX0 D (tyD d)) (hA : ∀ q : Nat, s.heap.size ≤ q → A q) (hB : wB D A s.heap (dk h d C P V K) H locs) (hls : ls.size = nL) (hRm : 1 ≤ R.frames ∧ 21 ≤ R.locals) (hfm : cells ≤ R.cells ∧ slots ≤ R.slots) (hrest : (rest.map fun v => v.category).sum ≤ 8) (hC : okC C) (hdg : decode cc pc = .ok (.invokevirtual 38, 3)) (kk : ∀ (H1 : Heap) (locs1 : List Loc), wB D A s.heap (dk h d C P V K) H1 locs1 → W p l e R s m args below meth c H1 locs1 cells slots Q (F0 m (pc + 3) ls (.int (bI (litOf C x).isSome) :: rest))) : W p l e R s m args below meth c H locs cells slots Q (F0 m pc ls (.int (x) :: .ref (h 0) :: rest)) :=
  r_calli (ci := 0) (q := (RX0, TX0, 17)) E hA hB hls 1 (m_isLiteral l D h d C P V K x hC) rfl rfl q93 q95 qs0 q25 q96 (by decide +kernel) rfl ⟨rfl, rfl⟩ hRm hfm rfl hrest hdg kk
set_option maxHeartbeats 4000000 in
set_option maxRecDepth 100000 in
/-- gate(x, y) -/
theorem m_gate (l : Launch) (D : va_G) (h : Nat → Nat) (d : Nat → ClassId) (C : CS) (P : PS) (V : VS) (K : KS) (x y : Int32) (hC : okC C) : ctI l yX0_gate cX0_gate 3 (rmm 1 21) D (tyD d) (dk h d C P V K) (dk h d ((gateC C x y).2) P V K) [.ref (h 0), .int (x), .int (y)] .int (zI (gateC C x y).1) := by
  refine mkI RX0 rfl (by decide) (Nat.le_of_ble_eq_true rfl) [(0, .ref (h 0)), (1, .int (x)), (2, .int (y))] rfl ?_
  intro p e s m below meth c A ls E hr hk hA hB hl
  have hg := hC.1
  refine lv_aload_n E.x E.b dX0_gate_0 rfl (lv_at hl 0 rfl) ?_
  refine lv_iload_n E.x E.b dX0_gate_1 rfl (lv_at hl 1 rfl) ?_
  refine k_isLiteral E hA hB hl.1 ⟨Nat.le_of_ble_eq_true rfl, Nat.le_of_ble_eq_true rfl⟩ ⟨Nat.le_refl 0, Nat.le_refl 0⟩ (Nat.le_of_ble_eq_true rfl) hC dX0_gate_2 (fun H locs (hB : wB D A s.heap (dk h d C P V K) H locs) => ?_)
  refine b_if_eq (tgt := 25) E dX0_gate_5 (by decide) (fun hc5 => ?_) (fun hc5 => ?_)
  · skip
    refine lv_iconst (v := zI (none)) E.x E.b dX0_gate_25 (by decide +kernel) ?_
    exact r_iret (x := zI (none)) E hr hk (hB.to (by rw [gateC_n1 (isN hc5)])) dX0_gate_26 (by rw [gateC_n1 (isN hc5)])
  · skip
    refine lv_aload_n E.x E.b dX0_gate_8 rfl (lv_at hl 0 rfl) ?_
    refine lv_iload_n E.x E.b dX0_gate_9 rfl (lv_at hl 2 rfl) ?_
    refine k_isLiteral E hA hB hl.1 ⟨Nat.le_of_ble_eq_true rfl, Nat.le_of_ble_eq_true rfl⟩ ⟨Nat.le_refl 0, Nat.le_refl 0⟩ (Nat.le_of_ble_eq_true rfl) hC dX0_gate_10 (fun H locs (hB : wB D A s.heap (dk h d C P V K) H locs) => ?_)
    refine b_if_eq (tgt := 25) E dX0_gate_13 (by decide) (fun hc13 => ?_) (fun hc13 => ?_)
    · skip
      refine lv_iconst (v := zI (none)) E.x E.b dX0_gate_25 (by decide +kernel) ?_
      exact r_iret (x := zI (none)) E hr hk (hB.to (by rw [gateC_n2 (isN hc13)])) dX0_gate_26 (by rw [gateC_n2 (isN hc13)])
    · skip
      refine lv_aload_n E.x E.b dX0_gate_16 rfl (lv_at hl 0 rfl) ?_
      refine gd_gates E hB dX0_gate_17 ?_
      refine lv_bipush (v := nI (10)) E.x E.b dX0_gate_20 (by decide +kernel) ?_
      refine n_icmp_lt (tgt := 27) E (by omega) (by omega) dX0_gate_22 (by decide) (fun hc22 => ?_) (fun hc22 => ?_)
      · skip
        obtain ⟨i, hi⟩ := isS hc5
        obtain ⟨hi1, hi2, rfl⟩ := lit_some hC hi
        obtain ⟨j, hj⟩ := isS hc13
        obtain ⟨hj1, hj2, rfl⟩ := lit_some hC hj
        refine lv_aload_n E.x E.b dX0_gate_27 rfl (lv_at hl 0 rfl) ?_
        refine gd_left E hB dX0_gate_28 ?_
        refine lv_bipush (v := nI (6)) E.x E.b dX0_gate_31 (by decide +kernel) ?_
        refine lv_aload_n E.x E.b dX0_gate_33 rfl (lv_at hl 0 rfl) ?_
        refine gd_gates E hB dX0_gate_34 ?_
        refine n_add E dX0_gate_37 ?_
        refine lv_iload_n E.x E.b dX0_gate_38 rfl (lv_at hl 1 rfl) ?_
        refine sd_left E hB (i := 6 + C.1) (x := i) (by omega) dX0_gate_39 (fun H locs (hB : wB D A s.heap (dk h d (C.1, va_up C.2.1 (6 + C.1) i, C.2.2) P V K) H locs) => ?_)
        refine lv_aload_n E.x E.b dX0_gate_40 rfl (lv_at hl 0 rfl) ?_
        refine gd_right E hB dX0_gate_41 ?_
        refine lv_bipush (v := nI (6)) E.x E.b dX0_gate_44 (by decide +kernel) ?_
        refine lv_aload_n E.x E.b dX0_gate_46 rfl (lv_at hl 0 rfl) ?_
        refine gd_gates E hB dX0_gate_47 ?_
        refine r_eq (y := nI (C.1)) rfl ?_
        refine n_add E dX0_gate_50 ?_
        refine lv_iload_n E.x E.b dX0_gate_51 rfl (lv_at hl 2 rfl) ?_
        refine sd_right E hB (i := 6 + C.1) (x := j) (by omega) dX0_gate_52 (fun H locs (hB : wB D A s.heap (dk h d (C.1, (va_up C.2.1 (6 + C.1) i), va_up C.2.2.1 (6 + C.1) j, C.2.2.2) P V K) H locs) => ?_)
        refine lv_aload_n E.x E.b dX0_gate_53 rfl (lv_at hl 0 rfl) ?_
        refine lv_dup E.x E.b dX0_gate_54 rfl ?_
        refine gd_gates E hB dX0_gate_55 ?_
        refine r_eq (y := nI (C.1)) rfl ?_
        refine lv_iconst (v := nI (1)) E.x E.b dX0_gate_58 (by decide +kernel) ?_
        refine n_add E dX0_gate_59 ?_
        refine pd_gates E hB (n := (C.1 + 1)) dX0_gate_60 (fun H locs (hB : wB D A s.heap (dk h d (C.1 + 1, va_up C.2.1 (6 + C.1) i, va_up C.2.2.1 (6 + C.1) j, C.2.2.2) P V K) H locs) => ?_)
        refine lv_iconst (v := nI (5)) E.x E.b dX0_gate_63 (by decide +kernel) ?_
        refine lv_aload_n E.x E.b dX0_gate_64 rfl (lv_at hl 0 rfl) ?_
        refine gd_gates E hB dX0_gate_65 ?_
        refine r_eq (y := nI ((C.1 + 1))) rfl ?_
        refine n_add E dX0_gate_68 ?_
        exact r_iret (x := nI (5 + (C.1 + 1))) E hr hk (hB.to (by rw [gateC_y hi hj (by omega)])) dX0_gate_69 (by rw [gateC_y hi hj (by omega)]; rfl)
      · skip
        refine lv_iconst (v := zI (none)) E.x E.b dX0_gate_25 (by decide +kernel) ?_
        exact r_iret (x := zI (none)) E hr hk (hB.to (by rw [gateC_n3 (by omega)])) dX0_gate_26 (by rw [gateC_n3 (by omega)])
set_option maxHeartbeats 4000000 in
set_option maxRecDepth 100000 in
/-- next(x, y) -/
theorem m_next (l : Launch) (D : va_G) (h : Nat → Nat) (d : Nat → ClassId) (C : CS) (P : PS) (V : VS) (K : KS) (x y : Int32) (hC : okC C) : ctI l yX0_next cX0_next 4 (rmm 1 21) D (tyD d) (dk h d C P V K) (dk h d ((nextC C x y).2) P V K) [.ref (h 0), .int (x), .int (y)] .int (zI (nextC C x y).1) := by
  refine mkI RX0 rfl (by decide) (Nat.le_of_ble_eq_true rfl) [(0, .ref (h 0)), (1, .int (x)), (2, .int (y))] rfl ?_
  intro p e s m below meth c A ls E hr hk hA hB hl
  rcases hx : inT x 1 5 with _ | k
  · skip
    refine lv_iload_n E.x E.b dX0_next_0 rfl (lv_at hl 1 rfl) ?_
    refine lv_iconst (v := nI (1)) E.x E.b dX0_next_1 (by decide +kernel) ?_
    refine lv_icmp_lt (tgt := 18) E.x E.b dX0_next_2 (by decide) (fun hc2 => ?_) (fun hc2 => ?_)
    · skip
      refine lv_iconst (v := zI (none)) E.x E.b dX0_next_18 (by decide +kernel) ?_
      exact r_iret (x := zI (none)) E hr hk (hB.to (by rw [nextC_n1 hx])) dX0_next_19 (by rw [nextC_n1 hx])
    · skip
      refine lv_iload_n E.x E.b dX0_next_5 rfl (lv_at hl 1 rfl) ?_
      refine lv_iconst (v := nI (4)) E.x E.b dX0_next_6 (by decide +kernel) ?_
      refine lv_icmp_gt (tgt := 18) E.x E.b dX0_next_7 (by decide) (fun hc7 => ?_) (fun hc7 => (dead_la hx hc2 hc7).elim)
      refine lv_iconst (v := zI (none)) E.x E.b dX0_next_18 (by decide +kernel) ?_
      exact r_iret (x := zI (none)) E hr hk (hB.to (by rw [nextC_n1 hx])) dX0_next_19 (by rw [nextC_n1 hx])
  · obtain ⟨hk1, hk2, rfl⟩ := inT_some hx (by decide)
    refine lv_iload_n E.x E.b dX0_next_0 rfl (lv_at hl 1 rfl) ?_
    refine lv_iconst (v := nI (1)) E.x E.b dX0_next_1 (by decide +kernel) ?_
    refine n_icmp_lt (tgt := 18) E (by omega) (by omega) dX0_next_2 (by decide) (fun hc2 => absurd hc2 (by omega)) (fun hc2 => ?_)
    refine lv_iload_n E.x E.b dX0_next_5 rfl (lv_at hl 1 rfl) ?_
    refine lv_iconst (v := nI (4)) E.x E.b dX0_next_6 (by decide +kernel) ?_
    refine n_icmp_gt (tgt := 18) E (by omega) (by omega) dX0_next_7 (by decide) (fun hc7 => absurd hc7 (by omega)) (fun hc7 => ?_)
    refine lv_aload_n E.x E.b dX0_next_10 rfl (lv_at hl 0 rfl) ?_
    refine lv_iload_n E.x E.b dX0_next_11 rfl (lv_at hl 2 rfl) ?_
    refine k_isLiteral E hA hB hl.1 ⟨Nat.le_of_ble_eq_true rfl, Nat.le_of_ble_eq_true rfl⟩ ⟨Nat.le_refl 0, Nat.le_refl 0⟩ (Nat.le_of_ble_eq_true rfl) hC dX0_next_12 (fun H locs (hB : wB D A s.heap (dk h d C P V K) H locs) => ?_)
    refine b_if_ne (tgt := 20) E dX0_next_15 (by decide) (fun hc15 => ?_) (fun hc15 => ?_)
    · skip
      obtain ⟨i, hi⟩ := isS hc15
      obtain ⟨hi1, hi2, rfl⟩ := lit_some hC hi
      refine lv_aload_n E.x E.b dX0_next_20 rfl (lv_at hl 0 rfl) ?_
      refine gd_nextOf E hB dX0_next_21 ?_
      refine lv_iload_n E.x E.b dX0_next_24 rfl (lv_at hl 1 rfl) ?_
      refine ld_nextOf E hB (by omega) dX0_next_25 ?_
      refine lv_istore_n (lv' := [(3, .int (nI (cN C (k)))), (0, .ref (h 0)), (1, .int (nI (k))), (2, .int (nI (i)))]) E.x E.b dX0_next_26 rfl hl (by decide) rfl (fun ls hl => ?_)
      refine lv_aload_n E.x E.b dX0_next_27 rfl (lv_at hl 1 rfl) ?_
      refine gd_nextOf E hB dX0_next_28 ?_
      refine lv_iload_n E.x E.b dX0_next_31 rfl (lv_at hl 2 rfl) ?_
      refine lv_iload_n E.x E.b dX0_next_32 rfl (lv_at hl 3 rfl) ?_
      refine sd_nextOf E hB (i := k) (x := i) (by omega) dX0_next_33 (fun H locs (hB : wB D A s.heap (dk h d (C.1, C.2.1, C.2.2.1, va_up C.2.2.2.1 k i, C.2.2.2.2) P V K) H locs) => ?_)
      refine lv_iload_n E.x E.b dX0_next_34 rfl (lv_at hl 0 rfl) ?_
      exact r_iret (x := nI (cN C (k))) E hr hk (hB.to (by rw [nextC_y hx hi])) dX0_next_35 (by rw [nextC_y hx hi]; rfl)
    · skip
      refine lv_iconst (v := zI (none)) E.x E.b dX0_next_18 (by decide +kernel) ?_
      exact r_iret (x := zI (none)) E hr hk (hB.to (by rw [nextC_n2 (isN hc15)])) dX0_next_19 (by rw [nextC_n2 (isN hc15)])
set_option maxHeartbeats 4000000 in
set_option maxRecDepth 100000 in
/-- begin(x, y) -/
theorem m_begin (l : Launch) (D : va_G) (h : Nat → Nat) (d : Nat → ClassId) (C : CS) (P : PS) (V : VS) (K : KS) (x y : Int32)  : ctI l yX0_begin cX0_begin 3 (rmm 0 0) D (tyD d) (dk h d C P V K) (dk h d ((beginC C x y).2) P V K) [.ref (h 0), .int (x), .int (y)] .int (zI (beginC C x y).1) := by
  refine mkI RX0 rfl (by decide) (Nat.le_of_ble_eq_true rfl) [(0, .ref (h 0)), (1, .int (x)), (2, .int (y))] rfl ?_
  intro p e s m below meth c A ls E hr hk hA hB hl
  rcases hx : inT x 1 5 with _ | k
  · skip
    refine lv_iload_n E.x E.b dX0_begin_0 rfl (lv_at hl 1 rfl) ?_
    refine lv_iconst (v := nI (1)) E.x E.b dX0_begin_1 (by decide +kernel) ?_
    refine lv_icmp_lt (tgt := 19) E.x E.b dX0_begin_2 (by decide) (fun hc2 => ?_) (fun hc2 => ?_)
    · skip
      refine lv_iconst (v := zI (none)) E.x E.b dX0_begin_19 (by decide +kernel) ?_
      exact r_iret (x := zI (none)) E hr hk (hB.to (by rw [beginC_n1 hx])) dX0_begin_20 (by rw [beginC_n1 hx])
    · skip
      refine lv_iload_n E.x E.b dX0_begin_5 rfl (lv_at hl 1 rfl) ?_
      refine lv_iconst (v := nI (4)) E.x E.b dX0_begin_6 (by decide +kernel) ?_
      refine lv_icmp_gt (tgt := 19) E.x E.b dX0_begin_7 (by decide) (fun hc7 => ?_) (fun hc7 => (dead_la hx hc2 hc7).elim)
      refine lv_iconst (v := zI (none)) E.x E.b dX0_begin_19 (by decide +kernel) ?_
      exact r_iret (x := zI (none)) E hr hk (hB.to (by rw [beginC_n1 hx])) dX0_begin_20 (by rw [beginC_n1 hx])
  · obtain ⟨hk1, hk2, rfl⟩ := inT_some hx (by decide)
    rcases hy : inT y 0 3 with _ | i
    · skip
      refine lv_iload_n E.x E.b dX0_begin_0 rfl (lv_at hl 1 rfl) ?_
      refine lv_iconst (v := nI (1)) E.x E.b dX0_begin_1 (by decide +kernel) ?_
      refine n_icmp_lt (tgt := 19) E (by omega) (by omega) dX0_begin_2 (by decide) (fun hc2 => absurd hc2 (by omega)) (fun hc2 => ?_)
      refine lv_iload_n E.x E.b dX0_begin_5 rfl (lv_at hl 1 rfl) ?_
      refine lv_iconst (v := nI (4)) E.x E.b dX0_begin_6 (by decide +kernel) ?_
      refine n_icmp_gt (tgt := 19) E (by omega) (by omega) dX0_begin_7 (by decide) (fun hc7 => absurd hc7 (by omega)) (fun hc7 => ?_)
      refine lv_iload_n E.x E.b dX0_begin_10 rfl (lv_at hl 2 rfl) ?_
      refine lv_if_lt (tgt := 19) E.x E.b dX0_begin_11 (by decide) (fun hc11 => ?_) (fun hc11 => ?_)
      · skip
        refine lv_iconst (v := zI (none)) E.x E.b dX0_begin_19 (by decide +kernel) ?_
        exact r_iret (x := zI (none)) E hr hk (hB.to (by rw [beginC_n2 hy])) dX0_begin_20 (by rw [beginC_n2 hy])
      · skip
        refine lv_iload_n E.x E.b dX0_begin_14 rfl (lv_at hl 2 rfl) ?_
        refine lv_iconst (v := nI (2)) E.x E.b dX0_begin_15 (by decide +kernel) ?_
        refine lv_icmp_le (tgt := 21) E.x E.b dX0_begin_16 (by decide) (fun hc16 => (dead_le 2 hy hc11 hc16 (by decide) (by decide)).elim) (fun hc16 => ?_)
        refine lv_iconst (v := zI (none)) E.x E.b dX0_begin_19 (by decide +kernel) ?_
        exact r_iret (x := zI (none)) E hr hk (hB.to (by rw [beginC_n2 hy])) dX0_begin_20 (by rw [beginC_n2 hy])
    · obtain ⟨-, hi2, rfl⟩ := inT_some hy (by decide)
      refine lv_iload_n E.x E.b dX0_begin_0 rfl (lv_at hl 1 rfl) ?_
      refine lv_iconst (v := nI (1)) E.x E.b dX0_begin_1 (by decide +kernel) ?_
      refine n_icmp_lt (tgt := 19) E (by omega) (by omega) dX0_begin_2 (by decide) (fun hc2 => absurd hc2 (by omega)) (fun hc2 => ?_)
      refine lv_iload_n E.x E.b dX0_begin_5 rfl (lv_at hl 1 rfl) ?_
      refine lv_iconst (v := nI (4)) E.x E.b dX0_begin_6 (by decide +kernel) ?_
      refine n_icmp_gt (tgt := 19) E (by omega) (by omega) dX0_begin_7 (by decide) (fun hc7 => absurd hc7 (by omega)) (fun hc7 => ?_)
      refine lv_iload_n E.x E.b dX0_begin_10 rfl (lv_at hl 2 rfl) ?_
      refine lv_if_lt (tgt := 19) E.x E.b dX0_begin_11 (by decide) (fun hc11 => absurd hc11 (nI_pos (by omega))) (fun hc11 => ?_)
      refine lv_iload_n E.x E.b dX0_begin_14 rfl (lv_at hl 2 rfl) ?_
      refine lv_iconst (v := nI (2)) E.x E.b dX0_begin_15 (by decide +kernel) ?_
      refine n_icmp_le (tgt := 21) E (by omega) (by omega) dX0_begin_16 (by decide) (fun hc16 => ?_) (fun hc16 => absurd hc16 (by omega))
      refine lv_aload_n E.x E.b dX0_begin_21 rfl (lv_at hl 0 rfl) ?_
      refine gd_beginning E hB dX0_begin_22 ?_
      refine lv_iload_n E.x E.b dX0_begin_25 rfl (lv_at hl 1 rfl) ?_
      refine lv_iload_n E.x E.b dX0_begin_26 rfl (lv_at hl 2 rfl) ?_
      refine sd_beginning E hB (i := k) (x := i) (by omega) dX0_begin_27 (fun H locs (hB : wB D A s.heap (dk h d (C.1, C.2.1, C.2.2.1, C.2.2.2.1, va_up C.2.2.2.2.1 k i, C.2.2.2.2.2) P V K) H locs) => ?_)
      refine lv_iconst (v := nI (0)) E.x E.b dX0_begin_28 (by decide +kernel) ?_
      exact r_iret (x := nI (0)) E hr hk (hB.to (by rw [beginC_y hx hy])) dX0_begin_29 (by rw [beginC_y hx hy]; rfl)
set_option maxHeartbeats 4000000 in
set_option maxRecDepth 100000 in
/-- bad(x) -/
theorem m_bad (l : Launch) (D : va_G) (h : Nat → Nat) (d : Nat → ClassId) (C : CS) (P : PS) (V : VS) (K : KS) (x : Int32) (hC : okC C) : ctI l yX0_bad cX0_bad 3 (rmm 1 21) D (tyD d) (dk h d C P V K) (dk h d ((badC C x).2) P V K) [.ref (h 0), .int (x)] .int (zI (badC C x).1) := by
  refine mkI RX0 rfl (by decide) (Nat.le_of_ble_eq_true rfl) [(0, .ref (h 0)), (1, .int (x))] rfl ?_
  intro p e s m below meth c A ls E hr hk hA hB hl
  refine lv_aload_n E.x E.b dX0_bad_0 rfl (lv_at hl 0 rfl) ?_
  refine lv_iload_n E.x E.b dX0_bad_1 rfl (lv_at hl 1 rfl) ?_
  refine k_isLiteral E hA hB hl.1 ⟨Nat.le_of_ble_eq_true rfl, Nat.le_of_ble_eq_true rfl⟩ ⟨Nat.le_refl 0, Nat.le_refl 0⟩ (Nat.le_of_ble_eq_true rfl) hC dX0_bad_2 (fun H locs (hB : wB D A s.heap (dk h d C P V K) H locs) => ?_)
  refine b_if_ne (tgt := 10) E dX0_bad_5 (by decide) (fun hc5 => ?_) (fun hc5 => ?_)
  · skip
    obtain ⟨i, hi⟩ := isS hc5
    obtain ⟨hi1, hi2, rfl⟩ := lit_some hC hi
    refine lv_aload_n E.x E.b dX0_bad_10 rfl (lv_at hl 0 rfl) ?_
    refine gd_badLiteral E hB dX0_bad_11 ?_
    refine lv_istore_n (lv' := [(2, .int (nI (cX C))), (0, .ref (h 0)), (1, .int (nI (i)))]) E.x E.b dX0_bad_14 rfl hl (by decide) rfl (fun ls hl => ?_)
    refine lv_aload_n E.x E.b dX0_bad_15 rfl (lv_at hl 1 rfl) ?_
    refine lv_iload_n E.x E.b dX0_bad_16 rfl (lv_at hl 2 rfl) ?_
    refine pd_badLiteral E hB (n := i) dX0_bad_17 (fun H locs (hB : wB D A s.heap (dk h d (C.1, C.2.1, C.2.2.1, C.2.2.2.1, C.2.2.2.2.1, i) P V K) H locs) => ?_)
    refine lv_iload_n E.x E.b dX0_bad_20 rfl (lv_at hl 0 rfl) ?_
    exact r_iret (x := nI (cX C)) E hr hk (hB.to (by rw [badC_y hi])) dX0_bad_21 (by rw [badC_y hi]; rfl)
  · skip
    refine lv_iconst (v := zI (none)) E.x E.b dX0_bad_8 (by decide +kernel) ?_
    exact r_iret (x := zI (none)) E hr hk (hB.to (by rw [badC_n (isN hc5)])) dX0_bad_9 (by rw [badC_n (isN hc5)])
set_option maxHeartbeats 4000000 in
set_option maxRecDepth 100000 in
/-- search(n, fb, df) -/
theorem m_search (l : Launch) (D : va_G) (h : Nat → Nat) (d : Nat → ClassId) (C : CS) (P : PS) (V : VS) (K : KS) (n : Nat) (fb df : Bool) (hC : okC C) (hS : SOK C) (hn : n < 7) : ctI l yX0_search cX0_search 6 (rmm 5 118) D (tyD d) (dk h d C P V K) (dk h d C (n, fb, df) ((searchF C (n, fb, df) V K).2.1) ((searchF C (n, fb, df) V K).2.2)) [.ref (h 0), .int (nI (n)), .int (bI (fb)), .int (bI (df))] .boolean (bI (searchF C (n, fb, df) V K).1) := by
  refine mkI RX0 rfl (by decide) (Nat.le_of_ble_eq_true rfl) [(0, .ref (h 0)), (1, .int (nI (n))), (2, .int (bI (fb))), (3, .int (bI (df)))] rfl ?_
  intro p e s m below meth c A ls E hr hk hA hB hl
  obtain ⟨I, hI0, hI1, hI2, hI3⟩ := hS (n, fb, df) V K hn
  have hVo := okV.openV V hn
  refine lv_aload_n E.x E.b dX0_search_0 rfl (lv_at hl 0 rfl) ?_
  refine lv_iload_n E.x E.b dX0_search_1 rfl (lv_at hl 2 rfl) ?_
  refine pd_fromBeginning E hB (b := fb) dX0_search_2 (fun H locs (hB : wB D A s.heap (dk h d C (P.1, fb, P.2.2) V K) H locs) => ?_)
  refine lv_aload_n E.x E.b dX0_search_5 rfl (lv_at hl 0 rfl) ?_
  refine lv_iload_n E.x E.b dX0_search_6 rfl (lv_at hl 3 rfl) ?_
  refine pd_different E hB (b := df) dX0_search_7 (fun H locs (hB : wB D A s.heap (dk h d C (P.1, fb, df) V K) H locs) => ?_)
  refine lv_aload_n E.x E.b dX0_search_10 rfl (lv_at hl 0 rfl) ?_
  refine lv_iload_n E.x E.b dX0_search_11 rfl (lv_at hl 1 rfl) ?_
  refine k_open E hA hB hl.1 ⟨Nat.le_of_ble_eq_true rfl, Nat.le_of_ble_eq_true rfl⟩ ⟨Nat.le_refl 0, Nat.le_refl 0⟩ (Nat.le_of_ble_eq_true rfl) hn dX0_search_12 (fun H locs (hB : wB D A s.heap (dk h d C (n, fb, df) (openV V n) (0, K.2)) H locs) => ?_)
  refine lv_aload_n E.x E.b dX0_search_15 rfl (lv_at hl 0 rfl) ?_
  refine k_demand E hA hB hl.1 ⟨Nat.le_of_ble_eq_true rfl, Nat.le_of_ble_eq_true rfl⟩ ⟨Nat.le_refl 0, Nat.le_refl 0⟩ (Nat.le_of_ble_eq_true rfl) hC hn hVo dX0_search_16 (fun H locs (hB : wB D A s.heap (dk h d C (n, fb, df) (demandF C (n, fb, df) (openV V n)) (0, K.2)) H locs) => ?_)
  refine lv_iconst (v := nI (0)) E.x E.b dX0_search_19 (by decide +kernel) ?_
  refine lv_istore (lv' := [(4, .int (nI (0))), (0, .ref (h 0)), (1, .int (nI (n))), (2, .int (bI (fb))), (3, .int (bI (df)))]) E.x E.b dX0_search_20 hl (by decide) rfl (fun ls hl => ?_)
  refine upL (N := 5000) (fun r => ∀ (V1 : VS) (K1 : KS) (ls : Array Slot) (H : Heap) (locs : List Loc), I V1 K1 → srch C (n, fb, df) (5000 - r) V1 K1 = searchF C (n, fb, df) V K → lv_has ls 6 [(0, .ref (h 0)), (1, .int (nI (n))), (2, .int (bI (fb))), (3, .int (bI (df))), (4, .int (nI (r)))] → wB D A s.heap (dk h d C (n, fb, df) V1 K1) H locs → W p l e (rmm 5 118) s m ([.ref (h 0), .int (nI (n)), .int (bI (fb)), .int (bI (df))] : List Value).toArray below meth c H locs 0 0 (qI below D (tyD d) A (dk h d C (n, fb, df) ((searchF C (n, fb, df) V K).2.1) ((searchF C (n, fb, df) V K).2.2)) (bI (searchF C (n, fb, df) V K).1) ([.ref (h 0), .int (nI (n)), .int (bI (fb)), .int (bI (df))] : List Value).toArray s) (F0 m 22 ls [])) ?_ 0 (Nat.zero_le _) _ _ ls _ _ hI0 rfl (lv_sub hl [1, 2, 3, 4, 0] rfl) hB
  intro r hir ih V1 K1 ls H locs hi1 hq hl hB
  obtain ⟨hV1, hK1, hK2⟩ := hI1 V1 K1 hi1
  refine lv_iload E.x E.b dX0_search_22 (lv_at hl 4 rfl) ?_
  refine lv_sipush (v := nI (5000)) E.x E.b dX0_search_24 (by decide +kernel) ?_
  refine n_icmp_ge (tgt := 91) E (by omega) (by omega) dX0_search_27 (by decide) (fun hc27 => ?_) (fun hc27 => ?_)
  · skip
    refine lv_iconst (v := bI (false)) E.x E.b dX0_search_91 (by decide +kernel) ?_
    exact r_zret (x := false) E hr hk (hB.to (by rw [← hq, show 5000 - r = 0 by omega]; rfl)) dX0_search_92 (by rw [← hq, show 5000 - r = 0 by omega]; rfl)
  · skip
    refine lv_aload_n E.x E.b dX0_search_30 rfl (lv_at hl 0 rfl) ?_
    refine k_follow E hA hB hl.1 ⟨Nat.le_of_ble_eq_true rfl, Nat.le_of_ble_eq_true rfl⟩ ⟨Nat.le_refl 0, Nat.le_refl 0⟩ (Nat.le_of_ble_eq_true rfl) hC hn hV1 dX0_search_31 (fun H locs (hB : wB D A s.heap (dk h d C (n, fb, df) (followA C n V1) K1) H locs) => ?_)
    have hVf := hV1.follow hC (n := n) hn
    refine lv_aload_n E.x E.b dX0_search_34 rfl (lv_at hl 0 rfl) ?_
    refine gd_broken E hB dX0_search_35 ?_
    refine b_if_ne (tgt := 55) E dX0_search_38 (by decide) (fun hc38 => ?_) (fun hc38 => ?_)
    · skip
      refine lv_iconst (v := bI (true)) E.x E.b dX0_search_55 (by decide +kernel) ?_
      refine lv_goto (tgt := 60) E.x E.b dX0_search_56 (by decide) ?_
      have hw : wrongF (n, fb, df) (followA C (n, fb, df).1 V1) = true := wrong_1 (P := (n, fb, df)) hc38
      refine lv_istore (lv' := [(5, .int (bI (true))), (0, .ref (h 0)), (1, .int (nI (n))), (2, .int (bI (fb))), (3, .int (bI (df))), (4, .int (nI (r)))]) E.x E.b dX0_search_60 hl (by decide) rfl (fun ls hl => ?_)
      refine lv_iload E.x E.b dX0_search_62 (lv_at hl 0 rfl) ?_
      refine b_if_eq (tgt := 76) E dX0_search_64 (by decide) (fun hc64 => absurd hc64 (by decide)) (fun hc64 => ?_)
      refine lv_aload_n E.x E.b dX0_search_67 rfl (lv_at hl 1 rfl) ?_
      refine k_goBack E hA hB hl.1 ⟨Nat.le_of_ble_eq_true rfl, Nat.le_of_ble_eq_true rfl⟩ ⟨Nat.le_refl 0, Nat.le_refl 0⟩ (Nat.le_of_ble_eq_true rfl) hVf hK1 hK2 dX0_search_68 (fun H locs (hB : wB D A s.heap (dk h d C (n, fb, df) ((gbF K1.1 (followA C n V1) K1).2.1) ((gbF K1.1 (followA C n V1) K1).2.2)) H locs) => ?_)
      refine b_if_ne (tgt := 85) E dX0_search_71 (by decide) (fun hc71 => ?_) (fun hc71 => ?_)
      · skip
        refine lv_iinc (v := nI (r + 1)) (lv' := [(4, .int (nI (r + 1))), (5, .int (bI (true))), (0, .ref (h 0)), (1, .int (nI (n))), (2, .int (bI (fb))), (3, .int (bI (df)))]) E.x E.b dX0_search_85 hl (k := 5) rfl (inc1 _) (by decide) rfl (fun ls hl => ?_)
        refine lv_goto (tgt := 22) E.x E.b dX0_search_88 (by decide) ?_
        exact ih (by omega) (gbF K1.1 (followA C n V1) K1).2.1 (gbF K1.1 (followA C n V1) K1).2.2 ls H locs (hI2 V1 K1 hi1 hw hc71) (by rw [← hq, show 5000 - r = (5000 - (r + 1)) + 1 by omega]; exact (srch_1 (P := (n, fb, df)) hw hc71).symm) (lv_sub hl [2, 3, 4, 5, 0] rfl) hB
      · skip
        refine lv_iconst (v := bI (false)) E.x E.b dX0_search_74 (by decide +kernel) ?_
        exact r_zret (x := false) E hr hk (hB.to (by rw [← hq, show 5000 - r = (5000 - (r + 1)) + 1 by omega, srch_2 (P := (n, fb, df)) hw hc71])) dX0_search_75 (by rw [← hq, show 5000 - r = (5000 - (r + 1)) + 1 by omega, srch_2 (P := (n, fb, df)) hw hc71, hc71])
    · skip
      refine lv_aload_n E.x E.b dX0_search_41 rfl (lv_at hl 0 rfl) ?_
      refine gd_different E hB dX0_search_42 ?_
      refine r_eq (y := bI (df)) rfl ?_
      refine b_if_eq (tgt := 59) E dX0_search_45 (by decide) (fun hc45 => ?_) (fun hc45 => ?_)
      · skip
        refine lv_iconst (v := bI (false)) E.x E.b dX0_search_59 (by decide +kernel) ?_
        have hw : wrongF (n, fb, df) (followA C (n, fb, df).1 V1) = false := wrong_3 (P := (n, fb, df)) hc38 hc45
        refine lv_istore (lv' := [(5, .int (bI (false))), (0, .ref (h 0)), (1, .int (nI (n))), (2, .int (bI (fb))), (3, .int (bI (df))), (4, .int (nI (r)))]) E.x E.b dX0_search_60 hl (by decide) rfl (fun ls hl => ?_)
        refine lv_iload E.x E.b dX0_search_62 (lv_at hl 0 rfl) ?_
        refine b_if_eq (tgt := 76) E dX0_search_64 (by decide) (fun hc64 => ?_) (fun hc64 => absurd hc64 (by decide))
        refine lv_aload_n E.x E.b dX0_search_76 rfl (lv_at hl 1 rfl) ?_
        refine k_choose E hA hB hl.1 ⟨Nat.le_of_ble_eq_true rfl, Nat.le_of_ble_eq_true rfl⟩ ⟨Nat.le_refl 0, Nat.le_refl 0⟩ (Nat.le_of_ble_eq_true rfl) hn hVf (fun x _ => by omega) dX0_search_77 (fun H locs (hB : wB D A s.heap (dk h d C (n, fb, df) (chV (followA C n V1) n) (chK (followA C n V1) K1 n)) H locs) => ?_)
        refine b_if_ne (tgt := 85) E dX0_search_80 (by decide) (fun hc80 => ?_) (fun hc80 => ?_)
        · skip
          obtain ⟨a, ha⟩ := isS hc80
          have hB : wB D A s.heap (dk h d C (n, fb, df) (putF (followA C n V1) a false) (pushK (followA C n V1) K1 a)) H locs := hB.to (by rw [chV_some ha, chK_some ha])
          refine lv_iinc (v := nI (r + 1)) (lv' := [(4, .int (nI (r + 1))), (5, .int (bI (false))), (0, .ref (h 0)), (1, .int (nI (n))), (2, .int (bI (fb))), (3, .int (bI (df)))]) E.x E.b dX0_search_85 hl (k := 5) rfl (inc1 _) (by decide) rfl (fun ls hl => ?_)
          refine lv_goto (tgt := 22) E.x E.b dX0_search_88 (by decide) ?_
          exact ih (by omega) (putF (followA C n V1) a false) (pushK (followA C n V1) K1 a) ls H locs (hI3 V1 K1 a hi1 hw ha) (by rw [← hq, show 5000 - r = (5000 - (r + 1)) + 1 by omega]; exact (srch_4 (P := (n, fb, df)) hw ha).symm) (lv_sub hl [2, 3, 4, 5, 0] rfl) hB
        · skip
          refine lv_iconst (v := bI (true)) E.x E.b dX0_search_83 (by decide +kernel) ?_
          exact r_zret (x := true) E hr hk (hB.to (by rw [← hq, show 5000 - r = (5000 - (r + 1)) + 1 by omega, srch_3 (P := (n, fb, df)) hw (isN hc80), chV_none (isN hc80), chK_none (isN hc80)])) dX0_search_84 (by rw [← hq, show 5000 - r = (5000 - (r + 1)) + 1 by omega, srch_3 (P := (n, fb, df)) hw (isN hc80)])
      · skip
        refine lv_aload_n E.x E.b dX0_search_48 rfl (lv_at hl 0 rfl) ?_
        refine k_repeats E hA hB hl.1 ⟨Nat.le_of_ble_eq_true rfl, Nat.le_of_ble_eq_true rfl⟩ ⟨Nat.le_refl 0, Nat.le_refl 0⟩ (Nat.le_of_ble_eq_true rfl) hn dX0_search_49 (fun H locs (hB : wB D A s.heap (dk h d C (n, fb, df) (followA C n V1) K1) H locs) => ?_)
        refine b_if_eq (tgt := 59) E dX0_search_52 (by decide) (fun hc52 => ?_) (fun hc52 => ?_)
        · skip
          refine lv_iconst (v := bI (false)) E.x E.b dX0_search_59 (by decide +kernel) ?_
          have hw : wrongF (n, fb, df) (followA C (n, fb, df).1 V1) = false := wrong_4 (P := (n, fb, df)) hc38 hc52
          refine lv_istore (lv' := [(5, .int (bI (false))), (0, .ref (h 0)), (1, .int (nI (n))), (2, .int (bI (fb))), (3, .int (bI (df))), (4, .int (nI (r)))]) E.x E.b dX0_search_60 hl (by decide) rfl (fun ls hl => ?_)
          refine lv_iload E.x E.b dX0_search_62 (lv_at hl 0 rfl) ?_
          refine b_if_eq (tgt := 76) E dX0_search_64 (by decide) (fun hc64 => ?_) (fun hc64 => absurd hc64 (by decide))
          refine lv_aload_n E.x E.b dX0_search_76 rfl (lv_at hl 1 rfl) ?_
          refine k_choose E hA hB hl.1 ⟨Nat.le_of_ble_eq_true rfl, Nat.le_of_ble_eq_true rfl⟩ ⟨Nat.le_refl 0, Nat.le_refl 0⟩ (Nat.le_of_ble_eq_true rfl) hn hVf (fun x _ => by omega) dX0_search_77 (fun H locs (hB : wB D A s.heap (dk h d C (n, fb, df) (chV (followA C n V1) n) (chK (followA C n V1) K1 n)) H locs) => ?_)
          refine b_if_ne (tgt := 85) E dX0_search_80 (by decide) (fun hc80 => ?_) (fun hc80 => ?_)
          · skip
            obtain ⟨a, ha⟩ := isS hc80
            have hB : wB D A s.heap (dk h d C (n, fb, df) (putF (followA C n V1) a false) (pushK (followA C n V1) K1 a)) H locs := hB.to (by rw [chV_some ha, chK_some ha])
            refine lv_iinc (v := nI (r + 1)) (lv' := [(4, .int (nI (r + 1))), (5, .int (bI (false))), (0, .ref (h 0)), (1, .int (nI (n))), (2, .int (bI (fb))), (3, .int (bI (df)))]) E.x E.b dX0_search_85 hl (k := 5) rfl (inc1 _) (by decide) rfl (fun ls hl => ?_)
            refine lv_goto (tgt := 22) E.x E.b dX0_search_88 (by decide) ?_
            exact ih (by omega) (putF (followA C n V1) a false) (pushK (followA C n V1) K1 a) ls H locs (hI3 V1 K1 a hi1 hw ha) (by rw [← hq, show 5000 - r = (5000 - (r + 1)) + 1 by omega]; exact (srch_4 (P := (n, fb, df)) hw ha).symm) (lv_sub hl [2, 3, 4, 5, 0] rfl) hB
          · skip
            refine lv_iconst (v := bI (true)) E.x E.b dX0_search_83 (by decide +kernel) ?_
            exact r_zret (x := true) E hr hk (hB.to (by rw [← hq, show 5000 - r = (5000 - (r + 1)) + 1 by omega, srch_3 (P := (n, fb, df)) hw (isN hc80), chV_none (isN hc80), chK_none (isN hc80)])) dX0_search_84 (by rw [← hq, show 5000 - r = (5000 - (r + 1)) + 1 by omega, srch_3 (P := (n, fb, df)) hw (isN hc80)])
        · skip
          refine lv_iconst (v := bI (true)) E.x E.b dX0_search_55 (by decide +kernel) ?_
          refine lv_goto (tgt := 60) E.x E.b dX0_search_56 (by decide) ?_
          have hw : wrongF (n, fb, df) (followA C (n, fb, df).1 V1) = true := wrong_2 (P := (n, fb, df)) hc45 hc52
          refine lv_istore (lv' := [(5, .int (bI (true))), (0, .ref (h 0)), (1, .int (nI (n))), (2, .int (bI (fb))), (3, .int (bI (df))), (4, .int (nI (r)))]) E.x E.b dX0_search_60 hl (by decide) rfl (fun ls hl => ?_)
          refine lv_iload E.x E.b dX0_search_62 (lv_at hl 0 rfl) ?_
          refine b_if_eq (tgt := 76) E dX0_search_64 (by decide) (fun hc64 => absurd hc64 (by decide)) (fun hc64 => ?_)
          refine lv_aload_n E.x E.b dX0_search_67 rfl (lv_at hl 1 rfl) ?_
          refine k_goBack E hA hB hl.1 ⟨Nat.le_of_ble_eq_true rfl, Nat.le_of_ble_eq_true rfl⟩ ⟨Nat.le_refl 0, Nat.le_refl 0⟩ (Nat.le_of_ble_eq_true rfl) hVf hK1 hK2 dX0_search_68 (fun H locs (hB : wB D A s.heap (dk h d C (n, fb, df) ((gbF K1.1 (followA C n V1) K1).2.1) ((gbF K1.1 (followA C n V1) K1).2.2)) H locs) => ?_)
          refine b_if_ne (tgt := 85) E dX0_search_71 (by decide) (fun hc71 => ?_) (fun hc71 => ?_)
          · skip
            refine lv_iinc (v := nI (r + 1)) (lv' := [(4, .int (nI (r + 1))), (5, .int (bI (true))), (0, .ref (h 0)), (1, .int (nI (n))), (2, .int (bI (fb))), (3, .int (bI (df)))]) E.x E.b dX0_search_85 hl (k := 5) rfl (inc1 _) (by decide) rfl (fun ls hl => ?_)
            refine lv_goto (tgt := 22) E.x E.b dX0_search_88 (by decide) ?_
            exact ih (by omega) (gbF K1.1 (followA C n V1) K1).2.1 (gbF K1.1 (followA C n V1) K1).2.2 ls H locs (hI2 V1 K1 hi1 hw hc71) (by rw [← hq, show 5000 - r = (5000 - (r + 1)) + 1 by omega]; exact (srch_1 (P := (n, fb, df)) hw hc71).symm) (lv_sub hl [2, 3, 4, 5, 0] rfl) hB
          · skip
            refine lv_iconst (v := bI (false)) E.x E.b dX0_search_74 (by decide +kernel) ?_
            exact r_zret (x := false) E hr hk (hB.to (by rw [← hq, show 5000 - r = (5000 - (r + 1)) + 1 by omega, srch_2 (P := (n, fb, df)) hw hc71])) dX0_search_75 (by rw [← hq, show 5000 - r = (5000 - (r + 1)) + 1 by omega, srch_2 (P := (n, fb, df)) hw hc71, hc71])
theorem k_search {p : Program} {l : Launch} {e : Env} {R : Room} {s : State} {m : MethodId} {args : Array Value} {below : List Frame} {meth : Method} {c : Code} {H : Heap} {locs : List Loc} {cells slots : Nat} {Q : State → Prop} {cc : ByteArray} {pc nL : Nat} {ls : Array Slot} {rest : List Value} {D : va_G} {A : Nat → Prop} {h : Nat → Nat} {d : Nat → ClassId} {C : CS} {P : PS} {V : VS} {K : KS} {n : Nat} {fb df : Bool} (E : ev p m c cc nL s args RX0 D (tyD d)) (hA : ∀ q : Nat, s.heap.size ≤ q → A q) (hB : wB D A s.heap (dk h d C P V K) H locs) (hls : ls.size = nL) (hRm : 6 ≤ R.frames ∧ 143 ≤ R.locals) (hfm : cells ≤ R.cells ∧ slots ≤ R.slots) (hrest : (rest.map fun v => v.category).sum ≤ 8) (hC : okC C) (hS : SOK C) (hn : n < 7) (hdg : decode cc pc = .ok (.invokevirtual 64, 3)) (kk : ∀ (H1 : Heap) (locs1 : List Loc), wB D A s.heap (dk h d C (n, fb, df) ((searchF C (n, fb, df) V K).2.1) ((searchF C (n, fb, df) V K).2.2)) H1 locs1 → W p l e R s m args below meth c H1 locs1 cells slots Q (F0 m (pc + 3) ls (.int (bI (searchF C (n, fb, df) V K).1) :: rest))) : W p l e R s m args below meth c H locs cells slots Q (F0 m pc ls (.int (bI (df)) :: .int (bI (fb)) :: .int (nI (n)) :: .ref (h 0) :: rest)) :=
  r_calli (ci := 0) (q := (RX0, TX0, 17)) E hA hB hls 3 (m_search l D h d C P V K n fb df hC hS hn) rfl rfl q145 q147 qs8 q25 q148 (by decide +kernel) rfl ⟨rfl, rfl⟩ hRm hfm rfl hrest hdg kk
end
section
/-! WALKS of the desk, fourth part: questions -/
set_option maxRecDepth 100000
set_option maxHeartbeats 4000000 in
set_option maxRecDepth 100000 in
/-- depth(x) -/
theorem m_depth (l : Launch) (D : va_G) (h : Nat → Nat) (d : Nat → ClassId) (C : CS) (P : PS) (V : VS) (K : KS) (x : Int32) (hC : okC C) (hS : SOK C) : ctI l yX0_depth cX0_depth 4 (rmm 6 143) D (tyD d) (dk h d C P V K) (dk h d C ((depthD C x (P, V, K)).2.1) ((depthD C x (P, V, K)).2.2.1) ((depthD C x (P, V, K)).2.2.2)) [.ref (h 0), .int (x)] .int (zI (depthD C x (P, V, K)).1) := by
  refine mkI RX0 rfl (by decide) (Nat.le_of_ble_eq_true rfl) [(0, .ref (h 0)), (1, .int (x))] rfl ?_
  intro p e s m below meth c A ls E hr hk hA hB hl
  rcases hx : inT x 0 7 with _ | k
  · skip
    refine lv_iload_n E.x E.b dX0_depth_0 rfl (lv_at hl 1 rfl) ?_
    refine lv_if_lt (tgt := 10) E.x E.b dX0_depth_1 (by decide) (fun hc1 => ?_) (fun hc1 => ?_)
    · skip
      refine lv_iconst (v := zI (none)) E.x E.b dX0_depth_10 (by decide +kernel) ?_
      exact r_iret (x := zI (none)) E hr hk (hB.to (by rw [depthD_none hx])) dX0_depth_11 (by rw [depthD_none hx])
    · skip
      refine lv_iload_n E.x E.b dX0_depth_4 rfl (lv_at hl 1 rfl) ?_
      refine lv_bipush (v := nI (6)) E.x E.b dX0_depth_5 (by decide +kernel) ?_
      refine lv_icmp_le (tgt := 12) E.x E.b dX0_depth_7 (by decide) (fun hc7 => (dead_le 6 hx hc1 hc7 (by decide) (by decide)).elim) (fun hc7 => ?_)
      refine lv_iconst (v := zI (none)) E.x E.b dX0_depth_10 (by decide +kernel) ?_
      exact r_iret (x := zI (none)) E hr hk (hB.to (by rw [depthD_none hx])) dX0_depth_11 (by rw [depthD_none hx])
  · obtain ⟨-, hk9, rfl⟩ := inT_some hx (by decide)
    refine lv_iload_n E.x E.b dX0_depth_0 rfl (lv_at hl 1 rfl) ?_
    refine lv_if_lt (tgt := 10) E.x E.b dX0_depth_1 (by decide) (fun hc1 => absurd hc1 (nI_pos (by omega))) (fun hc1 => ?_)
    refine lv_iload_n E.x E.b dX0_depth_4 rfl (lv_at hl 1 rfl) ?_
    refine lv_bipush (v := nI (6)) E.x E.b dX0_depth_5 (by decide +kernel) ?_
    refine n_icmp_le (tgt := 12) E (by omega) (by omega) dX0_depth_7 (by decide) (fun hc7 => ?_) (fun hc7 => absurd hc7 (by omega))
    refine lv_iconst (v := nI (0)) E.x E.b dX0_depth_12 (by decide +kernel) ?_
    refine lv_istore_n (lv' := [(2, .int (nI (0))), (0, .ref (h 0)), (1, .int (nI (k)))]) E.x E.b dX0_depth_13 rfl hl (by decide) rfl (fun ls hl => ?_)
    refine upL (N := k + 1) (fun i => ∀ (P1 : PS) (V1 : VS) (K1 : KS) (ls : Array Slot) (H : Heap) (locs : List Loc), depthL C (k + 1 - i) i (P1, V1, K1) = depthL C (k + 1) 0 (P, V, K) → lv_has ls 4 [(0, .ref (h 0)), (1, .int (nI (k))), (2, .int (nI (i)))] → wB D A s.heap (dk h d C P1 V1 K1) H locs → W p l e (rmm 6 143) s m ([.ref (h 0), .int (nI (k))] : List Value).toArray below meth c H locs 0 0 (qI below D (tyD d) A (dk h d C ((depthD C (nI k) (P, V, K)).2.1) ((depthD C (nI k) (P, V, K)).2.2.1) ((depthD C (nI k) (P, V, K)).2.2.2)) (zI (depthD C (nI k) (P, V, K)).1) ([.ref (h 0), .int (nI (k))] : List Value).toArray s) (F0 m 14 ls [])) ?_ 0 (Nat.zero_le _) P V K ls _ _ rfl (lv_sub hl [1, 2, 0] rfl) hB
    intro i hii ih P1 V1 K1 ls H locs hq hl hB
    refine lv_iload_n E.x E.b dX0_depth_14 rfl (lv_at hl 2 rfl) ?_
    refine lv_iload_n E.x E.b dX0_depth_15 rfl (lv_at hl 1 rfl) ?_
    refine n_icmp_gt (tgt := 39) E (by omega) (by omega) dX0_depth_16 (by decide) (fun hc16 => ?_) (fun hc16 => ?_)
    · skip
      refine lv_iconst (v := zI (none)) E.x E.b dX0_depth_39 (by decide +kernel) ?_
      exact r_iret (x := zI (none)) E hr hk (hB.to (by rw [depthD_some hx, ← hq, show k + 1 - i = 0 by omega]; rfl)) dX0_depth_40 (by rw [depthD_some hx, ← hq, show k + 1 - i = 0 by omega]; rfl)
    · skip
      refine lv_aload_n E.x E.b dX0_depth_19 rfl (lv_at hl 0 rfl) ?_
      refine lv_iload_n E.x E.b dX0_depth_20 rfl (lv_at hl 2 rfl) ?_
      refine lv_iconst (v := bI (true)) E.x E.b dX0_depth_21 (by decide +kernel) ?_
      refine lv_iconst (v := bI (false)) E.x E.b dX0_depth_22 (by decide +kernel) ?_
      refine k_search E hA hB hl.1 ⟨Nat.le_of_ble_eq_true rfl, Nat.le_of_ble_eq_true rfl⟩ ⟨Nat.le_refl 0, Nat.le_refl 0⟩ (Nat.le_of_ble_eq_true rfl) hC hS (by omega) dX0_depth_23 (fun H locs (hB : wB D A s.heap (dk h d C (i, true, false) ((searchF C (i, true, false) V1 K1).2.1) ((searchF C (i, true, false) V1 K1).2.2)) H locs) => ?_)
      refine lv_istore_n (lv' := [(3, .int (bI ((searchF C (i, true, false) V1 K1).1))), (0, .ref (h 0)), (1, .int (nI (k))), (2, .int (nI (i)))]) E.x E.b dX0_depth_26 rfl hl (by decide) rfl (fun ls hl => ?_)
      refine lv_iload_n E.x E.b dX0_depth_27 rfl (lv_at hl 0 rfl) ?_
      refine b_if_eq (tgt := 33) E dX0_depth_28 (by decide) (fun hc28 => ?_) (fun hc28 => ?_)
      · skip
        refine lv_iinc (v := nI (i + 1)) (lv' := [(2, .int (nI (i + 1))), (3, .int (bI ((searchF C (i, true, false) V1 K1).1))), (0, .ref (h 0)), (1, .int (nI (k)))]) E.x E.b dX0_depth_33 hl (k := 3) rfl (inc1 _) (by decide) rfl (fun ls hl => ?_)
        refine lv_goto (tgt := 14) E.x E.b dX0_depth_36 (by decide) ?_
        exact ih (by omega) (i, true, false) ((searchF C (i, true, false) V1 K1).2.1) ((searchF C (i, true, false) V1 K1).2.2) ls H locs ((depthL_no (S := (P1, V1, K1)) (by omega) hc28).trans hq) (lv_sub hl [2, 3, 0] rfl) hB
      · skip
        refine lv_iload_n E.x E.b dX0_depth_31 rfl (lv_at hl 3 rfl) ?_
        exact r_iret (x := nI (i)) E hr hk (hB.to (by rw [depthD_some hx, ← hq, depthL_yes (S := (P1, V1, K1)) (by omega) hc28]; rfl)) dX0_depth_32 (by rw [depthD_some hx, ← hq, depthL_yes (S := (P1, V1, K1)) (by omega) hc28]; rfl)
theorem k_depth {p : Program} {l : Launch} {e : Env} {R : Room} {s : State} {m : MethodId} {args : Array Value} {below : List Frame} {meth : Method} {c : Code} {H : Heap} {locs : List Loc} {cells slots : Nat} {Q : State → Prop} {cc : ByteArray} {pc nL : Nat} {ls : Array Slot} {rest : List Value} {D : va_G} {A : Nat → Prop} {h : Nat → Nat} {d : Nat → ClassId} {C : CS} {P : PS} {V : VS} {K : KS} {x : Int32} (E : ev p m c cc nL s args RX0 D (tyD d)) (hA : ∀ q : Nat, s.heap.size ≤ q → A q) (hB : wB D A s.heap (dk h d C P V K) H locs) (hls : ls.size = nL) (hRm : 7 ≤ R.frames ∧ 166 ≤ R.locals) (hfm : cells ≤ R.cells ∧ slots ≤ R.slots) (hrest : (rest.map fun v => v.category).sum ≤ 8) (hC : okC C) (hS : SOK C) (hdg : decode cc pc = .ok (.invokevirtual 68, 3)) (kk : ∀ (H1 : Heap) (locs1 : List Loc), wB D A s.heap (dk h d C ((depthD C x (P, V, K)).2.1) ((depthD C x (P, V, K)).2.2.1) ((depthD C x (P, V, K)).2.2.2)) H1 locs1 → W p l e R s m args below meth c H1 locs1 cells slots Q (F0 m (pc + 3) ls (.int (zI (depthD C x (P, V, K)).1) :: rest))) : W p l e R s m args below meth c H locs cells slots Q (F0 m pc ls (.int (x) :: .ref (h 0) :: rest)) :=
  r_calli (ci := 0) (q := (RX0, TX0, 17)) E hA hB hls 1 (m_depth l D h d C P V K x hC hS) rfl rfl q181 q142 q143 q25 q144 (by decide +kernel) rfl ⟨rfl, rfl⟩ hRm hfm rfl hrest hdg kk
set_option maxHeartbeats 4000000 in
set_option maxRecDepth 100000 in
/-- holds(x) -/
theorem m_holds (l : Launch) (D : va_G) (h : Nat → Nat) (d : Nat → ClassId) (C : CS) (P : PS) (V : VS) (K : KS) (x : Int32) (hC : okC C) (hS : SOK C) : ctI l yX0_holds cX0_holds 2 (rmm 6 143) D (tyD d) (dk h d C P V K) (dk h d C ((holdsD C x (P, V, K)).2.1) ((holdsD C x (P, V, K)).2.2.1) ((holdsD C x (P, V, K)).2.2.2)) [.ref (h 0), .int (x)] .int (oI (holdsD C x (P, V, K)).1) := by
  refine mkI RX0 rfl (by decide) (Nat.le_of_ble_eq_true rfl) [(0, .ref (h 0)), (1, .int (x))] rfl ?_
  intro p e s m below meth c A ls E hr hk hA hB hl
  rcases hx : inT x 0 7 with _ | k
  · skip
    refine lv_iload_n E.x E.b dX0_holds_0 rfl (lv_at hl 1 rfl) ?_
    refine lv_if_lt (tgt := 10) E.x E.b dX0_holds_1 (by decide) (fun hc1 => ?_) (fun hc1 => ?_)
    · skip
      refine lv_iconst (v := oI (none)) E.x E.b dX0_holds_10 (by decide +kernel) ?_
      exact r_iret (x := oI (none)) E hr hk (hB.to (by rw [holdsD_none hx])) dX0_holds_11 (by rw [holdsD_none hx])
    · skip
      refine lv_iload_n E.x E.b dX0_holds_4 rfl (lv_at hl 1 rfl) ?_
      refine lv_bipush (v := nI (6)) E.x E.b dX0_holds_5 (by decide +kernel) ?_
      refine lv_icmp_le (tgt := 12) E.x E.b dX0_holds_7 (by decide) (fun hc7 => (dead_le 6 hx hc1 hc7 (by decide) (by decide)).elim) (fun hc7 => ?_)
      refine lv_iconst (v := oI (none)) E.x E.b dX0_holds_10 (by decide +kernel) ?_
      exact r_iret (x := oI (none)) E hr hk (hB.to (by rw [holdsD_none hx])) dX0_holds_11 (by rw [holdsD_none hx])
  · obtain ⟨-, hk9, rfl⟩ := inT_some hx (by decide)
    refine lv_iload_n E.x E.b dX0_holds_0 rfl (lv_at hl 1 rfl) ?_
    refine lv_if_lt (tgt := 10) E.x E.b dX0_holds_1 (by decide) (fun hc1 => absurd hc1 (nI_pos (by omega))) (fun hc1 => ?_)
    refine lv_iload_n E.x E.b dX0_holds_4 rfl (lv_at hl 1 rfl) ?_
    refine lv_bipush (v := nI (6)) E.x E.b dX0_holds_5 (by decide +kernel) ?_
    refine n_icmp_le (tgt := 12) E (by omega) (by omega) dX0_holds_7 (by decide) (fun hc7 => ?_) (fun hc7 => absurd hc7 (by omega))
    refine lv_aload_n E.x E.b dX0_holds_12 rfl (lv_at hl 0 rfl) ?_
    refine lv_iload_n E.x E.b dX0_holds_13 rfl (lv_at hl 1 rfl) ?_
    refine lv_iconst (v := bI (false)) E.x E.b dX0_holds_14 (by decide +kernel) ?_
    refine lv_iconst (v := bI (true)) E.x E.b dX0_holds_15 (by decide +kernel) ?_
    refine k_search E hA hB hl.1 ⟨Nat.le_of_ble_eq_true rfl, Nat.le_of_ble_eq_true rfl⟩ ⟨Nat.le_refl 0, Nat.le_refl 0⟩ (Nat.le_of_ble_eq_true rfl) hC hS (by omega) dX0_holds_16 (fun H locs (hB : wB D A s.heap (dk h d C (k, false, true) ((searchF C (k, false, true) V K).2.1) ((searchF C (k, false, true) V K).2.2)) H locs) => ?_)
    refine b_if_eq (tgt := 26) E dX0_holds_19 (by decide) (fun hc19 => ?_) (fun hc19 => ?_)
    · skip
      refine lv_iconst (v := bI (true)) E.x E.b dX0_holds_26 (by decide +kernel) ?_
      exact r_iret (x := bI (true)) E hr hk (hB.to (by rw [holdsD_some hx]; rfl)) dX0_holds_27 (by rw [holdsD_some hx]; show _ = bI (!(searchF C (k, false, true) V K).1); rw [hc19]; rfl)
    · skip
      refine lv_iconst (v := bI (false)) E.x E.b dX0_holds_22 (by decide +kernel) ?_
      refine lv_goto (tgt := 27) E.x E.b dX0_holds_23 (by decide) ?_
      exact r_iret (x := bI (false)) E hr hk (hB.to (by rw [holdsD_some hx]; rfl)) dX0_holds_27 (by rw [holdsD_some hx]; show _ = bI (!(searchF C (k, false, true) V K).1); rw [hc19]; rfl)
set_option maxHeartbeats 4000000 in
set_option maxRecDepth 100000 in
/-- proof() -/
theorem m_proof (l : Launch) (D : va_G) (h : Nat → Nat) (d : Nat → ClassId) (C : CS) (P : PS) (V : VS) (K : KS)  (hC : okC C) (hS : SOK C) : ctI l yX0_proof cX0_proof 4 (rmm 6 143) D (tyD d) (dk h d C P V K) (dk h d C ((proofL C 7 0 (P, V, K)).2.1) ((proofL C 7 0 (P, V, K)).2.2.1) ((proofL C 7 0 (P, V, K)).2.2.2)) [.ref (h 0)] .int (zI (proofL C 7 0 (P, V, K)).1) := by
  refine mkI RX0 rfl (by decide) (Nat.le_of_ble_eq_true rfl) [(0, .ref (h 0))] rfl ?_
  intro p e s m below meth c A ls E hr hk hA hB hl
  refine lv_iconst (v := nI (0)) E.x E.b dX0_proof_0 (by decide +kernel) ?_
  refine lv_istore_n (lv' := [(1, .int (nI (0))), (0, .ref (h 0))]) E.x E.b dX0_proof_1 rfl hl (by decide) rfl (fun ls hl => ?_)
  refine upL (N := 7) (fun i => ∀ (P1 : PS) (V1 : VS) (K1 : KS) (ls : Array Slot) (H : Heap) (locs : List Loc), proofL C (7 - i) i (P1, V1, K1) = proofL C 7 0 (P, V, K) → lv_has ls 4 [(0, .ref (h 0)), (1, .int (nI (i)))] → wB D A s.heap (dk h d C P1 V1 K1) H locs → W p l e (rmm 6 143) s m ([.ref (h 0)] : List Value).toArray below meth c H locs 0 0 (qI below D (tyD d) A (dk h d C ((proofL C 7 0 (P, V, K)).2.1) ((proofL C 7 0 (P, V, K)).2.2.1) ((proofL C 7 0 (P, V, K)).2.2.2)) (zI (proofL C 7 0 (P, V, K)).1) ([.ref (h 0)] : List Value).toArray s) (F0 m 2 ls [])) ?_ 0 (Nat.zero_le _) P V K ls _ _ rfl (lv_sub hl [1, 0] rfl) hB
  intro i hii ih P1 V1 K1 ls H locs hq hl hB
  refine lv_iload_n E.x E.b dX0_proof_2 rfl (lv_at hl 1 rfl) ?_
  refine lv_bipush (v := nI (6)) E.x E.b dX0_proof_3 (by decide +kernel) ?_
  refine n_icmp_gt (tgt := 50) E (by omega) (by omega) dX0_proof_5 (by decide) (fun hc5 => ?_) (fun hc5 => ?_)
  · skip
    refine lv_iconst (v := zI (none)) E.x E.b dX0_proof_50 (by decide +kernel) ?_
    exact r_iret (x := zI (none)) E hr hk (hB.to (by rw [← hq, show 7 - i = 0 by omega]; rfl)) dX0_proof_51 (by rw [← hq, show 7 - i = 0 by omega]; rfl)
  · skip
    refine lv_aload_n E.x E.b dX0_proof_8 rfl (lv_at hl 0 rfl) ?_
    refine lv_iload_n E.x E.b dX0_proof_9 rfl (lv_at hl 1 rfl) ?_
    refine lv_iconst (v := bI (false)) E.x E.b dX0_proof_10 (by decide +kernel) ?_
    refine lv_iconst (v := bI (true)) E.x E.b dX0_proof_11 (by decide +kernel) ?_
    refine k_search E hA hB hl.1 ⟨Nat.le_of_ble_eq_true rfl, Nat.le_of_ble_eq_true rfl⟩ ⟨Nat.le_refl 0, Nat.le_refl 0⟩ (Nat.le_of_ble_eq_true rfl) hC hS (by omega) dX0_proof_12 (fun H locs (hB : wB D A s.heap (dk h d C (i, false, true) ((searchF C (i, false, true) V1 K1).2.1) ((searchF C (i, false, true) V1 K1).2.2)) H locs) => ?_)
    refine b_if_ne (tgt := 22) E dX0_proof_15 (by decide) (fun hc15 => ?_) (fun hc15 => ?_)
    · skip
      refine lv_iconst (v := bI (false)) E.x E.b dX0_proof_22 (by decide +kernel) ?_
      refine lv_istore_n (lv' := [(2, .int (bI (false))), (0, .ref (h 0)), (1, .int (nI (i)))]) E.x E.b dX0_proof_23 rfl hl (by decide) rfl (fun ls hl => ?_)
      refine lv_iload_n E.x E.b dX0_proof_24 rfl (lv_at hl 0 rfl) ?_
      refine b_if_eq (tgt := 30) E dX0_proof_25 (by decide) (fun hc25 => ?_) (fun hc25 => absurd hc25 (by decide))
      refine lv_aload_n E.x E.b dX0_proof_30 rfl (lv_at hl 1 rfl) ?_
      refine lv_iload_n E.x E.b dX0_proof_31 rfl (lv_at hl 2 rfl) ?_
      refine lv_iconst (v := bI (true)) E.x E.b dX0_proof_32 (by decide +kernel) ?_
      refine lv_iconst (v := bI (false)) E.x E.b dX0_proof_33 (by decide +kernel) ?_
      refine k_search E hA hB hl.1 ⟨Nat.le_of_ble_eq_true rfl, Nat.le_of_ble_eq_true rfl⟩ ⟨Nat.le_refl 0, Nat.le_refl 0⟩ (Nat.le_of_ble_eq_true rfl) hC hS (by omega) dX0_proof_34 (fun H locs (hB : wB D A s.heap (dk h d C (i, true, false) ((searchF C (i, true, false) ((searchF C (i, false, true) V1 K1).2.1) ((searchF C (i, false, true) V1 K1).2.2)).2.1) ((searchF C (i, true, false) ((searchF C (i, false, true) V1 K1).2.1) ((searchF C (i, false, true) V1 K1).2.2)).2.2)) H locs) => ?_)
      refine lv_istore_n (lv' := [(3, .int (bI ((searchF C (i, true, false) ((searchF C (i, false, true) V1 K1).2.1) ((searchF C (i, false, true) V1 K1).2.2)).1))), (2, .int (bI (false))), (0, .ref (h 0)), (1, .int (nI (i)))]) E.x E.b dX0_proof_37 rfl hl (by decide) rfl (fun ls hl => ?_)
      refine lv_iload_n E.x E.b dX0_proof_38 rfl (lv_at hl 0 rfl) ?_
      refine b_if_eq (tgt := 44) E dX0_proof_39 (by decide) (fun hc39 => ?_) (fun hc39 => ?_)
      · skip
        refine lv_iinc (v := nI (i + 1)) (lv' := [(1, .int (nI (i + 1))), (3, .int (bI ((searchF C (i, true, false) ((searchF C (i, false, true) V1 K1).2.1) ((searchF C (i, false, true) V1 K1).2.2)).1))), (2, .int (bI (false))), (0, .ref (h 0))]) E.x E.b dX0_proof_44 hl (k := 3) rfl (inc1 _) (by decide) rfl (fun ls hl => ?_)
        refine lv_goto (tgt := 2) E.x E.b dX0_proof_47 (by decide) ?_
        exact ih (by omega) (i, true, false) ((searchF C (i, true, false) ((searchF C (i, false, true) V1 K1).2.1) ((searchF C (i, false, true) V1 K1).2.2)).2.1) ((searchF C (i, true, false) ((searchF C (i, false, true) V1 K1).2.1) ((searchF C (i, false, true) V1 K1).2.2)).2.2) ls H locs ((proofL_3 (S := (P1, V1, K1)) (by omega) hc15 hc39).trans hq) (lv_sub hl [3, 0] rfl) hB
      · skip
        refine lv_iconst (v := zI (none)) E.x E.b dX0_proof_42 (by decide +kernel) ?_
        exact r_iret (x := zI (none)) E hr hk (hB.to (by rw [← hq, proofL_2 (S := (P1, V1, K1)) (by omega) hc15 hc39]; rfl)) dX0_proof_43 (by rw [← hq, proofL_2 (S := (P1, V1, K1)) (by omega) hc15 hc39])
    · skip
      refine lv_iconst (v := bI (true)) E.x E.b dX0_proof_18 (by decide +kernel) ?_
      refine lv_goto (tgt := 23) E.x E.b dX0_proof_19 (by decide) ?_
      refine lv_istore_n (lv' := [(2, .int (bI (true))), (0, .ref (h 0)), (1, .int (nI (i)))]) E.x E.b dX0_proof_23 rfl hl (by decide) rfl (fun ls hl => ?_)
      refine lv_iload_n E.x E.b dX0_proof_24 rfl (lv_at hl 0 rfl) ?_
      refine b_if_eq (tgt := 30) E dX0_proof_25 (by decide) (fun hc25 => absurd hc25 (by decide)) (fun hc25 => ?_)
      refine lv_iload_n E.x E.b dX0_proof_28 rfl (lv_at hl 2 rfl) ?_
      exact r_iret (x := nI (i)) E hr hk (hB.to (by rw [← hq, proofL_1 (S := (P1, V1, K1)) (by omega) hc15]; rfl)) dX0_proof_29 (by rw [← hq, proofL_1 (S := (P1, V1, K1)) (by omega) hc15]; rfl)
set_option maxHeartbeats 4000000 in
set_option maxRecDepth 100000 in
/-- witness(x) -/
theorem m_witness (l : Launch) (D : va_G) (h : Nat → Nat) (d : Nat → ClassId) (C : CS) (P : PS) (V : VS) (K : KS) (x : Int32) (hC : okC C) (hS : SOK C) (hW : ∀ n P2 V2 K2, depthL C 7 0 (P, V, K) = (some n, P2, V2, K2) → ∀ i k, i ≤ n → 1 ≤ k → k < 5 → ∃ b, V2.1 (16 * i + k) = some b) : ctI l yX0_witness cX0_witness 5 (rmm 7 166) D (tyD d) (dk h d C P V K) (dk h d C ((witnessD C x (P, V, K)).2.1) ((witnessD C x (P, V, K)).2.2.1) ((witnessD C x (P, V, K)).2.2.2)) [.ref (h 0), .int (x)] .int (zI (witnessD C x (P, V, K)).1) := by
  refine mkI RX0 rfl (by decide) (Nat.le_of_ble_eq_true rfl) [(0, .ref (h 0)), (1, .int (x))] rfl ?_
  intro p e s m below meth c A ls E hr hk hA hB hl
  rcases hD : depthL C 7 0 (P, V, K) with ⟨o, P2, V2, K2⟩
  refine lv_aload_n E.x E.b dX0_witness_0 rfl (lv_at hl 0 rfl) ?_
  refine lv_bipush (v := nI (6)) E.x E.b dX0_witness_1 (by decide +kernel) ?_
  refine k_depth E hA hB hl.1 ⟨Nat.le_of_ble_eq_true rfl, Nat.le_of_ble_eq_true rfl⟩ ⟨Nat.le_refl 0, Nat.le_refl 0⟩ (Nat.le_of_ble_eq_true rfl) hC hS dX0_witness_3 (fun H locs hB => ?_)
  have hB : wB D A s.heap (dk h d C P2 V2 K2) H locs := hB.to (by rw [depthD_6, hD])
  refine r_eq (y := zI o) (by rw [depthD_6, hD]) ?_
  refine lv_istore_n (lv' := [(2, .int (zI (o))), (0, .ref (h 0)), (1, .int (x))]) E.x E.b dX0_witness_6 rfl hl (by decide) rfl (fun ls hl => ?_)
  refine lv_iload_n E.x E.b dX0_witness_7 rfl (lv_at hl 0 rfl) ?_
  refine z_if_lt (tgt := 20) E (fun n hn => by have := depthL_lt (C := C) 7 0 (P, V, K) n (by rw [hD]; exact hn); omega) dX0_witness_8 (by decide) (fun hc8 => ?_) (fun b8 hc8 => ?_)
  · skip
    subst hc8
    refine lv_iconst (v := zI (none)) E.x E.b dX0_witness_20 (by decide +kernel) ?_
    exact r_iret (x := zI (none)) E hr hk (hB.to (by unfold witnessD; rw [hD]; rw [atD_none])) dX0_witness_21 (by unfold witnessD; rw [hD]; rw [atD_none])
  · skip
    have hl : lv_has ls 5 [(2, .int (nI (b8))), (0, .ref (h 0)), (1, .int (x))] := by rw [hc8] at hl; exact hl
    have hn : b8 < 7 := by have := depthL_lt (C := C) 7 0 (P, V, K) b8 (by rw [hD]; exact hc8); omega
    subst hc8
    rcases hx : inT x 0 (b8 + 1) with _ | i
    · skip
      refine lv_iload_n E.x E.b dX0_witness_11 rfl (lv_at hl 2 rfl) ?_
      refine lv_if_lt (tgt := 20) E.x E.b dX0_witness_12 (by decide) (fun hc12 => ?_) (fun hc12 => ?_)
      · skip
        refine lv_iconst (v := zI (none)) E.x E.b dX0_witness_20 (by decide +kernel) ?_
        exact r_iret (x := zI (none)) E hr hk (hB.to (by unfold witnessD; rw [hD]; rw [atD_some, hx])) dX0_witness_21 (by unfold witnessD; rw [hD]; rw [atD_some, hx])
      · skip
        refine lv_iload_n E.x E.b dX0_witness_15 rfl (lv_at hl 2 rfl) ?_
        refine lv_iload_n E.x E.b dX0_witness_16 rfl (lv_at hl 0 rfl) ?_
        refine lv_icmp_le (tgt := 22) E.x E.b dX0_witness_17 (by decide) (fun hc17 => (dead_le b8 hx hc12 hc17 (by omega) (by omega)).elim) (fun hc17 => ?_)
        refine lv_iconst (v := zI (none)) E.x E.b dX0_witness_20 (by decide +kernel) ?_
        exact r_iret (x := zI (none)) E hr hk (hB.to (by unfold witnessD; rw [hD]; rw [atD_some, hx])) dX0_witness_21 (by unfold witnessD; rw [hD]; rw [atD_some, hx])
    · obtain ⟨-, hi, rfl⟩ := inT_some hx (by omega)
      refine lv_iload_n E.x E.b dX0_witness_11 rfl (lv_at hl 2 rfl) ?_
      refine lv_if_lt (tgt := 20) E.x E.b dX0_witness_12 (by decide) (fun hc12 => absurd hc12 (nI_pos (by omega))) (fun hc12 => ?_)
      refine lv_iload_n E.x E.b dX0_witness_15 rfl (lv_at hl 2 rfl) ?_
      refine lv_iload_n E.x E.b dX0_witness_16 rfl (lv_at hl 0 rfl) ?_
      refine n_icmp_le (tgt := 22) E (by omega) (by omega) dX0_witness_17 (by decide) (fun hc17 => ?_) (fun hc17 => absurd hc17 (by omega))
      refine lv_iconst (v := nI (0)) E.x E.b dX0_witness_22 (by decide +kernel) ?_
      refine lv_istore_n (lv' := [(3, .int (nI (0))), (2, .int (nI (b8))), (0, .ref (h 0)), (1, .int (nI (i)))]) E.x E.b dX0_witness_23 rfl hl (by decide) rfl (fun ls hl => ?_)
      refine lv_iconst (v := nI (1)) E.x E.b dX0_witness_24 (by decide +kernel) ?_
      refine lv_istore (lv' := [(4, .int (nI (1))), (3, .int (nI (0))), (2, .int (nI (b8))), (0, .ref (h 0)), (1, .int (nI (i)))]) E.x E.b dX0_witness_25 hl (by decide) rfl (fun ls hl => ?_)
      refine upL (N := 4) (fun j => ∀ (ls : Array Slot) (H : Heap) (locs : List Loc), lv_has ls 5 [(0, .ref (h 0)), (1, .int (nI (i))), (2, .int (nI (b8))), (3, .int (nI (itr (witF V2.1 i) 1 j 0))), (4, .int (nI (1 + j)))] → wB D A s.heap (dk h d C P2 V2 K2) H locs → W p l e (rmm 7 166) s m ([.ref (h 0), .int (nI (i))] : List Value).toArray below meth c H locs 0 0 (qI below D (tyD d) A (dk h d C ((witnessD C (nI i) (P, V, K)).2.1) ((witnessD C (nI i) (P, V, K)).2.2.1) ((witnessD C (nI i) (P, V, K)).2.2.2)) (zI (witnessD C (nI i) (P, V, K)).1) ([.ref (h 0), .int (nI (i))] : List Value).toArray s) (F0 m 27 ls [])) ?_ 0 (Nat.zero_le _)  ls _ _  (lv_sub hl [3, 4, 2, 1, 0] rfl) hB
      intro j hij ihj  ls H locs  hl hB
      refine lv_iload E.x E.b dX0_witness_27 (lv_at hl 4 rfl) ?_
      refine lv_iconst (v := nI (5)) E.x E.b dX0_witness_29 (by decide +kernel) ?_
      refine n_icmp_ge (tgt := 59) E (by omega) (by omega) dX0_witness_30 (by decide) (fun hc30 => ?_) (fun hc30 => ?_)
      · skip
        obtain rfl : j = 4 := by omega
        refine lv_iload_n E.x E.b dX0_witness_59 rfl (lv_at hl 3 rfl) ?_
        exact r_iret (x := nI (itr (witF V2.1 i) 1 4 0)) E hr hk (hB.to (by unfold witnessD; rw [hD, atD_some, hx])) dX0_witness_60 (by unfold witnessD; rw [hD, atD_some, hx]; rfl)
      · skip
        refine lv_iload_n E.x E.b dX0_witness_33 rfl (lv_at hl 3 rfl) ?_
        refine lv_aload_n E.x E.b dX0_witness_34 rfl (lv_at hl 0 rfl) ?_
        refine gd_value E hB dX0_witness_35 ?_
        refine lv_bipush (v := nI (16)) E.x E.b dX0_witness_38 (by decide +kernel) ?_
        refine lv_iload_n E.x E.b dX0_witness_40 rfl (lv_at hl 1 rfl) ?_
        refine n_mul E dX0_witness_41 ?_
        refine lv_iload E.x E.b dX0_witness_42 (lv_at hl 4 rfl) ?_
        refine n_add E dX0_witness_44 ?_
        refine ld_value E hB (by omega) dX0_witness_45 ?_
        obtain ⟨b, hb⟩ := hW b8 P2 V2 K2 hD i (1 + j) (by omega) (by omega) (by omega)
        refine r_eq (y := bI b) (by rw [hb]; rfl) ?_
        refine lv_iload E.x E.b dX0_witness_46 (lv_at hl 4 rfl) ?_
        refine lv_iconst (v := nI (1)) E.x E.b dX0_witness_48 (by decide +kernel) ?_
        refine n_sub E (by omega) dX0_witness_49 ?_
        refine lv_ishl E.x E.b dX0_witness_50 ?_
        refine lv_ior E.x E.b dX0_witness_51 ?_
        refine r_eq (y := nI (witF V2.1 i (1 + j) (itr (witF V2.1 i) 1 j 0))) (wit_or (by omega) hb) ?_
        refine lv_istore_n (lv' := [(3, .int (nI (witF V2.1 i (1 + j) (itr (witF V2.1 i) 1 j 0)))), (0, .ref (h 0)), (1, .int (nI (i))), (2, .int (nI (b8))), (4, .int (nI (1 + j)))]) E.x E.b dX0_witness_52 rfl hl (by decide) rfl (fun ls hl => ?_)
        refine lv_iinc (v := nI (1 + j + 1)) (lv' := [(4, .int (nI (1 + j + 1))), (3, .int (nI (witF V2.1 i (1 + j) (itr (witF V2.1 i) 1 j 0)))), (0, .ref (h 0)), (1, .int (nI (i))), (2, .int (nI (b8)))]) E.x E.b dX0_witness_53 hl (k := 4) rfl (inc1 _) (by decide) rfl (fun ls hl => ?_)
        refine lv_goto (tgt := 27) E.x E.b dX0_witness_56 (by decide) ?_
        exact ihj (by omega)  ls H locs  (lv_sub hl [2, 3, 4, 1, 0] rfl) hB
set_option maxHeartbeats 4000000 in
set_option maxRecDepth 100000 in
/-- input(x) -/
theorem m_input (l : Launch) (D : va_G) (h : Nat → Nat) (d : Nat → ClassId) (C : CS) (P : PS) (V : VS) (K : KS) (x : Int32) (hC : okC C) (hS : SOK C) : ctI l yX0_input cX0_input 3 (rmm 7 166) D (tyD d) (dk h d C P V K) (dk h d C ((inputD C x (P, V, K)).2.1) ((inputD C x (P, V, K)).2.2.1) ((inputD C x (P, V, K)).2.2.2)) [.ref (h 0), .int (x)] .int (oI (inputD C x (P, V, K)).1) := by
  refine mkI RX0 rfl (by decide) (Nat.le_of_ble_eq_true rfl) [(0, .ref (h 0)), (1, .int (x))] rfl ?_
  intro p e s m below meth c A ls E hr hk hA hB hl
  rcases hD : depthL C 7 0 (P, V, K) with ⟨o, P2, V2, K2⟩
  refine lv_aload_n E.x E.b dX0_input_0 rfl (lv_at hl 0 rfl) ?_
  refine lv_bipush (v := nI (6)) E.x E.b dX0_input_1 (by decide +kernel) ?_
  refine k_depth E hA hB hl.1 ⟨Nat.le_of_ble_eq_true rfl, Nat.le_of_ble_eq_true rfl⟩ ⟨Nat.le_refl 0, Nat.le_refl 0⟩ (Nat.le_of_ble_eq_true rfl) hC hS dX0_input_3 (fun H locs hB => ?_)
  have hB : wB D A s.heap (dk h d C P2 V2 K2) H locs := hB.to (by rw [depthD_6, hD])
  refine r_eq (y := zI o) (by rw [depthD_6, hD]) ?_
  refine lv_istore_n (lv' := [(2, .int (zI (o))), (0, .ref (h 0)), (1, .int (x))]) E.x E.b dX0_input_6 rfl hl (by decide) rfl (fun ls hl => ?_)
  refine lv_iload_n E.x E.b dX0_input_7 rfl (lv_at hl 0 rfl) ?_
  refine z_if_lt (tgt := 20) E (fun n hn => by have := depthL_lt (C := C) 7 0 (P, V, K) n (by rw [hD]; exact hn); omega) dX0_input_8 (by decide) (fun hc8 => ?_) (fun b8 hc8 => ?_)
  · skip
    subst hc8
    refine lv_iconst (v := oI (none)) E.x E.b dX0_input_20 (by decide +kernel) ?_
    refine lv_goto (tgt := 35) E.x E.b dX0_input_21 (by decide) ?_
    exact r_iret (x := oI (none)) E hr hk (hB.to (by unfold inputD; rw [hD]; rw [atD_none])) dX0_input_35 (by unfold inputD; rw [hD]; rw [atD_none])
  · skip
    have hl : lv_has ls 3 [(2, .int (nI (b8))), (0, .ref (h 0)), (1, .int (x))] := by rw [hc8] at hl; exact hl
    have hn : b8 < 7 := by have := depthL_lt (C := C) 7 0 (P, V, K) b8 (by rw [hD]; exact hc8); omega
    subst hc8
    rcases hx : inT x 0 (b8 + 1) with _ | i
    · skip
      refine lv_iload_n E.x E.b dX0_input_11 rfl (lv_at hl 2 rfl) ?_
      refine lv_if_lt (tgt := 20) E.x E.b dX0_input_12 (by decide) (fun hc12 => ?_) (fun hc12 => ?_)
      · skip
        refine lv_iconst (v := oI (none)) E.x E.b dX0_input_20 (by decide +kernel) ?_
        refine lv_goto (tgt := 35) E.x E.b dX0_input_21 (by decide) ?_
        exact r_iret (x := oI (none)) E hr hk (hB.to (by unfold inputD; rw [hD]; rw [atD_some, hx])) dX0_input_35 (by unfold inputD; rw [hD]; rw [atD_some, hx])
      · skip
        refine lv_iload_n E.x E.b dX0_input_15 rfl (lv_at hl 2 rfl) ?_
        refine lv_iload_n E.x E.b dX0_input_16 rfl (lv_at hl 0 rfl) ?_
        refine lv_icmp_le (tgt := 24) E.x E.b dX0_input_17 (by decide) (fun hc17 => (dead_le b8 hx hc12 hc17 (by omega) (by omega)).elim) (fun hc17 => ?_)
        refine lv_iconst (v := oI (none)) E.x E.b dX0_input_20 (by decide +kernel) ?_
        refine lv_goto (tgt := 35) E.x E.b dX0_input_21 (by decide) ?_
        exact r_iret (x := oI (none)) E hr hk (hB.to (by unfold inputD; rw [hD]; rw [atD_some, hx])) dX0_input_35 (by unfold inputD; rw [hD]; rw [atD_some, hx])
    · obtain ⟨-, hi, rfl⟩ := inT_some hx (by omega)
      refine lv_iload_n E.x E.b dX0_input_11 rfl (lv_at hl 2 rfl) ?_
      refine lv_if_lt (tgt := 20) E.x E.b dX0_input_12 (by decide) (fun hc12 => absurd hc12 (nI_pos (by omega))) (fun hc12 => ?_)
      refine lv_iload_n E.x E.b dX0_input_15 rfl (lv_at hl 2 rfl) ?_
      refine lv_iload_n E.x E.b dX0_input_16 rfl (lv_at hl 0 rfl) ?_
      refine n_icmp_le (tgt := 24) E (by omega) (by omega) dX0_input_17 (by decide) (fun hc17 => ?_) (fun hc17 => absurd hc17 (by omega))
      refine lv_aload_n E.x E.b dX0_input_24 rfl (lv_at hl 1 rfl) ?_
      refine gd_value E hB dX0_input_25 ?_
      refine lv_bipush (v := nI (16)) E.x E.b dX0_input_28 (by decide +kernel) ?_
      refine lv_iload_n E.x E.b dX0_input_30 rfl (lv_at hl 2 rfl) ?_
      refine n_mul E dX0_input_31 ?_
      refine lv_iconst (v := nI (5)) E.x E.b dX0_input_32 (by decide +kernel) ?_
      refine n_add E dX0_input_33 ?_
      refine ld_value E hB (by omega) dX0_input_34 ?_
      exact r_iret (x := oI (V2.1 ((16 * i) + 5))) E hr hk (hB.to (by unfold inputD; rw [hD, atD_some, hx])) dX0_input_35 (by unfold inputD; rw [hD, atD_some, hx])
theorem valueD_n1 {C : CS} {x y z : Int32} {S : DS} (h : litOf C x = none) : valueD C x y z S = (none, S) := by unfold valueD; rw [h]
theorem valueD_n2 {C : CS} {x y z : Int32} {S : DS} (h : inT y 0 16 = none) : valueD C x y z S = (none, S) := by unfold valueD; rw [h]; cases litOf C x <;> rfl
theorem valueD_y {C : CS} {x y z : Int32} {S : DS} {k s : Nat} (h : litOf C x = some k) (h2 : inT y 0 16 = some s) : valueD C x y z S = (vlit (followA C 0 (valV S.2.1 s (b0 z))).1 0 k, ((0, S.1.2), followA C 0 (valV S.2.1 s (b0 z)), (0, S.2.2.2))) := by unfold valueD; rw [h, h2]
set_option maxHeartbeats 4000000 in
set_option maxRecDepth 100000 in
/-- value(x, y, z) -/
theorem m_value (l : Launch) (D : va_G) (h : Nat → Nat) (d : Nat → ClassId) (C : CS) (P : PS) (V : VS) (K : KS) (x y z : Int32) (hC : okC C) : ctI l yX0_value cX0_value 5 (rmm 5 118) D (tyD d) (dk h d C P V K) (dk h d C ((valueD C x y z (P, V, K)).2.1) ((valueD C x y z (P, V, K)).2.2.1) ((valueD C x y z (P, V, K)).2.2.2)) [.ref (h 0), .int (x), .int (y), .int (z)] .int (oI (valueD C x y z (P, V, K)).1) := by
  refine mkI RX0 rfl (by decide) (Nat.le_of_ble_eq_true rfl) [(0, .ref (h 0)), (1, .int (x)), (2, .int (y)), (3, .int (z))] rfl ?_
  intro p e s m below meth c A ls E hr hk hA hB hl
  have hg := hC.1
  refine lv_aload_n E.x E.b dX0_value_0 rfl (lv_at hl 0 rfl) ?_
  refine lv_iload_n E.x E.b dX0_value_1 rfl (lv_at hl 1 rfl) ?_
  refine k_isLiteral E hA hB hl.1 ⟨Nat.le_of_ble_eq_true rfl, Nat.le_of_ble_eq_true rfl⟩ ⟨Nat.le_refl 0, Nat.le_refl 0⟩ (Nat.le_of_ble_eq_true rfl) hC dX0_value_2 (fun H locs (hB : wB D A s.heap (dk h d C P V K) H locs) => ?_)
  refine b_if_eq (tgt := 18) E dX0_value_5 (by decide) (fun hc5 => ?_) (fun hc5 => ?_)
  · skip
    refine lv_iconst (v := oI (none)) E.x E.b dX0_value_18 (by decide +kernel) ?_
    exact r_iret (x := oI (none)) E hr hk (hB.to (by rw [valueD_n1 (isN hc5)])) dX0_value_19 (by rw [valueD_n1 (isN hc5)])
  · skip
    obtain ⟨k, hk0⟩ := isS hc5
    obtain ⟨hk1, hk2, rfl⟩ := lit_some hC hk0
    rcases hy : inT y 0 16 with _ | st
    · skip
      refine lv_iload_n E.x E.b dX0_value_8 rfl (lv_at hl 2 rfl) ?_
      refine lv_if_lt (tgt := 18) E.x E.b dX0_value_9 (by decide) (fun hc9 => ?_) (fun hc9 => ?_)
      · skip
        refine lv_iconst (v := oI (none)) E.x E.b dX0_value_18 (by decide +kernel) ?_
        exact r_iret (x := oI (none)) E hr hk (hB.to (by rw [valueD_n2 hy])) dX0_value_19 (by rw [valueD_n2 hy])
      · skip
        refine lv_iload_n E.x E.b dX0_value_12 rfl (lv_at hl 2 rfl) ?_
        refine lv_bipush (v := nI (15)) E.x E.b dX0_value_13 (by decide +kernel) ?_
        refine lv_icmp_le (tgt := 20) E.x E.b dX0_value_15 (by decide) (fun hc15 => (dead_le 15 hy hc9 hc15 (by decide) (by decide)).elim) (fun hc15 => ?_)
        refine lv_iconst (v := oI (none)) E.x E.b dX0_value_18 (by decide +kernel) ?_
        exact r_iret (x := oI (none)) E hr hk (hB.to (by rw [valueD_n2 hy])) dX0_value_19 (by rw [valueD_n2 hy])
    · obtain ⟨-, hst, rfl⟩ := inT_some hy (by decide)
      refine lv_iload_n E.x E.b dX0_value_8 rfl (lv_at hl 2 rfl) ?_
      refine lv_if_lt (tgt := 18) E.x E.b dX0_value_9 (by decide) (fun hc9 => absurd hc9 (nI_pos (by omega))) (fun hc9 => ?_)
      refine lv_iload_n E.x E.b dX0_value_12 rfl (lv_at hl 2 rfl) ?_
      refine lv_bipush (v := nI (15)) E.x E.b dX0_value_13 (by decide +kernel) ?_
      refine n_icmp_le (tgt := 20) E (by omega) (by omega) dX0_value_15 (by decide) (fun hc15 => ?_) (fun hc15 => absurd hc15 (by omega))
      refine lv_aload_n E.x E.b dX0_value_20 rfl (lv_at hl 0 rfl) ?_
      refine lv_iconst (v := nI (0)) E.x E.b dX0_value_21 (by decide +kernel) ?_
      refine k_open E hA hB hl.1 ⟨Nat.le_of_ble_eq_true rfl, Nat.le_of_ble_eq_true rfl⟩ ⟨Nat.le_refl 0, Nat.le_refl 0⟩ (Nat.le_of_ble_eq_true rfl) (by decide) dX0_value_22 (fun H locs (hB : wB D A s.heap (dk h d C (0, P.2) (openV V 0) (0, K.2)) H locs) => ?_)
      have hV := okV.openV V (n := 0) (by decide)
      refine lv_iconst (v := nI (1)) E.x E.b dX0_value_25 (by decide +kernel) ?_
      refine lv_istore (lv' := [(4, .int (nI (1))), (0, .ref (h 0)), (1, .int (nI (k))), (2, .int (nI (st))), (3, .int (z))]) E.x E.b dX0_value_26 hl (by decide) rfl (fun ls hl => ?_)
      refine upL (N := 4) (fun j => ∀ (ls : Array Slot) (H : Heap) (locs : List Loc), lv_has ls 5 [(0, .ref (h 0)), (1, .int (nI (k))), (2, .int (nI (st))), (3, .int (z)), (4, .int (nI (1 + j)))] → wB D A s.heap (dk h d C (0, P.2) (itr (valF st) 1 j (openV V 0)) (0, K.2)) H locs → W p l e (rmm 5 118) s m ([.ref (h 0), .int (nI (k)), .int (nI (st)), .int (z)] : List Value).toArray below meth c H locs 0 0 (qI below D (tyD d) A (dk h d C ((valueD C (nI k) (nI st) z (P, V, K)).2.1) ((valueD C (nI k) (nI st) z (P, V, K)).2.2.1) ((valueD C (nI k) (nI st) z (P, V, K)).2.2.2)) (oI (valueD C (nI k) (nI st) z (P, V, K)).1) ([.ref (h 0), .int (nI (k)), .int (nI (st)), .int (z)] : List Value).toArray s) (F0 m 28 ls [])) ?_ 0 (Nat.zero_le _)  ls _ _  (lv_sub hl [1, 2, 3, 4, 0] rfl) hB
      intro j hij ihj  ls H locs  hl hB
      have hV : okV (itr (valF st) 1 j (openV V 0)) := itr_ok hV (fun j a hj ha => ha.put (by omega) _)
      refine lv_iload E.x E.b dX0_value_28 (lv_at hl 4 rfl) ?_
      refine lv_iconst (v := nI (5)) E.x E.b dX0_value_30 (by decide +kernel) ?_
      refine n_icmp_ge (tgt := 54) E (by omega) (by omega) dX0_value_31 (by decide) (fun hc31 => ?_) (fun hc31 => ?_)
      · skip
        obtain rfl : j = 4 := by omega
        refine lv_aload_n E.x E.b dX0_value_54 rfl (lv_at hl 0 rfl) ?_
        refine lv_iconst (v := nI (5)) E.x E.b dX0_value_55 (by decide +kernel) ?_
        refine lv_iload_n E.x E.b dX0_value_56 rfl (lv_at hl 3 rfl) ?_
        refine lv_iconst (v := nI (1)) E.x E.b dX0_value_57 (by decide +kernel) ?_
        refine lv_iand E.x E.b dX0_value_58 ?_
        refine r_eq (y := bI (b0 z)) (b0_and z) ?_
        refine k_put E hA hB hl.1 ⟨Nat.le_of_ble_eq_true rfl, Nat.le_of_ble_eq_true rfl⟩ ⟨Nat.le_refl 0, Nat.le_refl 0⟩ (Nat.le_of_ble_eq_true rfl) (by omega) hV dX0_value_59 (fun H locs (hB : wB D A s.heap (dk h d C (0, P.2) (putF (itr (valF st) 1 4 (openV V 0)) 5 (b0 z)) (0, K.2)) H locs) => ?_)
        have hV : okV (putF (itr (valF st) 1 4 (openV V 0)) 5 (b0 z)) := hV.put (by omega) _
        refine lv_aload_n E.x E.b dX0_value_62 rfl (lv_at hl 0 rfl) ?_
        refine k_follow E hA hB hl.1 ⟨Nat.le_of_ble_eq_true rfl, Nat.le_of_ble_eq_true rfl⟩ ⟨Nat.le_refl 0, Nat.le_refl 0⟩ (Nat.le_of_ble_eq_true rfl) hC (show 0 < 7 by decide) hV dX0_value_63 (fun H locs (hB : wB D A s.heap (dk h d C (0, P.2) (followA C 0 (valV V st (b0 z))) (0, K.2)) H locs) => ?_)
        refine lv_aload_n E.x E.b dX0_value_66 rfl (lv_at hl 0 rfl) ?_
        refine lv_iconst (v := nI (0)) E.x E.b dX0_value_67 (by decide +kernel) ?_
        refine lv_iload_n E.x E.b dX0_value_68 rfl (lv_at hl 1 rfl) ?_
        refine k_valueOf E hA hB hl.1 ⟨Nat.le_of_ble_eq_true rfl, Nat.le_of_ble_eq_true rfl⟩ ⟨Nat.le_refl 0, Nat.le_refl 0⟩ (Nat.le_of_ble_eq_true rfl) (by omega) dX0_value_69 (fun H locs (hB : wB D A s.heap (dk h d C (0, P.2) (followA C 0 (valV V st (b0 z))) (0, K.2)) H locs) => ?_)
        exact r_iret (x := oI (vlit (followA C 0 (valV V st (b0 z))).1 0 k)) E hr hk (hB.to (by rw [valueD_y hk0 hy])) dX0_value_72 (by rw [valueD_y hk0 hy])
      · skip
        refine lv_aload_n E.x E.b dX0_value_34 rfl (lv_at hl 0 rfl) ?_
        refine lv_iload E.x E.b dX0_value_35 (lv_at hl 4 rfl) ?_
        refine lv_iload_n E.x E.b dX0_value_37 rfl (lv_at hl 2 rfl) ?_
        refine lv_iload E.x E.b dX0_value_38 (lv_at hl 4 rfl) ?_
        refine lv_iconst (v := nI (1)) E.x E.b dX0_value_40 (by decide +kernel) ?_
        refine n_sub E (by omega) dX0_value_41 ?_
        refine lv_iushr (v := _) E.x E.b dX0_value_42 rfl ?_
        refine lv_iconst (v := nI 1) E.x E.b dX0_value_43 (by decide +kernel) ?_
        refine lv_iand E.x E.b dX0_value_44 ?_
        refine r_eq (y := bI (bitF st ((1 + j) - 1))) (bit_16 st hst _ (by omega)) ?_
        refine k_put E hA hB hl.1 ⟨Nat.le_of_ble_eq_true rfl, Nat.le_of_ble_eq_true rfl⟩ ⟨Nat.le_refl 0, Nat.le_refl 0⟩ (Nat.le_of_ble_eq_true rfl) (by omega) hV dX0_value_45 (fun H locs (hB : wB D A s.heap (dk h d C (0, P.2) (putF (itr (valF st) 1 j (openV V 0)) (1 + j) (bitF st ((1 + j) - 1))) (0, K.2)) H locs) => ?_)
        have hV : okV (putF (itr (valF st) 1 j (openV V 0)) (1 + j) (bitF st ((1 + j) - 1))) := hV.put (by omega) _
        refine lv_iinc (v := nI (1 + j + 1)) (lv' := [(4, .int (nI (1 + j + 1))), (0, .ref (h 0)), (1, .int (nI (k))), (2, .int (nI (st))), (3, .int (z))]) E.x E.b dX0_value_48 hl (k := 4) rfl (inc1 _) (by decide) rfl (fun ls hl => ?_)
        refine lv_goto (tgt := 28) E.x E.b dX0_value_51 (by decide) ?_
        exact ihj (by omega)  ls H locs  (lv_sub hl [1, 2, 3, 4, 0] rfl) hB
end
section
/-! WALKS of the model, first part -/
set_option maxRecDepth 100000
theorem sl_32 : ∀ n, n < 32 → ((nI n &&& 31).toBitVec.smod 32).toNat = n := by decide +kernel
theorem shr_n {a k : Nat} (ha : a < 2 ^ 31) (hk : k < 32) : nI a >>> (nI k &&& 31) = nI (a / 2 ^ k) := pk_shrN ha _ k (sl_32 k hk)
theorem shl_n {a k : Nat} (hk : k < 32) (h : a * 2 ^ k < 2 ^ 32) : nI a <<< (nI k &&& 31) = nI (a * 2 ^ k) := pk_shlN _ k (sl_32 k hk) h
theorem shbit {a k : Nat} (ha : a < 2 ^ 31) (hk : k < 32) : nI a >>> (nI k &&& 31) &&& nI 1 = bI (bitF a k) := by
  rw [shr_n ha hk, nI_par (Nat.lt_of_le_of_lt (Nat.div_le_self _ _) ha)]
  rfl
theorem or_n (a b : Nat) : nI a ||| nI b = nI (a ||| b) := by
  apply Int32.toBitVec_inj.1
  show BitVec.ofNat 32 a ||| BitVec.ofNat 32 b = BitVec.ofNat 32 (a ||| b)
  apply BitVec.eq_of_getLsbD_eq
  intro i hi
  simp [hi]
theorem isNn {α : Type} {o : Option α} (h : o.isNone = true) : o = none := by cases o; rfl; cases h
theorem isNs {α : Type} {o : Option α} (h : o.isNone = false) : ∃ a, o = some a := by
  rcases o with _ | a
  · cases h
  · exact ⟨a, rfl⟩
def valueM (C : CS) (x y z : Int32) (M : MS) : Option Bool × MS := match litOf C x, inT y 0 16 with
  | some k, some s => (some (mof (workM C s (b0 z) M.1) k), (workM C s (b0 z) M.1, M.2))
  | _, _ => (none, M)
theorem valueM_n1 {C : CS} {x y z : Int32} {M : MS} (h : litOf C x = none) : valueM C x y z M = (none, M) := by unfold valueM; rw [h]
theorem valueM_n2 {C : CS} {x y z : Int32} {M : MS} (h : inT y 0 16 = none) : valueM C x y z M = (none, M) := by unfold valueM; rw [h]; cases litOf C x <;> rfl
theorem valueM_y {C : CS} {x y z : Int32} {M : MS} {k s : Nat} (h : litOf C x = some k) (h2 : inT y 0 16 = some s) : valueM C x y z M = (some (mof (workM C s (b0 z) M.1) k), (workM C s (b0 z) M.1, M.2)) := by unfold valueM; rw [h, h2]
theorem gateC_n3' {C : CS} {x y : Int32} (h : C.1 = 10) : gateC C x y = (none, C) := gateC_n3 (by omega)
section STC
variable {p : Program} {l : Launch} {e : Env} {R : Room} {s : State} {m : MethodId} {args : Array Value} {below : List Frame} {meth : Method} {c : Code} {H : Heap} {locs : List Loc} {cells slots : Nat} {Q : State → Prop}
variable {cc : ByteArray} {pc nL : Nat} {ls : Array Slot} {rest : List Value} {own : String} {D : va_G} {A : Nat → Prop} {tys : List (ClassId × FieldType)} {ws : va_W} {H0 : Heap}
theorem r_callis (E : ev p m c cc nL s args own D tys) (hA : ∀ q : Nat, s.heap.size ≤ q → A q) (hB : wB D A s.heap ws H locs) (hls : ls.size = nL) {y : MethodName} {cc' : ByteArray} {nL' : Nat} {rm : Room} {ws' : va_W} {idx : Nat} {As st : List Value} {ty : FieldType} {r : Int32} (n : Nat)
    (ct : ctI l y cc' nL' rm D tys ws ws' As ty r)
    (h1 : Cond.methodLink own idx y ∈ lw_all) (h2 : Cond.static y ∈ lw_all) (h4 : Cond.initialized y.cls ∈ lw_all) (h5 : Cond.code y cc' nL' (some ty) ∈ lw_all)
    (hd : y.cls ≠ "java/lang/invoke/MethodHandle" ∧ y.cls ≠ "java/lang/invoke/VarHandle" ∧ (parseMethodDescriptor y.desc).map (fun d => d.parameters.length) = some n) (hn : As.length = n) (hrm : rm.cells = 0 ∧ rm.slots = 0) (hR : rm.frames + 1 ≤ R.frames ∧ 8 + (nL' + 11) + rm.locals ≤ R.locals) (hf : cells ≤ R.cells ∧ slots ≤ R.slots)
    (hst : st = As.reverse ++ rest) (hrest : (rest.map fun v => v.category).sum ≤ 8) (hdg : decode cc pc = .ok (.invokestatic idx, 3))
    (kk : ∀ (H1 : Heap) (locs1 : List Loc), wB D A s.heap ws' H1 locs1 → W p l e R s m args below meth c H1 locs1 cells slots Q (F0 m (pc + 3) ls (.int r :: rest))) : W p l e R s m args below meth c H locs cells slots Q (F0 m pc ls st) := by
  have hF := hB.free hA
  subst hst
  refine va_calli (va_runS (As := As) (rest := rest) ⟨E.x, E.b, E.ml, E.ow, E.ts⟩ (ct H.size) (va_cwS n E.ts (lw_S h1 h2 h4 h5) rfl hrm.1 hrm.2 hd hR) ⟨wP.blind, fun U hU hW => ⟨rfl, by rw [hU], by rw [hU]; exact hB.1, va_K.moved hW.alike E.k, hB.2.1.weaken (fun _ _ _ _ => trivial)⟩⟩ rfl hn hls rfl (lv_room hrest) hdg hf) hB.2.2 (fun q _ h => hF q h) hF (fun x u t H1 locs ht hvm hw1 hB1 hz1 hk1 hS => ?_)
  obtain ⟨hP1, hK1, hD1⟩ := hB1
  rw [ht] at hP1
  subst hw1
  exact kk H1 locs ⟨hP1, hD1.weaken (fun k q _ h => hF q.1 h), hS⟩
end STC
set_option maxHeartbeats 4000000 in
/-- badLatch(x), static -/
theorem m1_badLatch (l : Launch) (D : va_G) (h : Nat → Nat) (d : Nat → ClassId) (C : CS) (M : MS) (x : Int32) : ctI l yX1_badLatch cX1_badLatch 1 (rmm 0 0) D (tyM d) (mk h d C M) (mk h d C M) [.int x] .boolean (bI (inT x 1 5).isNone) := by
  refine mkI RX1 rfl (by decide) (Nat.le_of_ble_eq_true rfl) [(0, .int x)] rfl ?_
  intro p e s m below meth c A ls E hr hk hA hB hl
  rcases hx : inT x 1 5 with _ | k
  · skip
    refine lv_iload_n E.x E.b dX1_badLatch_0 rfl (lv_at hl 0 rfl) ?_
    refine lv_iconst (v := nI (1)) E.x E.b dX1_badLatch_1 (by decide +kernel) ?_
    refine lv_icmp_lt (tgt := 10) E.x E.b dX1_badLatch_2 (by decide) (fun hc2 => ?_) (fun hc2 => ?_)
    · skip
      refine lv_iconst (v := bI (true)) E.x E.b dX1_badLatch_10 (by decide +kernel) ?_
      refine lv_goto (tgt := 15) E.x E.b dX1_badLatch_11 (by decide) ?_
      exact r_zret (x := true) E hr hk (hB) dX1_badLatch_15 (rfl)
    · skip
      refine lv_iload_n E.x E.b dX1_badLatch_5 rfl (lv_at hl 0 rfl) ?_
      refine lv_iconst (v := nI (4)) E.x E.b dX1_badLatch_6 (by decide +kernel) ?_
      refine lv_icmp_le (tgt := 14) E.x E.b dX1_badLatch_7 (by decide) (fun hc7 => (dead_lb hx hc2 hc7).elim) (fun hc7 => ?_)
      refine lv_iconst (v := bI (true)) E.x E.b dX1_badLatch_10 (by decide +kernel) ?_
      refine lv_goto (tgt := 15) E.x E.b dX1_badLatch_11 (by decide) ?_
      exact r_zret (x := true) E hr hk (hB) dX1_badLatch_15 (rfl)
  · obtain ⟨hk1, hk2, rfl⟩ := inT_some hx (by decide)
    refine lv_iload_n E.x E.b dX1_badLatch_0 rfl (lv_at hl 0 rfl) ?_
    refine lv_iconst (v := nI (1)) E.x E.b dX1_badLatch_1 (by decide +kernel) ?_
    refine n_icmp_lt (tgt := 10) E (by omega) (by omega) dX1_badLatch_2 (by decide) (fun hc2 => absurd hc2 (by omega)) (fun hc2 => ?_)
    refine lv_iload_n E.x E.b dX1_badLatch_5 rfl (lv_at hl 0 rfl) ?_
    refine lv_iconst (v := nI (4)) E.x E.b dX1_badLatch_6 (by decide +kernel) ?_
    refine n_icmp_le (tgt := 14) E (by omega) (by omega) dX1_badLatch_7 (by decide) (fun hc7 => ?_) (fun hc7 => absurd hc7 (by omega))
    refine lv_iconst (v := bI (false)) E.x E.b dX1_badLatch_14 (by decide +kernel) ?_
    exact r_zret (x := false) E hr hk (hB) dX1_badLatch_15 (rfl)
theorem k1_badLatch {p : Program} {l : Launch} {e : Env} {R : Room} {s : State} {m : MethodId} {args : Array Value} {below : List Frame} {meth : Method} {c : Code} {H : Heap} {locs : List Loc} {cells slots : Nat} {Q : State → Prop} {cc : ByteArray} {pc nL : Nat} {ls : Array Slot} {rest : List Value} {D : va_G} {A : Nat → Prop} {h : Nat → Nat} {d : Nat → ClassId} {C : CS} {M : MS} {x : Int32} (E : ev p m c cc nL s args RX1 D (tyM d)) (hA : ∀ q : Nat, s.heap.size ≤ q → A q) (hB : wB D A s.heap (mk h d C M) H locs) (hls : ls.size = nL) (hRm : 1 ≤ R.frames ∧ 20 ≤ R.locals) (hfm : cells ≤ R.cells ∧ slots ≤ R.slots) (hrest : (rest.map fun v => v.category).sum ≤ 8) (hdg : decode cc pc = .ok (.invokestatic 39, 3)) (kk : ∀ (H1 : Heap) (locs1 : List Loc), wB D A s.heap (mk h d C M) H1 locs1 → W p l e R s m args below meth c H1 locs1 cells slots Q (F0 m (pc + 3) ls (.int (bI (inT x 1 5).isNone) :: rest))) : W p l e R s m args below meth c H locs cells slots Q (F0 m pc ls (.int x :: rest)) :=
  r_callis E hA hB hls 1 (m1_badLatch l D h d C M x) q232 q233 q26 q234 (by decide +kernel) rfl ⟨rfl, rfl⟩ hRm hfm rfl hrest hdg kk
set_option maxHeartbeats 4000000 in
set_option maxRecDepth 100000 in
/-- refused(x) -/
theorem m1_refused (l : Launch) (D : va_G) (h : Nat → Nat) (d : Nat → ClassId) (C : CS) (M : MS) (x : Int32) (hC : okC C) : ctI l yX1_refused cX1_refused 2 (rmm 0 0) D (tyM d) (mk h d C M) (mk h d C M) [.ref (h 0), .int (x)] .boolean (bI (litOf C x).isNone) := by
  refine mkI RX1 rfl (by decide) (Nat.le_of_ble_eq_true rfl) [(0, .ref (h 0)), (1, .int (x))] rfl ?_
  intro p e s m below meth c A ls E hr hk hA hB hl
  have hg := hC.1
  rcases hx : litOf C x with _ | i
  · skip
    refine lv_iload_n E.x E.b dX1_refused_0 rfl (lv_at hl 1 rfl) ?_
    refine lv_if_lt (tgt := 17) E.x E.b dX1_refused_1 (by decide) (fun hc1 => ?_) (fun hc1 => ?_)
    · skip
      refine lv_iconst (v := bI (true)) E.x E.b dX1_refused_17 (by decide +kernel) ?_
      refine lv_goto (tgt := 22) E.x E.b dX1_refused_18 (by decide) ?_
      exact r_zret (x := true) E hr hk (hB) dX1_refused_22 (rfl)
    · skip
      refine lv_iload_n E.x E.b dX1_refused_4 rfl (lv_at hl 1 rfl) ?_
      refine lv_iconst (v := nI (2)) E.x E.b dX1_refused_5 (by decide +kernel) ?_
      refine lv_bipush (v := nI (6)) E.x E.b dX1_refused_6 (by decide +kernel) ?_
      refine lv_aload_n E.x E.b dX1_refused_8 rfl (lv_at hl 0 rfl) ?_
      refine gm_gates E hB dX1_refused_9 ?_
      refine n_add E dX1_refused_12 ?_
      refine n_mul E dX1_refused_13 ?_
      refine lv_icmp_lt (tgt := 21) E.x E.b dX1_refused_14 (by decide) (fun hc14 => (dead_lt hx hc1 (fun z => Int32.not_le.mpr hc14 z) (by omega)).elim) (fun hc14 => ?_)
      refine lv_iconst (v := bI (true)) E.x E.b dX1_refused_17 (by decide +kernel) ?_
      refine lv_goto (tgt := 22) E.x E.b dX1_refused_18 (by decide) ?_
      exact r_zret (x := true) E hr hk (hB) dX1_refused_22 (rfl)
  · obtain ⟨hi, -, rfl⟩ := lit_some hC hx
    refine lv_iload_n E.x E.b dX1_refused_0 rfl (lv_at hl 1 rfl) ?_
    refine lv_if_lt (tgt := 17) E.x E.b dX1_refused_1 (by decide) (fun hc1 => absurd hc1 (nI_pos (by omega))) (fun hc1 => ?_)
    refine lv_iload_n E.x E.b dX1_refused_4 rfl (lv_at hl 1 rfl) ?_
    refine lv_iconst (v := nI (2)) E.x E.b dX1_refused_5 (by decide +kernel) ?_
    refine lv_bipush (v := nI (6)) E.x E.b dX1_refused_6 (by decide +kernel) ?_
    refine lv_aload_n E.x E.b dX1_refused_8 rfl (lv_at hl 0 rfl) ?_
    refine gm_gates E hB dX1_refused_9 ?_
    refine n_add E dX1_refused_12 ?_
    refine n_mul E dX1_refused_13 ?_
    refine n_icmp_lt (tgt := 21) E (by omega) (by omega) dX1_refused_14 (by decide) (fun hc14 => ?_) (fun hc14 => absurd hc14 (by omega))
    refine lv_iconst (v := bI (false)) E.x E.b dX1_refused_21 (by decide +kernel) ?_
    exact r_zret (x := false) E hr hk (hB) dX1_refused_22 (rfl)
theorem k1_refused {p : Program} {l : Launch} {e : Env} {R : Room} {s : State} {m : MethodId} {args : Array Value} {below : List Frame} {meth : Method} {c : Code} {H : Heap} {locs : List Loc} {cells slots : Nat} {Q : State → Prop} {cc : ByteArray} {pc nL : Nat} {ls : Array Slot} {rest : List Value} {D : va_G} {A : Nat → Prop} {h : Nat → Nat} {d : Nat → ClassId} {C : CS} {M : MS} {x : Int32} (E : ev p m c cc nL s args RX1 D (tyM d)) (hA : ∀ q : Nat, s.heap.size ≤ q → A q) (hB : wB D A s.heap (mk h d C M) H locs) (hls : ls.size = nL) (hRm : 1 ≤ R.frames ∧ 21 ≤ R.locals) (hfm : cells ≤ R.cells ∧ slots ≤ R.slots) (hrest : (rest.map fun v => v.category).sum ≤ 8) (hC : okC C) (hdg : decode cc pc = .ok (.invokevirtual 35, 3)) (kk : ∀ (H1 : Heap) (locs1 : List Loc), wB D A s.heap (mk h d C M) H1 locs1 → W p l e R s m args below meth c H1 locs1 cells slots Q (F0 m (pc + 3) ls (.int (bI (litOf C x).isNone) :: rest))) : W p l e R s m args below meth c H locs cells slots Q (F0 m pc ls (.int (x) :: .ref (h 0) :: rest)) :=
  r_calli (ci := 1) (q := (RX1, TX1, 9)) E hA hB hls 1 (m1_refused l D h d C M x hC) rfl rfl q224 q226 qs14 q26 q227 (by decide +kernel) rfl ⟨rfl, rfl⟩ hRm hfm rfl hrest hdg kk
set_option maxHeartbeats 4000000 in
set_option maxRecDepth 100000 in
/-- gate(x, y) -/
theorem m1_gate (l : Launch) (D : va_G) (h : Nat → Nat) (d : Nat → ClassId) (C : CS) (M : MS) (x y : Int32) (hC : okC C) : ctI l yX1_gate cX1_gate 3 (rmm 1 21) D (tyM d) (mk h d C M) (mk h d ((gateC C x y).2) M) [.ref (h 0), .int (x), .int (y)] .int (zI (gateC C x y).1) := by
  refine mkI RX1 rfl (by decide) (Nat.le_of_ble_eq_true rfl) [(0, .ref (h 0)), (1, .int (x)), (2, .int (y))] rfl ?_
  intro p e s m below meth c A ls E hr hk hA hB hl
  have hg := hC.1
  refine lv_aload_n E.x E.b dX1_gate_0 rfl (lv_at hl 0 rfl) ?_
  refine lv_iload_n E.x E.b dX1_gate_1 rfl (lv_at hl 1 rfl) ?_
  refine k1_refused E hA hB hl.1 ⟨Nat.le_of_ble_eq_true rfl, Nat.le_of_ble_eq_true rfl⟩ ⟨Nat.le_refl 0, Nat.le_refl 0⟩ (Nat.le_of_ble_eq_true rfl) hC dX1_gate_2 (fun H locs (hB : wB D A s.heap (mk h d C M) H locs) => ?_)
  refine b_if_ne (tgt := 25) E dX1_gate_5 (by decide) (fun hc5 => ?_) (fun hc5 => ?_)
  · skip
    refine lv_iconst (v := zI (none)) E.x E.b dX1_gate_25 (by decide +kernel) ?_
    exact r_iret (x := zI (none)) E hr hk (hB.to (by rw [gateC_n1 (isNn hc5)])) dX1_gate_26 (by rw [gateC_n1 (isNn hc5)])
  · skip
    refine lv_aload_n E.x E.b dX1_gate_8 rfl (lv_at hl 0 rfl) ?_
    refine lv_iload_n E.x E.b dX1_gate_9 rfl (lv_at hl 2 rfl) ?_
    refine k1_refused E hA hB hl.1 ⟨Nat.le_of_ble_eq_true rfl, Nat.le_of_ble_eq_true rfl⟩ ⟨Nat.le_refl 0, Nat.le_refl 0⟩ (Nat.le_of_ble_eq_true rfl) hC dX1_gate_10 (fun H locs (hB : wB D A s.heap (mk h d C M) H locs) => ?_)
    refine b_if_ne (tgt := 25) E dX1_gate_13 (by decide) (fun hc13 => ?_) (fun hc13 => ?_)
    · skip
      refine lv_iconst (v := zI (none)) E.x E.b dX1_gate_25 (by decide +kernel) ?_
      exact r_iret (x := zI (none)) E hr hk (hB.to (by rw [gateC_n2 (isNn hc13)])) dX1_gate_26 (by rw [gateC_n2 (isNn hc13)])
    · skip
      refine lv_aload_n E.x E.b dX1_gate_16 rfl (lv_at hl 0 rfl) ?_
      refine gm_gates E hB dX1_gate_17 ?_
      refine lv_bipush (v := nI (10)) E.x E.b dX1_gate_20 (by decide +kernel) ?_
      refine n_icmp_ne (tgt := 27) E (by omega) (by omega) dX1_gate_22 (by decide) (fun hc22 => ?_) (fun hc22 => ?_)
      · skip
        have hg9 : C.1 < 10 := by omega
        obtain ⟨i, hi⟩ := isNs hc5
        obtain ⟨hi1, hi2, rfl⟩ := lit_some hC hi
        obtain ⟨j, hj⟩ := isNs hc13
        obtain ⟨hj1, hj2, rfl⟩ := lit_some hC hj
        refine lv_aload_n E.x E.b dX1_gate_27 rfl (lv_at hl 0 rfl) ?_
        refine gm_firsts E hB dX1_gate_28 ?_
        refine lv_aload_n E.x E.b dX1_gate_31 rfl (lv_at hl 0 rfl) ?_
        refine gm_gates E hB dX1_gate_32 ?_
        refine lv_iload_n E.x E.b dX1_gate_35 rfl (lv_at hl 1 rfl) ?_
        refine sm_firsts E hB (i := C.1) (x := i) (by omega) dX1_gate_36 (fun H locs (hB : wB D A s.heap (mk h d (C.1, va_up C.2.1 (6 + C.1) i, C.2.2) M) H locs) => ?_)
        refine lv_aload_n E.x E.b dX1_gate_37 rfl (lv_at hl 0 rfl) ?_
        refine gm_seconds E hB dX1_gate_38 ?_
        refine lv_aload_n E.x E.b dX1_gate_41 rfl (lv_at hl 0 rfl) ?_
        refine gm_gates E hB dX1_gate_42 ?_
        refine r_eq (y := nI (C.1)) rfl ?_
        refine lv_iload_n E.x E.b dX1_gate_45 rfl (lv_at hl 2 rfl) ?_
        refine sm_seconds E hB (i := C.1) (x := j) (by omega) dX1_gate_46 (fun H locs (hB : wB D A s.heap (mk h d (C.1, (va_up C.2.1 (6 + C.1) i), va_up C.2.2.1 (6 + C.1) j, C.2.2.2) M) H locs) => ?_)
        refine lv_aload_n E.x E.b dX1_gate_47 rfl (lv_at hl 0 rfl) ?_
        refine lv_dup E.x E.b dX1_gate_48 rfl ?_
        refine gm_gates E hB dX1_gate_49 ?_
        refine r_eq (y := nI (C.1)) rfl ?_
        refine lv_iconst (v := nI (1)) E.x E.b dX1_gate_52 (by decide +kernel) ?_
        refine n_add E dX1_gate_53 ?_
        refine pm_gates E hB (n := (C.1 + 1)) dX1_gate_54 (fun H locs (hB : wB D A s.heap (mk h d (C.1 + 1, va_up C.2.1 (6 + C.1) i, va_up C.2.2.1 (6 + C.1) j, C.2.2.2) M) H locs) => ?_)
        refine lv_iconst (v := nI (5)) E.x E.b dX1_gate_57 (by decide +kernel) ?_
        refine lv_aload_n E.x E.b dX1_gate_58 rfl (lv_at hl 0 rfl) ?_
        refine gm_gates E hB dX1_gate_59 ?_
        refine r_eq (y := nI ((C.1 + 1))) rfl ?_
        refine n_add E dX1_gate_62 ?_
        exact r_iret (x := nI (5 + (C.1 + 1))) E hr hk (hB.to (by rw [gateC_y hi hj hg9])) dX1_gate_63 (by rw [gateC_y hi hj hg9]; rfl)
      · skip
        refine lv_iconst (v := zI (none)) E.x E.b dX1_gate_25 (by decide +kernel) ?_
        exact r_iret (x := zI (none)) E hr hk (hB.to (by rw [gateC_n3' hc22])) dX1_gate_26 (by rw [gateC_n3' hc22])
set_option maxHeartbeats 4000000 in
set_option maxRecDepth 100000 in
/-- next(x, y) -/
theorem m1_next (l : Launch) (D : va_G) (h : Nat → Nat) (d : Nat → ClassId) (C : CS) (M : MS) (x y : Int32) (hC : okC C) : ctI l yX1_next cX1_next 4 (rmm 1 21) D (tyM d) (mk h d C M) (mk h d ((nextC C x y).2) M) [.ref (h 0), .int (x), .int (y)] .int (zI (nextC C x y).1) := by
  refine mkI RX1 rfl (by decide) (Nat.le_of_ble_eq_true rfl) [(0, .ref (h 0)), (1, .int (x)), (2, .int (y))] rfl ?_
  intro p e s m below meth c A ls E hr hk hA hB hl
  refine lv_iload_n E.x E.b dX1_next_0 rfl (lv_at hl 1 rfl) ?_
  refine k1_badLatch E hA hB hl.1 ⟨Nat.le_of_ble_eq_true rfl, Nat.le_of_ble_eq_true rfl⟩ ⟨Nat.le_refl 0, Nat.le_refl 0⟩ (Nat.le_of_ble_eq_true rfl) dX1_next_1 (fun H locs (hB : wB D A s.heap (mk h d C M) H locs) => ?_)
  refine b_if_ne (tgt := 15) E dX1_next_4 (by decide) (fun hc4 => ?_) (fun hc4 => ?_)
  · skip
    refine lv_iconst (v := zI (none)) E.x E.b dX1_next_15 (by decide +kernel) ?_
    exact r_iret (x := zI (none)) E hr hk (hB.to (by rw [nextC_n1 (isNn hc4)])) dX1_next_16 (by rw [nextC_n1 (isNn hc4)])
  · skip
    obtain ⟨k, hx⟩ := isNs hc4
    obtain ⟨hk1, hk2, rfl⟩ := inT_some hx (by decide)
    refine lv_aload_n E.x E.b dX1_next_7 rfl (lv_at hl 0 rfl) ?_
    refine lv_iload_n E.x E.b dX1_next_8 rfl (lv_at hl 2 rfl) ?_
    refine k1_refused E hA hB hl.1 ⟨Nat.le_of_ble_eq_true rfl, Nat.le_of_ble_eq_true rfl⟩ ⟨Nat.le_refl 0, Nat.le_refl 0⟩ (Nat.le_of_ble_eq_true rfl) hC dX1_next_9 (fun H locs (hB : wB D A s.heap (mk h d C M) H locs) => ?_)
    refine b_if_eq (tgt := 17) E dX1_next_12 (by decide) (fun hc12 => ?_) (fun hc12 => ?_)
    · skip
      obtain ⟨i, hi⟩ := isNs hc12
      obtain ⟨hi1, hi2, rfl⟩ := lit_some hC hi
      refine lv_aload_n E.x E.b dX1_next_17 rfl (lv_at hl 0 rfl) ?_
      refine gm_nexts E hB dX1_next_18 ?_
      refine lv_iload_n E.x E.b dX1_next_21 rfl (lv_at hl 1 rfl) ?_
      refine lm_nexts E hB (by omega) dX1_next_22 ?_
      refine lv_istore_n (lv' := [(3, .int (nI (cN C (k)))), (0, .ref (h 0)), (1, .int (nI (k))), (2, .int (nI (i)))]) E.x E.b dX1_next_23 rfl hl (by decide) rfl (fun ls hl => ?_)
      refine lv_aload_n E.x E.b dX1_next_24 rfl (lv_at hl 1 rfl) ?_
      refine gm_nexts E hB dX1_next_25 ?_
      refine lv_iload_n E.x E.b dX1_next_28 rfl (lv_at hl 2 rfl) ?_
      refine lv_iload_n E.x E.b dX1_next_29 rfl (lv_at hl 3 rfl) ?_
      refine sm_nexts E hB (i := k) (x := i) (by omega) dX1_next_30 (fun H locs (hB : wB D A s.heap (mk h d (C.1, C.2.1, C.2.2.1, va_up C.2.2.2.1 k i, C.2.2.2.2) M) H locs) => ?_)
      refine lv_iload_n E.x E.b dX1_next_31 rfl (lv_at hl 0 rfl) ?_
      exact r_iret (x := nI (cN C (k))) E hr hk (hB.to (by rw [nextC_y hx hi])) dX1_next_32 (by rw [nextC_y hx hi]; rfl)
    · skip
      refine lv_iconst (v := zI (none)) E.x E.b dX1_next_15 (by decide +kernel) ?_
      exact r_iret (x := zI (none)) E hr hk (hB.to (by rw [nextC_n2 (isNn hc12)])) dX1_next_16 (by rw [nextC_n2 (isNn hc12)])
set_option maxHeartbeats 4000000 in
set_option maxRecDepth 100000 in
/-- begin(x, y) -/
theorem m1_begin (l : Launch) (D : va_G) (h : Nat → Nat) (d : Nat → ClassId) (C : CS) (M : MS) (x y : Int32)  : ctI l yX1_begin cX1_begin 3 (rmm 1 20) D (tyM d) (mk h d C M) (mk h d ((beginC C x y).2) M) [.ref (h 0), .int (x), .int (y)] .int (zI (beginC C x y).1) := by
  refine mkI RX1 rfl (by decide) (Nat.le_of_ble_eq_true rfl) [(0, .ref (h 0)), (1, .int (x)), (2, .int (y))] rfl ?_
  intro p e s m below meth c A ls E hr hk hA hB hl
  refine lv_iload_n E.x E.b dX1_begin_0 rfl (lv_at hl 1 rfl) ?_
  refine k1_badLatch E hA hB hl.1 ⟨Nat.le_of_ble_eq_true rfl, Nat.le_of_ble_eq_true rfl⟩ ⟨Nat.le_refl 0, Nat.le_refl 0⟩ (Nat.le_of_ble_eq_true rfl) dX1_begin_1 (fun H locs (hB : wB D A s.heap (mk h d C M) H locs) => ?_)
  refine b_if_ne (tgt := 16) E dX1_begin_4 (by decide) (fun hc4 => ?_) (fun hc4 => ?_)
  · skip
    refine lv_iconst (v := zI (none)) E.x E.b dX1_begin_16 (by decide +kernel) ?_
    exact r_iret (x := zI (none)) E hr hk (hB.to (by rw [beginC_n1 (isNn hc4)])) dX1_begin_17 (by rw [beginC_n1 (isNn hc4)])
  · skip
    obtain ⟨k, hx⟩ := isNs hc4
    obtain ⟨hk1, hk2, rfl⟩ := inT_some hx (by decide)
    rcases hy : inT y 0 3 with _ | i
    · skip
      refine lv_iload_n E.x E.b dX1_begin_7 rfl (lv_at hl 2 rfl) ?_
      refine lv_if_lt (tgt := 16) E.x E.b dX1_begin_8 (by decide) (fun hc8 => ?_) (fun hc8 => ?_)
      · skip
        refine lv_iconst (v := zI (none)) E.x E.b dX1_begin_16 (by decide +kernel) ?_
        exact r_iret (x := zI (none)) E hr hk (hB.to (by rw [beginC_n2 hy])) dX1_begin_17 (by rw [beginC_n2 hy])
      · skip
        refine lv_iload_n E.x E.b dX1_begin_11 rfl (lv_at hl 2 rfl) ?_
        refine lv_iconst (v := nI (2)) E.x E.b dX1_begin_12 (by decide +kernel) ?_
        refine lv_icmp_le (tgt := 18) E.x E.b dX1_begin_13 (by decide) (fun hc13 => (dead_le 2 hy hc8 hc13 (by decide) (by decide)).elim) (fun hc13 => ?_)
        refine lv_iconst (v := zI (none)) E.x E.b dX1_begin_16 (by decide +kernel) ?_
        exact r_iret (x := zI (none)) E hr hk (hB.to (by rw [beginC_n2 hy])) dX1_begin_17 (by rw [beginC_n2 hy])
    · obtain ⟨-, hi2, rfl⟩ := inT_some hy (by decide)
      refine lv_iload_n E.x E.b dX1_begin_7 rfl (lv_at hl 2 rfl) ?_
      refine lv_if_lt (tgt := 16) E.x E.b dX1_begin_8 (by decide) (fun hc8 => absurd hc8 (nI_pos (by omega))) (fun hc8 => ?_)
      refine lv_iload_n E.x E.b dX1_begin_11 rfl (lv_at hl 2 rfl) ?_
      refine lv_iconst (v := nI (2)) E.x E.b dX1_begin_12 (by decide +kernel) ?_
      refine n_icmp_le (tgt := 18) E (by omega) (by omega) dX1_begin_13 (by decide) (fun hc13 => ?_) (fun hc13 => absurd hc13 (by omega))
      refine lv_aload_n E.x E.b dX1_begin_18 rfl (lv_at hl 0 rfl) ?_
      refine gm_begins E hB dX1_begin_19 ?_
      refine lv_iload_n E.x E.b dX1_begin_22 rfl (lv_at hl 1 rfl) ?_
      refine lv_iload_n E.x E.b dX1_begin_23 rfl (lv_at hl 2 rfl) ?_
      refine sm_begins E hB (i := k) (x := i) (by omega) dX1_begin_24 (fun H locs (hB : wB D A s.heap (mk h d (C.1, C.2.1, C.2.2.1, C.2.2.2.1, va_up C.2.2.2.2.1 k i, C.2.2.2.2.2) M) H locs) => ?_)
      refine lv_iconst (v := nI (0)) E.x E.b dX1_begin_25 (by decide +kernel) ?_
      exact r_iret (x := nI (0)) E hr hk (hB.to (by rw [beginC_y hx hy])) dX1_begin_26 (by rw [beginC_y hx hy]; rfl)
set_option maxHeartbeats 4000000 in
set_option maxRecDepth 100000 in
/-- bad(x) -/
theorem m1_bad (l : Launch) (D : va_G) (h : Nat → Nat) (d : Nat → ClassId) (C : CS) (M : MS) (x : Int32) (hC : okC C) : ctI l yX1_bad cX1_bad 3 (rmm 1 21) D (tyM d) (mk h d C M) (mk h d ((badC C x).2) M) [.ref (h 0), .int (x)] .int (zI (badC C x).1) := by
  refine mkI RX1 rfl (by decide) (Nat.le_of_ble_eq_true rfl) [(0, .ref (h 0)), (1, .int (x))] rfl ?_
  intro p e s m below meth c A ls E hr hk hA hB hl
  refine lv_aload_n E.x E.b dX1_bad_0 rfl (lv_at hl 0 rfl) ?_
  refine lv_iload_n E.x E.b dX1_bad_1 rfl (lv_at hl 1 rfl) ?_
  refine k1_refused E hA hB hl.1 ⟨Nat.le_of_ble_eq_true rfl, Nat.le_of_ble_eq_true rfl⟩ ⟨Nat.le_refl 0, Nat.le_refl 0⟩ (Nat.le_of_ble_eq_true rfl) hC dX1_bad_2 (fun H locs (hB : wB D A s.heap (mk h d C M) H locs) => ?_)
  refine b_if_eq (tgt := 10) E dX1_bad_5 (by decide) (fun hc5 => ?_) (fun hc5 => ?_)
  · skip
    obtain ⟨i, hi⟩ := isNs hc5
    obtain ⟨hi1, hi2, rfl⟩ := lit_some hC hi
    refine lv_aload_n E.x E.b dX1_bad_10 rfl (lv_at hl 0 rfl) ?_
    refine gm_badLiteral E hB dX1_bad_11 ?_
    refine lv_istore_n (lv' := [(2, .int (nI (cX C))), (0, .ref (h 0)), (1, .int (nI (i)))]) E.x E.b dX1_bad_14 rfl hl (by decide) rfl (fun ls hl => ?_)
    refine lv_aload_n E.x E.b dX1_bad_15 rfl (lv_at hl 1 rfl) ?_
    refine lv_iload_n E.x E.b dX1_bad_16 rfl (lv_at hl 2 rfl) ?_
    refine pm_badLiteral E hB (n := i) dX1_bad_17 (fun H locs (hB : wB D A s.heap (mk h d (C.1, C.2.1, C.2.2.1, C.2.2.2.1, C.2.2.2.2.1, i) M) H locs) => ?_)
    refine lv_iload_n E.x E.b dX1_bad_20 rfl (lv_at hl 0 rfl) ?_
    exact r_iret (x := nI (cX C)) E hr hk (hB.to (by rw [badC_y hi])) dX1_bad_21 (by rw [badC_y hi]; rfl)
  · skip
    refine lv_iconst (v := zI (none)) E.x E.b dX1_bad_8 (by decide +kernel) ?_
    exact r_iret (x := zI (none)) E hr hk (hB.to (by rw [badC_n (isNn hc5)])) dX1_bad_9 (by rw [badC_n (isNn hc5)])
set_option maxHeartbeats 4000000 in
set_option maxRecDepth 100000 in
/-- of(k) -/
theorem m1_of (l : Launch) (D : va_G) (h : Nat → Nat) (d : Nat → ClassId) (C : CS) (M : MS) (k : Nat) (hk9 : k < 32) : ctI l yX1_of cX1_of 2 (rmm 0 0) D (tyM d) (mk h d C M) (mk h d C M) [.ref (h 0), .int (nI (k))] .int (bI (mof M.1 k)) := by
  refine mkI RX1 rfl (by decide) (Nat.le_of_ble_eq_true rfl) [(0, .ref (h 0)), (1, .int (nI (k)))] rfl ?_
  intro p e s m below meth c A ls E hr hk hA hB hl
  refine lv_iload_n E.x E.b dX1_of_0 rfl (lv_at hl 1 rfl) ?_
  refine lv_iconst (v := nI (2)) E.x E.b dX1_of_1 (by decide +kernel) ?_
  refine lv_irem E.x E.b dX1_of_2 (by decide +kernel) ?_
  refine r_eq (y := nI (k % 2)) (pk_rem (by omega) (by decide) (by decide)) ?_
  refine r_eq (y := bI (par k)) (nI_b (by omega)) ?_
  refine b_if_ne (tgt := 17) E dX1_of_3 (by decide) (fun hc3 => ?_) (fun hc3 => ?_)
  · skip
    refine lv_iconst (v := nI (1)) E.x E.b dX1_of_17 (by decide +kernel) ?_
    refine lv_aload_n E.x E.b dX1_of_18 rfl (lv_at hl 0 rfl) ?_
    refine gm_signals E hB dX1_of_19 ?_
    refine lv_iload_n E.x E.b dX1_of_22 rfl (lv_at hl 1 rfl) ?_
    refine lv_iconst (v := nI (2)) E.x E.b dX1_of_23 (by decide +kernel) ?_
    refine lv_idiv E.x E.b dX1_of_24 (by decide +kernel) ?_
    refine r_eq (y := nI (k / 2)) (pk_div (by omega) (by decide) (by decide)) ?_
    refine lm_signals E hB (by omega) dX1_of_25 ?_
    refine lv_isub E.x E.b dX1_of_26 ?_
    refine r_eq (y := bI (!(M.1 (k / 2)))) (bI_not _) ?_
    exact r_iret (x := bI (!(M.1 (k / 2)))) E hr hk (hB) dX1_of_27 (by unfold mof; rw [hc3]; simp)
  · skip
    refine lv_aload_n E.x E.b dX1_of_6 rfl (lv_at hl 0 rfl) ?_
    refine gm_signals E hB dX1_of_7 ?_
    refine lv_iload_n E.x E.b dX1_of_10 rfl (lv_at hl 1 rfl) ?_
    refine lv_iconst (v := nI (2)) E.x E.b dX1_of_11 (by decide +kernel) ?_
    refine lv_idiv E.x E.b dX1_of_12 (by decide +kernel) ?_
    refine r_eq (y := nI (k / 2)) (pk_div (by omega) (by decide) (by decide)) ?_
    refine lm_signals E hB (by omega) dX1_of_13 ?_
    refine lv_goto (tgt := 27) E.x E.b dX1_of_14 (by decide) ?_
    exact r_iret (x := bI (M.1 (k / 2))) E hr hk (hB) dX1_of_27 (by unfold mof; rw [hc3]; simp)
theorem k1_of {p : Program} {l : Launch} {e : Env} {R : Room} {s : State} {m : MethodId} {args : Array Value} {below : List Frame} {meth : Method} {c : Code} {H : Heap} {locs : List Loc} {cells slots : Nat} {Q : State → Prop} {cc : ByteArray} {pc nL : Nat} {ls : Array Slot} {rest : List Value} {D : va_G} {A : Nat → Prop} {h : Nat → Nat} {d : Nat → ClassId} {C : CS} {M : MS} {k : Nat} (E : ev p m c cc nL s args RX1 D (tyM d)) (hA : ∀ q : Nat, s.heap.size ≤ q → A q) (hB : wB D A s.heap (mk h d C M) H locs) (hls : ls.size = nL) (hRm : 1 ≤ R.frames ∧ 21 ≤ R.locals) (hfm : cells ≤ R.cells ∧ slots ≤ R.slots) (hrest : (rest.map fun v => v.category).sum ≤ 8) (hk9 : k < 32) (hdg : decode cc pc = .ok (.invokevirtual 45, 3)) (kk : ∀ (H1 : Heap) (locs1 : List Loc), wB D A s.heap (mk h d C M) H1 locs1 → W p l e R s m args below meth c H1 locs1 cells slots Q (F0 m (pc + 3) ls (.int (bI (mof M.1 k)) :: rest))) : W p l e R s m args below meth c H locs cells slots Q (F0 m pc ls (.int (nI (k)) :: .ref (h 0) :: rest)) :=
  r_calli (ci := 1) (q := (RX1, TX1, 9)) E hA hB hls 1 (m1_of l D h d C M k hk9) rfl rfl q251 q253 qs16 q26 q254 (by decide +kernel) rfl ⟨rfl, rfl⟩ hRm hfm rfl hrest hdg kk
set_option maxHeartbeats 4000000 in
set_option maxRecDepth 100000 in
/-- work(s0, z) -/
theorem m1_work (l : Launch) (D : va_G) (h : Nat → Nat) (d : Nat → ClassId) (C : CS) (M : MS) (s0 : Nat) (z : Int32) (hC : okC C) (hs0 : s0 < 16) : ctV l yX1_work cX1_work 4 (rmm 1 21) D (tyM d) (mk h d C M) (mk h d C (workM C s0 (b0 z) M.1, M.2)) [.ref (h 0), .int (nI (s0)), .int (z)] := by
  refine mkV RX1 rfl (by decide) (Nat.le_of_ble_eq_true rfl) [(0, .ref (h 0)), (1, .int (nI (s0))), (2, .int (z))] rfl ?_
  intro p e s m below meth c A ls E hr hk hA hB hl
  have hg := hC.1
  refine lv_aload_n E.x E.b dX1_work_0 rfl (lv_at hl 0 rfl) ?_
  refine gm_signals E hB dX1_work_1 ?_
  refine lv_iconst (v := nI (0)) E.x E.b dX1_work_4 (by decide +kernel) ?_
  refine lv_iconst (v := bI (false)) E.x E.b dX1_work_5 (by decide +kernel) ?_
  refine sm_signals E hB (i := 0) (x := false) (by omega) dX1_work_6 (fun H locs (hB : wB D A s.heap (mk h d C (va_up M.1 0 false, M.2)) H locs) => ?_)
  refine lv_iconst (v := nI (1)) E.x E.b dX1_work_7 (by decide +kernel) ?_
  refine lv_istore_n (lv' := [(3, .int (nI (1))), (0, .ref (h 0)), (1, .int (nI (s0))), (2, .int (z))]) E.x E.b dX1_work_8 rfl hl (by decide) rfl (fun ls hl => ?_)
  refine upL (N := 4) (fun i => ∀ (ls : Array Slot) (H : Heap) (locs : List Loc), lv_has ls 4 [(0, .ref (h 0)), (1, .int (nI (s0))), (2, .int (z)), (3, .int (nI (1 + i)))] → wB D A s.heap (mk h d C (itr (latM s0) 1 i (va_up M.1 0 false), M.2)) H locs → W p l e (rmm 1 21) s m ([.ref (h 0), .int (nI (s0)), .int (z)] : List Value).toArray below meth c H locs 0 0 (qV below D (tyM d) A (mk h d C (workM C s0 (b0 z) M.1, M.2)) ([.ref (h 0), .int (nI (s0)), .int (z)] : List Value).toArray s) (F0 m 9 ls [])) ?_ 0 (Nat.zero_le _)  ls _ _  (lv_sub hl [1, 2, 3, 0] rfl) hB
  intro i hii ih  ls H locs  hl hB
  refine lv_iload_n E.x E.b dX1_work_9 rfl (lv_at hl 3 rfl) ?_
  refine lv_iconst (v := nI (5)) E.x E.b dX1_work_10 (by decide +kernel) ?_
  refine n_icmp_ge (tgt := 33) E (by omega) (by omega) dX1_work_11 (by decide) (fun hc11 => ?_) (fun hc11 => ?_)
  · skip
    obtain rfl : i = 4 := by omega
    refine lv_aload_n E.x E.b dX1_work_33 rfl (lv_at hl 0 rfl) ?_
    refine gm_signals E hB dX1_work_34 ?_
    refine lv_iconst (v := nI (5)) E.x E.b dX1_work_37 (by decide +kernel) ?_
    refine lv_iload_n E.x E.b dX1_work_38 rfl (lv_at hl 2 rfl) ?_
    refine lv_iconst (v := nI (1)) E.x E.b dX1_work_39 (by decide +kernel) ?_
    refine lv_iand E.x E.b dX1_work_40 ?_
    refine r_eq (y := bI (b0 z)) (b0_and z) ?_
    refine sm_signals E hB (i := 5) (x := b0 z) (by omega) dX1_work_41 (fun H locs (hB : wB D A s.heap (mk h d C (va_up (itr (latM s0) 1 4 (va_up M.1 0 false)) 5 (b0 z), M.2)) H locs) => ?_)
    refine lv_iconst (v := nI (0)) E.x E.b dX1_work_42 (by decide +kernel) ?_
    refine lv_istore_n (lv' := [(3, .int (nI (0))), (0, .ref (h 0)), (1, .int (nI (s0))), (2, .int (z))]) E.x E.b dX1_work_43 rfl hl (by decide) rfl (fun ls hl => ?_)
    refine upL (N := C.1) (fun j => ∀ (ls : Array Slot) (H : Heap) (locs : List Loc), lv_has ls 4 [(0, .ref (h 0)), (1, .int (nI (s0))), (2, .int (z)), (3, .int (nI (0 + j)))] → wB D A s.heap (mk h d C (itr (gatM C) 0 j (va_up (itr (latM s0) 1 4 (va_up M.1 0 false)) 5 (b0 z)), M.2)) H locs → W p l e (rmm 1 21) s m ([.ref (h 0), .int (nI (s0)), .int (z)] : List Value).toArray below meth c H locs 0 0 (qV below D (tyM d) A (mk h d C (workM C s0 (b0 z) M.1, M.2)) ([.ref (h 0), .int (nI (s0)), .int (z)] : List Value).toArray s) (F0 m 44 ls [])) ?_ 0 (Nat.zero_le _)  ls _ _  (lv_sub hl [1, 2, 3, 0] rfl) hB
    intro j hij ihj  ls H locs  hl hB
    refine lv_iload_n E.x E.b dX1_work_44 rfl (lv_at hl 3 rfl) ?_
    refine lv_aload_n E.x E.b dX1_work_45 rfl (lv_at hl 0 rfl) ?_
    refine gm_gates E hB dX1_work_46 ?_
    refine n_icmp_ge (tgt := 88) E (by omega) (by omega) dX1_work_49 (by decide) (fun hc49 => ?_) (fun hc49 => ?_)
    · skip
      obtain rfl : j = C.1 := by omega
      exact r_vret E hr hk hB dX1_work_88
    · skip
      obtain ⟨g1, g2, g3⟩ := gate_ix hC (g := 6 + (0 + j)) (by omega) (by omega)
      refine lv_aload_n E.x E.b dX1_work_52 rfl (lv_at hl 0 rfl) ?_
      refine gm_signals E hB dX1_work_53 ?_
      refine lv_bipush (v := nI (6)) E.x E.b dX1_work_56 (by decide +kernel) ?_
      refine lv_iload_n E.x E.b dX1_work_58 rfl (lv_at hl 3 rfl) ?_
      refine n_add E dX1_work_59 ?_
      refine lv_aload_n E.x E.b dX1_work_60 rfl (lv_at hl 0 rfl) ?_
      refine lv_aload_n E.x E.b dX1_work_61 rfl (lv_at hl 0 rfl) ?_
      refine gm_firsts E hB dX1_work_62 ?_
      refine lv_iload_n E.x E.b dX1_work_65 rfl (lv_at hl 3 rfl) ?_
      refine lm_firsts E hB (by omega) dX1_work_66 ?_
      refine k1_of E hA hB hl.1 ⟨Nat.le_of_ble_eq_true rfl, Nat.le_of_ble_eq_true rfl⟩ ⟨Nat.le_refl 0, Nat.le_refl 0⟩ (Nat.le_of_ble_eq_true rfl) (by omega) dX1_work_67 (fun H locs (hB : wB D A s.heap (mk h d C (itr (gatM C) 0 j (va_up (itr (latM s0) 1 4 (va_up M.1 0 false)) 5 (b0 z)), M.2)) H locs) => ?_)
      refine lv_aload_n E.x E.b dX1_work_70 rfl (lv_at hl 0 rfl) ?_
      refine lv_aload_n E.x E.b dX1_work_71 rfl (lv_at hl 0 rfl) ?_
      refine gm_seconds E hB dX1_work_72 ?_
      refine lv_iload_n E.x E.b dX1_work_75 rfl (lv_at hl 3 rfl) ?_
      refine lm_seconds E hB (by omega) dX1_work_76 ?_
      refine k1_of E hA hB hl.1 ⟨Nat.le_of_ble_eq_true rfl, Nat.le_of_ble_eq_true rfl⟩ ⟨Nat.le_refl 0, Nat.le_refl 0⟩ (Nat.le_of_ble_eq_true rfl) (by omega) dX1_work_77 (fun H locs (hB : wB D A s.heap (mk h d C (itr (gatM C) 0 j (va_up (itr (latM s0) 1 4 (va_up M.1 0 false)) 5 (b0 z)), M.2)) H locs) => ?_)
      refine lv_imul E.x E.b dX1_work_80 ?_
      refine r_eq (y := bI ((mof (itr (gatM C) 0 j (va_up (itr (latM s0) 1 4 (va_up M.1 0 false)) 5 (b0 z))) (cL C (6 + (0 + j)))) && (mof (itr (gatM C) 0 j (va_up (itr (latM s0) 1 4 (va_up M.1 0 false)) 5 (b0 z))) (cR C (6 + (0 + j)))))) (bI_and _ _) ?_
      refine sm_signals E hB (i := 6 + (0 + j)) (x := (mof (itr (gatM C) 0 j (va_up (itr (latM s0) 1 4 (va_up M.1 0 false)) 5 (b0 z))) (cL C (6 + (0 + j)))) && (mof (itr (gatM C) 0 j (va_up (itr (latM s0) 1 4 (va_up M.1 0 false)) 5 (b0 z))) (cR C (6 + (0 + j))))) (by omega) dX1_work_81 (fun H locs (hB : wB D A s.heap (mk h d C (itr (gatM C) 0 (j + 1) (va_up (itr (latM s0) 1 4 (va_up M.1 0 false)) 5 (b0 z)), M.2)) H locs) => ?_)
      refine lv_iinc (v := nI (0 + j + 1)) (lv' := [(3, .int (nI (0 + j + 1))), (0, .ref (h 0)), (1, .int (nI (s0))), (2, .int (z))]) E.x E.b dX1_work_82 hl (k := 3) rfl (inc1 _) (by decide) rfl (fun ls hl => ?_)
      refine lv_goto (tgt := 44) E.x E.b dX1_work_85 (by decide) ?_
      exact ihj (by omega)  ls H locs  (lv_sub hl [1, 2, 3, 0] rfl) hB
  · skip
    refine lv_aload_n E.x E.b dX1_work_14 rfl (lv_at hl 0 rfl) ?_
    refine gm_signals E hB dX1_work_15 ?_
    refine lv_iload_n E.x E.b dX1_work_18 rfl (lv_at hl 3 rfl) ?_
    refine lv_iload_n E.x E.b dX1_work_19 rfl (lv_at hl 1 rfl) ?_
    refine lv_iload_n E.x E.b dX1_work_20 rfl (lv_at hl 3 rfl) ?_
    refine lv_iconst (v := nI (1)) E.x E.b dX1_work_21 (by decide +kernel) ?_
    refine n_sub E (by omega) dX1_work_22 ?_
    refine lv_ishr E.x E.b dX1_work_23 ?_
    refine lv_iconst (v := nI 1) E.x E.b dX1_work_24 (by decide +kernel) ?_
    refine lv_iand E.x E.b dX1_work_25 ?_
    refine r_eq (y := bI (bitF s0 ((1 + i) - 1))) (shbit (by omega) (by omega)) ?_
    refine sm_signals E hB (i := 1 + i) (x := bitF s0 ((1 + i) - 1)) (by omega) dX1_work_26 (fun H locs (hB : wB D A s.heap (mk h d C (itr (latM s0) 1 (i + 1) (va_up M.1 0 false), M.2)) H locs) => ?_)
    refine lv_iinc (v := nI (1 + i + 1)) (lv' := [(3, .int (nI (1 + i + 1))), (0, .ref (h 0)), (1, .int (nI (s0))), (2, .int (z))]) E.x E.b dX1_work_27 hl (k := 3) rfl (inc1 _) (by decide) rfl (fun ls hl => ?_)
    refine lv_goto (tgt := 9) E.x E.b dX1_work_30 (by decide) ?_
    exact ih (by omega)  ls H locs  (lv_sub hl [1, 2, 3, 0] rfl) hB
theorem k1_work {p : Program} {l : Launch} {e : Env} {R : Room} {s : State} {m : MethodId} {args : Array Value} {below : List Frame} {meth : Method} {c : Code} {H : Heap} {locs : List Loc} {cells slots : Nat} {Q : State → Prop} {cc : ByteArray} {pc nL : Nat} {ls : Array Slot} {rest : List Value} {D : va_G} {A : Nat → Prop} {h : Nat → Nat} {d : Nat → ClassId} {C : CS} {M : MS} {s0 : Nat} {z : Int32} (E : ev p m c cc nL s args RX1 D (tyM d)) (hA : ∀ q : Nat, s.heap.size ≤ q → A q) (hB : wB D A s.heap (mk h d C M) H locs) (hls : ls.size = nL) (hRm : 2 ≤ R.frames ∧ 44 ≤ R.locals) (hfm : cells ≤ R.cells ∧ slots ≤ R.slots) (hrest : (rest.map fun v => v.category).sum ≤ 8) (hC : okC C) (hs0 : s0 < 16) (hdg : decode cc pc = .ok (.invokevirtual 49, 3)) (kk : ∀ (H1 : Heap) (locs1 : List Loc), wB D A s.heap (mk h d C (workM C s0 (b0 z) M.1, M.2)) H1 locs1 → W p l e R s m args below meth c H1 locs1 cells slots Q (F0 m (pc + 3) ls (rest))) : W p l e R s m args below meth c H locs cells slots Q (F0 m pc ls (.int (z) :: .int (nI (s0)) :: .ref (h 0) :: rest)) :=
  r_callv (ci := 1) (q := (RX1, TX1, 9)) E hA hB hls 2 (m1_work l D h d C M s0 z hC hs0) rfl rfl q247 q249 qs15 q26 q250 (by decide +kernel) rfl ⟨rfl, rfl⟩ hRm hfm rfl hrest hdg kk
set_option maxHeartbeats 4000000 in
set_option maxRecDepth 100000 in
/-- value(x, y, z) -/
theorem m1_value (l : Launch) (D : va_G) (h : Nat → Nat) (d : Nat → ClassId) (C : CS) (M : MS) (x y z : Int32) (hC : okC C) : ctI l yX1_value cX1_value 4 (rmm 2 44) D (tyM d) (mk h d C M) (mk h d C ((valueM C x y z M).2)) [.ref (h 0), .int (x), .int (y), .int (z)] .int (oI (valueM C x y z M).1) := by
  refine mkI RX1 rfl (by decide) (Nat.le_of_ble_eq_true rfl) [(0, .ref (h 0)), (1, .int (x)), (2, .int (y)), (3, .int (z))] rfl ?_
  intro p e s m below meth c A ls E hr hk hA hB hl
  refine lv_aload_n E.x E.b dX1_value_0 rfl (lv_at hl 0 rfl) ?_
  refine lv_iload_n E.x E.b dX1_value_1 rfl (lv_at hl 1 rfl) ?_
  refine k1_refused E hA hB hl.1 ⟨Nat.le_of_ble_eq_true rfl, Nat.le_of_ble_eq_true rfl⟩ ⟨Nat.le_refl 0, Nat.le_refl 0⟩ (Nat.le_of_ble_eq_true rfl) hC dX1_value_2 (fun H locs (hB : wB D A s.heap (mk h d C M) H locs) => ?_)
  refine b_if_ne (tgt := 18) E dX1_value_5 (by decide) (fun hc5 => ?_) (fun hc5 => ?_)
  · skip
    refine lv_iconst (v := oI (none)) E.x E.b dX1_value_18 (by decide +kernel) ?_
    exact r_iret (x := oI (none)) E hr hk (hB.to (by rw [valueM_n1 (isNn hc5)])) dX1_value_19 (by rw [valueM_n1 (isNn hc5)])
  · skip
    obtain ⟨k, hi⟩ := isNs hc5
    obtain ⟨hi1, hi2, rfl⟩ := lit_some hC hi
    have hg := hC.1
    rcases hy : inT y 0 16 with _ | s0
    · skip
      refine lv_iload_n E.x E.b dX1_value_8 rfl (lv_at hl 2 rfl) ?_
      refine lv_if_lt (tgt := 18) E.x E.b dX1_value_9 (by decide) (fun hc9 => ?_) (fun hc9 => ?_)
      · skip
        refine lv_iconst (v := oI (none)) E.x E.b dX1_value_18 (by decide +kernel) ?_
        exact r_iret (x := oI (none)) E hr hk (hB.to (by rw [valueM_n2 hy])) dX1_value_19 (by rw [valueM_n2 hy])
      · skip
        refine lv_iload_n E.x E.b dX1_value_12 rfl (lv_at hl 2 rfl) ?_
        refine lv_bipush (v := nI (15)) E.x E.b dX1_value_13 (by decide +kernel) ?_
        refine lv_icmp_le (tgt := 20) E.x E.b dX1_value_15 (by decide) (fun hc15 => (dead_le 15 hy hc9 hc15 (by decide) (by decide)).elim) (fun hc15 => ?_)
        refine lv_iconst (v := oI (none)) E.x E.b dX1_value_18 (by decide +kernel) ?_
        exact r_iret (x := oI (none)) E hr hk (hB.to (by rw [valueM_n2 hy])) dX1_value_19 (by rw [valueM_n2 hy])
    · obtain ⟨-, hst, rfl⟩ := inT_some hy (by decide)
      refine lv_iload_n E.x E.b dX1_value_8 rfl (lv_at hl 2 rfl) ?_
      refine lv_if_lt (tgt := 18) E.x E.b dX1_value_9 (by decide) (fun hc9 => absurd hc9 (nI_pos (by omega))) (fun hc9 => ?_)
      refine lv_iload_n E.x E.b dX1_value_12 rfl (lv_at hl 2 rfl) ?_
      refine lv_bipush (v := nI (15)) E.x E.b dX1_value_13 (by decide +kernel) ?_
      refine n_icmp_le (tgt := 20) E (by omega) (by omega) dX1_value_15 (by decide) (fun hc15 => ?_) (fun hc15 => absurd hc15 (by omega))
      refine lv_aload_n E.x E.b dX1_value_20 rfl (lv_at hl 0 rfl) ?_
      refine lv_iload_n E.x E.b dX1_value_21 rfl (lv_at hl 2 rfl) ?_
      refine lv_iload_n E.x E.b dX1_value_22 rfl (lv_at hl 3 rfl) ?_
      refine k1_work E hA hB hl.1 ⟨Nat.le_of_ble_eq_true rfl, Nat.le_of_ble_eq_true rfl⟩ ⟨Nat.le_refl 0, Nat.le_refl 0⟩ (Nat.le_of_ble_eq_true rfl) hC hst dX1_value_23 (fun H locs (hB : wB D A s.heap (mk h d C (workM C s0 (b0 z) M.1, M.2)) H locs) => ?_)
      refine lv_aload_n E.x E.b dX1_value_26 rfl (lv_at hl 0 rfl) ?_
      refine lv_iload_n E.x E.b dX1_value_27 rfl (lv_at hl 1 rfl) ?_
      refine k1_of E hA hB hl.1 ⟨Nat.le_of_ble_eq_true rfl, Nat.le_of_ble_eq_true rfl⟩ ⟨Nat.le_refl 0, Nat.le_refl 0⟩ (Nat.le_of_ble_eq_true rfl) (by omega) dX1_value_28 (fun H locs (hB : wB D A s.heap (mk h d C (workM C s0 (b0 z) M.1, M.2)) H locs) => ?_)
      exact r_iret (x := bI (mof (workM C s0 (b0 z) M.1) k)) E hr hk (hB.to (by rw [valueM_y hi hy])) dX1_value_31 (by rw [valueM_y hi hy]; rfl)
end
section
/-! WALKS of the model, second part -/
set_option maxRecDepth 100000
theorem step_lt (C : CS) (g : Nat → Bool) : ∀ j, itr (nxtM C g) 1 j 0 < 2 ^ j
  | 0 => by show 0 < 1; omega
  | j + 1 => by
    have h := step_lt C g j
    show itr (nxtM C g) 1 j 0 + (mof g (cN C (1 + j))).toNat * 2 ^ (1 + j - 1) < 2 ^ (j + 1)
    rw [show 1 + j - 1 = j by omega, Nat.pow_succ]
    cases mof g (cN C (1 + j)) <;> simp <;> omega
theorem stepM_lt (C : CS) (g : Nat → Bool) : stepM C g < 16 := step_lt C g 4
theorem step_or {C : CS} {g : Nat → Bool} {j : Nat} (hj : j < 4) : nI (itr (nxtM C g) 1 j 0) ||| (bI (mof g (cN C (1 + j))) <<< (nI ((1 + j) - 1) &&& 31)) = nI (nxtM C g (1 + j) (itr (nxtM C g) 1 j 0)) := by
  have hl := step_lt C g j
  rw [show (1 + j) - 1 = j by omega, or_16 _ (Nat.lt_of_lt_of_le hl (by rcases (show j = 0 ∨ j = 1 ∨ j = 2 ∨ j = 3 by omega) with e | e | e | e <;> rw [e] <;> decide)) j hj _ hl]
  unfold nxtM
  rw [show (1 + j) - 1 = j by omega]
theorem run_st {C : CS} {n num s : Nat} {M : MS} (hs : s < 16) : ∀ i, (itr (runM C n num) 0 i (true, s, M)).2.1 < 16
  | 0 => hs
  | i + 1 => stepM_lt C _
theorem beg_no {C : CS} {s i : Nat} (hi : i < 4) (h : begAt C s (1 + i) = false) : bI false = bI (begM C s) := by
  unfold begM
  rw [anyb_hit hi (by rw [h]; rfl)]; rfl
theorem beg_yes {C : CS} {s : Nat} (h : anyb (fun i => !begAt C s (1 + i)) 4 = false) : bI true = bI (begM C s) := by
  unfold begM
  rw [h]; rfl
theorem first_no {α : Type} {F : Nat → α → Bool × α} {N i : Nat} {a : α} (hi : i < N) (h : (F i a).1 = false) : firstF F (N - (i + 1)) (i + 1) (F i a).2 = firstF F (N - i) i a := by
  rw [show N - i = (N - (i + 1)) + 1 by omega]
  show _ = (if _ then _ else _)
  rw [if_neg (by rw [h]; simp)]
theorem first_yes {α : Type} {F : Nat → α → Bool × α} {N i : Nat} {a : α} (hi : i < N) (h : (F i a).1 = true) : firstF F (N - i) i a = (true, (F i a).2) := by
  rw [show N - i = (N - (i + 1)) + 1 by omega]
  show (if _ then _ else _) = _
  rw [if_pos h]
theorem first_end {α : Type} {F : Nat → α → Bool × α} {N i : Nat} {a : α} (hi : N ≤ i) : firstF F (N - i) i a = (false, a) := by
  rw [show N - i = 0 by omega]; rfl
theorem pow_7 {n : Nat} (hn : n < 7) : 2 ^ n ≤ 64 ∧ 2 ^ (n + 1) = 2 * 2 ^ n ∧ 0 < 2 ^ n := by
  refine ⟨?_, by rw [Nat.pow_succ]; omega, Nat.two_pow_pos n⟩
  exact Nat.le_trans (Nat.pow_le_pow_right (by decide) (show n ≤ 6 by omega)) (by decide)
theorem mask_n {a n : Nat} (ha : a < 2 ^ 31) (hn : n < 7) : nI a &&& nI ((2 * 2 ^ n) - 1) = nI (a % 2 ^ (n + 1)) := by
  have h := pow_7 hn
  exact pk_andN (by omega) (n + 1) (by rw [pk_tn (by omega), h.2.1])
theorem div_16 {n i : Nat} (hi : i < 32 * 2 ^ n) : i / 2 ^ (n + 1) < 16 := by
  rw [Nat.div_lt_iff_lt_mul (Nat.two_pow_pos _), Nat.pow_succ]
  omega
theorem found_no {C : CS} {n i : Nat} {M : MS} (h : begM C (i / 2 ^ (n + 1)) = false) : foundStep C n i M = (false, M) := by unfold foundStep; rw [if_neg (by rw [h]; simp)]
theorem found_go {C : CS} {n i : Nat} {M : MS} (h : begM C (i / 2 ^ (n + 1)) = true) : foundStep C n i M = ((runR C n (i / 2 ^ (n + 1)) (i % 2 ^ (n + 1)) M).1, (runR C n (i / 2 ^ (n + 1)) (i % 2 ^ (n + 1)) M).2.2) := by unfold foundStep; rw [if_pos h]
theorem least_no {C : CS} {k i : Nat} {M : MS} (hi : i < k + 1) (h : (foundM C i M).1 = false) : leastM C (k + 1 - (i + 1)) (i + 1) (foundM C i M).2 = leastM C (k + 1 - i) i M := by
  rw [show k + 1 - i = (k + 1 - (i + 1)) + 1 by omega]
  show _ = (if _ then _ else _)
  rw [if_neg (by rw [h]; simp)]
theorem least_yes {C : CS} {k i : Nat} {M : MS} (hi : i < k + 1) (h : (foundM C i M).1 = true) : leastM C (k + 1 - i) i M = (some i, (foundM C i M).2) := by
  rw [show k + 1 - i = (k + 1 - (i + 1)) + 1 by omega]
  show (if _ then _ else _) = _
  rw [if_pos h]
theorem least_lt {C : CS} : ∀ (k i : Nat) (M : MS) (n : Nat), (leastM C k i M).1 = some n → n < i + k
  | 0, i, M, n, h => by cases h
  | k + 1, i, M, n, h => by
    have h : (if (foundM C i M).1 = true then (some i, (foundM C i M).2) else leastM C k (i + 1) (foundM C i M).2).1 = some n := h
    split at h
    · cases h; omega
    · have := least_lt k (i + 1) _ n h; omega
theorem seen_lt {st : Nat → Nat} : ∀ i, (∀ j, j < i → st j < 16) → seenF st i < 2 ^ 16
  | 0, _ => by show 0 < 2 ^ 16; decide
  | i + 1, h => by
    show seenF st i ||| 2 ^ st i < 2 ^ 16
    exact Nat.or_lt_two_pow (seen_lt i (fun j hj => h j (by omega))) (Nat.pow_lt_pow_right (by decide) (h i (by omega)))
theorem seen_bit {a k : Nat} : bitF a k = a.testBit k := by rw [Nat.testBit_eq_decide_div_mod_eq]; rfl
def depthM (C : CS) (x : Int32) (M : MS) : Option Nat × MS := match inT x 0 7 with
  | some k => leastM C (k + 1) 0 M
  | none => (none, M)
def holdsM (C : CS) (x : Int32) (M : MS) : Option Bool × MS := match inT x 0 7 with
  | some k => (some (!(holdM C k M).1), (holdM C k M).2)
  | none => (none, M)
def atM (x : Int32) (r : Option Nat × MS) : Option Nat := match r.1 with
  | none => none
  | some n => inT x 0 (n + 1)
def witnessM (C : CS) (x : Int32) (M : MS) : Option Nat × MS := match atM x (leastM C 7 0 M) with
  | none => (none, (leastM C 7 0 M).2)
  | some i => (some ((leastM C 7 0 M).2.2.1 i), (leastM C 7 0 M).2)
def inputM (C : CS) (x : Int32) (M : MS) : Option Bool × MS := match atM x (leastM C 7 0 M) with
  | none => (none, (leastM C 7 0 M).2)
  | some i => (some ((leastM C 7 0 M).2.2.2 i), (leastM C 7 0 M).2)
theorem atM_none {x : Int32} {M : MS} : atM x (none, M) = none := rfl
theorem atM_some {x : Int32} {n : Nat} {M : MS} : atM x (some n, M) = inT x 0 (n + 1) := rfl
theorem depthM_some {C : CS} {x : Int32} {k : Nat} {M : MS} (h : inT x 0 7 = some k) : depthM C x M = leastM C (k + 1) 0 M := by unfold depthM; rw [h]
theorem depthM_none {C : CS} {x : Int32} {M : MS} (h : inT x 0 7 = none) : depthM C x M = (none, M) := by unfold depthM; rw [h]
theorem holdsM_some {C : CS} {x : Int32} {k : Nat} {M : MS} (h : inT x 0 7 = some k) : holdsM C x M = (some (!(holdM C k M).1), (holdM C k M).2) := by unfold holdsM; rw [h]
theorem holdsM_none {C : CS} {x : Int32} {M : MS} (h : inT x 0 7 = none) : holdsM C x M = (none, M) := by unfold holdsM; rw [h]
theorem run_ok {C : CS} {n num s : Nat} {M : MS} (hs : s < 16) : ∀ i j, j < i → (itr (runM C n num) 0 i (true, s, M)).2.2.2.1 j < 16
  | 0, j, h => absurd h (Nat.not_lt_zero j)
  | i + 1, j, h => by
    show va_up (itr (runM C n num) 0 i (true, s, M)).2.2.2.1 (0 + i) (itr (runM C n num) 0 i (true, s, M)).2.1 j < 16
    by_cases e : j = 0 + i
    · rw [e, va_up_self]; exact run_st hs i
    · rw [va_up_ne _ _ e]; exact run_ok hs i j (by omega)
theorem proofM_1 {C : CS} {k : Nat} {M : MS} (hk : k < 7) (h : (holdM C k M).1 = true) : proofM C (7 - (k + 1)) (k + 1) (holdM C k M).2 = proofM C (7 - k) k M := by
  rw [show 7 - k = (7 - (k + 1)) + 1 by omega]
  show _ = (if _ then (if _ then _ else (if _ then _ else _)) else _)
  rw [if_neg (by rw [h]; simp)]
theorem proofM_2 {C : CS} {k : Nat} {M : MS} (hk : k < 7) (h : (holdM C k M).1 = false) (h0 : k = 0) : proofM C (7 - k) k M = (some k, (holdM C k M).2) := by
  rw [show 7 - k = (7 - (k + 1)) + 1 by omega]
  show (if _ then (if _ then _ else (if _ then _ else _)) else _) = _
  rw [if_pos h, if_pos h0]
theorem proofM_3 {C : CS} {k : Nat} {M : MS} (hk : k < 7) (h : (holdM C k M).1 = false) (h0 : 0 < k) (h1 : (leastM C k 0 (holdM C k M).2).1 = none) : proofM C (7 - k) k M = (some k, (leastM C k 0 (holdM C k M).2).2) := by
  rw [show 7 - k = (7 - (k + 1)) + 1 by omega]
  show (if _ then (if _ then _ else (if _ then _ else _)) else _) = _
  rw [if_pos h, if_neg (by omega), if_pos h1]
theorem proofM_4 {C : CS} {k n : Nat} {M : MS} (hk : k < 7) (h : (holdM C k M).1 = false) (h0 : 0 < k) (h1 : (leastM C k 0 (holdM C k M).2).1 = some n) : proofM C (7 - (k + 1)) (k + 1) (leastM C k 0 (holdM C k M).2).2 = proofM C (7 - k) k M := by
  rw [show 7 - k = (7 - (k + 1)) + 1 by omega]
  show _ = (if _ then (if _ then _ else (if _ then _ else _)) else _)
  rw [if_pos h, if_neg (by omega), if_neg (by rw [h1]; simp)]
set_option maxHeartbeats 4000000 in
set_option maxRecDepth 100000 in
/-- isBad(s0, x) -/
theorem m1_isBad (l : Launch) (D : va_G) (h : Nat → Nat) (d : Nat → ClassId) (C : CS) (M : MS) (s0 : Nat) (x : Bool) (hC : okC C) (hs0 : s0 < 16) : ctI l yX1_isBad cX1_isBad 3 (rmm 2 44) D (tyM d) (mk h d C M) (mk h d C (workM C s0 x M.1, M.2)) [.ref (h 0), .int (nI (s0)), .int (bI (x))] .boolean (bI (mof (workM C s0 x M.1) (cX C))) := by
  refine mkI RX1 rfl (by decide) (Nat.le_of_ble_eq_true rfl) [(0, .ref (h 0)), (1, .int (nI (s0))), (2, .int (bI (x)))] rfl ?_
  intro p e s m below meth c A ls E hr hk hA hB hl
  have hg := hC.1
  have hx := hC.2.2.2.2
  refine lv_aload_n E.x E.b dX1_isBad_0 rfl (lv_at hl 0 rfl) ?_
  refine lv_iload_n E.x E.b dX1_isBad_1 rfl (lv_at hl 1 rfl) ?_
  refine lv_iload_n E.x E.b dX1_isBad_2 rfl (lv_at hl 2 rfl) ?_
  refine k1_work E hA hB hl.1 ⟨Nat.le_of_ble_eq_true rfl, Nat.le_of_ble_eq_true rfl⟩ ⟨Nat.le_refl 0, Nat.le_refl 0⟩ (Nat.le_of_ble_eq_true rfl) hC (by omega) dX1_isBad_3 (fun H locs hB => ?_)
  have hB : wB D A s.heap (mk h d C (workM C s0 x M.1, M.2)) H locs := hB.to (by rw [b0_b])
  refine lv_aload_n E.x E.b dX1_isBad_6 rfl (lv_at hl 0 rfl) ?_
  refine lv_aload_n E.x E.b dX1_isBad_7 rfl (lv_at hl 0 rfl) ?_
  refine gm_badLiteral E hB dX1_isBad_8 ?_
  refine k1_of E hA hB hl.1 ⟨Nat.le_of_ble_eq_true rfl, Nat.le_of_ble_eq_true rfl⟩ ⟨Nat.le_refl 0, Nat.le_refl 0⟩ (Nat.le_of_ble_eq_true rfl) (by omega) dX1_isBad_11 (fun H locs (hB : wB D A s.heap (mk h d C (workM C s0 x M.1, M.2)) H locs) => ?_)
  refine lv_iconst (v := bI (true)) E.x E.b dX1_isBad_14 (by decide +kernel) ?_
  refine bb_icmp_ne (tgt := 22) E dX1_isBad_15 (by decide) (fun hc15 => ?_) (fun hc15 => ?_)
  · skip
    refine lv_iconst (v := bI (false)) E.x E.b dX1_isBad_22 (by decide +kernel) ?_
    exact r_zret (x := false) E hr hk (hB) dX1_isBad_23 (by rw [Bool.eq_false_iff.mpr hc15])
  · skip
    refine lv_iconst (v := bI (true)) E.x E.b dX1_isBad_18 (by decide +kernel) ?_
    refine lv_goto (tgt := 23) E.x E.b dX1_isBad_19 (by decide) ?_
    exact r_zret (x := true) E hr hk (hB) dX1_isBad_23 (by rw [hc15])
theorem k1_isBad {p : Program} {l : Launch} {e : Env} {R : Room} {s : State} {m : MethodId} {args : Array Value} {below : List Frame} {meth : Method} {c : Code} {H : Heap} {locs : List Loc} {cells slots : Nat} {Q : State → Prop} {cc : ByteArray} {pc nL : Nat} {ls : Array Slot} {rest : List Value} {D : va_G} {A : Nat → Prop} {h : Nat → Nat} {d : Nat → ClassId} {C : CS} {M : MS} {s0 : Nat} {x : Bool} (E : ev p m c cc nL s args RX1 D (tyM d)) (hA : ∀ q : Nat, s.heap.size ≤ q → A q) (hB : wB D A s.heap (mk h d C M) H locs) (hls : ls.size = nL) (hRm : 3 ≤ R.frames ∧ 66 ≤ R.locals) (hfm : cells ≤ R.cells ∧ slots ≤ R.slots) (hrest : (rest.map fun v => v.category).sum ≤ 8) (hC : okC C) (hs0 : s0 < 16) (hdg : decode cc pc = .ok (.invokevirtual 53, 3)) (kk : ∀ (H1 : Heap) (locs1 : List Loc), wB D A s.heap (mk h d C (workM C s0 x M.1, M.2)) H1 locs1 → W p l e R s m args below meth c H1 locs1 cells slots Q (F0 m (pc + 3) ls (.int (bI (mof (workM C s0 x M.1) (cX C))) :: rest))) : W p l e R s m args below meth c H locs cells slots Q (F0 m pc ls (.int (bI (x)) :: .int (nI (s0)) :: .ref (h 0) :: rest)) :=
  r_calli (ci := 1) (q := (RX1, TX1, 9)) E hA hB hls 2 (m1_isBad l D h d C M s0 x hC hs0) rfl rfl q275 q277 qs21 q26 q278 (by decide +kernel) rfl ⟨rfl, rfl⟩ hRm hfm rfl hrest hdg kk
set_option maxHeartbeats 4000000 in
set_option maxRecDepth 100000 in
/-- step(s0, x) -/
theorem m1_step (l : Launch) (D : va_G) (h : Nat → Nat) (d : Nat → ClassId) (C : CS) (M : MS) (s0 : Nat) (x : Bool) (hC : okC C) (hs0 : s0 < 16) : ctI l yX1_step cX1_step 5 (rmm 2 44) D (tyM d) (mk h d C M) (mk h d C (workM C s0 x M.1, M.2)) [.ref (h 0), .int (nI (s0)), .int (bI (x))] .int (nI (stepM C (workM C s0 x M.1))) := by
  refine mkI RX1 rfl (by decide) (Nat.le_of_ble_eq_true rfl) [(0, .ref (h 0)), (1, .int (nI (s0))), (2, .int (bI (x)))] rfl ?_
  intro p e s m below meth c A ls E hr hk hA hB hl
  have hg := hC.1
  have hx := hC.2.2.1
  refine lv_aload_n E.x E.b dX1_step_0 rfl (lv_at hl 0 rfl) ?_
  refine lv_iload_n E.x E.b dX1_step_1 rfl (lv_at hl 1 rfl) ?_
  refine lv_iload_n E.x E.b dX1_step_2 rfl (lv_at hl 2 rfl) ?_
  refine k1_work E hA hB hl.1 ⟨Nat.le_of_ble_eq_true rfl, Nat.le_of_ble_eq_true rfl⟩ ⟨Nat.le_refl 0, Nat.le_refl 0⟩ (Nat.le_of_ble_eq_true rfl) hC (by omega) dX1_step_3 (fun H locs hB => ?_)
  have hB : wB D A s.heap (mk h d C (workM C s0 x M.1, M.2)) H locs := hB.to (by rw [b0_b])
  refine lv_iconst (v := nI (0)) E.x E.b dX1_step_6 (by decide +kernel) ?_
  refine lv_istore_n (lv' := [(3, .int (nI (0))), (0, .ref (h 0)), (1, .int (nI (s0))), (2, .int (bI (x)))]) E.x E.b dX1_step_7 rfl hl (by decide) rfl (fun ls hl => ?_)
  refine lv_iconst (v := nI (1)) E.x E.b dX1_step_8 (by decide +kernel) ?_
  refine lv_istore (lv' := [(4, .int (nI (1))), (3, .int (nI (0))), (0, .ref (h 0)), (1, .int (nI (s0))), (2, .int (bI (x)))]) E.x E.b dX1_step_9 hl (by decide) rfl (fun ls hl => ?_)
  refine upL (N := 4) (fun j => ∀ (ls : Array Slot) (H : Heap) (locs : List Loc), lv_has ls 5 [(0, .ref (h 0)), (1, .int (nI (s0))), (2, .int (bI (x))), (3, .int (nI (itr (nxtM C (workM C s0 x M.1)) 1 j 0))), (4, .int (nI (1 + j)))] → wB D A s.heap (mk h d C (workM C s0 x M.1, M.2)) H locs → W p l e (rmm 2 44) s m ([.ref (h 0), .int (nI (s0)), .int (bI (x))] : List Value).toArray below meth c H locs 0 0 (qI below D (tyM d) A (mk h d C (workM C s0 x M.1, M.2)) (nI (stepM C (workM C s0 x M.1))) ([.ref (h 0), .int (nI (s0)), .int (bI (x))] : List Value).toArray s) (F0 m 11 ls [])) ?_ 0 (Nat.zero_le _)  ls _ _  (lv_sub hl [2, 3, 4, 1, 0] rfl) hB
  intro j hij ihj  ls H locs  hl hB
  refine lv_iload E.x E.b dX1_step_11 (lv_at hl 4 rfl) ?_
  refine lv_iconst (v := nI (5)) E.x E.b dX1_step_13 (by decide +kernel) ?_
  refine n_icmp_ge (tgt := 42) E (by omega) (by omega) dX1_step_14 (by decide) (fun hc14 => ?_) (fun hc14 => ?_)
  · skip
    obtain rfl : j = 4 := by omega
    refine lv_iload_n E.x E.b dX1_step_42 rfl (lv_at hl 3 rfl) ?_
    exact r_iret (x := nI (itr (nxtM C (workM C s0 x M.1)) 1 4 0)) E hr hk (hB) dX1_step_43 (rfl)
  · skip
    have hx1 := hx (1 + j) (by omega) (by omega)
    refine lv_iload_n E.x E.b dX1_step_17 rfl (lv_at hl 3 rfl) ?_
    refine lv_aload_n E.x E.b dX1_step_18 rfl (lv_at hl 0 rfl) ?_
    refine lv_aload_n E.x E.b dX1_step_19 rfl (lv_at hl 0 rfl) ?_
    refine gm_nexts E hB dX1_step_20 ?_
    refine lv_iload E.x E.b dX1_step_23 (lv_at hl 4 rfl) ?_
    refine lm_nexts E hB (by omega) dX1_step_25 ?_
    refine k1_of E hA hB hl.1 ⟨Nat.le_of_ble_eq_true rfl, Nat.le_of_ble_eq_true rfl⟩ ⟨Nat.le_refl 0, Nat.le_refl 0⟩ (Nat.le_of_ble_eq_true rfl) (by omega) dX1_step_26 (fun H locs (hB : wB D A s.heap (mk h d C (workM C s0 x M.1, M.2)) H locs) => ?_)
    refine lv_iload E.x E.b dX1_step_29 (lv_at hl 4 rfl) ?_
    refine lv_iconst (v := nI (1)) E.x E.b dX1_step_31 (by decide +kernel) ?_
    refine n_sub E (by omega) dX1_step_32 ?_
    refine lv_ishl E.x E.b dX1_step_33 ?_
    refine lv_ior E.x E.b dX1_step_34 ?_
    refine r_eq (y := nI (nxtM C (workM C s0 x M.1) (1 + j) (itr (nxtM C (workM C s0 x M.1)) 1 j 0))) (step_or (by omega)) ?_
    refine lv_istore_n (lv' := [(3, .int (nI (nxtM C (workM C s0 x M.1) (1 + j) (itr (nxtM C (workM C s0 x M.1)) 1 j 0)))), (0, .ref (h 0)), (1, .int (nI (s0))), (2, .int (bI (x))), (4, .int (nI (1 + j)))]) E.x E.b dX1_step_35 rfl hl (by decide) rfl (fun ls hl => ?_)
    refine lv_iinc (v := nI (1 + j + 1)) (lv' := [(4, .int (nI (1 + j + 1))), (3, .int (nI (nxtM C (workM C s0 x M.1) (1 + j) (itr (nxtM C (workM C s0 x M.1)) 1 j 0)))), (0, .ref (h 0)), (1, .int (nI (s0))), (2, .int (bI (x)))]) E.x E.b dX1_step_36 hl (k := 4) rfl (inc1 _) (by decide) rfl (fun ls hl => ?_)
    refine lv_goto (tgt := 11) E.x E.b dX1_step_39 (by decide) ?_
    exact ihj (by omega)  ls H locs  (lv_sub hl [2, 3, 4, 1, 0] rfl) hB
theorem k1_step {p : Program} {l : Launch} {e : Env} {R : Room} {s : State} {m : MethodId} {args : Array Value} {below : List Frame} {meth : Method} {c : Code} {H : Heap} {locs : List Loc} {cells slots : Nat} {Q : State → Prop} {cc : ByteArray} {pc nL : Nat} {ls : Array Slot} {rest : List Value} {D : va_G} {A : Nat → Prop} {h : Nat → Nat} {d : Nat → ClassId} {C : CS} {M : MS} {s0 : Nat} {x : Bool} (E : ev p m c cc nL s args RX1 D (tyM d)) (hA : ∀ q : Nat, s.heap.size ≤ q → A q) (hB : wB D A s.heap (mk h d C M) H locs) (hls : ls.size = nL) (hRm : 3 ≤ R.frames ∧ 68 ≤ R.locals) (hfm : cells ≤ R.cells ∧ slots ≤ R.slots) (hrest : (rest.map fun v => v.category).sum ≤ 8) (hC : okC C) (hs0 : s0 < 16) (hdg : decode cc pc = .ok (.invokevirtual 57, 3)) (kk : ∀ (H1 : Heap) (locs1 : List Loc), wB D A s.heap (mk h d C (workM C s0 x M.1, M.2)) H1 locs1 → W p l e R s m args below meth c H1 locs1 cells slots Q (F0 m (pc + 3) ls (.int (nI (stepM C (workM C s0 x M.1))) :: rest))) : W p l e R s m args below meth c H locs cells slots Q (F0 m pc ls (.int (bI (x)) :: .int (nI (s0)) :: .ref (h 0) :: rest)) :=
  r_calli (ci := 1) (q := (RX1, TX1, 9)) E hA hB hls 2 (m1_step l D h d C M s0 x hC hs0) rfl rfl q279 q281 qs22 q26 q282 (by decide +kernel) rfl ⟨rfl, rfl⟩ hRm hfm rfl hrest hdg kk
theorem run_fl {a b c d : Bool} (h1 : d = c) (h2 : b = c) : (a && (b == d)) = a := by subst h1; subst h2; simp
theorem run_ff {a b c d : Bool} (h1 : d = c) (h2 : ¬ b = c) : (a && (b == d)) = false := by
  subst h1
  cases b <;> cases d <;> simp_all
set_option maxHeartbeats 4000000 in
set_option maxRecDepth 100000 in
/-- run(n, s0, num) -/
theorem m1_run (l : Launch) (D : va_G) (h : Nat → Nat) (d : Nat → ClassId) (C : CS) (M : MS) (n s0 num : Nat) (hC : okC C) (hn : n < 7) (hs0 : s0 < 16) (hnum : num < 2 ^ 31) : ctI l yX1_run cX1_run 8 (rmm 3 68) D (tyM d) (mk h d C M) (mk h d C ((runR C n s0 num M).2.2)) [.ref (h 0), .int (nI (n)), .int (nI (s0)), .int (nI (num))] .boolean (bI (runR C n s0 num M).1) := by
  refine mkI RX1 rfl (by decide) (Nat.le_of_ble_eq_true rfl) [(0, .ref (h 0)), (1, .int (nI (n))), (2, .int (nI (s0))), (3, .int (nI (num)))] rfl ?_
  intro p e s m below meth c A ls E hr hk hA hB hl
  refine lv_iconst (v := bI (true)) E.x E.b dX1_run_0 (by decide +kernel) ?_
  refine lv_istore (lv' := [(4, .int (bI (true))), (0, .ref (h 0)), (1, .int (nI (n))), (2, .int (nI (s0))), (3, .int (nI (num)))]) E.x E.b dX1_run_1 hl (by decide) rfl (fun ls hl => ?_)
  refine lv_iload_n E.x E.b dX1_run_3 rfl (lv_at hl 3 rfl) ?_
  refine lv_istore (lv' := [(5, .int (nI (s0))), (4, .int (bI (true))), (0, .ref (h 0)), (1, .int (nI (n))), (2, .int (nI (s0))), (3, .int (nI (num)))]) E.x E.b dX1_run_4 hl (by decide) rfl (fun ls hl => ?_)
  refine lv_iconst (v := nI (0)) E.x E.b dX1_run_6 (by decide +kernel) ?_
  refine lv_istore (lv' := [(6, .int (nI (0))), (5, .int (nI (s0))), (4, .int (bI (true))), (0, .ref (h 0)), (1, .int (nI (n))), (2, .int (nI (s0))), (3, .int (nI (num)))]) E.x E.b dX1_run_7 hl (by decide) rfl (fun ls hl => ?_)
  refine upL (N := n + 1) (fun i => ∀ (ls : Array Slot) (H : Heap) (locs : List Loc), lv_has ls 8 [(0, .ref (h 0)), (1, .int (nI (n))), (2, .int (nI (s0))), (3, .int (nI (num))), (4, .int (bI ((itr (runM C n num) 0 i (true, s0, M)).1))), (5, .int (nI ((itr (runM C n num) 0 i (true, s0, M)).2.1))), (6, .int (nI (0 + i)))] → wB D A s.heap (mk h d C ((itr (runM C n num) 0 i (true, s0, M)).2.2)) H locs → W p l e (rmm 3 68) s m ([.ref (h 0), .int (nI (n)), .int (nI (s0)), .int (nI (num))] : List Value).toArray below meth c H locs 0 0 (qI below D (tyM d) A (mk h d C ((runR C n s0 num M).2.2)) (bI (runR C n s0 num M).1) ([.ref (h 0), .int (nI (n)), .int (nI (s0)), .int (nI (num))] : List Value).toArray s) (F0 m 9 ls [])) ?_ 0 (Nat.zero_le _)  ls _ _  (lv_sub hl [3, 4, 5, 6, 2, 1, 0] rfl) hB
  intro i hii ih  ls H locs  hl hB
  have hst := run_st (C := C) (n := n) (num := num) (M := M) hs0 i
  refine lv_iload E.x E.b dX1_run_9 (lv_at hl 6 rfl) ?_
  refine lv_iload_n E.x E.b dX1_run_11 rfl (lv_at hl 1 rfl) ?_
  refine n_icmp_gt (tgt := 84) E (by omega) (by omega) dX1_run_12 (by decide) (fun hc12 => ?_) (fun hc12 => ?_)
  · skip
    obtain rfl : i = (n + 1) := by omega
    refine lv_iload E.x E.b dX1_run_84 (lv_at hl 4 rfl) ?_
    exact r_zret (x := ((itr (runM C n num) 0 (n + 1) (true, s0, M)).1)) E hr hk (hB) dX1_run_86 (rfl)
  · skip
    refine lv_iload_n E.x E.b dX1_run_15 rfl (lv_at hl 3 rfl) ?_
    refine lv_iload_n E.x E.b dX1_run_16 rfl (lv_at hl 1 rfl) ?_
    refine lv_iload E.x E.b dX1_run_17 (lv_at hl 6 rfl) ?_
    refine n_sub E (by omega) dX1_run_19 ?_
    refine lv_ishr E.x E.b dX1_run_20 ?_
    refine lv_iconst (v := nI 1) E.x E.b dX1_run_21 (by decide +kernel) ?_
    refine lv_iand E.x E.b dX1_run_22 ?_
    refine r_eq (y := bI (bitF num (n - (0 + i)))) (shbit (by omega) (by omega)) ?_
    refine lv_istore (lv' := [(7, .int (bI (bitF num (n - (0 + i))))), (0, .ref (h 0)), (1, .int (nI (n))), (2, .int (nI (s0))), (3, .int (nI (num))), (4, .int (bI ((itr (runM C n num) 0 i (true, s0, M)).1))), (5, .int (nI ((itr (runM C n num) 0 i (true, s0, M)).2.1))), (6, .int (nI (0 + i)))]) E.x E.b dX1_run_23 hl (by decide) rfl (fun ls hl => ?_)
    refine lv_aload_n E.x E.b dX1_run_25 rfl (lv_at hl 1 rfl) ?_
    refine gm_states E hB dX1_run_26 ?_
    refine lv_iload E.x E.b dX1_run_29 (lv_at hl 7 rfl) ?_
    refine lv_iload E.x E.b dX1_run_31 (lv_at hl 6 rfl) ?_
    refine sm_states E hB (i := 0 + i) (x := (itr (runM C n num) 0 i (true, s0, M)).2.1) (by omega) dX1_run_33 (fun H locs (hB : wB D A s.heap (mk h d C (((itr (runM C n num) 0 i (true, s0, M)).2.2).1, va_up ((itr (runM C n num) 0 i (true, s0, M)).2.2).2.1 (0 + i) ((itr (runM C n num) 0 i (true, s0, M)).2.1), ((itr (runM C n num) 0 i (true, s0, M)).2.2).2.2)) H locs) => ?_)
    refine lv_aload_n E.x E.b dX1_run_34 rfl (lv_at hl 1 rfl) ?_
    refine gm_inputs E hB dX1_run_35 ?_
    refine lv_iload E.x E.b dX1_run_38 (lv_at hl 7 rfl) ?_
    refine lv_iload E.x E.b dX1_run_40 (lv_at hl 0 rfl) ?_
    refine sm_inputs E hB (i := 0 + i) (x := bitF num (n - (0 + i))) (by omega) dX1_run_42 (fun H locs (hB : wB D A s.heap (mk h d C ((((itr (runM C n num) 0 i (true, s0, M)).2.2).1), (va_up ((itr (runM C n num) 0 i (true, s0, M)).2.2).2.1 (0 + i) ((itr (runM C n num) 0 i (true, s0, M)).2.1)), va_up (((itr (runM C n num) 0 i (true, s0, M)).2.2).2.2) (0 + i) (bitF num (n - (0 + i))))) H locs) => ?_)
    refine lv_aload_n E.x E.b dX1_run_43 rfl (lv_at hl 1 rfl) ?_
    refine lv_iload E.x E.b dX1_run_44 (lv_at hl 6 rfl) ?_
    refine lv_iload E.x E.b dX1_run_46 (lv_at hl 0 rfl) ?_
    refine k1_isBad E hA hB hl.1 ⟨Nat.le_of_ble_eq_true rfl, Nat.le_of_ble_eq_true rfl⟩ ⟨Nat.le_refl 0, Nat.le_refl 0⟩ (Nat.le_of_ble_eq_true rfl) hC hst dX1_run_48 (fun H locs (hB : wB D A s.heap (mk h d C (workM C ((itr (runM C n num) 0 i (true, s0, M)).2.1) (bitF num (n - (0 + i))) (((itr (runM C n num) 0 i (true, s0, M)).2.2).1), ((va_up ((itr (runM C n num) 0 i (true, s0, M)).2.2).2.1 (0 + i) ((itr (runM C n num) 0 i (true, s0, M)).2.1)), va_up (((itr (runM C n num) 0 i (true, s0, M)).2.2).2.2) (0 + i) (bitF num (n - (0 + i)))))) H locs) => ?_)
    refine r_eq (y := bI (mof (workM C ((itr (runM C n num) 0 i (true, s0, M)).2.1) (bitF num (n - (0 + i))) (((itr (runM C n num) 0 i (true, s0, M)).2.2).1)) (cX C))) rfl ?_
    refine lv_iload E.x E.b dX1_run_51 (lv_at hl 7 rfl) ?_
    refine lv_iload_n E.x E.b dX1_run_53 rfl (lv_at hl 2 rfl) ?_
    refine n_icmp_ne (tgt := 61) E (by omega) (by omega) dX1_run_54 (by decide) (fun hc54 => ?_) (fun hc54 => ?_)
    · skip
      have hdn : decide (0 + i = n) = false := decide_eq_false hc54
      refine lv_iconst (v := bI (false)) E.x E.b dX1_run_61 (by decide +kernel) ?_
      refine bb_icmp_eq (tgt := 68) E dX1_run_62 (by decide) (fun hc62 => ?_) (fun hc62 => ?_)
      · skip
        have hl : lv_has ls 8 [(7, .int (bI (bitF num (n - (0 + i))))), (0, .ref (h 0)), (1, .int (nI (n))), (2, .int (nI (s0))), (3, .int (nI (num))), (4, .int (bI ((itr (runM C n num) 0 i (true, s0, M)).1 && (mof (workM C (itr (runM C n num) 0 i (true, s0, M)).2.1 (bitF num (n - (0 + i))) (itr (runM C n num) 0 i (true, s0, M)).2.2.1) (cX C) == decide (0 + i = n))))), (5, .int (nI ((itr (runM C n num) 0 i (true, s0, M)).2.1))), (6, .int (nI (0 + i)))] := by rw [show ((itr (runM C n num) 0 i (true, s0, M)).1 && (mof (workM C (itr (runM C n num) 0 i (true, s0, M)).2.1 (bitF num (n - (0 + i))) (itr (runM C n num) 0 i (true, s0, M)).2.2.1) (cX C) == decide (0 + i = n))) = (itr (runM C n num) 0 i (true, s0, M)).1 from run_fl hdn hc62]; exact hl
        refine lv_aload_n E.x E.b dX1_run_68 rfl (lv_at hl 1 rfl) ?_
        refine lv_iload E.x E.b dX1_run_69 (lv_at hl 6 rfl) ?_
        refine lv_iload E.x E.b dX1_run_71 (lv_at hl 0 rfl) ?_
        refine k1_step E hA hB hl.1 ⟨Nat.le_of_ble_eq_true rfl, Nat.le_of_ble_eq_true rfl⟩ ⟨Nat.le_refl 0, Nat.le_refl 0⟩ (Nat.le_of_ble_eq_true rfl) hC hst dX1_run_73 (fun H locs (hB : wB D A s.heap (mk h d C (workM C ((itr (runM C n num) 0 i (true, s0, M)).2.1) (bitF num (n - (0 + i))) (workM C ((itr (runM C n num) 0 i (true, s0, M)).2.1) (bitF num (n - (0 + i))) (((itr (runM C n num) 0 i (true, s0, M)).2.2).1)), ((va_up ((itr (runM C n num) 0 i (true, s0, M)).2.2).2.1 (0 + i) ((itr (runM C n num) 0 i (true, s0, M)).2.1)), va_up (((itr (runM C n num) 0 i (true, s0, M)).2.2).2.2) (0 + i) (bitF num (n - (0 + i)))))) H locs) => ?_)
        refine r_eq (y := nI (stepM C (workM C ((itr (runM C n num) 0 i (true, s0, M)).2.1) (bitF num (n - (0 + i))) (workM C ((itr (runM C n num) 0 i (true, s0, M)).2.1) (bitF num (n - (0 + i))) (((itr (runM C n num) 0 i (true, s0, M)).2.2).1))))) rfl ?_
        refine lv_istore (lv' := [(5, .int (nI (stepM C (workM C ((itr (runM C n num) 0 i (true, s0, M)).2.1) (bitF num (n - (0 + i))) (workM C ((itr (runM C n num) 0 i (true, s0, M)).2.1) (bitF num (n - (0 + i))) (((itr (runM C n num) 0 i (true, s0, M)).2.2).1)))))), (7, .int (bI (bitF num (n - (0 + i))))), (0, .ref (h 0)), (1, .int (nI (n))), (2, .int (nI (s0))), (3, .int (nI (num))), (4, .int (bI ((itr (runM C n num) 0 i (true, s0, M)).1 && (mof (workM C (itr (runM C n num) 0 i (true, s0, M)).2.1 (bitF num (n - (0 + i))) (itr (runM C n num) 0 i (true, s0, M)).2.2.1) (cX C) == decide (0 + i = n))))), (6, .int (nI (0 + i)))]) E.x E.b dX1_run_76 hl (by decide) rfl (fun ls hl => ?_)
        refine lv_iinc (v := nI (0 + i + 1)) (lv' := [(6, .int (nI (0 + i + 1))), (5, .int (nI (stepM C (workM C ((itr (runM C n num) 0 i (true, s0, M)).2.1) (bitF num (n - (0 + i))) (workM C ((itr (runM C n num) 0 i (true, s0, M)).2.1) (bitF num (n - (0 + i))) (((itr (runM C n num) 0 i (true, s0, M)).2.2).1)))))), (7, .int (bI (bitF num (n - (0 + i))))), (0, .ref (h 0)), (1, .int (nI (n))), (2, .int (nI (s0))), (3, .int (nI (num))), (4, .int (bI ((itr (runM C n num) 0 i (true, s0, M)).1 && (mof (workM C (itr (runM C n num) 0 i (true, s0, M)).2.1 (bitF num (n - (0 + i))) (itr (runM C n num) 0 i (true, s0, M)).2.2.1) (cX C) == decide (0 + i = n)))))]) E.x E.b dX1_run_78 hl (k := 7) rfl (inc1 _) (by decide) rfl (fun ls hl => ?_)
        refine lv_goto (tgt := 9) E.x E.b dX1_run_81 (by decide) ?_
        exact ih (by omega)  ls H locs  (lv_sub hl [3, 4, 5, 6, 7, 1, 0] rfl) hB
      · skip
        refine lv_iconst (v := bI (false)) E.x E.b dX1_run_65 (by decide +kernel) ?_
        refine lv_istore (lv' := [(4, .int (bI (false))), (7, .int (bI (bitF num (n - (0 + i))))), (0, .ref (h 0)), (1, .int (nI (n))), (2, .int (nI (s0))), (3, .int (nI (num))), (5, .int (nI ((itr (runM C n num) 0 i (true, s0, M)).2.1))), (6, .int (nI (0 + i)))]) E.x E.b dX1_run_66 hl (by decide) rfl (fun ls hl => ?_)
        have hl : lv_has ls 8 [(4, .int (bI ((itr (runM C n num) 0 i (true, s0, M)).1 && (mof (workM C (itr (runM C n num) 0 i (true, s0, M)).2.1 (bitF num (n - (0 + i))) (itr (runM C n num) 0 i (true, s0, M)).2.2.1) (cX C) == decide (0 + i = n))))), (7, .int (bI (bitF num (n - (0 + i))))), (0, .ref (h 0)), (1, .int (nI (n))), (2, .int (nI (s0))), (3, .int (nI (num))), (5, .int (nI ((itr (runM C n num) 0 i (true, s0, M)).2.1))), (6, .int (nI (0 + i)))] := by rw [show ((itr (runM C n num) 0 i (true, s0, M)).1 && (mof (workM C (itr (runM C n num) 0 i (true, s0, M)).2.1 (bitF num (n - (0 + i))) (itr (runM C n num) 0 i (true, s0, M)).2.2.1) (cX C) == decide (0 + i = n))) = false from run_ff hdn hc62]; exact hl
        refine lv_aload_n E.x E.b dX1_run_68 rfl (lv_at hl 2 rfl) ?_
        refine lv_iload E.x E.b dX1_run_69 (lv_at hl 6 rfl) ?_
        refine lv_iload E.x E.b dX1_run_71 (lv_at hl 1 rfl) ?_
        refine k1_step E hA hB hl.1 ⟨Nat.le_of_ble_eq_true rfl, Nat.le_of_ble_eq_true rfl⟩ ⟨Nat.le_refl 0, Nat.le_refl 0⟩ (Nat.le_of_ble_eq_true rfl) hC hst dX1_run_73 (fun H locs (hB : wB D A s.heap (mk h d C (workM C ((itr (runM C n num) 0 i (true, s0, M)).2.1) (bitF num (n - (0 + i))) (workM C ((itr (runM C n num) 0 i (true, s0, M)).2.1) (bitF num (n - (0 + i))) (((itr (runM C n num) 0 i (true, s0, M)).2.2).1)), ((va_up ((itr (runM C n num) 0 i (true, s0, M)).2.2).2.1 (0 + i) ((itr (runM C n num) 0 i (true, s0, M)).2.1)), va_up (((itr (runM C n num) 0 i (true, s0, M)).2.2).2.2) (0 + i) (bitF num (n - (0 + i)))))) H locs) => ?_)
        refine r_eq (y := nI (stepM C (workM C ((itr (runM C n num) 0 i (true, s0, M)).2.1) (bitF num (n - (0 + i))) (workM C ((itr (runM C n num) 0 i (true, s0, M)).2.1) (bitF num (n - (0 + i))) (((itr (runM C n num) 0 i (true, s0, M)).2.2).1))))) rfl ?_
        refine lv_istore (lv' := [(5, .int (nI (stepM C (workM C ((itr (runM C n num) 0 i (true, s0, M)).2.1) (bitF num (n - (0 + i))) (workM C ((itr (runM C n num) 0 i (true, s0, M)).2.1) (bitF num (n - (0 + i))) (((itr (runM C n num) 0 i (true, s0, M)).2.2).1)))))), (4, .int (bI ((itr (runM C n num) 0 i (true, s0, M)).1 && (mof (workM C (itr (runM C n num) 0 i (true, s0, M)).2.1 (bitF num (n - (0 + i))) (itr (runM C n num) 0 i (true, s0, M)).2.2.1) (cX C) == decide (0 + i = n))))), (7, .int (bI (bitF num (n - (0 + i))))), (0, .ref (h 0)), (1, .int (nI (n))), (2, .int (nI (s0))), (3, .int (nI (num))), (6, .int (nI (0 + i)))]) E.x E.b dX1_run_76 hl (by decide) rfl (fun ls hl => ?_)
        refine lv_iinc (v := nI (0 + i + 1)) (lv' := [(6, .int (nI (0 + i + 1))), (5, .int (nI (stepM C (workM C ((itr (runM C n num) 0 i (true, s0, M)).2.1) (bitF num (n - (0 + i))) (workM C ((itr (runM C n num) 0 i (true, s0, M)).2.1) (bitF num (n - (0 + i))) (((itr (runM C n num) 0 i (true, s0, M)).2.2).1)))))), (4, .int (bI ((itr (runM C n num) 0 i (true, s0, M)).1 && (mof (workM C (itr (runM C n num) 0 i (true, s0, M)).2.1 (bitF num (n - (0 + i))) (itr (runM C n num) 0 i (true, s0, M)).2.2.1) (cX C) == decide (0 + i = n))))), (7, .int (bI (bitF num (n - (0 + i))))), (0, .ref (h 0)), (1, .int (nI (n))), (2, .int (nI (s0))), (3, .int (nI (num)))]) E.x E.b dX1_run_78 hl (k := 7) rfl (inc1 _) (by decide) rfl (fun ls hl => ?_)
        refine lv_goto (tgt := 9) E.x E.b dX1_run_81 (by decide) ?_
        exact ih (by omega)  ls H locs  (lv_sub hl [4, 5, 6, 7, 2, 1, 0] rfl) hB
    · skip
      have hdn : decide (0 + i = n) = true := decide_eq_true hc54
      refine lv_iconst (v := bI (true)) E.x E.b dX1_run_57 (by decide +kernel) ?_
      refine lv_goto (tgt := 62) E.x E.b dX1_run_58 (by decide) ?_
      refine bb_icmp_eq (tgt := 68) E dX1_run_62 (by decide) (fun hc62 => ?_) (fun hc62 => ?_)
      · skip
        have hl : lv_has ls 8 [(7, .int (bI (bitF num (n - (0 + i))))), (0, .ref (h 0)), (1, .int (nI (n))), (2, .int (nI (s0))), (3, .int (nI (num))), (4, .int (bI ((itr (runM C n num) 0 i (true, s0, M)).1 && (mof (workM C (itr (runM C n num) 0 i (true, s0, M)).2.1 (bitF num (n - (0 + i))) (itr (runM C n num) 0 i (true, s0, M)).2.2.1) (cX C) == decide (0 + i = n))))), (5, .int (nI ((itr (runM C n num) 0 i (true, s0, M)).2.1))), (6, .int (nI (0 + i)))] := by rw [show ((itr (runM C n num) 0 i (true, s0, M)).1 && (mof (workM C (itr (runM C n num) 0 i (true, s0, M)).2.1 (bitF num (n - (0 + i))) (itr (runM C n num) 0 i (true, s0, M)).2.2.1) (cX C) == decide (0 + i = n))) = (itr (runM C n num) 0 i (true, s0, M)).1 from run_fl hdn hc62]; exact hl
        refine lv_aload_n E.x E.b dX1_run_68 rfl (lv_at hl 1 rfl) ?_
        refine lv_iload E.x E.b dX1_run_69 (lv_at hl 6 rfl) ?_
        refine lv_iload E.x E.b dX1_run_71 (lv_at hl 0 rfl) ?_
        refine k1_step E hA hB hl.1 ⟨Nat.le_of_ble_eq_true rfl, Nat.le_of_ble_eq_true rfl⟩ ⟨Nat.le_refl 0, Nat.le_refl 0⟩ (Nat.le_of_ble_eq_true rfl) hC hst dX1_run_73 (fun H locs (hB : wB D A s.heap (mk h d C (workM C ((itr (runM C n num) 0 i (true, s0, M)).2.1) (bitF num (n - (0 + i))) (workM C ((itr (runM C n num) 0 i (true, s0, M)).2.1) (bitF num (n - (0 + i))) (((itr (runM C n num) 0 i (true, s0, M)).2.2).1)), ((va_up ((itr (runM C n num) 0 i (true, s0, M)).2.2).2.1 (0 + i) ((itr (runM C n num) 0 i (true, s0, M)).2.1)), va_up (((itr (runM C n num) 0 i (true, s0, M)).2.2).2.2) (0 + i) (bitF num (n - (0 + i)))))) H locs) => ?_)
        refine r_eq (y := nI (stepM C (workM C ((itr (runM C n num) 0 i (true, s0, M)).2.1) (bitF num (n - (0 + i))) (workM C ((itr (runM C n num) 0 i (true, s0, M)).2.1) (bitF num (n - (0 + i))) (((itr (runM C n num) 0 i (true, s0, M)).2.2).1))))) rfl ?_
        refine lv_istore (lv' := [(5, .int (nI (stepM C (workM C ((itr (runM C n num) 0 i (true, s0, M)).2.1) (bitF num (n - (0 + i))) (workM C ((itr (runM C n num) 0 i (true, s0, M)).2.1) (bitF num (n - (0 + i))) (((itr (runM C n num) 0 i (true, s0, M)).2.2).1)))))), (7, .int (bI (bitF num (n - (0 + i))))), (0, .ref (h 0)), (1, .int (nI (n))), (2, .int (nI (s0))), (3, .int (nI (num))), (4, .int (bI ((itr (runM C n num) 0 i (true, s0, M)).1 && (mof (workM C (itr (runM C n num) 0 i (true, s0, M)).2.1 (bitF num (n - (0 + i))) (itr (runM C n num) 0 i (true, s0, M)).2.2.1) (cX C) == decide (0 + i = n))))), (6, .int (nI (0 + i)))]) E.x E.b dX1_run_76 hl (by decide) rfl (fun ls hl => ?_)
        refine lv_iinc (v := nI (0 + i + 1)) (lv' := [(6, .int (nI (0 + i + 1))), (5, .int (nI (stepM C (workM C ((itr (runM C n num) 0 i (true, s0, M)).2.1) (bitF num (n - (0 + i))) (workM C ((itr (runM C n num) 0 i (true, s0, M)).2.1) (bitF num (n - (0 + i))) (((itr (runM C n num) 0 i (true, s0, M)).2.2).1)))))), (7, .int (bI (bitF num (n - (0 + i))))), (0, .ref (h 0)), (1, .int (nI (n))), (2, .int (nI (s0))), (3, .int (nI (num))), (4, .int (bI ((itr (runM C n num) 0 i (true, s0, M)).1 && (mof (workM C (itr (runM C n num) 0 i (true, s0, M)).2.1 (bitF num (n - (0 + i))) (itr (runM C n num) 0 i (true, s0, M)).2.2.1) (cX C) == decide (0 + i = n)))))]) E.x E.b dX1_run_78 hl (k := 7) rfl (inc1 _) (by decide) rfl (fun ls hl => ?_)
        refine lv_goto (tgt := 9) E.x E.b dX1_run_81 (by decide) ?_
        exact ih (by omega)  ls H locs  (lv_sub hl [3, 4, 5, 6, 7, 1, 0] rfl) hB
      · skip
        refine lv_iconst (v := bI (false)) E.x E.b dX1_run_65 (by decide +kernel) ?_
        refine lv_istore (lv' := [(4, .int (bI (false))), (7, .int (bI (bitF num (n - (0 + i))))), (0, .ref (h 0)), (1, .int (nI (n))), (2, .int (nI (s0))), (3, .int (nI (num))), (5, .int (nI ((itr (runM C n num) 0 i (true, s0, M)).2.1))), (6, .int (nI (0 + i)))]) E.x E.b dX1_run_66 hl (by decide) rfl (fun ls hl => ?_)
        have hl : lv_has ls 8 [(4, .int (bI ((itr (runM C n num) 0 i (true, s0, M)).1 && (mof (workM C (itr (runM C n num) 0 i (true, s0, M)).2.1 (bitF num (n - (0 + i))) (itr (runM C n num) 0 i (true, s0, M)).2.2.1) (cX C) == decide (0 + i = n))))), (7, .int (bI (bitF num (n - (0 + i))))), (0, .ref (h 0)), (1, .int (nI (n))), (2, .int (nI (s0))), (3, .int (nI (num))), (5, .int (nI ((itr (runM C n num) 0 i (true, s0, M)).2.1))), (6, .int (nI (0 + i)))] := by rw [show ((itr (runM C n num) 0 i (true, s0, M)).1 && (mof (workM C (itr (runM C n num) 0 i (true, s0, M)).2.1 (bitF num (n - (0 + i))) (itr (runM C n num) 0 i (true, s0, M)).2.2.1) (cX C) == decide (0 + i = n))) = false from run_ff hdn hc62]; exact hl
        refine lv_aload_n E.x E.b dX1_run_68 rfl (lv_at hl 2 rfl) ?_
        refine lv_iload E.x E.b dX1_run_69 (lv_at hl 6 rfl) ?_
        refine lv_iload E.x E.b dX1_run_71 (lv_at hl 1 rfl) ?_
        refine k1_step E hA hB hl.1 ⟨Nat.le_of_ble_eq_true rfl, Nat.le_of_ble_eq_true rfl⟩ ⟨Nat.le_refl 0, Nat.le_refl 0⟩ (Nat.le_of_ble_eq_true rfl) hC hst dX1_run_73 (fun H locs (hB : wB D A s.heap (mk h d C (workM C ((itr (runM C n num) 0 i (true, s0, M)).2.1) (bitF num (n - (0 + i))) (workM C ((itr (runM C n num) 0 i (true, s0, M)).2.1) (bitF num (n - (0 + i))) (((itr (runM C n num) 0 i (true, s0, M)).2.2).1)), ((va_up ((itr (runM C n num) 0 i (true, s0, M)).2.2).2.1 (0 + i) ((itr (runM C n num) 0 i (true, s0, M)).2.1)), va_up (((itr (runM C n num) 0 i (true, s0, M)).2.2).2.2) (0 + i) (bitF num (n - (0 + i)))))) H locs) => ?_)
        refine r_eq (y := nI (stepM C (workM C ((itr (runM C n num) 0 i (true, s0, M)).2.1) (bitF num (n - (0 + i))) (workM C ((itr (runM C n num) 0 i (true, s0, M)).2.1) (bitF num (n - (0 + i))) (((itr (runM C n num) 0 i (true, s0, M)).2.2).1))))) rfl ?_
        refine lv_istore (lv' := [(5, .int (nI (stepM C (workM C ((itr (runM C n num) 0 i (true, s0, M)).2.1) (bitF num (n - (0 + i))) (workM C ((itr (runM C n num) 0 i (true, s0, M)).2.1) (bitF num (n - (0 + i))) (((itr (runM C n num) 0 i (true, s0, M)).2.2).1)))))), (4, .int (bI ((itr (runM C n num) 0 i (true, s0, M)).1 && (mof (workM C (itr (runM C n num) 0 i (true, s0, M)).2.1 (bitF num (n - (0 + i))) (itr (runM C n num) 0 i (true, s0, M)).2.2.1) (cX C) == decide (0 + i = n))))), (7, .int (bI (bitF num (n - (0 + i))))), (0, .ref (h 0)), (1, .int (nI (n))), (2, .int (nI (s0))), (3, .int (nI (num))), (6, .int (nI (0 + i)))]) E.x E.b dX1_run_76 hl (by decide) rfl (fun ls hl => ?_)
        refine lv_iinc (v := nI (0 + i + 1)) (lv' := [(6, .int (nI (0 + i + 1))), (5, .int (nI (stepM C (workM C ((itr (runM C n num) 0 i (true, s0, M)).2.1) (bitF num (n - (0 + i))) (workM C ((itr (runM C n num) 0 i (true, s0, M)).2.1) (bitF num (n - (0 + i))) (((itr (runM C n num) 0 i (true, s0, M)).2.2).1)))))), (4, .int (bI ((itr (runM C n num) 0 i (true, s0, M)).1 && (mof (workM C (itr (runM C n num) 0 i (true, s0, M)).2.1 (bitF num (n - (0 + i))) (itr (runM C n num) 0 i (true, s0, M)).2.2.1) (cX C) == decide (0 + i = n))))), (7, .int (bI (bitF num (n - (0 + i))))), (0, .ref (h 0)), (1, .int (nI (n))), (2, .int (nI (s0))), (3, .int (nI (num)))]) E.x E.b dX1_run_78 hl (k := 7) rfl (inc1 _) (by decide) rfl (fun ls hl => ?_)
        refine lv_goto (tgt := 9) E.x E.b dX1_run_81 (by decide) ?_
        exact ih (by omega)  ls H locs  (lv_sub hl [4, 5, 6, 7, 2, 1, 0] rfl) hB
theorem k1_run {p : Program} {l : Launch} {e : Env} {R : Room} {s : State} {m : MethodId} {args : Array Value} {below : List Frame} {meth : Method} {c : Code} {H : Heap} {locs : List Loc} {cells slots : Nat} {Q : State → Prop} {cc : ByteArray} {pc nL : Nat} {ls : Array Slot} {rest : List Value} {D : va_G} {A : Nat → Prop} {h : Nat → Nat} {d : Nat → ClassId} {C : CS} {M : MS} {n s0 num : Nat} (E : ev p m c cc nL s args RX1 D (tyM d)) (hA : ∀ q : Nat, s.heap.size ≤ q → A q) (hB : wB D A s.heap (mk h d C M) H locs) (hls : ls.size = nL) (hRm : 4 ≤ R.frames ∧ 95 ≤ R.locals) (hfm : cells ≤ R.cells ∧ slots ≤ R.slots) (hrest : (rest.map fun v => v.category).sum ≤ 8) (hC : okC C) (hn : n < 7) (hs0 : s0 < 16) (hnum : num < 2 ^ 31) (hdg : decode cc pc = .ok (.invokevirtual 64, 3)) (kk : ∀ (H1 : Heap) (locs1 : List Loc), wB D A s.heap (mk h d C ((runR C n s0 num M).2.2)) H1 locs1 → W p l e R s m args below meth c H1 locs1 cells slots Q (F0 m (pc + 3) ls (.int (bI (runR C n s0 num M).1) :: rest))) : W p l e R s m args below meth c H locs cells slots Q (F0 m pc ls (.int (nI (num)) :: .int (nI (s0)) :: .int (nI (n)) :: .ref (h 0) :: rest)) :=
  r_calli (ci := 1) (q := (RX1, TX1, 9)) E hA hB hls 3 (m1_run l D h d C M n s0 num hC hn hs0 hnum) rfl rfl q271 q273 qs20 q26 q274 (by decide +kernel) rfl ⟨rfl, rfl⟩ hRm hfm rfl hrest hdg kk
set_option maxHeartbeats 4000000 in
set_option maxRecDepth 100000 in
/-- beginning(s0) -/
theorem m1_beginning (l : Launch) (D : va_G) (h : Nat → Nat) (d : Nat → ClassId) (C : CS) (M : MS) (s0 : Nat) (hC : okC C) (hs0 : s0 < 16) : ctI l yX1_beginning cX1_beginning 3 (rmm 0 0) D (tyM d) (mk h d C M) (mk h d C M) [.ref (h 0), .int (nI (s0))] .boolean (bI (begM C s0)) := by
  refine mkI RX1 rfl (by decide) (Nat.le_of_ble_eq_true rfl) [(0, .ref (h 0)), (1, .int (nI (s0)))] rfl ?_
  intro p e s m below meth c A ls E hr hk hA hB hl
  have hb := hC.2.2.2.1
  refine lv_iconst (v := nI (1)) E.x E.b dX1_beginning_0 (by decide +kernel) ?_
  refine lv_istore_n (lv' := [(2, .int (nI (1))), (0, .ref (h 0)), (1, .int (nI (s0)))]) E.x E.b dX1_beginning_1 rfl hl (by decide) rfl (fun ls hl => ?_)
  refine upL (N := 4) (fun i => ∀ (ls : Array Slot) (H : Heap) (locs : List Loc), anyb (fun i => !begAt C s0 (1 + i)) i = false → lv_has ls 3 [(0, .ref (h 0)), (1, .int (nI (s0))), (2, .int (nI (1 + i)))] → wB D A s.heap (mk h d C M) H locs → W p l e (rmm 0 0) s m ([.ref (h 0), .int (nI (s0))] : List Value).toArray below meth c H locs 0 0 (qI below D (tyM d) A (mk h d C M) (bI (begM C s0)) ([.ref (h 0), .int (nI (s0))] : List Value).toArray s) (F0 m 2 ls [])) ?_ 0 (Nat.zero_le _)  ls _ _ rfl (lv_sub hl [1, 2, 0] rfl) hB
  intro i hii ih  ls H locs hq hl hB
  refine lv_iload_n E.x E.b dX1_beginning_2 rfl (lv_at hl 2 rfl) ?_
  refine lv_iconst (v := nI (5)) E.x E.b dX1_beginning_3 (by decide +kernel) ?_
  refine n_icmp_ge (tgt := 41) E (by omega) (by omega) dX1_beginning_4 (by decide) (fun hc4 => ?_) (fun hc4 => ?_)
  · skip
    obtain rfl : i = 4 := by omega
    refine lv_iconst (v := bI (true)) E.x E.b dX1_beginning_41 (by decide +kernel) ?_
    exact r_zret (x := true) E hr hk (hB) dX1_beginning_42 (beg_yes hq)
  · skip
    have hb1 := hb (1 + i) (by omega) (by omega)
    refine lv_aload_n E.x E.b dX1_beginning_7 rfl (lv_at hl 0 rfl) ?_
    refine gm_begins E hB dX1_beginning_8 ?_
    refine lv_iload_n E.x E.b dX1_beginning_11 rfl (lv_at hl 2 rfl) ?_
    refine lm_begins E hB (by omega) dX1_beginning_12 ?_
    refine lv_iconst (v := nI (2)) E.x E.b dX1_beginning_13 (by decide +kernel) ?_
    refine n_icmp_eq (tgt := 35) E (by omega) (by omega) dX1_beginning_14 (by decide) (fun hc14 => ?_) (fun hc14 => ?_)
    · skip
      refine lv_iinc (v := nI (1 + i + 1)) (lv' := [(2, .int (nI (1 + i + 1))), (0, .ref (h 0)), (1, .int (nI (s0)))]) E.x E.b dX1_beginning_35 hl (k := 2) rfl (inc1 _) (by decide) rfl (fun ls hl => ?_)
      refine lv_goto (tgt := 2) E.x E.b dX1_beginning_38 (by decide) ?_
      exact ih (by omega)  ls H locs (anyb_step hq (by simp [begAt, hc14])) (lv_sub hl [1, 2, 0] rfl) hB
    · skip
      refine lv_aload_n E.x E.b dX1_beginning_17 rfl (lv_at hl 0 rfl) ?_
      refine gm_begins E hB dX1_beginning_18 ?_
      refine lv_iload_n E.x E.b dX1_beginning_21 rfl (lv_at hl 2 rfl) ?_
      refine lm_begins E hB (by omega) dX1_beginning_22 ?_
      refine lv_iload_n E.x E.b dX1_beginning_23 rfl (lv_at hl 1 rfl) ?_
      refine lv_iload_n E.x E.b dX1_beginning_24 rfl (lv_at hl 2 rfl) ?_
      refine lv_iconst (v := nI (1)) E.x E.b dX1_beginning_25 (by decide +kernel) ?_
      refine n_sub E (by omega) dX1_beginning_26 ?_
      refine lv_ishr E.x E.b dX1_beginning_27 ?_
      refine lv_iconst (v := nI 1) E.x E.b dX1_beginning_28 (by decide +kernel) ?_
      refine lv_iand E.x E.b dX1_beginning_29 ?_
      refine r_eq (y := bI (bitF s0 ((1 + i) - 1))) (shbit (by omega) (by omega)) ?_
      refine r_eq (y := nI (bitF s0 ((1 + i) - 1)).toNat) (bI_nat _) ?_
      have hbt : (bitF s0 ((1 + i) - 1)).toNat ≤ 1 := Bool.toNat_le _
      refine n_icmp_eq (tgt := 35) E (by omega) (by omega) dX1_beginning_30 (by decide) (fun hc30 => ?_) (fun hc30 => ?_)
      · skip
        refine lv_iinc (v := nI (1 + i + 1)) (lv' := [(2, .int (nI (1 + i + 1))), (0, .ref (h 0)), (1, .int (nI (s0)))]) E.x E.b dX1_beginning_35 hl (k := 2) rfl (inc1 _) (by decide) rfl (fun ls hl => ?_)
        refine lv_goto (tgt := 2) E.x E.b dX1_beginning_38 (by decide) ?_
        exact ih (by omega)  ls H locs (anyb_step hq (by simp [begAt, hc30])) (lv_sub hl [1, 2, 0] rfl) hB
      · skip
        refine lv_iconst (v := bI (false)) E.x E.b dX1_beginning_33 (by decide +kernel) ?_
        exact r_zret (x := false) E hr hk (hB) dX1_beginning_34 (beg_no (i := i) (by omega) (by unfold begAt; exact decide_eq_false (fun z => z.elim hc14 hc30)))
theorem k1_beginning {p : Program} {l : Launch} {e : Env} {R : Room} {s : State} {m : MethodId} {args : Array Value} {below : List Frame} {meth : Method} {c : Code} {H : Heap} {locs : List Loc} {cells slots : Nat} {Q : State → Prop} {cc : ByteArray} {pc nL : Nat} {ls : Array Slot} {rest : List Value} {D : va_G} {A : Nat → Prop} {h : Nat → Nat} {d : Nat → ClassId} {C : CS} {M : MS} {s0 : Nat} (E : ev p m c cc nL s args RX1 D (tyM d)) (hA : ∀ q : Nat, s.heap.size ≤ q → A q) (hB : wB D A s.heap (mk h d C M) H locs) (hls : ls.size = nL) (hRm : 1 ≤ R.frames ∧ 22 ≤ R.locals) (hfm : cells ≤ R.cells ∧ slots ≤ R.slots) (hrest : (rest.map fun v => v.category).sum ≤ 8) (hC : okC C) (hs0 : s0 < 16) (hdg : decode cc pc = .ok (.invokevirtual 61, 3)) (kk : ∀ (H1 : Heap) (locs1 : List Loc), wB D A s.heap (mk h d C M) H1 locs1 → W p l e R s m args below meth c H1 locs1 cells slots Q (F0 m (pc + 3) ls (.int (bI (begM C s0)) :: rest))) : W p l e R s m args below meth c H locs cells slots Q (F0 m pc ls (.int (nI (s0)) :: .ref (h 0) :: rest)) :=
  r_calli (ci := 1) (q := (RX1, TX1, 9)) E hA hB hls 1 (m1_beginning l D h d C M s0 hC hs0) rfl rfl q267 q269 qs19 q26 q270 (by decide +kernel) rfl ⟨rfl, rfl⟩ hRm hfm rfl hrest hdg kk
set_option maxHeartbeats 4000000 in
set_option maxRecDepth 100000 in
/-- found(n) -/
theorem m1_found (l : Launch) (D : va_G) (h : Nat → Nat) (d : Nat → ClassId) (C : CS) (M : MS) (n : Nat) (hC : okC C) (hn : n < 7) : ctI l yX1_found cX1_found 4 (rmm 4 95) D (tyM d) (mk h d C M) (mk h d C ((foundM C n M).2)) [.ref (h 0), .int (nI (n))] .boolean (bI (foundM C n M).1) := by
  refine mkI RX1 rfl (by decide) (Nat.le_of_ble_eq_true rfl) [(0, .ref (h 0)), (1, .int (nI (n)))] rfl ?_
  intro p e s m below meth c A ls E hr hk hA hB hl
  obtain ⟨hp1, hp2, hp3⟩ := pow_7 hn
  refine lv_iconst (v := nI (0)) E.x E.b dX1_found_0 (by decide +kernel) ?_
  refine lv_istore_n (lv' := [(2, .int (nI (0))), (0, .ref (h 0)), (1, .int (nI (n)))]) E.x E.b dX1_found_1 rfl hl (by decide) rfl (fun ls hl => ?_)
  refine upL (N := 32 * 2 ^ n) (fun i => ∀ (M1 : MS) (ls : Array Slot) (H : Heap) (locs : List Loc), firstF (foundStep C n) (32 * 2 ^ n - i) i M1 = foundM C n M → lv_has ls 4 [(0, .ref (h 0)), (1, .int (nI (n))), (2, .int (nI (i)))] → wB D A s.heap (mk h d C M1) H locs → W p l e (rmm 4 95) s m ([.ref (h 0), .int (nI (n))] : List Value).toArray below meth c H locs 0 0 (qI below D (tyM d) A (mk h d C ((foundM C n M).2)) (bI (foundM C n M).1) ([.ref (h 0), .int (nI (n))] : List Value).toArray s) (F0 m 2 ls [])) ?_ 0 (Nat.zero_le _) M ls _ _ rfl (lv_sub hl [1, 2, 0] rfl) hB
  intro i hii ih M1 ls H locs hq hl hB
  refine lv_iload_n E.x E.b dX1_found_2 rfl (lv_at hl 2 rfl) ?_
  refine lv_bipush (v := nI (32)) E.x E.b dX1_found_3 (by decide +kernel) ?_
  refine lv_iload_n E.x E.b dX1_found_5 rfl (lv_at hl 1 rfl) ?_
  refine lv_ishl E.x E.b dX1_found_6 ?_
  refine r_eq (y := nI (32 * 2 ^ n)) (shl_n (by omega) (by omega)) ?_
  refine n_icmp_ge (tgt := 48) E (by omega) (by omega) dX1_found_7 (by decide) (fun hc7 => ?_) (fun hc7 => ?_)
  · skip
    refine lv_iconst (v := bI (false)) E.x E.b dX1_found_48 (by decide +kernel) ?_
    exact r_zret (x := false) E hr hk (hB.to (by rw [← hq, first_end (by omega)])) dX1_found_49 (by rw [← hq, first_end (by omega)])
  · skip
    have h16 := div_16 hc7
    have hm31 : i % 2 ^ (n + 1) < 2 ^ 31 := Nat.lt_of_le_of_lt (Nat.mod_le _ _) (by omega)
    refine lv_iload_n E.x E.b dX1_found_10 rfl (lv_at hl 2 rfl) ?_
    refine lv_iload_n E.x E.b dX1_found_11 rfl (lv_at hl 1 rfl) ?_
    refine lv_iconst (v := nI (1)) E.x E.b dX1_found_12 (by decide +kernel) ?_
    refine n_add E dX1_found_13 ?_
    refine lv_ishr E.x E.b dX1_found_14 ?_
    refine r_eq (y := nI (i / 2 ^ (n + 1))) (shr_n (by omega) (by omega)) ?_
    refine lv_istore_n (lv' := [(3, .int (nI (i / 2 ^ (n + 1)))), (0, .ref (h 0)), (1, .int (nI (n))), (2, .int (nI (i)))]) E.x E.b dX1_found_15 rfl hl (by decide) rfl (fun ls hl => ?_)
    refine lv_aload_n E.x E.b dX1_found_16 rfl (lv_at hl 1 rfl) ?_
    refine lv_iload_n E.x E.b dX1_found_17 rfl (lv_at hl 0 rfl) ?_
    refine k1_beginning E hA hB hl.1 ⟨Nat.le_of_ble_eq_true rfl, Nat.le_of_ble_eq_true rfl⟩ ⟨Nat.le_refl 0, Nat.le_refl 0⟩ (Nat.le_of_ble_eq_true rfl) hC h16 dX1_found_18 (fun H locs (hB : wB D A s.heap (mk h d C M1) H locs) => ?_)
    refine b_if_eq (tgt := 42) E dX1_found_21 (by decide) (fun hc21 => ?_) (fun hc21 => ?_)
    · skip
      refine lv_iinc (v := nI (i + 1)) (lv' := [(2, .int (nI (i + 1))), (3, .int (nI (i / 2 ^ (n + 1)))), (0, .ref (h 0)), (1, .int (nI (n)))]) E.x E.b dX1_found_42 hl (k := 3) rfl (inc1 _) (by decide) rfl (fun ls hl => ?_)
      refine lv_goto (tgt := 2) E.x E.b dX1_found_45 (by decide) ?_
      exact ih (by omega) M1 ls H locs (by rw [← hq, ← first_no (F := foundStep C n) (N := 32 * 2 ^ n) (i := i) (a := M1) (by omega) (by rw [found_no hc21]), found_no hc21]) (lv_sub hl [2, 3, 0] rfl) hB
    · skip
      refine lv_aload_n E.x E.b dX1_found_24 rfl (lv_at hl 1 rfl) ?_
      refine lv_iload_n E.x E.b dX1_found_25 rfl (lv_at hl 2 rfl) ?_
      refine lv_iload_n E.x E.b dX1_found_26 rfl (lv_at hl 0 rfl) ?_
      refine lv_iload_n E.x E.b dX1_found_27 rfl (lv_at hl 3 rfl) ?_
      refine lv_iconst (v := nI (2)) E.x E.b dX1_found_28 (by decide +kernel) ?_
      refine lv_iload_n E.x E.b dX1_found_29 rfl (lv_at hl 2 rfl) ?_
      refine lv_ishl E.x E.b dX1_found_30 ?_
      refine r_eq (y := nI (2 * 2 ^ n)) (shl_n (by omega) (by omega)) ?_
      refine lv_iconst (v := nI (1)) E.x E.b dX1_found_31 (by decide +kernel) ?_
      refine n_sub E (by omega) dX1_found_32 ?_
      refine lv_iand E.x E.b dX1_found_33 ?_
      refine r_eq (y := nI (i % 2 ^ (n + 1))) (mask_n (by omega) hn) ?_
      refine k1_run E hA hB hl.1 ⟨Nat.le_of_ble_eq_true rfl, Nat.le_of_ble_eq_true rfl⟩ ⟨Nat.le_refl 0, Nat.le_refl 0⟩ (Nat.le_of_ble_eq_true rfl) hC (by omega) h16 hm31 dX1_found_34 (fun H locs (hB : wB D A s.heap (mk h d C ((runR C n (i / 2 ^ (n + 1)) (i % 2 ^ (n + 1)) M1).2.2)) H locs) => ?_)
      refine b_if_eq (tgt := 42) E dX1_found_37 (by decide) (fun hc37 => ?_) (fun hc37 => ?_)
      · skip
        refine lv_iinc (v := nI (i + 1)) (lv' := [(2, .int (nI (i + 1))), (3, .int (nI (i / 2 ^ (n + 1)))), (0, .ref (h 0)), (1, .int (nI (n)))]) E.x E.b dX1_found_42 hl (k := 3) rfl (inc1 _) (by decide) rfl (fun ls hl => ?_)
        refine lv_goto (tgt := 2) E.x E.b dX1_found_45 (by decide) ?_
        exact ih (by omega) _ ls H locs (by rw [← hq, ← first_no (F := foundStep C n) (N := 32 * 2 ^ n) (i := i) (a := M1) (by omega) (by rw [found_go hc21]; exact hc37), found_go hc21]) (lv_sub hl [2, 3, 0] rfl) hB
      · skip
        refine lv_iconst (v := bI (true)) E.x E.b dX1_found_40 (by decide +kernel) ?_
        exact r_zret (x := true) E hr hk (hB.to (by rw [← hq, first_yes (F := foundStep C n) (a := M1) (by omega) (by rw [found_go hc21]; exact hc37), found_go hc21])) dX1_found_41 (by rw [← hq, first_yes (F := foundStep C n) (a := M1) (by omega) (by rw [found_go hc21]; exact hc37)])
theorem k1_found {p : Program} {l : Launch} {e : Env} {R : Room} {s : State} {m : MethodId} {args : Array Value} {below : List Frame} {meth : Method} {c : Code} {H : Heap} {locs : List Loc} {cells slots : Nat} {Q : State → Prop} {cc : ByteArray} {pc nL : Nat} {ls : Array Slot} {rest : List Value} {D : va_G} {A : Nat → Prop} {h : Nat → Nat} {d : Nat → ClassId} {C : CS} {M : MS} {n : Nat} (E : ev p m c cc nL s args RX1 D (tyM d)) (hA : ∀ q : Nat, s.heap.size ≤ q → A q) (hB : wB D A s.heap (mk h d C M) H locs) (hls : ls.size = nL) (hRm : 5 ≤ R.frames ∧ 118 ≤ R.locals) (hfm : cells ≤ R.cells ∧ slots ≤ R.slots) (hrest : (rest.map fun v => v.category).sum ≤ 8) (hC : okC C) (hn : n < 7) (hdg : decode cc pc = .ok (.invokevirtual 68, 3)) (kk : ∀ (H1 : Heap) (locs1 : List Loc), wB D A s.heap (mk h d C ((foundM C n M).2)) H1 locs1 → W p l e R s m args below meth c H1 locs1 cells slots Q (F0 m (pc + 3) ls (.int (bI (foundM C n M).1) :: rest))) : W p l e R s m args below meth c H locs cells slots Q (F0 m pc ls (.int (nI (n)) :: .ref (h 0) :: rest)) :=
  r_calli (ci := 1) (q := (RX1, TX1, 9)) E hA hB hls 1 (m1_found l D h d C M n hC hn) rfl rfl q263 q265 qs18 q26 q266 (by decide +kernel) rfl ⟨rfl, rfl⟩ hRm hfm rfl hrest hdg kk
set_option maxHeartbeats 4000000 in
set_option maxRecDepth 100000 in
/-- least(k) -/
theorem m1_least (l : Launch) (D : va_G) (h : Nat → Nat) (d : Nat → ClassId) (C : CS) (M : MS) (k : Nat) (hC : okC C) (hk9 : k < 7) : ctI l yX1_least cX1_least 3 (rmm 5 118) D (tyM d) (mk h d C M) (mk h d C ((leastM C (k + 1) 0 M).2)) [.ref (h 0), .int (nI (k))] .int (zI (leastM C (k + 1) 0 M).1) := by
  refine mkI RX1 rfl (by decide) (Nat.le_of_ble_eq_true rfl) [(0, .ref (h 0)), (1, .int (nI (k)))] rfl ?_
  intro p e s m below meth c A ls E hr hk hA hB hl
  refine lv_iconst (v := nI (0)) E.x E.b dX1_least_0 (by decide +kernel) ?_
  refine lv_istore_n (lv' := [(2, .int (nI (0))), (0, .ref (h 0)), (1, .int (nI (k)))]) E.x E.b dX1_least_1 rfl hl (by decide) rfl (fun ls hl => ?_)
  refine upL (N := k + 1) (fun i => ∀ (M1 : MS) (ls : Array Slot) (H : Heap) (locs : List Loc), leastM C (k + 1 - i) i M1 = leastM C (k + 1) 0 M → lv_has ls 3 [(0, .ref (h 0)), (1, .int (nI (k))), (2, .int (nI (i)))] → wB D A s.heap (mk h d C M1) H locs → W p l e (rmm 5 118) s m ([.ref (h 0), .int (nI (k))] : List Value).toArray below meth c H locs 0 0 (qI below D (tyM d) A (mk h d C ((leastM C (k + 1) 0 M).2)) (zI (leastM C (k + 1) 0 M).1) ([.ref (h 0), .int (nI (k))] : List Value).toArray s) (F0 m 2 ls [])) ?_ 0 (Nat.zero_le _) M ls _ _ rfl (lv_sub hl [1, 2, 0] rfl) hB
  intro i hii ih M1 ls H locs hq hl hB
  refine lv_iload_n E.x E.b dX1_least_2 rfl (lv_at hl 2 rfl) ?_
  refine lv_iload_n E.x E.b dX1_least_3 rfl (lv_at hl 1 rfl) ?_
  refine n_icmp_gt (tgt := 23) E (by omega) (by omega) dX1_least_4 (by decide) (fun hc4 => ?_) (fun hc4 => ?_)
  · skip
    refine lv_iconst (v := zI (none)) E.x E.b dX1_least_23 (by decide +kernel) ?_
    exact r_iret (x := zI (none)) E hr hk (hB.to (by rw [← hq, show k + 1 - i = 0 by omega]; rfl)) dX1_least_24 (by rw [← hq, show k + 1 - i = 0 by omega]; rfl)
  · skip
    refine lv_aload_n E.x E.b dX1_least_7 rfl (lv_at hl 0 rfl) ?_
    refine lv_iload_n E.x E.b dX1_least_8 rfl (lv_at hl 2 rfl) ?_
    refine k1_found E hA hB hl.1 ⟨Nat.le_of_ble_eq_true rfl, Nat.le_of_ble_eq_true rfl⟩ ⟨Nat.le_refl 0, Nat.le_refl 0⟩ (Nat.le_of_ble_eq_true rfl) hC (by omega) dX1_least_9 (fun H locs (hB : wB D A s.heap (mk h d C ((foundM C i M1).2)) H locs) => ?_)
    refine b_if_eq (tgt := 17) E dX1_least_12 (by decide) (fun hc12 => ?_) (fun hc12 => ?_)
    · skip
      refine lv_iinc (v := nI (i + 1)) (lv' := [(2, .int (nI (i + 1))), (0, .ref (h 0)), (1, .int (nI (k)))]) E.x E.b dX1_least_17 hl (k := 2) rfl (inc1 _) (by decide) rfl (fun ls hl => ?_)
      refine lv_goto (tgt := 2) E.x E.b dX1_least_20 (by decide) ?_
      exact ih (by omega) _ ls H locs ((least_no (by omega) hc12).trans hq) (lv_sub hl [1, 2, 0] rfl) hB
    · skip
      refine lv_iload_n E.x E.b dX1_least_15 rfl (lv_at hl 2 rfl) ?_
      exact r_iret (x := nI (i)) E hr hk (hB.to (by rw [← hq, least_yes (by omega) hc12])) dX1_least_16 (by rw [← hq, least_yes (by omega) hc12]; rfl)
theorem k1_least {p : Program} {l : Launch} {e : Env} {R : Room} {s : State} {m : MethodId} {args : Array Value} {below : List Frame} {meth : Method} {c : Code} {H : Heap} {locs : List Loc} {cells slots : Nat} {Q : State → Prop} {cc : ByteArray} {pc nL : Nat} {ls : Array Slot} {rest : List Value} {D : va_G} {A : Nat → Prop} {h : Nat → Nat} {d : Nat → ClassId} {C : CS} {M : MS} {k : Nat} (E : ev p m c cc nL s args RX1 D (tyM d)) (hA : ∀ q : Nat, s.heap.size ≤ q → A q) (hB : wB D A s.heap (mk h d C M) H locs) (hls : ls.size = nL) (hRm : 6 ≤ R.frames ∧ 140 ≤ R.locals) (hfm : cells ≤ R.cells ∧ slots ≤ R.slots) (hrest : (rest.map fun v => v.category).sum ≤ 8) (hC : okC C) (hk9 : k < 7) (hdg : decode cc pc = .ok (.invokevirtual 71, 3)) (kk : ∀ (H1 : Heap) (locs1 : List Loc), wB D A s.heap (mk h d C ((leastM C (k + 1) 0 M).2)) H1 locs1 → W p l e R s m args below meth c H1 locs1 cells slots Q (F0 m (pc + 3) ls (.int (zI (leastM C (k + 1) 0 M).1) :: rest))) : W p l e R s m args below meth c H locs cells slots Q (F0 m pc ls (.int (nI (k)) :: .ref (h 0) :: rest)) :=
  r_calli (ci := 1) (q := (RX1, TX1, 9)) E hA hB hls 1 (m1_least l D h d C M k hC hk9) rfl rfl q259 q261 qs17 q26 q262 (by decide +kernel) rfl ⟨rfl, rfl⟩ hRm hfm rfl hrest hdg kk
set_option maxHeartbeats 4000000 in
set_option maxRecDepth 100000 in
/-- depth(x) -/
theorem m1_depth (l : Launch) (D : va_G) (h : Nat → Nat) (d : Nat → ClassId) (C : CS) (M : MS) (x : Int32) (hC : okC C) : ctI l yX1_depth cX1_depth 2 (rmm 6 140) D (tyM d) (mk h d C M) (mk h d C ((depthM C x M).2)) [.ref (h 0), .int (x)] .int (zI (depthM C x M).1) := by
  refine mkI RX1 rfl (by decide) (Nat.le_of_ble_eq_true rfl) [(0, .ref (h 0)), (1, .int (x))] rfl ?_
  intro p e s m below meth c A ls E hr hk hA hB hl
  rcases hx : inT x 0 7 with _ | k
  · skip
    refine lv_iload_n E.x E.b dX1_depth_0 rfl (lv_at hl 1 rfl) ?_
    refine lv_if_lt (tgt := 10) E.x E.b dX1_depth_1 (by decide) (fun hc1 => ?_) (fun hc1 => ?_)
    · skip
      refine lv_iconst (v := zI (none)) E.x E.b dX1_depth_10 (by decide +kernel) ?_
      refine lv_goto (tgt := 19) E.x E.b dX1_depth_11 (by decide) ?_
      exact r_iret (x := zI (none)) E hr hk (hB.to (by rw [depthM_none hx])) dX1_depth_19 (by rw [depthM_none hx])
    · skip
      refine lv_iload_n E.x E.b dX1_depth_4 rfl (lv_at hl 1 rfl) ?_
      refine lv_bipush (v := nI (6)) E.x E.b dX1_depth_5 (by decide +kernel) ?_
      refine lv_icmp_le (tgt := 14) E.x E.b dX1_depth_7 (by decide) (fun hc7 => (dead_le 6 hx hc1 hc7 (by decide) (by decide)).elim) (fun hc7 => ?_)
      refine lv_iconst (v := zI (none)) E.x E.b dX1_depth_10 (by decide +kernel) ?_
      refine lv_goto (tgt := 19) E.x E.b dX1_depth_11 (by decide) ?_
      exact r_iret (x := zI (none)) E hr hk (hB.to (by rw [depthM_none hx])) dX1_depth_19 (by rw [depthM_none hx])
  · obtain ⟨-, hk9, rfl⟩ := inT_some hx (by decide)
    refine lv_iload_n E.x E.b dX1_depth_0 rfl (lv_at hl 1 rfl) ?_
    refine lv_if_lt (tgt := 10) E.x E.b dX1_depth_1 (by decide) (fun hc1 => absurd hc1 (nI_pos (by omega))) (fun hc1 => ?_)
    refine lv_iload_n E.x E.b dX1_depth_4 rfl (lv_at hl 1 rfl) ?_
    refine lv_bipush (v := nI (6)) E.x E.b dX1_depth_5 (by decide +kernel) ?_
    refine n_icmp_le (tgt := 14) E (by omega) (by omega) dX1_depth_7 (by decide) (fun hc7 => ?_) (fun hc7 => absurd hc7 (by omega))
    refine lv_aload_n E.x E.b dX1_depth_14 rfl (lv_at hl 0 rfl) ?_
    refine lv_iload_n E.x E.b dX1_depth_15 rfl (lv_at hl 1 rfl) ?_
    refine k1_least E hA hB hl.1 ⟨Nat.le_of_ble_eq_true rfl, Nat.le_of_ble_eq_true rfl⟩ ⟨Nat.le_refl 0, Nat.le_refl 0⟩ (Nat.le_of_ble_eq_true rfl) hC (by omega) dX1_depth_16 (fun H locs (hB : wB D A s.heap (mk h d C ((leastM C (k + 1) 0 M).2)) H locs) => ?_)
    exact r_iret (x := zI ((leastM C (k + 1) 0 M).1)) E hr hk (hB.to (by rw [depthM_some hx])) dX1_depth_19 (by rw [depthM_some hx])
set_option maxHeartbeats 4000000 in
set_option maxRecDepth 100000 in
/-- different(n) -/
theorem m1_different (l : Launch) (D : va_G) (h : Nat → Nat) (d : Nat → ClassId) (C : CS) (M : MS) (n : Nat) (hn : n < 7) (hst : ∀ j, j < n + 1 → M.2.1 j < 16) : ctI l yX1_different cX1_different 4 (rmm 0 0) D (tyM d) (mk h d C M) (mk h d C M) [.ref (h 0), .int (nI (n))] .boolean (bI (diffM M.2.1 n)) := by
  refine mkI RX1 rfl (by decide) (Nat.le_of_ble_eq_true rfl) [(0, .ref (h 0)), (1, .int (nI (n)))] rfl ?_
  intro p e s m below meth c A ls E hr hk hA hB hl
  refine lv_iconst (v := nI (0)) E.x E.b dX1_different_0 (by decide +kernel) ?_
  refine lv_istore_n (lv' := [(2, .int (nI (0))), (0, .ref (h 0)), (1, .int (nI (n)))]) E.x E.b dX1_different_1 rfl hl (by decide) rfl (fun ls hl => ?_)
  refine lv_iconst (v := nI (0)) E.x E.b dX1_different_2 (by decide +kernel) ?_
  refine lv_istore_n (lv' := [(3, .int (nI (0))), (2, .int (nI (0))), (0, .ref (h 0)), (1, .int (nI (n)))]) E.x E.b dX1_different_3 rfl hl (by decide) rfl (fun ls hl => ?_)
  refine upL (N := n + 1) (fun i => ∀ (ls : Array Slot) (H : Heap) (locs : List Loc), anyb (fun i => (seenF M.2.1 i).testBit (M.2.1 i)) i = false → lv_has ls 4 [(0, .ref (h 0)), (1, .int (nI (n))), (2, .int (nI (seenF M.2.1 i))), (3, .int (nI (i)))] → wB D A s.heap (mk h d C M) H locs → W p l e (rmm 0 0) s m ([.ref (h 0), .int (nI (n))] : List Value).toArray below meth c H locs 0 0 (qI below D (tyM d) A (mk h d C M) (bI (diffM M.2.1 n)) ([.ref (h 0), .int (nI (n))] : List Value).toArray s) (F0 m 4 ls [])) ?_ 0 (Nat.zero_le _)  ls _ _ rfl (lv_sub hl [2, 3, 1, 0] rfl) hB
  intro i hii ih  ls H locs hq hl hB
  have hsn := seen_lt (st := M.2.1) i (fun j hj => hst j (by omega))
  refine lv_iload_n E.x E.b dX1_different_4 rfl (lv_at hl 3 rfl) ?_
  refine lv_iload_n E.x E.b dX1_different_5 rfl (lv_at hl 1 rfl) ?_
  refine n_icmp_gt (tgt := 42) E (by omega) (by omega) dX1_different_6 (by decide) (fun hc6 => ?_) (fun hc6 => ?_)
  · skip
    obtain rfl : i = (n + 1) := by omega
    refine lv_iconst (v := bI (true)) E.x E.b dX1_different_42 (by decide +kernel) ?_
    exact r_zret (x := true) E hr hk (hB) dX1_different_43 (by unfold diffM; rw [hq]; rfl)
  · skip
    have hs1 := hst i (by omega)
    refine lv_iload_n E.x E.b dX1_different_9 rfl (lv_at hl 2 rfl) ?_
    refine lv_aload_n E.x E.b dX1_different_10 rfl (lv_at hl 0 rfl) ?_
    refine gm_states E hB dX1_different_11 ?_
    refine lv_iload_n E.x E.b dX1_different_14 rfl (lv_at hl 3 rfl) ?_
    refine lm_states E hB (by omega) dX1_different_15 ?_
    refine lv_ishr E.x E.b dX1_different_16 ?_
    refine lv_iconst (v := nI 1) E.x E.b dX1_different_17 (by decide +kernel) ?_
    refine lv_iand E.x E.b dX1_different_18 ?_
    refine r_eq (y := bI (bitF (seenF M.2.1 i) (M.2.1 (i)))) (shbit (by omega) (by omega)) ?_
    refine lv_iconst (v := bI (true)) E.x E.b dX1_different_19 (by decide +kernel) ?_
    refine bb_icmp_ne (tgt := 25) E dX1_different_20 (by decide) (fun hc20 => ?_) (fun hc20 => ?_)
    · skip
      refine lv_iload_n E.x E.b dX1_different_25 rfl (lv_at hl 2 rfl) ?_
      refine lv_iconst (v := nI (1)) E.x E.b dX1_different_26 (by decide +kernel) ?_
      refine lv_aload_n E.x E.b dX1_different_27 rfl (lv_at hl 0 rfl) ?_
      refine gm_states E hB dX1_different_28 ?_
      refine lv_iload_n E.x E.b dX1_different_31 rfl (lv_at hl 3 rfl) ?_
      refine lm_states E hB (by omega) dX1_different_32 ?_
      refine lv_ishl E.x E.b dX1_different_33 ?_
      refine lv_ior E.x E.b dX1_different_34 ?_
      refine r_eq (y := nI (seenF M.2.1 (i + 1))) (by rw [shl_n (by omega) (by rw [Nat.one_mul]; exact Nat.lt_trans (Nat.pow_lt_pow_right (by decide) hs1) (by decide)), or_n, Nat.one_mul]; rfl) ?_
      refine lv_istore_n (lv' := [(2, .int (nI (seenF M.2.1 (i + 1)))), (0, .ref (h 0)), (1, .int (nI (n))), (3, .int (nI (i)))]) E.x E.b dX1_different_35 rfl hl (by decide) rfl (fun ls hl => ?_)
      refine lv_iinc (v := nI (i + 1)) (lv' := [(3, .int (nI (i + 1))), (2, .int (nI (seenF M.2.1 (i + 1)))), (0, .ref (h 0)), (1, .int (nI (n)))]) E.x E.b dX1_different_36 hl (k := 3) rfl (inc1 _) (by decide) rfl (fun ls hl => ?_)
      refine lv_goto (tgt := 4) E.x E.b dX1_different_39 (by decide) ?_
      exact ih (by omega)  ls H locs (anyb_step hq (by rw [← seen_bit]; exact Bool.eq_false_iff.mpr hc20)) (lv_sub hl [2, 3, 1, 0] rfl) hB
    · skip
      refine lv_iconst (v := bI (false)) E.x E.b dX1_different_23 (by decide +kernel) ?_
      exact r_zret (x := false) E hr hk (hB) dX1_different_24 (by unfold diffM; rw [anyb_hit (q := fun i => (seenF M.2.1 i).testBit (M.2.1 i)) (i := i) (n := n + 1) (by omega) (by rw [← seen_bit]; exact hc20)]; rfl)
theorem k1_different {p : Program} {l : Launch} {e : Env} {R : Room} {s : State} {m : MethodId} {args : Array Value} {below : List Frame} {meth : Method} {c : Code} {H : Heap} {locs : List Loc} {cells slots : Nat} {Q : State → Prop} {cc : ByteArray} {pc nL : Nat} {ls : Array Slot} {rest : List Value} {D : va_G} {A : Nat → Prop} {h : Nat → Nat} {d : Nat → ClassId} {C : CS} {M : MS} {n : Nat} (E : ev p m c cc nL s args RX1 D (tyM d)) (hA : ∀ q : Nat, s.heap.size ≤ q → A q) (hB : wB D A s.heap (mk h d C M) H locs) (hls : ls.size = nL) (hRm : 1 ≤ R.frames ∧ 23 ≤ R.locals) (hfm : cells ≤ R.cells ∧ slots ≤ R.slots) (hrest : (rest.map fun v => v.category).sum ≤ 8) (hn : n < 7) (hst : ∀ j, j < n + 1 → M.2.1 j < 16) (hdg : decode cc pc = .ok (.invokevirtual 74, 3)) (kk : ∀ (H1 : Heap) (locs1 : List Loc), wB D A s.heap (mk h d C M) H1 locs1 → W p l e R s m args below meth c H1 locs1 cells slots Q (F0 m (pc + 3) ls (.int (bI (diffM M.2.1 n)) :: rest))) : W p l e R s m args below meth c H locs cells slots Q (F0 m pc ls (.int (nI (n)) :: .ref (h 0) :: rest)) :=
  r_calli (ci := 1) (q := (RX1, TX1, 9)) E hA hB hls 1 (m1_different l D h d C M n hn hst) rfl rfl q287 q289 qs23 q26 q290 (by decide +kernel) rfl ⟨rfl, rfl⟩ hRm hfm rfl hrest hdg kk
set_option maxHeartbeats 4000000 in
set_option maxRecDepth 100000 in
/-- holds(x) -/
theorem m1_holds (l : Launch) (D : va_G) (h : Nat → Nat) (d : Nat → ClassId) (C : CS) (M : MS) (x : Int32) (hC : okC C) : ctI l yX1_holds cX1_holds 4 (rmm 4 95) D (tyM d) (mk h d C M) (mk h d C ((holdsM C x M).2)) [.ref (h 0), .int (x)] .int (oI (holdsM C x M).1) := by
  refine mkI RX1 rfl (by decide) (Nat.le_of_ble_eq_true rfl) [(0, .ref (h 0)), (1, .int (x))] rfl ?_
  intro p e s m below meth c A ls E hr hk hA hB hl
  rcases hx : inT x 0 7 with _ | n
  · skip
    refine lv_iload_n E.x E.b dX1_holds_0 rfl (lv_at hl 1 rfl) ?_
    refine lv_if_lt (tgt := 10) E.x E.b dX1_holds_1 (by decide) (fun hc1 => ?_) (fun hc1 => ?_)
    · skip
      refine lv_iconst (v := oI (none)) E.x E.b dX1_holds_10 (by decide +kernel) ?_
      exact r_iret (x := oI (none)) E hr hk (hB.to (by rw [holdsM_none hx])) dX1_holds_11 (by rw [holdsM_none hx])
    · skip
      refine lv_iload_n E.x E.b dX1_holds_4 rfl (lv_at hl 1 rfl) ?_
      refine lv_bipush (v := nI (6)) E.x E.b dX1_holds_5 (by decide +kernel) ?_
      refine lv_icmp_le (tgt := 12) E.x E.b dX1_holds_7 (by decide) (fun hc7 => (dead_le 6 hx hc1 hc7 (by decide) (by decide)).elim) (fun hc7 => ?_)
      refine lv_iconst (v := oI (none)) E.x E.b dX1_holds_10 (by decide +kernel) ?_
      exact r_iret (x := oI (none)) E hr hk (hB.to (by rw [holdsM_none hx])) dX1_holds_11 (by rw [holdsM_none hx])
  · obtain ⟨-, hn, rfl⟩ := inT_some hx (by decide)
    obtain ⟨hp1, hp2, hp3⟩ := pow_7 hn
    refine lv_iload_n E.x E.b dX1_holds_0 rfl (lv_at hl 1 rfl) ?_
    refine lv_if_lt (tgt := 10) E.x E.b dX1_holds_1 (by decide) (fun hc1 => absurd hc1 (nI_pos (by omega))) (fun hc1 => ?_)
    refine lv_iload_n E.x E.b dX1_holds_4 rfl (lv_at hl 1 rfl) ?_
    refine lv_bipush (v := nI (6)) E.x E.b dX1_holds_5 (by decide +kernel) ?_
    refine n_icmp_le (tgt := 12) E (by omega) (by omega) dX1_holds_7 (by decide) (fun hc7 => ?_) (fun hc7 => absurd hc7 (by omega))
    refine lv_iconst (v := nI (0)) E.x E.b dX1_holds_12 (by decide +kernel) ?_
    refine lv_istore_n (lv' := [(2, .int (nI (0))), (0, .ref (h 0)), (1, .int (nI (n)))]) E.x E.b dX1_holds_13 rfl hl (by decide) rfl (fun ls hl => ?_)
    refine upL (N := 32 * 2 ^ n) (fun i => ∀ (M1 : MS) (ls : Array Slot) (H : Heap) (locs : List Loc), firstF (holdStep C n) (32 * 2 ^ n - i) i M1 = holdM C n M → lv_has ls 4 [(0, .ref (h 0)), (1, .int (nI (n))), (2, .int (nI (i)))] → wB D A s.heap (mk h d C M1) H locs → W p l e (rmm 4 95) s m ([.ref (h 0), .int (nI (n))] : List Value).toArray below meth c H locs 0 0 (qI below D (tyM d) A (mk h d C ((holdsM C (nI n) M).2)) (oI (holdsM C (nI n) M).1) ([.ref (h 0), .int (nI (n))] : List Value).toArray s) (F0 m 14 ls [])) ?_ 0 (Nat.zero_le _) M ls _ _ rfl (lv_sub hl [1, 2, 0] rfl) hB
    intro i hii ih M1 ls H locs hq hl hB
    refine lv_iload_n E.x E.b dX1_holds_14 rfl (lv_at hl 2 rfl) ?_
    refine lv_bipush (v := nI (32)) E.x E.b dX1_holds_15 (by decide +kernel) ?_
    refine lv_iload_n E.x E.b dX1_holds_17 rfl (lv_at hl 1 rfl) ?_
    refine lv_ishl E.x E.b dX1_holds_18 ?_
    refine r_eq (y := nI (32 * 2 ^ n)) (shl_n (by omega) (by omega)) ?_
    refine n_icmp_ge (tgt := 60) E (by omega) (by omega) dX1_holds_19 (by decide) (fun hc19 => ?_) (fun hc19 => ?_)
    · skip
      refine lv_iconst (v := bI (true)) E.x E.b dX1_holds_60 (by decide +kernel) ?_
      exact r_iret (x := bI (true)) E hr hk (hB.to (by rw [holdsM_some hx, ← hq, first_end (by omega)])) dX1_holds_61 (by rw [holdsM_some hx, ← hq, first_end (by omega)]; rfl)
    · skip
      have h16 := div_16 hc19
      have hm31 : i % 2 ^ (n + 1) < 2 ^ 31 := Nat.lt_of_le_of_lt (Nat.mod_le _ _) (by omega)
      refine lv_iload_n E.x E.b dX1_holds_22 rfl (lv_at hl 2 rfl) ?_
      refine lv_iload_n E.x E.b dX1_holds_23 rfl (lv_at hl 1 rfl) ?_
      refine lv_iconst (v := nI (1)) E.x E.b dX1_holds_24 (by decide +kernel) ?_
      refine n_add E dX1_holds_25 ?_
      refine lv_ishr E.x E.b dX1_holds_26 ?_
      refine r_eq (y := nI (i / 2 ^ (n + 1))) (shr_n (by omega) (by omega)) ?_
      refine lv_istore_n (lv' := [(3, .int (nI (i / 2 ^ (n + 1)))), (0, .ref (h 0)), (1, .int (nI (n))), (2, .int (nI (i)))]) E.x E.b dX1_holds_27 rfl hl (by decide) rfl (fun ls hl => ?_)
      refine lv_aload_n E.x E.b dX1_holds_28 rfl (lv_at hl 1 rfl) ?_
      refine lv_iload_n E.x E.b dX1_holds_29 rfl (lv_at hl 2 rfl) ?_
      refine lv_iload_n E.x E.b dX1_holds_30 rfl (lv_at hl 0 rfl) ?_
      refine lv_iload_n E.x E.b dX1_holds_31 rfl (lv_at hl 3 rfl) ?_
      refine lv_iconst (v := nI (2)) E.x E.b dX1_holds_32 (by decide +kernel) ?_
      refine lv_iload_n E.x E.b dX1_holds_33 rfl (lv_at hl 2 rfl) ?_
      refine lv_ishl E.x E.b dX1_holds_34 ?_
      refine r_eq (y := nI (2 * 2 ^ n)) (shl_n (by omega) (by omega)) ?_
      refine lv_iconst (v := nI (1)) E.x E.b dX1_holds_35 (by decide +kernel) ?_
      refine n_sub E (by omega) dX1_holds_36 ?_
      refine lv_iand E.x E.b dX1_holds_37 ?_
      refine r_eq (y := nI (i % 2 ^ (n + 1))) (mask_n (by omega) hn) ?_
      refine k1_run E hA hB hl.1 ⟨Nat.le_of_ble_eq_true rfl, Nat.le_of_ble_eq_true rfl⟩ ⟨Nat.le_refl 0, Nat.le_refl 0⟩ (Nat.le_of_ble_eq_true rfl) hC (by omega) h16 hm31 dX1_holds_38 (fun H locs (hB : wB D A s.heap (mk h d C ((runR C n (i / 2 ^ (n + 1)) (i % 2 ^ (n + 1)) M1).2.2)) H locs) => ?_)
      refine b_if_eq (tgt := 54) E dX1_holds_41 (by decide) (fun hc41 => ?_) (fun hc41 => ?_)
      · skip
        refine lv_iinc (v := nI (i + 1)) (lv' := [(2, .int (nI (i + 1))), (3, .int (nI (i / 2 ^ (n + 1)))), (0, .ref (h 0)), (1, .int (nI (n)))]) E.x E.b dX1_holds_54 hl (k := 3) rfl (inc1 _) (by decide) rfl (fun ls hl => ?_)
        refine lv_goto (tgt := 14) E.x E.b dX1_holds_57 (by decide) ?_
        exact ih (by omega) _ ls H locs (by rw [← hq, ← first_no (F := holdStep C n) (N := 32 * 2 ^ n) (i := i) (a := M1) (by omega) (by show ((runR C n (i / 2 ^ (n + 1)) (i % 2 ^ (n + 1)) M1).1 && diffM (runR C n (i / 2 ^ (n + 1)) (i % 2 ^ (n + 1)) M1).2.2.2.1 n) = false; rw [hc41]; rfl)]; rfl) (lv_sub hl [2, 3, 0] rfl) hB
      · skip
        refine lv_aload_n E.x E.b dX1_holds_44 rfl (lv_at hl 1 rfl) ?_
        refine lv_iload_n E.x E.b dX1_holds_45 rfl (lv_at hl 2 rfl) ?_
        refine k1_different E hA hB hl.1 ⟨Nat.le_of_ble_eq_true rfl, Nat.le_of_ble_eq_true rfl⟩ ⟨Nat.le_refl 0, Nat.le_refl 0⟩ (Nat.le_of_ble_eq_true rfl) hn (fun j hj => run_ok (C := C) h16 (n + 1) j hj) dX1_holds_46 (fun H locs (hB : wB D A s.heap (mk h d C ((runR C n (i / 2 ^ (n + 1)) (i % 2 ^ (n + 1)) M1).2.2)) H locs) => ?_)
        refine b_if_eq (tgt := 54) E dX1_holds_49 (by decide) (fun hc49 => ?_) (fun hc49 => ?_)
        · skip
          refine lv_iinc (v := nI (i + 1)) (lv' := [(2, .int (nI (i + 1))), (3, .int (nI (i / 2 ^ (n + 1)))), (0, .ref (h 0)), (1, .int (nI (n)))]) E.x E.b dX1_holds_54 hl (k := 3) rfl (inc1 _) (by decide) rfl (fun ls hl => ?_)
          refine lv_goto (tgt := 14) E.x E.b dX1_holds_57 (by decide) ?_
          exact ih (by omega) _ ls H locs (by rw [← hq, ← first_no (F := holdStep C n) (N := 32 * 2 ^ n) (i := i) (a := M1) (by omega) (by show ((runR C n (i / 2 ^ (n + 1)) (i % 2 ^ (n + 1)) M1).1 && diffM (runR C n (i / 2 ^ (n + 1)) (i % 2 ^ (n + 1)) M1).2.2.2.1 n) = false; rw [hc49]; simp)]; rfl) (lv_sub hl [2, 3, 0] rfl) hB
        · skip
          refine lv_iconst (v := bI (false)) E.x E.b dX1_holds_52 (by decide +kernel) ?_
          exact r_iret (x := bI (false)) E hr hk (hB.to (by rw [holdsM_some hx, ← hq, first_yes (F := holdStep C n) (a := M1) (by omega) (by show ((runR C n (i / 2 ^ (n + 1)) (i % 2 ^ (n + 1)) M1).1 && diffM (runR C n (i / 2 ^ (n + 1)) (i % 2 ^ (n + 1)) M1).2.2.2.1 n) = true; rw [hc41, hc49]; rfl)]; rfl)) dX1_holds_53 (by rw [holdsM_some hx, ← hq, first_yes (F := holdStep C n) (a := M1) (by omega) (by show ((runR C n (i / 2 ^ (n + 1)) (i % 2 ^ (n + 1)) M1).1 && diffM (runR C n (i / 2 ^ (n + 1)) (i % 2 ^ (n + 1)) M1).2.2.2.1 n) = true; rw [hc41, hc49]; rfl)]; rfl)
theorem k1_holds {p : Program} {l : Launch} {e : Env} {R : Room} {s : State} {m : MethodId} {args : Array Value} {below : List Frame} {meth : Method} {c : Code} {H : Heap} {locs : List Loc} {cells slots : Nat} {Q : State → Prop} {cc : ByteArray} {pc nL : Nat} {ls : Array Slot} {rest : List Value} {D : va_G} {A : Nat → Prop} {h : Nat → Nat} {d : Nat → ClassId} {C : CS} {M : MS} {x : Int32} (E : ev p m c cc nL s args RX1 D (tyM d)) (hA : ∀ q : Nat, s.heap.size ≤ q → A q) (hB : wB D A s.heap (mk h d C M) H locs) (hls : ls.size = nL) (hRm : 5 ≤ R.frames ∧ 118 ≤ R.locals) (hfm : cells ≤ R.cells ∧ slots ≤ R.slots) (hrest : (rest.map fun v => v.category).sum ≤ 8) (hC : okC C) (hdg : decode cc pc = .ok (.invokevirtual 77, 3)) (kk : ∀ (H1 : Heap) (locs1 : List Loc), wB D A s.heap (mk h d C ((holdsM C x M).2)) H1 locs1 → W p l e R s m args below meth c H1 locs1 cells slots Q (F0 m (pc + 3) ls (.int (oI (holdsM C x M).1) :: rest))) : W p l e R s m args below meth c H locs cells slots Q (F0 m pc ls (.int (x) :: .ref (h 0) :: rest)) :=
  r_calli (ci := 1) (q := (RX1, TX1, 9)) E hA hB hls 1 (m1_holds l D h d C M x hC) rfl rfl q295 q284 q285 q26 q286 (by decide +kernel) rfl ⟨rfl, rfl⟩ hRm hfm rfl hrest hdg kk
theorem inT_nI {k lo hi : Nat} (h1 : lo ≤ k) (h2 : k < hi) (h3 : hi < 2 ^ 31) : inT (nI k) lo hi = some k := by
  unfold inT
  rw [nI_toInt (by omega), if_pos ⟨by omega, by omega⟩]
  simp
set_option maxHeartbeats 4000000 in
set_option maxRecDepth 100000 in
/-- proof() -/
theorem m1_proof (l : Launch) (D : va_G) (h : Nat → Nat) (d : Nat → ClassId) (C : CS) (M : MS)  (hC : okC C) : ctI l yX1_proof cX1_proof 2 (rmm 6 140) D (tyM d) (mk h d C M) (mk h d C ((proofM C 7 0 M).2)) [.ref (h 0)] .int (zI (proofM C 7 0 M).1) := by
  refine mkI RX1 rfl (by decide) (Nat.le_of_ble_eq_true rfl) [(0, .ref (h 0))] rfl ?_
  intro p e s m below meth c A ls E hr hk hA hB hl
  refine lv_iconst (v := nI (0)) E.x E.b dX1_proof_0 (by decide +kernel) ?_
  refine lv_istore_n (lv' := [(1, .int (nI (0))), (0, .ref (h 0))]) E.x E.b dX1_proof_1 rfl hl (by decide) rfl (fun ls hl => ?_)
  refine upL (N := 7) (fun i => ∀ (M1 : MS) (ls : Array Slot) (H : Heap) (locs : List Loc), proofM C (7 - i) i M1 = proofM C 7 0 M → lv_has ls 2 [(0, .ref (h 0)), (1, .int (nI (i)))] → wB D A s.heap (mk h d C M1) H locs → W p l e (rmm 6 140) s m ([.ref (h 0)] : List Value).toArray below meth c H locs 0 0 (qI below D (tyM d) A (mk h d C ((proofM C 7 0 M).2)) (zI (proofM C 7 0 M).1) ([.ref (h 0)] : List Value).toArray s) (F0 m 2 ls [])) ?_ 0 (Nat.zero_le _) M ls _ _ rfl (lv_sub hl [1, 0] rfl) hB
  intro i hii ih M1 ls H locs hq hl hB
  refine lv_iload_n E.x E.b dX1_proof_2 rfl (lv_at hl 1 rfl) ?_
  refine lv_bipush (v := nI (6)) E.x E.b dX1_proof_3 (by decide +kernel) ?_
  refine n_icmp_gt (tgt := 39) E (by omega) (by omega) dX1_proof_5 (by decide) (fun hc5 => ?_) (fun hc5 => ?_)
  · skip
    refine lv_iconst (v := zI (none)) E.x E.b dX1_proof_39 (by decide +kernel) ?_
    exact r_iret (x := zI (none)) E hr hk (hB.to (by rw [← hq, show 7 - i = 0 by omega]; rfl)) dX1_proof_40 (by rw [← hq, show 7 - i = 0 by omega]; rfl)
  · skip
    refine lv_aload_n E.x E.b dX1_proof_8 rfl (lv_at hl 0 rfl) ?_
    refine lv_iload_n E.x E.b dX1_proof_9 rfl (lv_at hl 1 rfl) ?_
    refine k1_holds E hA hB hl.1 ⟨Nat.le_of_ble_eq_true rfl, Nat.le_of_ble_eq_true rfl⟩ ⟨Nat.le_refl 0, Nat.le_refl 0⟩ (Nat.le_of_ble_eq_true rfl) hC dX1_proof_10 (fun H locs hB => ?_)
    have hin : inT (nI i) 0 7 = some i := inT_nI (by omega) (by omega) (by decide)
    have hB : wB D A s.heap (mk h d C ((holdM C i M1).2)) H locs := hB.to (by rw [holdsM_some hin])
    refine r_eq (y := bI (!(holdM C i M1).1)) (by rw [holdsM_some hin]; rfl) ?_
    refine lv_iconst (v := bI (true)) E.x E.b dX1_proof_13 (by decide +kernel) ?_
    refine bb_icmp_ne (tgt := 33) E dX1_proof_14 (by decide) (fun hc14 => ?_) (fun hc14 => ?_)
    · skip
      have hh : (holdM C i M1).1 = true := by cases hb : (holdM C i M1).1; exact absurd (by rw [hb]; rfl) hc14; rfl
      refine lv_iinc (v := nI (i + 1)) (lv' := [(1, .int (nI (i + 1))), (0, .ref (h 0))]) E.x E.b dX1_proof_33 hl (k := 1) rfl (inc1 _) (by decide) rfl (fun ls hl => ?_)
      refine lv_goto (tgt := 2) E.x E.b dX1_proof_36 (by decide) ?_
      exact ih (by omega) _ ls H locs ((proofM_1 (by omega) hh).trans hq) (lv_sub hl [1, 0] rfl) hB
    · skip
      have hh : (holdM C i M1).1 = false := by cases hb : (holdM C i M1).1; rfl; rw [hb] at hc14; cases hc14
      refine lv_iload_n E.x E.b dX1_proof_17 rfl (lv_at hl 1 rfl) ?_
      refine n_if_eq (tgt := 31) E (by omega) dX1_proof_18 (by decide) (fun hc18 => ?_) (fun hc18 => ?_)
      · skip
        refine lv_iload_n E.x E.b dX1_proof_31 rfl (lv_at hl 1 rfl) ?_
        exact r_iret (x := nI (i)) E hr hk (hB.to (by rw [← hq, proofM_2 (by omega) hh hc18])) dX1_proof_32 (by rw [← hq, proofM_2 (by omega) hh hc18]; rfl)
      · skip
        refine lv_aload_n E.x E.b dX1_proof_21 rfl (lv_at hl 0 rfl) ?_
        refine lv_iload_n E.x E.b dX1_proof_22 rfl (lv_at hl 1 rfl) ?_
        refine lv_iconst (v := nI (1)) E.x E.b dX1_proof_23 (by decide +kernel) ?_
        refine n_sub E (by omega) dX1_proof_24 ?_
        refine k1_least E hA hB hl.1 ⟨Nat.le_of_ble_eq_true rfl, Nat.le_of_ble_eq_true rfl⟩ ⟨Nat.le_refl 0, Nat.le_refl 0⟩ (Nat.le_of_ble_eq_true rfl) hC (by omega) dX1_proof_25 (fun H locs hB => ?_)
        have hB : wB D A s.heap (mk h d C ((leastM C i 0 (holdM C i M1).2).2)) H locs := hB.to (by rw [show i - 1 + 1 = i by omega])
        refine r_eq (y := zI (leastM C i 0 (holdM C i M1).2).1) (by rw [show i - 1 + 1 = i by omega]) ?_
        refine z_if_ge (tgt := 33) E (fun n hn => by have := least_lt _ _ _ n hn; omega) dX1_proof_28 (by decide) (fun b28 hc28 => ?_) (fun hc28 => ?_)
        · skip
          refine lv_iinc (v := nI (i + 1)) (lv' := [(1, .int (nI (i + 1))), (0, .ref (h 0))]) E.x E.b dX1_proof_33 hl (k := 1) rfl (inc1 _) (by decide) rfl (fun ls hl => ?_)
          refine lv_goto (tgt := 2) E.x E.b dX1_proof_36 (by decide) ?_
          exact ih (by omega) _ ls H locs ((proofM_4 (by omega) hh hc18 hc28).trans hq) (lv_sub hl [1, 0] rfl) hB
        · skip
          refine lv_iload_n E.x E.b dX1_proof_31 rfl (lv_at hl 1 rfl) ?_
          exact r_iret (x := nI (i)) E hr hk (hB.to (by rw [← hq, proofM_3 (by omega) hh hc18 hc28])) dX1_proof_32 (by rw [← hq, proofM_3 (by omega) hh hc18 hc28]; rfl)
theorem none_dead {x : Int32} (h1 : ¬ x < 0) (h2 : x ≤ (-1 : Int32)) : False := by
  rw [t_neg] at h1
  rw [Int32.le_iff_toInt_le, show (-1 : Int32).toInt = -1 by decide] at h2
  omega
set_option maxHeartbeats 4000000 in
set_option maxRecDepth 100000 in
/-- witness(x) -/
theorem m1_witness (l : Launch) (D : va_G) (h : Nat → Nat) (d : Nat → ClassId) (C : CS) (M : MS) (x : Int32) (hC : okC C) : ctI l yX1_witness cX1_witness 3 (rmm 6 140) D (tyM d) (mk h d C M) (mk h d C ((witnessM C x M).2)) [.ref (h 0), .int (x)] .int (zI (witnessM C x M).1) := by
  refine mkI RX1 rfl (by decide) (Nat.le_of_ble_eq_true rfl) [(0, .ref (h 0)), (1, .int (x))] rfl ?_
  intro p e s m below meth c A ls E hr hk hA hB hl
  rcases hD : leastM C 7 0 M with ⟨o, M2⟩
  refine lv_aload_n E.x E.b dX1_witness_0 rfl (lv_at hl 0 rfl) ?_
  refine lv_bipush (v := nI (6)) E.x E.b dX1_witness_1 (by decide +kernel) ?_
  refine k1_least E hA hB hl.1 ⟨Nat.le_of_ble_eq_true rfl, Nat.le_of_ble_eq_true rfl⟩ ⟨Nat.le_refl 0, Nat.le_refl 0⟩ (Nat.le_of_ble_eq_true rfl) hC (by omega) dX1_witness_3 (fun H locs hB => ?_)
  have hB : wB D A s.heap (mk h d C M2) H locs := hB.to (by rw [show 6 + 1 = 7 from rfl, hD])
  refine r_eq (y := zI o) (by rw [show 6 + 1 = 7 from rfl, hD]) ?_
  refine lv_istore_n (lv' := [(2, .int (zI (o))), (0, .ref (h 0)), (1, .int (x))]) E.x E.b dX1_witness_6 rfl hl (by decide) rfl (fun ls hl => ?_)
  rcases o with _ | n
  · skip
    have hl : lv_has ls 3 [(2, .int ((-1 : Int32))), (0, .ref (h 0)), (1, .int (x))] := hl
    refine lv_iload_n E.x E.b dX1_witness_7 rfl (lv_at hl 2 rfl) ?_
    refine lv_if_lt (tgt := 16) E.x E.b dX1_witness_8 (by decide) (fun hc8 => ?_) (fun hc8 => ?_)
    · skip
      refine lv_iconst (v := zI (none)) E.x E.b dX1_witness_16 (by decide +kernel) ?_
      refine lv_goto (tgt := 26) E.x E.b dX1_witness_17 (by decide) ?_
      exact r_iret (x := zI (none)) E hr hk (hB.to (by unfold witnessM; rw [hD]; rw [atM_none])) dX1_witness_26 (by unfold witnessM; rw [hD]; rw [atM_none])
    · skip
      refine lv_iload_n E.x E.b dX1_witness_11 rfl (lv_at hl 2 rfl) ?_
      refine lv_iload_n E.x E.b dX1_witness_12 rfl (lv_at hl 0 rfl) ?_
      refine lv_icmp_le (tgt := 20) E.x E.b dX1_witness_13 (by decide) (fun hc13 => (none_dead hc8 hc13).elim) (fun hc13 => ?_)
      refine lv_iconst (v := zI (none)) E.x E.b dX1_witness_16 (by decide +kernel) ?_
      refine lv_goto (tgt := 26) E.x E.b dX1_witness_17 (by decide) ?_
      exact r_iret (x := zI (none)) E hr hk (hB.to (by unfold witnessM; rw [hD]; rw [atM_none])) dX1_witness_26 (by unfold witnessM; rw [hD]; rw [atM_none])
  · have hn : n < 7 := by have := least_lt 7 0 M n (by rw [hD]); omega
    rcases hx : inT x 0 (n + 1) with _ | i
    · have hl : lv_has ls 3 [(2, .int (nI (n))), (0, .ref (h 0)), (1, .int (x))] := hl
      refine lv_iload_n E.x E.b dX1_witness_7 rfl (lv_at hl 2 rfl) ?_
      refine lv_if_lt (tgt := 16) E.x E.b dX1_witness_8 (by decide) (fun hc8 => ?_) (fun hc8 => ?_)
      · skip
        refine lv_iconst (v := zI (none)) E.x E.b dX1_witness_16 (by decide +kernel) ?_
        refine lv_goto (tgt := 26) E.x E.b dX1_witness_17 (by decide) ?_
        exact r_iret (x := zI (none)) E hr hk (hB.to (by unfold witnessM; rw [hD]; rw [atM_some, hx])) dX1_witness_26 (by unfold witnessM; rw [hD]; rw [atM_some, hx])
      · skip
        refine lv_iload_n E.x E.b dX1_witness_11 rfl (lv_at hl 2 rfl) ?_
        refine lv_iload_n E.x E.b dX1_witness_12 rfl (lv_at hl 0 rfl) ?_
        refine lv_icmp_le (tgt := 20) E.x E.b dX1_witness_13 (by decide) (fun hc13 => (dead_le n hx hc8 hc13 (by omega) (by omega)).elim) (fun hc13 => ?_)
        refine lv_iconst (v := zI (none)) E.x E.b dX1_witness_16 (by decide +kernel) ?_
        refine lv_goto (tgt := 26) E.x E.b dX1_witness_17 (by decide) ?_
        exact r_iret (x := zI (none)) E hr hk (hB.to (by unfold witnessM; rw [hD]; rw [atM_some, hx])) dX1_witness_26 (by unfold witnessM; rw [hD]; rw [atM_some, hx])
    · obtain ⟨-, hi, rfl⟩ := inT_some hx (by omega)
      have hl : lv_has ls 3 [(2, .int (nI (n))), (0, .ref (h 0)), (1, .int (nI (i)))] := hl
      refine lv_iload_n E.x E.b dX1_witness_7 rfl (lv_at hl 2 rfl) ?_
      refine lv_if_lt (tgt := 16) E.x E.b dX1_witness_8 (by decide) (fun hc8 => absurd hc8 (nI_pos (by omega))) (fun hc8 => ?_)
      refine lv_iload_n E.x E.b dX1_witness_11 rfl (lv_at hl 2 rfl) ?_
      refine lv_iload_n E.x E.b dX1_witness_12 rfl (lv_at hl 0 rfl) ?_
      refine n_icmp_le (tgt := 20) E (by omega) (by omega) dX1_witness_13 (by decide) (fun hc13 => ?_) (fun hc13 => absurd hc13 (by omega))
      refine lv_aload_n E.x E.b dX1_witness_20 rfl (lv_at hl 1 rfl) ?_
      refine gm_states E hB dX1_witness_21 ?_
      refine lv_iload_n E.x E.b dX1_witness_24 rfl (lv_at hl 2 rfl) ?_
      refine lm_states E hB (by omega) dX1_witness_25 ?_
      exact r_iret (x := nI (M2.2.1 (i))) E hr hk (hB.to (by unfold witnessM; rw [hD]; rw [atM_some, hx])) dX1_witness_26 (by unfold witnessM; rw [hD]; rw [atM_some, hx]; rfl)
set_option maxHeartbeats 4000000 in
set_option maxRecDepth 100000 in
/-- input(x) -/
theorem m1_input (l : Launch) (D : va_G) (h : Nat → Nat) (d : Nat → ClassId) (C : CS) (M : MS) (x : Int32) (hC : okC C) : ctI l yX1_input cX1_input 3 (rmm 6 140) D (tyM d) (mk h d C M) (mk h d C ((inputM C x M).2)) [.ref (h 0), .int (x)] .int (oI (inputM C x M).1) := by
  refine mkI RX1 rfl (by decide) (Nat.le_of_ble_eq_true rfl) [(0, .ref (h 0)), (1, .int (x))] rfl ?_
  intro p e s m below meth c A ls E hr hk hA hB hl
  rcases hD : leastM C 7 0 M with ⟨o, M2⟩
  refine lv_aload_n E.x E.b dX1_input_0 rfl (lv_at hl 0 rfl) ?_
  refine lv_bipush (v := nI (6)) E.x E.b dX1_input_1 (by decide +kernel) ?_
  refine k1_least E hA hB hl.1 ⟨Nat.le_of_ble_eq_true rfl, Nat.le_of_ble_eq_true rfl⟩ ⟨Nat.le_refl 0, Nat.le_refl 0⟩ (Nat.le_of_ble_eq_true rfl) hC (by omega) dX1_input_3 (fun H locs hB => ?_)
  have hB : wB D A s.heap (mk h d C M2) H locs := hB.to (by rw [show 6 + 1 = 7 from rfl, hD])
  refine r_eq (y := zI o) (by rw [show 6 + 1 = 7 from rfl, hD]) ?_
  refine lv_istore_n (lv' := [(2, .int (zI (o))), (0, .ref (h 0)), (1, .int (x))]) E.x E.b dX1_input_6 rfl hl (by decide) rfl (fun ls hl => ?_)
  rcases o with _ | n
  · skip
    have hl : lv_has ls 3 [(2, .int ((-1 : Int32))), (0, .ref (h 0)), (1, .int (x))] := hl
    refine lv_iload_n E.x E.b dX1_input_7 rfl (lv_at hl 2 rfl) ?_
    refine lv_if_lt (tgt := 16) E.x E.b dX1_input_8 (by decide) (fun hc8 => ?_) (fun hc8 => ?_)
    · skip
      refine lv_iconst (v := oI (none)) E.x E.b dX1_input_16 (by decide +kernel) ?_
      refine lv_goto (tgt := 26) E.x E.b dX1_input_17 (by decide) ?_
      exact r_iret (x := oI (none)) E hr hk (hB.to (by unfold inputM; rw [hD]; rw [atM_none])) dX1_input_26 (by unfold inputM; rw [hD]; rw [atM_none])
    · skip
      refine lv_iload_n E.x E.b dX1_input_11 rfl (lv_at hl 2 rfl) ?_
      refine lv_iload_n E.x E.b dX1_input_12 rfl (lv_at hl 0 rfl) ?_
      refine lv_icmp_le (tgt := 20) E.x E.b dX1_input_13 (by decide) (fun hc13 => (none_dead hc8 hc13).elim) (fun hc13 => ?_)
      refine lv_iconst (v := oI (none)) E.x E.b dX1_input_16 (by decide +kernel) ?_
      refine lv_goto (tgt := 26) E.x E.b dX1_input_17 (by decide) ?_
      exact r_iret (x := oI (none)) E hr hk (hB.to (by unfold inputM; rw [hD]; rw [atM_none])) dX1_input_26 (by unfold inputM; rw [hD]; rw [atM_none])
  · have hn : n < 7 := by have := least_lt 7 0 M n (by rw [hD]); omega
    rcases hx : inT x 0 (n + 1) with _ | i
    · have hl : lv_has ls 3 [(2, .int (nI (n))), (0, .ref (h 0)), (1, .int (x))] := hl
      refine lv_iload_n E.x E.b dX1_input_7 rfl (lv_at hl 2 rfl) ?_
      refine lv_if_lt (tgt := 16) E.x E.b dX1_input_8 (by decide) (fun hc8 => ?_) (fun hc8 => ?_)
      · skip
        refine lv_iconst (v := oI (none)) E.x E.b dX1_input_16 (by decide +kernel) ?_
        refine lv_goto (tgt := 26) E.x E.b dX1_input_17 (by decide) ?_
        exact r_iret (x := oI (none)) E hr hk (hB.to (by unfold inputM; rw [hD]; rw [atM_some, hx])) dX1_input_26 (by unfold inputM; rw [hD]; rw [atM_some, hx])
      · skip
        refine lv_iload_n E.x E.b dX1_input_11 rfl (lv_at hl 2 rfl) ?_
        refine lv_iload_n E.x E.b dX1_input_12 rfl (lv_at hl 0 rfl) ?_
        refine lv_icmp_le (tgt := 20) E.x E.b dX1_input_13 (by decide) (fun hc13 => (dead_le n hx hc8 hc13 (by omega) (by omega)).elim) (fun hc13 => ?_)
        refine lv_iconst (v := oI (none)) E.x E.b dX1_input_16 (by decide +kernel) ?_
        refine lv_goto (tgt := 26) E.x E.b dX1_input_17 (by decide) ?_
        exact r_iret (x := oI (none)) E hr hk (hB.to (by unfold inputM; rw [hD]; rw [atM_some, hx])) dX1_input_26 (by unfold inputM; rw [hD]; rw [atM_some, hx])
    · obtain ⟨-, hi, rfl⟩ := inT_some hx (by omega)
      have hl : lv_has ls 3 [(2, .int (nI (n))), (0, .ref (h 0)), (1, .int (nI (i)))] := hl
      refine lv_iload_n E.x E.b dX1_input_7 rfl (lv_at hl 2 rfl) ?_
      refine lv_if_lt (tgt := 16) E.x E.b dX1_input_8 (by decide) (fun hc8 => absurd hc8 (nI_pos (by omega))) (fun hc8 => ?_)
      refine lv_iload_n E.x E.b dX1_input_11 rfl (lv_at hl 2 rfl) ?_
      refine lv_iload_n E.x E.b dX1_input_12 rfl (lv_at hl 0 rfl) ?_
      refine n_icmp_le (tgt := 20) E (by omega) (by omega) dX1_input_13 (by decide) (fun hc13 => ?_) (fun hc13 => absurd hc13 (by omega))
      refine lv_aload_n E.x E.b dX1_input_20 rfl (lv_at hl 1 rfl) ?_
      refine gm_inputs E hB dX1_input_21 ?_
      refine lv_iload_n E.x E.b dX1_input_24 rfl (lv_at hl 2 rfl) ?_
      refine lm_inputs E hB (by omega) dX1_input_25 ?_
      exact r_iret (x := bI (M2.2.2 (i))) E hr hk (hB.to (by unfold inputM; rw [hD]; rw [atM_some, hx])) dX1_input_26 (by unfold inputM; rw [hD]; rw [atM_some, hx]; rfl)
end
section
/-! THE PLAIN LAW, 1: what a run is -/
set_option maxRecDepth 100000
def baseM (s : Nat) (x : Bool) (g : Nat → Bool) : Nat → Bool := va_up (itr (latM s) 1 4 (va_up g 0 false)) 5 x
theorem base_0 (s : Nat) (x : Bool) (g : Nat → Bool) : baseM s x g 0 = false := by simp [baseM, itr, latM, va_up]
theorem base_5 (s : Nat) (x : Bool) (g : Nat → Bool) : baseM s x g 5 = x := by simp [baseM, va_up]
theorem base_k (s : Nat) (x : Bool) (g : Nat → Bool) {k : Nat} (h1 : 1 ≤ k) (h2 : k < 5) : baseM s x g k = bitF s (k - 1) := by
  rcases (show k = 1 ∨ k = 2 ∨ k = 3 ∨ k = 4 by omega) with rfl | rfl | rfl | rfl <;> simp [baseM, itr, latM, va_up]
theorem gat_keep (C : CS) (g : Nat → Bool) (k j : Nat) (h : j < 6 + k) : ∀ m, itr (gatM C) 0 (k + m) g j = itr (gatM C) 0 k g j
  | 0 => rfl
  | m + 1 => by
    show va_up (itr (gatM C) 0 (k + m) g) (6 + (0 + (k + m))) _ j = _
    rw [va_up_ne _ _ (by omega)]
    exact gat_keep C g k j h m
theorem gat_keep2 (C : CS) (g : Nat → Bool) {k k' j : Nat} (h : j < 6 + k) (hk : k ≤ k') : itr (gatM C) 0 k' g j = itr (gatM C) 0 k g j := by
  have := gat_keep C g k j h (k' - k)
  rwa [show k + (k' - k) = k' by omega] at this
theorem gat_val {C : CS} (hC : okC C) (g : Nat → Bool) {j : Nat} (h1 : 6 ≤ j) (h2 : j < 6 + C.1) : itr (gatM C) 0 C.1 g j = (mof (itr (gatM C) 0 C.1 g) (cL C j) && mof (itr (gatM C) 0 C.1 g) (cR C j)) := by
  obtain ⟨i, rfl⟩ : ∃ i, j = 6 + (0 + i) := ⟨j - 6, by omega⟩
  obtain ⟨a1, a2, -⟩ := gate_ix hC h1 h2
  rw [gat_keep2 C g (k := i + 1) (by omega) (by omega)]
  show va_up (itr (gatM C) 0 i g) (6 + (0 + i)) (mof (itr (gatM C) 0 i g) (cL C (6 + (0 + i))) && mof (itr (gatM C) 0 i g) (cR C (6 + (0 + i)))) (6 + (0 + i)) = _
  rw [va_up_self]
  unfold mof
  rw [gat_keep2 C g (k := i) (k' := C.1) (j := cL C (6 + (0 + i)) / 2) (by omega) (by omega), gat_keep2 C g (k := i) (k' := C.1) (j := cR C (6 + (0 + i)) / 2) (by omega) (by omega)]
theorem work_lo (C : CS) (s : Nat) (x : Bool) (g : Nat → Bool) {j : Nat} (h : j < 6) : workM C s x g j = baseM s x g j := gat_keep2 C (baseM s x g) (k := 0) (by omega) (Nat.zero_le _)
theorem work_0 (C : CS) (s : Nat) (x : Bool) (g : Nat → Bool) : workM C s x g 0 = false := by rw [work_lo C s x g (by omega), base_0]
theorem work_5 (C : CS) (s : Nat) (x : Bool) (g : Nat → Bool) : workM C s x g 5 = x := by rw [work_lo C s x g (by omega), base_5]
theorem work_k (C : CS) (s : Nat) (x : Bool) (g : Nat → Bool) {k : Nat} (h1 : 1 ≤ k) (h2 : k < 5) : workM C s x g k = bitF s (k - 1) := by rw [work_lo C s x g (by omega), base_k s x g h1 h2]
theorem work_g {C : CS} (hC : okC C) (s : Nat) (x : Bool) (g : Nat → Bool) {j : Nat} (h1 : 6 ≤ j) (h2 : j < 6 + C.1) : workM C s x g j = (mof (workM C s x g) (cL C j) && mof (workM C s x g) (cR C j)) := gat_val hC (baseM s x g) h1 h2
theorem work_ind {C : CS} (hC : okC C) (s : Nat) (x : Bool) (g g' : Nat → Bool) : ∀ (m j : Nat), j < m → j < 6 + C.1 → workM C s x g j = workM C s x g' j
  | 0, j, h, _ => absurd h (Nat.not_lt_zero j)
  | m + 1, j, h, hj => by
    by_cases h6 : j < 6
    · by_cases h0 : j = 0
      · subst h0; rw [work_0, work_0]
      by_cases h5 : j = 5
      · subst h5; rw [work_5, work_5]
      rw [work_k C s x g (by omega) (by omega), work_k C s x g' (by omega) (by omega)]
    · obtain ⟨a1, a2, -⟩ := gate_ix hC (g := j) (by omega) hj
      rw [work_g hC s x g (by omega) hj, work_g hC s x g' (by omega) hj]
      unfold mof
      rw [work_ind hC s x g g' m (cL C j / 2) (by omega) (by omega), work_ind hC s x g g' m (cR C j / 2) (by omega) (by omega)]
def sigF (C : CS) (s : Nat) (x : Bool) : Nat → Bool := workM C s x (fun _ => false)
theorem work_sig {C : CS} (hC : okC C) (s : Nat) (x : Bool) (g : Nat → Bool) {j : Nat} (h : j < 6 + C.1) : workM C s x g j = sigF C s x j := work_ind hC s x g _ (j + 1) j (by omega) h
theorem mof_sig {C : CS} (hC : okC C) (s : Nat) (x : Bool) (g : Nat → Bool) {k : Nat} (h : k < 2 * (6 + C.1)) : mof (workM C s x g) k = mof (sigF C s x) k := by
  unfold mof
  rw [work_sig hC s x g (by omega)]
theorem stepM_eq (C : CS) (g : Nat → Bool) : stepM C g = 0 + (mof g (cN C 1)).toNat * 2 ^ 0 + (mof g (cN C 2)).toNat * 2 ^ 1 + (mof g (cN C 3)).toNat * 2 ^ 2 + (mof g (cN C 4)).toNat * 2 ^ 3 := rfl
theorem step_sig {C : CS} (hC : okC C) (s : Nat) (x : Bool) (g : Nat → Bool) : stepM C (workM C s x g) = stepM C (sigF C s x) := by
  have h := hC.2.2.1
  rw [stepM_eq, stepM_eq, mof_sig hC s x g (h 1 (by omega) (by omega)), mof_sig hC s x g (h 2 (by omega) (by omega)), mof_sig hC s x g (h 3 (by omega) (by omega)), mof_sig hC s x g (h 4 (by omega) (by omega))]
theorem step_bit (C : CS) (g : Nat → Bool) {k : Nat} (h1 : 1 ≤ k) (h2 : k < 5) : bitF (stepM C g) (k - 1) = mof g (cN C k) := by
  rw [stepM_eq]
  rcases (show k = 1 ∨ k = 2 ∨ k = 3 ∨ k = 4 by omega) with rfl | rfl | rfl | rfl <;> (generalize mof g (cN C 1) = b1; generalize mof g (cN C 2) = b2; generalize mof g (cN C 3) = b3; generalize mof g (cN C 4) = b4; revert b1 b2 b3 b4; decide)
def xx (n N i : Nat) : Bool := bitF (N % 2 ^ (n + 1)) (n - i)
def stt (C : CS) (n N : Nat) : Nat → Nat
  | 0 => N / 2 ^ (n + 1)
  | i + 1 => stepM C (sigF C (stt C n N i) (xx n N i))
def sgn (C : CS) (n N i : Nat) : Nat → Bool := sigF C (stt C n N i) (xx n N i)
def sim (C : CS) (n N a : Nat) : Bool := sgn C n N (a / 16) (a % 16)
theorem sim_at (C : CS) (n N f k : Nat) (hk : k < 16) : sim C n N (16 * f + k) = sgn C n N f k := by
  unfold sim
  rw [show (16 * f + k) / 16 = f by omega, show (16 * f + k) % 16 = k by omega]
theorem sgn_0 (C : CS) (n N i : Nat) : sgn C n N i 0 = false := work_0 _ _ _ _
theorem sgn_5 (C : CS) (n N i : Nat) : sgn C n N i 5 = xx n N i := work_5 _ _ _ _
theorem sgn_k (C : CS) (n N i : Nat) {k : Nat} (h1 : 1 ≤ k) (h2 : k < 5) : sgn C n N i k = bitF (stt C n N i) (k - 1) := work_k _ _ _ _ h1 h2
theorem sgn_g {C : CS} (hC : okC C) (n N i : Nat) {j : Nat} (h1 : 6 ≤ j) (h2 : j < 6 + C.1) : sgn C n N i j = (mof (sgn C n N i) (cL C j) && mof (sgn C n N i) (cR C j)) := work_g hC _ _ _ h1 h2
theorem sgn_n (C : CS) (n N i : Nat) {k : Nat} (h1 : 1 ≤ k) (h2 : k < 5) : sgn C n N (i + 1) k = mof (sgn C n N i) (cN C k) := by
  rw [sgn_k C n N (i + 1) h1 h2]
  exact step_bit C _ h1 h2
theorem stt_lt (C : CS) {n N : Nat} (hN : N < 32 * 2 ^ n) : ∀ i, stt C n N i < 16
  | 0 => div_16 hN
  | i + 1 => stepM_lt C _
/-- the places where a search chooses, in its order -/
def pos (i : Nat) : Nat := if i < 4 then 4 - i else 16 * (i - 4) + 5
theorem bitF_div (N m k : Nat) : bitF (N / 2 ^ m) k = bitF N (m + k) := by
  unfold bitF
  rw [Nat.div_div_eq_div_mul, ← Nat.pow_add]
theorem bitF_mod (N : Nat) {m k : Nat} (h : k < m) : bitF (N % 2 ^ m) k = bitF N k := by
  rw [seen_bit, seen_bit, Nat.testBit_mod_two_pow]
  simp [h]
theorem sim_pos (C : CS) (n N : Nat) {i : Nat} (hi : i < n + 5) : sim C n N (pos i) = bitF N (n + 4 - i) := by
  unfold pos
  split
  · rw [show 4 - i = 16 * 0 + (4 - i) by omega, sim_at C n N 0 (4 - i) (by omega), sgn_k C n N 0 (by omega) (by omega)]
    show bitF (N / 2 ^ (n + 1)) _ = _
    rw [bitF_div]
    congr 1
    omega
  · rw [sim_at C n N (i - 4) 5 (by omega), sgn_5]
    unfold xx
    rw [bitF_mod N (by omega)]
    congr 1
    omega
theorem pos_lt {n i : Nat} (hn : n < 7) (hi : i < n + 5) : pos i < 112 := by
  unfold pos
  split <;> omega
theorem bits_eq {N N' D : Nat} (hN : N < 2 ^ D) (hN' : N' < 2 ^ D) (h : ∀ j, j < D → bitF N j = bitF N' j) : N = N' := by
  refine Nat.eq_of_testBit_eq (fun j => ?_)
  by_cases q : j < D
  · rw [← seen_bit, ← seen_bit]; exact h j q
  · rw [Nat.testBit_lt_two_pow (Nat.lt_of_lt_of_le hN (Nat.pow_le_pow_right (by decide) (by omega))), Nat.testBit_lt_two_pow (Nat.lt_of_lt_of_le hN' (Nat.pow_le_pow_right (by decide) (by omega)))]
/-- an earlier choice at which the two differ -/
theorem lex_lt {N N' m D : Nat} (hN : N < 2 ^ D) (hN' : N' < 2 ^ D) (h0 : bitF N m = false) (h1 : bitF N' m = true) (h : ∀ j, m < j → j < D → bitF N j = bitF N' j) : N < N' := by
  have hd : ∀ X : Nat, X < 2 ^ D → X / 2 ^ (m + 1) < 2 ^ D := fun X hX => Nat.lt_of_le_of_lt (Nat.div_le_self _ _) hX
  have ha : N / 2 ^ (m + 1) = N' / 2 ^ (m + 1) := by
    refine bits_eq (hd N hN) (hd N' hN') (fun j hj => ?_)
    rw [bitF_div, bitF_div]
    by_cases q : m + 1 + j < D
    · exact h _ (by omega) q
    · rw [seen_bit, seen_bit, Nat.testBit_lt_two_pow (Nat.lt_of_lt_of_le hN (Nat.pow_le_pow_right (by decide) (by omega))), Nat.testBit_lt_two_pow (Nat.lt_of_lt_of_le hN' (Nat.pow_le_pow_right (by decide) (by omega)))]
  have e : ∀ X : Nat, X / 2 ^ (m + 1) = X / 2 ^ m / 2 := fun X => by rw [Nat.pow_succ, Nat.div_div_eq_div_mul]
  rw [e, e] at ha
  have q0 : ¬ (N / 2 ^ m % 2 = 1) := of_decide_eq_false h0
  have q1 : N' / 2 ^ m % 2 = 1 := of_decide_eq_true h1
  apply Nat.lt_of_not_le
  intro hle
  have := Nat.div_le_div_right (c := 2 ^ m) hle
  omega
theorem bits_ex (q : Nat → Bool) : ∀ D, ∃ N, N < 2 ^ D ∧ ∀ j, j < D → bitF N j = q j
  | 0 => ⟨0, by decide, fun j h => absurd h (Nat.not_lt_zero j)⟩
  | D + 1 => by
    obtain ⟨N, h1, h2⟩ := bits_ex q D
    have hlt : N < 2 ^ (D + 1) := Nat.lt_of_lt_of_le h1 (Nat.pow_le_pow_right (by decide) (by omega))
    have hb : (q D).toNat * 2 ^ D < 2 ^ (D + 1) := by
      rw [Nat.pow_succ]
      have := Nat.two_pow_pos D
      cases q D <;> simp <;> omega
    refine ⟨N ||| (q D).toNat * 2 ^ D, Nat.or_lt_two_pow hlt hb, fun j hj => ?_⟩
    rw [seen_bit, Nat.testBit_or]
    by_cases e : j = D
    · subst e
      rw [Nat.testBit_lt_two_pow h1]
      cases q j <;> simp [Nat.testBit_two_pow_self]
    · rw [← seen_bit, h2 j (by omega)]
      have : ((q D).toNat * 2 ^ D).testBit j = false := by
        cases q D
        · simp
        · simp [Nat.testBit_two_pow]; omega
      rw [this]; simp
-- what is looked for
def badN (C : CS) (n N i : Nat) : Bool := mof (sgn C n N i) (cX C)
def goodP (C : CS) (P : PS) (N : Nat) : Prop := (∀ i, i ≤ P.1 → badN C P.1 N i = decide (i = P.1)) ∧ (P.2.1 = true → begM C (N / 2 ^ (P.1 + 1)) = true) ∧ (P.2.2 = true → ∀ i j, i ≤ P.1 → j < i → stt C P.1 N i ≠ stt C P.1 N j)
end
section
/-! THE PLAIN LAW, 2: a state that grows; taking back -/
set_option maxRecDepth 100000
/-- U grows to T: what was set stays, in the same order -/
def Xt (U T : VS) : Prop := U.2.1 ≤ T.2.1 ∧ (∀ i, i < U.2.1 → T.2.2.1 i = U.2.2.1 i) ∧ (∀ a b, U.1 a = some b → T.1 a = some b) ∧ (∀ a, 112 ≤ a → T.1 a = U.1 a)
/-- .. and a contradiction stays -/
def Mo (U T : VS) : Prop := Xt U T ∧ (U.2.2.2 = true → T.2.2.2 = true)
theorem Xt.rf (U : VS) : Xt U U := ⟨Nat.le_refl _, fun _ _ => rfl, fun _ _ h => h, fun _ _ => rfl⟩
theorem Xt.tr {U T Z : VS} (h1 : Xt U T) (h2 : Xt T Z) : Xt U Z := ⟨Nat.le_trans h1.1 h2.1, fun i hi => (h2.2.1 i (Nat.lt_of_lt_of_le hi h1.1)).trans (h1.2.1 i hi), fun a b h => h2.2.2.1 a b (h1.2.2.1 a b h), fun a ha => (h2.2.2.2 a ha).trans (h1.2.2.2 a ha)⟩
theorem Mo.rf (U : VS) : Mo U U := ⟨Xt.rf U, fun h => h⟩
theorem Mo.tr {U T Z : VS} (h1 : Mo U T) (h2 : Mo T Z) : Mo U Z := ⟨h1.1.tr h2.1, fun h => h2.2 (h1.2 h)⟩
theorem Mo.put (U : VS) {a : Nat} (ha : a < 112) (b : Bool) : Mo U (putF U a b) := by
  unfold putF
  split
  · rename_i e
    refine ⟨⟨Nat.le_succ _, ?_, ?_, ?_⟩, fun h => h⟩
    · intro i hi
      show va_up U.2.2.1 U.2.1 a i = U.2.2.1 i
      rw [va_up_ne _ _ (by omega)]
    · intro x y h
      show va_up U.1 a (some b) x = some y
      rw [va_up_ne _ _ (fun z => by rw [z, e] at h; cases h)]
      exact h
    · intro x hx
      show va_up U.1 a (some b) x = U.1 x
      rw [va_up_ne _ _ (by omega)]
  · split
    · exact Mo.rf U
    · exact ⟨⟨Nat.le_refl _, fun _ _ => rfl, fun _ _ h => h, fun _ _ => rfl⟩, fun _ => rfl⟩
theorem Mo.ptl (U : VS) {f k : Nat} (ha : 16 * f + k / 2 < 112) (b : Bool) : Mo U (putL U f k b) := Mo.put U ha _
theorem Mo.gate {C : CS} (hC : okC C) {f g : Nat} (hf : f < 7) (h1 : 6 ≤ g) (h2 : g < 6 + C.1) (V : VS) : Mo V (gateF C f g V) := by
  obtain ⟨a1, a2, a3⟩ := gate_ix hC h1 h2
  unfold gateF
  split
  · exact Mo.put V (by omega) _
  split
  · exact Mo.put V (by omega) _
  split
  · exact (Mo.ptl V (by omega) _).tr (Mo.ptl _ (by omega) _)
  split
  · exact Mo.ptl V (by omega) _
  split
  · exact Mo.ptl V (by omega) _
  exact Mo.rf V
theorem Mo.latch {C : CS} (hC : okC C) {f k : Nat} (hf : f < 6) (h1 : 1 ≤ k) (h2 : k < 5) (V : VS) : Mo V (latchF C f k V) := by
  have a1 := latch_ix hC h1 h2
  unfold latchF
  split
  · exact Mo.put V (by omega) _
  split
  · exact Mo.ptl V (by omega) _
  exact Mo.rf V
theorem Mo.loop {F : Nat → VS → VS} {lo n : Nat} (hs : ∀ i U, i < n → Mo U (F (lo + i) U)) (U : VS) : Mo U (itr F lo n U) := by
  induction n with
  | zero => exact Mo.rf U
  | succ n ih => exact (ih (fun i T hi => hs i T (by omega))).tr (hs n _ (by omega))
/-- a step of a loop, with what came before it and what comes behind -/
theorem itr_at {F : Nat → VS → VS} {lo n : Nat} (hs : ∀ i U, i < n → Mo U (F (lo + i) U)) (ho : ∀ i U, i < n → okV U → okV (F (lo + i) U)) {U : VS} (hU : okV U) {i : Nat} (hi : i < n) : ∃ T, okV T ∧ Mo U T ∧ Mo (F (lo + i) T) (itr F lo n U) := by
  induction n with
  | zero => exact absurd hi (Nat.not_lt_zero i)
  | succ n ih =>
    by_cases e : i = n
    · subst e
      exact ⟨itr F lo i U, itr_ok hU (fun j T hj => ho j T (by omega)), Mo.loop (fun j T hj => hs j T (by omega)) U, Mo.rf _⟩
    · obtain ⟨T, h0, h1, h2⟩ := ih (fun j T hj => hs j T (by omega)) (fun j T hj => ho j T (by omega)) (by omega)
      exact ⟨T, h0, h1, h2.tr (hs n _ (by omega))⟩
theorem Mo.copy {C : CS} (hC : okC C) {n f : Nat} (hn : n < 7) (hf : f ≤ n) (V : VS) : Mo V (copyF C n f V) := by
  have hg : Mo V (itr (gateF C f) 6 C.1 V) := Mo.loop (fun i a hi => Mo.gate hC (by omega) (by omega) (by omega) a) V
  unfold copyF
  split
  · exact hg.tr (Mo.loop (fun i a hi => Mo.latch hC (by omega) (by omega) (by omega) a) _)
  · exact hg
theorem Mo.round {C : CS} (hC : okC C) {n : Nat} (hn : n < 7) (V : VS) : Mo V (roundF C n V) := Mo.loop (fun i a hi => Mo.copy hC hn (by omega) a) V
theorem Mo.followF {C : CS} (hC : okC C) {n : Nat} (hn : n < 7) : ∀ (k : Nat) (ch : Bool) (V : VS), Mo V (followF C n k ch V)
  | 0, _, V => Mo.rf V
  | k + 1, ch, V => by
    show Mo V (if ch = true ∧ V.2.2.2 = false then _ else V)
    split
    · exact (Mo.round hC hn V).tr (Mo.followF hC hn k _ _)
    · exact Mo.rf V
theorem Mo.follow {C : CS} (hC : okC C) {n : Nat} (hn : n < 7) (V : VS) : Mo V (followA C n V) := Mo.followF hC hn 113 true V
/-- a sound state that grew by nothing is the same -/
theorem Xt.same {U T : VS} (hU : okV U) (hT : okV T) (h : Xt U T) (he : T.2.1 ≤ U.2.1) : T.1 = U.1 := by
  funext a
  by_cases ha : a < 112
  · rcases hu : U.1 a with _ | b
    · rcases ht : T.1 a with _ | b
      · rfl
      · obtain ⟨i, h1, h2⟩ := hT.2.2.2 a ha (by rw [ht]; simp)
        have hi : i < U.2.1 := by omega
        have q := (hU.2.1 i hi).2
        rw [← h.2.1 i hi, h2] at q
        exact absurd hu q
    · exact h.2.2.1 a b hu
  · exact h.2.2.2 a (by omega)
theorem popn_ord : ∀ (j : Nat) (V : VS), (popn j V).2.2 = V.2.2
  | 0, _ => rfl
  | j + 1, V => popn_ord j (popV V)
theorem undo_ord (V : VS) (k : Nat) : (undoV V k).2.2 = V.2.2 := popn_ord _ V
theorem popn_keep : ∀ (j : Nat) (V : VS) (i : Nat), okV V → j ≤ V.2.1 → i < V.2.1 - j → (popn j V).1 (V.2.2.1 i) = V.1 (V.2.2.1 i)
  | 0, _, _, _, _, _ => rfl
  | j + 1, V, i, h, hj, hi => by
    have e : (popn j (popV V)).1 (V.2.2.1 i) = (popV V).1 (V.2.2.1 i) := popn_keep j (popV V) i (h.pop (by omega)) (by show j ≤ V.2.1 - 1; omega) (by show i < V.2.1 - 1 - j; omega)
    show (popn j (popV V)).1 (V.2.2.1 i) = _
    rw [e]
    show va_up V.1 (V.2.2.1 (V.2.1 - 1)) none (V.2.2.1 i) = _
    rw [va_up_ne _ _ (fun z => by have := h.2.2.1 i (V.2.1 - 1) (by omega) (by omega) z; omega)]
theorem popn_out : ∀ (j : Nat) (V : VS) (a : Nat), okV V → j ≤ V.2.1 → 112 ≤ a → (popn j V).1 a = V.1 a
  | 0, _, _, _, _, _ => rfl
  | j + 1, V, a, h, hj, ha => by
    have e : (popn j (popV V)).1 a = (popV V).1 a := popn_out j (popV V) a (h.pop (by omega)) (by show j ≤ V.2.1 - 1; omega) ha
    show (popn j (popV V)).1 a = _
    rw [e]
    show va_up V.1 (V.2.2.1 (V.2.1 - 1)) none a = _
    rw [va_up_ne _ _ (fun z => by have := (h.2.1 (V.2.1 - 1) (by omega)).1; omega)]
theorem undo_keep {V : VS} {k i : Nat} (h : okV V) (hk : k ≤ V.2.1) (hi : i < k) : (undoV V k).1 (V.2.2.1 i) = V.1 (V.2.2.1 i) := popn_keep (V.2.1 - k) V i h (Nat.sub_le _ _) (by omega)
theorem undo_out {V : VS} {k a : Nat} (h : okV V) (ha : 112 ≤ a) : (undoV V k).1 a = V.1 a := popn_out (V.2.1 - k) V a h (Nat.sub_le _ _) ha
theorem undo_lev {V : VS} {k : Nat} (hk : k ≤ V.2.1) : (undoV V k).2.1 = k := undo_n k _ V rfl hk
theorem undo_gone {V : VS} {k a : Nat} (h : okV V) (hk : k ≤ V.2.1) (ha : a < 112) (hn : ∀ i, i < k → V.2.2.1 i ≠ a) : (undoV V k).1 a = none := by
  rcases hu : (undoV V k).1 a with _ | b
  · rfl
  · obtain ⟨i, h1, h2⟩ := (h.undo k).2.2.2 a ha (by rw [hu]; simp)
    rw [undo_lev hk] at h1
    rw [undo_ord] at h2
    exact absurd h2 (hn i h1)
/-- back to what it grew from -/
theorem undo_base {U T : VS} (hU : okV U) (hT : okV T) (h : Xt U T) : (undoV T U.2.1).1 = U.1 := by
  funext a
  by_cases ha : a < 112
  · rcases hu : U.1 a with _ | b
    · refine undo_gone hT h.1 ha (fun i hi e => ?_)
      have q := (hU.2.1 i hi).2
      rw [← h.2.1 i hi, e] at q
      exact q hu
    · obtain ⟨i, h1, h2⟩ := hU.2.2.2 a ha (by rw [hu]; simp)
      have e := undo_keep hT h.1 h1
      rw [h.2.1 i h1, h2] at e
      rw [e]
      exact h.2.2.1 a b hu
  · rw [undo_out hT (by omega)]
    exact h.2.2.2 a (by omega)
theorem Xt.undo {U T : VS} (hU : okV U) (hT : okV T) (h : Xt U T) {k : Nat} (h1 : U.2.1 ≤ k) (h2 : k ≤ T.2.1) : Xt U (undoV T k) := by
  refine ⟨by rw [undo_lev h2]; exact h1, fun i hi => by rw [undo_ord]; exact h.2.1 i hi, fun a b e => ?_, fun a ha => by rw [undo_out hT ha]; exact h.2.2.2 a ha⟩
  by_cases ha : a < 112
  · obtain ⟨i, i1, i2⟩ := hU.2.2.2 a ha (by rw [e]; simp)
    have q := undo_keep hT h2 (i := i) (by omega)
    rw [h.2.1 i i1, i2] at q
    rw [q]
    exact h.2.2.1 a b e
  · rw [undo_out hT (by omega)]
    exact h.2.2.1 a b e
/-- what is put is there, if there is no contradiction -/
theorem put_set {U : VS} {a : Nat} {b : Bool} (h : (putF U a b).2.2.2 = false) : (putF U a b).1 a = some b := by
  unfold putF at h ⊢
  rcases e : U.1 a with _ | b'
  · simp only []
    exact va_up_self _ _ _
  · rw [e] at h
    simp only [] at h ⊢
    by_cases q : b' = b
    · rw [if_pos q, e, q]
    · rw [if_neg q] at h
      cases h
theorem Mo.low {U T : VS} (h : Mo U T) (hb : T.2.2.2 = false) : U.2.2.2 = false := by
  rcases e : U.2.2.2 with _ | _
  · rfl
  · rw [h.2 e] at hb; cases hb
/-! the places that are still open -/
def unset (v : Nat → Option Bool) : Nat → Nat
  | 0 => 0
  | m + 1 => unset v m + (v (pos m)).isNone.toNat
theorem unset_le (v : Nat → Option Bool) : ∀ m, unset v m ≤ m
  | 0 => Nat.le_refl 0
  | m + 1 => by
    have h1 := unset_le v m
    have h2 : (v (pos m)).isNone.toNat ≤ 1 := Bool.toNat_le _
    rw [unset]; omega
theorem unset_1 {v w : Nat → Option Bool} (h : ∀ a b, v a = some b → w a = some b) (a : Nat) : (w a).isNone.toNat ≤ (v a).isNone.toNat := by
  rcases hv : v a with _ | b
  · exact Bool.toNat_le _
  · rw [h a b hv]; exact Nat.le_refl _
theorem unset_mono {v w : Nat → Option Bool} (h : ∀ a b, v a = some b → w a = some b) : ∀ m, unset w m ≤ unset v m
  | 0 => Nat.le_refl 0
  | m + 1 => by
    have h1 := unset_mono h m
    have h2 := unset_1 h (pos m)
    rw [unset, unset]; omega
theorem unset_lt {v w : Nat → Option Bool} (h : ∀ a b, v a = some b → w a = some b) {i : Nat} (hv : v (pos i) = none) {b : Bool} (hw : w (pos i) = some b) : ∀ m, i < m → unset w m + 1 ≤ unset v m
  | 0, q => absurd q (Nat.not_lt_zero i)
  | m + 1, q => by
    rw [unset, unset]
    by_cases e : i = m
    · subst e
      have h1 := unset_mono h i
      rw [hv, hw]
      show unset w i + 0 + 1 ≤ unset v i + 1
      omega
    · have h1 := unset_lt h hv hw m (by omega)
      have h2 := unset_1 h (pos m)
      omega
end
section
/-! THE PLAIN LAW, 3: what follows is sound, and ends where nothing new comes -/
set_option maxRecDepth 100000
/-- the state is a part of the run number N, without a contradiction -/
def Sd (C : CS) (n N : Nat) (V : VS) : Prop := V.2.2.2 = false ∧ ∀ a b, a < 112 → V.1 a = some b → sim C n N a = b
section SDS
variable {C : CS} {n N : Nat} {V : VS}
theorem Sd.put (h : Sd C n N V) {a : Nat} {b : Bool} (ha : a < 112) (e : sim C n N a = b) : Sd C n N (putF V a b) := by
  unfold putF
  rcases q : V.1 a with _ | b'
  · simp only []
    refine ⟨h.1, fun x y hx hy => ?_⟩
    have hy : va_up V.1 a (some b) x = some y := hy
    by_cases z : x = a
    · rw [z, va_up_self] at hy
      cases hy
      rw [z]; exact e
    · rw [va_up_ne _ _ z] at hy
      exact h.2 x y hx hy
  · simp only []
    rw [if_pos (by rw [← e]; exact (h.2 a b' ha q).symm)]
    exact h
theorem Sd.lit (h : Sd C n N V) {f k : Nat} {b : Bool} (hf : f < 7) (hk : k / 2 < 16) (e : vlit V.1 f k = some b) : mof (sgn C n N f) k = b := by
  unfold vlit at e
  rcases q : V.1 (16 * f + k / 2) with _ | b'
  · rw [q] at e; cases e
  · rw [q] at e
    cases e
    have h2 := h.2 _ b' (by omega) q
    rw [sim_at C n N f _ hk] at h2
    unfold mof
    rw [h2]
theorem Sd.ptl (h : Sd C n N V) {f k : Nat} {b : Bool} (hf : f < 7) (hk : k / 2 < 16) (e : mof (sgn C n N f) k = b) : Sd C n N (putL V f k b) := by
  refine Sd.put h (by omega) ?_
  rw [sim_at C n N f _ hk, ← e]
  unfold mof
  cases sgn C n N f (k / 2) <;> cases par k <;> rfl
theorem Sd.gate (hC : okC C) (h : Sd C n N V) {f g : Nat} (hf : f < 7) (h1 : 6 ≤ g) (h2 : g < 6 + C.1) : Sd C n N (gateF C f g V) := by
  obtain ⟨a1, a2, a3⟩ := gate_ix hC h1 h2
  have hg := sgn_g hC n N f h1 h2
  have hs := sim_at C n N f g a3
  unfold gateF
  split
  · rename_i q
    refine Sd.put h (by omega) ?_
    rw [hs, hg]
    rcases q with q | q
    · rw [Sd.lit h hf (by omega) q]; rfl
    · rw [Sd.lit h hf (by omega) q]; exact Bool.and_false _
  split
  · rename_i q
    refine Sd.put h (by omega) ?_
    rw [hs, hg, Sd.lit h hf (by omega) q.1, Sd.lit h hf (by omega) q.2]; rfl
  split
  · rename_i q
    have z := h.2 _ _ (by omega) q
    rw [hs, hg, Bool.and_eq_true] at z
    exact Sd.ptl (Sd.ptl h hf (by omega) z.1) hf (by omega) z.2
  split
  · rename_i q
    have z := h.2 _ _ (by omega) q.1
    rw [hs, hg, Sd.lit h hf (by omega) q.2, Bool.true_and] at z
    exact Sd.ptl h hf (by omega) z
  split
  · rename_i q
    have z := h.2 _ _ (by omega) q.1
    rw [hs, hg, Sd.lit h hf (by omega) q.2, Bool.and_true] at z
    exact Sd.ptl h hf (by omega) z
  exact h
theorem Sd.latch (hC : okC C) (h : Sd C n N V) {f k : Nat} (hf : f < 6) (h1 : 1 ≤ k) (h2 : k < 5) : Sd C n N (latchF C f k V) := by
  have a1 := latch_ix hC h1 h2
  have hn := sgn_n C n N f h1 h2
  have hs : sim C n N (16 * f + 16 + k) = sgn C n N (f + 1) k := by
    rw [show 16 * f + 16 + k = 16 * (f + 1) + k by omega]
    exact sim_at C n N (f + 1) k (by omega)
  unfold latchF
  split
  · rename_i b q
    refine Sd.put h (by omega) ?_
    rw [hs, hn]
    exact Sd.lit h (by omega) a1 q
  split
  · rename_i b q
    have z := h.2 _ _ (by omega) q
    rw [hs, hn] at z
    exact Sd.ptl h (by omega) a1 z
  exact h
theorem Sd.copy (hC : okC C) (h : Sd C n N V) {m f : Nat} (hn : m < 7) (hf : f ≤ m) : Sd C n N (copyF C m f V) := by
  have hg : Sd C n N (itr (gateF C f) 6 C.1 V) := itr_ok h fun i a hi ha => Sd.gate hC ha (by omega) (by omega) (by omega)
  unfold copyF
  split
  · exact itr_ok hg fun i a hi ha => Sd.latch hC ha (by omega) (by omega) (by omega)
  · exact hg
theorem Sd.round (hC : okC C) (h : Sd C n N V) {m : Nat} (hn : m < 7) : Sd C n N (roundF C m V) := itr_ok h fun i a hi ha => Sd.copy hC ha hn (by omega)
end SDS
theorem Sd.followF {C : CS} {n N : Nat} (hC : okC C) {m : Nat} (hn : m < 7) : ∀ (k : Nat) (ch : Bool) {V : VS}, Sd C n N V → Sd C n N (followF C m k ch V)
  | 0, _, _, h => h
  | k + 1, ch, V, h => by
    show Sd C n N (if ch = true ∧ V.2.2.2 = false then _ else V)
    split
    · exact Sd.followF hC hn k _ (Sd.round hC h hn)
    · exact h
theorem Sd.follow {C : CS} {n N : Nat} (hC : okC C) {m : Nat} (hn : m < 7) {V : VS} (h : Sd C n N V) : Sd C n N (followA C m V) := Sd.followF hC hn 113 true h
/-- each round sets something, or it is the last -/
theorem follow_end {C : CS} (hC : okC C) {n : Nat} (hn : n < 7) : ∀ (k : Nat) (V : VS), okV V → 112 < V.2.1 + k → (followF C n k true V).2.2.2 = false → ∃ U, okV U ∧ followF C n k true V = roundF C n U ∧ (roundF C n U).2.1 ≤ U.2.1
  | 0, V, hV, h, _ => absurd hV.le (by omega)
  | k + 1, V, hV, h, hb => by
    have e : followF C n (k + 1) true V = if true = true ∧ V.2.2.2 = false then followF C n k (decide (V.2.1 < (roundF C n V).2.1)) (roundF C n V) else V := rfl
    rcases hv : V.2.2.2 with _ | _
    · rw [if_pos ⟨rfl, hv⟩] at e
      by_cases q : V.2.1 < (roundF C n V).2.1
      · rw [decide_eq_true q] at e
        rw [e] at hb ⊢
        exact follow_end hC hn k (roundF C n V) (hV.round hC hn) (by omega) hb
      · rw [decide_eq_false q, followF_stop (Or.inr (Or.inl rfl))] at e
        exact ⟨V, hV, e, by omega⟩
    · rw [if_neg (fun z => by rw [hv] at z; cases z.2)] at e
      rw [e, hv] at hb
      cases hb
def Fix (C : CS) (n : Nat) (v : Nat → Option Bool) : Prop :=
  (∀ f g, f ≤ n → 6 ≤ g → g < 6 + C.1 → (vlit v f (cL C g) = some false ∨ vlit v f (cR C g) = some false → v (16 * f + g) = some false) ∧ (vlit v f (cL C g) = some true ∧ vlit v f (cR C g) = some true → v (16 * f + g) = some true)) ∧
  (∀ f k b, f < n → 1 ≤ k → k < 5 → vlit v f (cN C k) = some b → v (16 * f + 16 + k) = some b)
/-- a step within a round that changed nothing -/
theorem still {U T Z X : VS} (hU : okV U) (hT : okV T) (hZ : okV Z) (hX : okV X) (h1 : Mo U T) (h2 : Mo T Z) (h3 : Mo Z X) (he : X.2.1 ≤ U.2.1) (hb : X.2.2.2 = false) : T.1 = X.1 ∧ Z.1 = X.1 ∧ Z.2.2.2 = false := by
  have e1 := h1.1.1
  have e2 := h2.1.1
  have e3 := h3.1.1
  have q1 := Xt.same hU hX (h1.tr (h2.tr h3)).1 he
  have q2 := Xt.same hU hT h1.1 (by omega)
  have q3 := Xt.same hU hZ (h1.tr h2).1 (by omega)
  exact ⟨q2.trans q1.symm, q3.trans q1.symm, h3.low hb⟩
theorem follow_fix {C : CS} (hC : okC C) {n : Nat} (hn : n < 7) {V : VS} (hV : okV V) (hb : (followA C n V).2.2.2 = false) : Fix C n (followA C n V).1 := by
  obtain ⟨U, hU, e, he⟩ := follow_end hC hn 113 V hV (by omega) hb
  have e : followA C n V = roundF C n U := e
  rw [e] at hb ⊢
  have hX : okV (roundF C n U) := hU.round hC hn
  have mc : ∀ i Z, i < n + 1 → Mo Z (copyF C n (0 + i) Z) := fun i Z hi => Mo.copy hC hn (by omega) Z
  have oc : ∀ i Z, i < n + 1 → okV Z → okV (copyF C n (0 + i) Z) := fun i Z hi hZ => hZ.copy hC hn (by omega)
  refine ⟨fun f g hf h1 h2 => ?_, fun f k b hf h1 h2 hl => ?_⟩
  · obtain ⟨a1, a2, a3⟩ := gate_ix hC h1 h2
    obtain ⟨T, hT, m1, m2⟩ := itr_at mc oc hU (i := f) (by omega)
    rw [show 0 + f = f by omega] at m2
    have mg : ∀ i Z, i < C.1 → Mo Z (gateF C f (6 + i) Z) := fun i Z hi => Mo.gate hC (by omega) (by omega) (by omega) Z
    have og : ∀ i Z, i < C.1 → okV Z → okV (gateF C f (6 + i) Z) := fun i Z hi hZ => hZ.gate hC (by omega) (by omega) (by omega)
    obtain ⟨T2, hT2, m3, m4⟩ := itr_at mg og hT (i := g - 6) (by omega)
    rw [show 6 + (g - 6) = g by omega] at m4
    have m5 : Mo (itr (gateF C f) 6 C.1 T) (copyF C n f T) := by
      unfold copyF
      split
      · exact Mo.loop (fun i Z hi => Mo.latch hC (by omega) (by omega) (by omega) Z) _
      · exact Mo.rf _
    obtain ⟨s1, s2, s3⟩ := still hU hT2 (hT2.gate hC (by omega) h1 h2) hX (m1.tr m3) (Mo.gate hC (by omega) h1 h2 T2) (m4.tr (m5.tr m2)) he hb
    rw [← s1]
    refine ⟨fun q => ?_, fun q => ?_⟩
    · have eg : gateF C f g T2 = putF T2 (16 * f + g) false := by unfold gateF; rw [if_pos q]
      rw [s1, ← s2, eg]
      rw [eg] at s3
      exact put_set s3
    · have eg : gateF C f g T2 = putF T2 (16 * f + g) true := by
        unfold gateF
        rw [if_neg (by rw [q.1, q.2]; simp), if_pos q]
      rw [s1, ← s2, eg]
      rw [eg] at s3
      exact put_set s3
  · obtain ⟨T, hT, m1, m2⟩ := itr_at mc oc hU (i := f) (by omega)
    rw [show 0 + f = f by omega] at m2
    have mg : Mo T (itr (gateF C f) 6 C.1 T) := Mo.loop (fun i Z hi => Mo.gate hC (by omega) (by omega) (by omega) Z) T
    have og : okV (itr (gateF C f) 6 C.1 T) := itr_ok hT fun i Z hi hZ => hZ.gate hC (by omega) (by omega) (by omega)
    have ml : ∀ i Z, i < 4 → Mo Z (latchF C f (1 + i) Z) := fun i Z hi => Mo.latch hC (by omega) (by omega) (by omega) Z
    have ol : ∀ i Z, i < 4 → okV Z → okV (latchF C f (1 + i) Z) := fun i Z hi hZ => hZ.latch hC (by omega) (by omega) (by omega)
    obtain ⟨T2, hT2, m3, m4⟩ := itr_at ml ol og (i := k - 1) (by omega)
    rw [show 1 + (k - 1) = k by omega] at m4
    have ec : copyF C n f T = itr (latchF C f) 1 4 (itr (gateF C f) 6 C.1 T) := by unfold copyF; rw [if_pos hf]
    rw [ec] at m2
    obtain ⟨s1, s2, s3⟩ := still hU hT2 (hT2.latch hC (by omega) h1 h2) hX (m1.tr (mg.tr m3)) (Mo.latch hC (by omega) h1 h2 T2) (m4.tr m2) he hb
    rw [← s1] at hl
    have eg : latchF C f k T2 = putF T2 (16 * f + 16 + k) b := latch_1 hl
    rw [← s2, eg]
    rw [eg] at s3
    exact put_set s3
theorem vlit_of {C : CS} {n N : Nat} {v : Nat → Option Bool} {f k : Nat} (hk : k / 2 < 16) (h : v (16 * f + k / 2) = some (sim C n N (16 * f + k / 2))) : vlit v f k = some (mof (sgn C n N f) k) := by
  unfold vlit
  rw [h, sim_at C n N f _ hk]
  rfl
theorem pos_l {k : Nat} (h1 : 1 ≤ k) (h2 : k < 5) : pos (4 - k) = k := by unfold pos; rw [if_pos (by omega)]; omega
theorem pos_x (f : Nat) : pos (4 + f) = 16 * f + 5 := by unfold pos; rw [if_neg (by omega)]; omega
/-- with its first state and its inputs a run is whole -/
theorem fix_all {C : CS} (hC : okC C) {n N : Nat} {v : Nat → Option Bool} (hF : Fix C n v) (h0 : ∀ f, f ≤ n → v (16 * f) = some false) (hp : ∀ i, i < n + 5 → v (pos i) = some (sim C n N (pos i))) : ∀ f, f ≤ n → ∀ m k, k < m → k < 6 + C.1 → v (16 * f + k) = some (sim C n N (16 * f + k)) := by
  have h10 := hC.1
  intro f
  induction f with
  | zero =>
    intro hf m
    induction m with
    | zero => intro k hk; exact absurd hk (Nat.not_lt_zero k)
    | succ m ih =>
      intro k hk hk2
      by_cases c0 : k = 0
      · subst c0
        rw [sim_at C n N 0 0 (by omega), sgn_0]
        exact h0 0 hf
      by_cases c5 : k = 5
      · subst c5
        have := hp 4 (by omega)
        rw [show (4 : Nat) = 4 + 0 from rfl, pos_x 0] at this
        exact this
      by_cases c1 : k < 5
      · have := hp (4 - k) (by omega)
        rw [pos_l (by omega) c1] at this
        rw [show 16 * 0 + k = k by omega]
        exact this
      · obtain ⟨a1, a2, a3⟩ := gate_ix hC (g := k) (by omega) hk2
        have l1 := vlit_of (C := C) (n := n) (N := N) (v := v) (f := 0) (k := cL C k) (by omega) (ih _ (by omega) (by omega))
        have l2 := vlit_of (C := C) (n := n) (N := N) (v := v) (f := 0) (k := cR C k) (by omega) (ih _ (by omega) (by omega))
        obtain ⟨g1, g2⟩ := hF.1 0 k hf (by omega) hk2
        rw [sim_at C n N 0 k a3, sgn_g hC n N 0 (by omega) hk2]
        rw [l1, l2] at g1 g2
        generalize mof (sgn C n N 0) (cL C k) = b1 at g1 g2 ⊢
        generalize mof (sgn C n N 0) (cR C k) = b2 at g1 g2 ⊢
        cases b1
        · exact g1 (Or.inl rfl)
        · cases b2
          · exact g1 (Or.inr rfl)
          · exact g2 ⟨rfl, rfl⟩
  | succ f ihf =>
    intro hf m
    induction m with
    | zero => intro k hk; exact absurd hk (Nat.not_lt_zero k)
    | succ m ih =>
      intro k hk hk2
      by_cases c0 : k = 0
      · subst c0
        rw [sim_at C n N (f + 1) 0 (by omega), sgn_0]
        exact h0 (f + 1) hf
      by_cases c5 : k = 5
      · subst c5
        have := hp (4 + (f + 1)) (by omega)
        rw [pos_x (f + 1)] at this
        exact this
      by_cases c1 : k < 5
      · have hN := hC.2.2.1 k (by omega) c1
        have l1 := vlit_of (C := C) (n := n) (N := N) (v := v) (f := f) (k := cN C k) (by omega) (ihf (by omega) (6 + C.1) _ (by omega) (by omega))
        have := hF.2 f k _ (by omega) (by omega) c1 l1
        rw [sim_at C n N (f + 1) k (by omega), sgn_n C n N f (by omega) c1, show 16 * (f + 1) + k = 16 * f + 16 + k by omega]
        exact this
      · obtain ⟨a1, a2, a3⟩ := gate_ix hC (g := k) (by omega) hk2
        have l1 := vlit_of (C := C) (n := n) (N := N) (v := v) (f := f + 1) (k := cL C k) (by omega) (ih _ (by omega) (by omega))
        have l2 := vlit_of (C := C) (n := n) (N := N) (v := v) (f := f + 1) (k := cR C k) (by omega) (ih _ (by omega) (by omega))
        obtain ⟨g1, g2⟩ := hF.1 (f + 1) k hf (by omega) hk2
        rw [sim_at C n N (f + 1) k a3, sgn_g hC n N (f + 1) (by omega) hk2]
        rw [l1, l2] at g1 g2
        generalize mof (sgn C n N (f + 1)) (cL C k) = b1 at g1 g2 ⊢
        generalize mof (sgn C n N (f + 1)) (cR C k) = b2 at g1 g2 ⊢
        cases b1
        · exact g1 (Or.inl rfl)
        · cases b2
          · exact g1 (Or.inr rfl)
          · exact g2 ⟨rfl, rfl⟩
end
section
/-! THE PLAIN LAW, 4: the opening, the demand, the choice -/
set_option maxRecDepth 100000
theorem dem_ok {C : CS} (hC : okC C) {P : PS} (hP : P.1 < 7) {V : VS} (h : okV V) : okV (demandF C P V) := by
  have hx := hC.2.2.2.2
  have h10 := hC.1
  have h1 : okV (itr (fun f U => putL U f (cX C) false) 0 P.1 V) := itr_ok h fun i a hi ha => ha.putL (by omega) _
  have h2 : okV (putL (itr (fun f U => putL U f (cX C) false) 0 P.1 V) P.1 (cX C) true) := h1.putL (by omega) _
  refine itr_ok h2 fun i a hi ha => ?_
  unfold begF
  split
  · exact ha.put (by omega) _
  · exact ha
theorem Mo.beg {C : CS} {P : PS} {k : Nat} (hk : k < 5) (V : VS) : Mo V (begF C P k V) := by
  unfold begF
  split
  · exact Mo.put V (by omega) _
  · exact Mo.rf V
theorem okV.beg {C : CS} {P : PS} {k : Nat} (hk : k < 5) {V : VS} (h : okV V) : okV (begF C P k V) := by
  unfold begF
  split
  · exact h.put (by omega) _
  · exact h
theorem Mo.dem1 {C : CS} (hC : okC C) {P : PS} (hP : P.1 < 7) (V : VS) : Mo V (putL (itr (fun f U => putL U f (cX C) false) 0 P.1 V) P.1 (cX C) true) := by
  have hx := hC.2.2.2.2
  have h10 := hC.1
  have h1 : Mo V (itr (fun f U => putL U f (cX C) false) 0 P.1 V) := Mo.loop (fun i a hi => Mo.ptl a (by omega) _) V
  exact h1.tr (Mo.ptl _ (by omega) _)
theorem Mo.dem2 {C : CS} {P : PS} (U : VS) : Mo U (itr (begF C P) 1 4 U) := Mo.loop (fun i a hi => Mo.beg (by omega) a) U
theorem Mo.dem {C : CS} (hC : okC C) {P : PS} (hP : P.1 < 7) (V : VS) : Mo V (demandF C P V) := (Mo.dem1 hC hP V).tr (Mo.dem2 _)
theorem demand_bad {C : CS} (hC : okC C) {P : PS} (hP : P.1 < 7) {V : VS} (hV : okV V) (hb : (demandF C P V).2.2.2 = false) {f : Nat} (hf : f ≤ P.1) : (demandF C P V).1 (16 * f + cX C / 2) = some (decide (f = P.1) ^^ par (cX C)) := by
  have hx := hC.2.2.2.2
  have h10 := hC.1
  have m2 : Mo (putL (itr (fun f U => putL U f (cX C) false) 0 P.1 V) P.1 (cX C) true) (demandF C P V) := Mo.dem2 _
  have b2 := m2.low hb
  refine m2.1.2.2.1 _ _ ?_
  by_cases e : f = P.1
  · subst e
    rw [decide_eq_true rfl]
    exact put_set b2
  · rw [decide_eq_false e]
    have m1 : Mo (itr (fun f U => putL U f (cX C) false) 0 P.1 V) (putL (itr (fun f U => putL U f (cX C) false) 0 P.1 V) P.1 (cX C) true) := Mo.ptl _ (by omega) _
    have b1 := m1.low b2
    refine m1.1.2.2.1 _ _ ?_
    obtain ⟨T, hT, q1, q2⟩ := itr_at (F := fun f U => putL U f (cX C) false) (lo := 0) (n := P.1) (fun i a hi => Mo.ptl a (by omega) _) (fun i a hi ha => ha.putL (by omega) _) hV (i := f) (by omega)
    have q2 : Mo (putL T (0 + f) (cX C) false) (itr (fun f U => putL U f (cX C) false) 0 P.1 V) := q2
    rw [show 0 + f = f by omega] at q2
    refine q2.1.2.2.1 _ _ ?_
    exact put_set (q2.low b1)
theorem demand_beg {C : CS} (hC : okC C) {P : PS} (hP : P.1 < 7) {V : VS} (hV : okV V) (hb : (demandF C P V).2.2.2 = false) (hf : P.2.1 = true) {k : Nat} (h1 : 1 ≤ k) (h2 : k < 5) (h3 : cB C k < 2) : (demandF C P V).1 k = some (decide (cB C k = 1)) := by
  have hx := hC.2.2.2.2
  have h10 := hC.1
  have o1 : okV (itr (fun f U => putL U f (cX C) false) 0 P.1 V) := itr_ok hV fun i a hi ha => ha.putL (by omega) _
  have o2 : okV (putL (itr (fun f U => putL U f (cX C) false) 0 P.1 V) P.1 (cX C) true) := o1.putL (by omega) _
  obtain ⟨T, hT, q1, q2⟩ := itr_at (F := begF C P) (lo := 1) (n := 4) (fun i a hi => Mo.beg (by omega) a) (fun i a hi ha => ha.beg (by omega)) o2 (i := k - 1) (by omega)
  rw [show 1 + (k - 1) = k by omega, beg_1 hf h3] at q2
  have q2 : Mo (putF T k (decide (cB C k = 1))) (demandF C P V) := q2
  exact q2.1.2.2.1 _ _ (put_set (q2.low hb))
theorem open_0 (V : VS) {n : Nat} (hn : n < 7) (hb : (openV V n).2.2.2 = false) {f : Nat} (hf : f ≤ n) : (openV V n).1 (16 * f) = some false := by
  obtain ⟨T, hT, q1, q2⟩ := itr_at (F := fun f U => putF U (16 * f) false) (lo := 0) (n := n + 1) (fun i a hi => Mo.put a (by omega) _) (fun i a hi ha => ha.put (by omega) _) (okV.fill V.1 V.2.2.1 false) (i := f) (by omega)
  have q2 : Mo (putF T (16 * (0 + f)) false) (openV V n) := q2
  rw [show 0 + f = f by omega] at q2
  exact q2.1.2.2.1 _ _ (put_set (q2.low hb))
theorem Sd.opn (C : CS) {n N : Nat} (V : VS) {m : Nat} (hm : m < 7) : Sd C n N (openV V m) := by
  have h0 : Sd C n N (fillV V.1, 0, V.2.2.1, false) := ⟨rfl, fun a b ha h => by
    have h : fillV V.1 a = some b := h
    rw [fillV_none V.1 ha] at h
    cases h⟩
  refine itr_ok h0 fun i a hi ha => ?_
  refine Sd.put ha (by omega) ?_
  show sim C n N (16 * (0 + i) + 0) = false
  rw [sim_at C n N (0 + i) 0 (by omega), sgn_0]
theorem beg_at {C : CS} {s i : Nat} (h : begM C s = true) (hi : i < 4) : begAt C s (1 + i) = true := by
  rcases e : begAt C s (1 + i) with _ | _
  · have q : anyb (fun i => !begAt C s (1 + i)) 4 = true := anyb_hit hi (by rw [e]; rfl)
    unfold begM at h
    rw [q] at h
    cases h
  · rfl
theorem Sd.dem {C : CS} (hC : okC C) {P : PS} (hP : P.1 < 7) {N : Nat} (hg : goodP C P N) {V : VS} (h : Sd C P.1 N V) : Sd C P.1 N (demandF C P V) := by
  have hx := hC.2.2.2.2
  have h10 := hC.1
  have h1 : Sd C P.1 N (itr (fun f U => putL U f (cX C) false) 0 P.1 V) := itr_ok h fun i a hi ha => Sd.ptl ha (by omega) (by omega) ((hg.1 (0 + i) (by omega)).trans (decide_eq_false (by omega)))
  have h2 : Sd C P.1 N (putL (itr (fun f U => putL U f (cX C) false) 0 P.1 V) P.1 (cX C) true) := Sd.ptl h1 hP (by omega) ((hg.1 P.1 (Nat.le_refl _)).trans (decide_eq_true rfl))
  refine itr_ok h2 fun i a hi ha => ?_
  unfold begF
  split
  · rename_i q
    refine Sd.put ha (by omega) ?_
    have hs := sim_at C P.1 N 0 (1 + i) (by omega)
    rw [show 16 * 0 + (1 + i) = 1 + i by omega, sgn_k C P.1 N 0 (by omega) (by omega)] at hs
    rw [hs]
    have hb : cB C (1 + i) = 2 ∨ cB C (1 + i) = (bitF (N / 2 ^ (P.1 + 1)) (1 + i - 1)).toNat := of_decide_eq_true (beg_at (hg.2.1 q.1) hi)
    rcases hb with hb | hb
    · omega
    · rw [hb]
      show bitF (N / 2 ^ (P.1 + 1)) (1 + i - 1) = _
      cases bitF (N / 2 ^ (P.1 + 1)) (1 + i - 1) <;> rfl
  · exact ha
-- the choice
theorem choose_eq (v : Nat → Option Bool) (n : Nat) : chooseAt v n = if v 4 = none then some 4 else if v 3 = none then some 3 else if v 2 = none then some 2 else if v 1 = none then some 1 else chF v (n + 1) none := rfl
theorem chF_first (v : Nat → Option Bool) : ∀ (j : Nat) (a : Option Nat), (∃ i, i < j ∧ v (16 * i + 5) = none ∧ (∀ q, q < i → v (16 * q + 5) ≠ none) ∧ chF v j a = some (16 * i + 5)) ∨ ((∀ i, i < j → v (16 * i + 5) ≠ none) ∧ chF v j a = a)
  | 0, a => Or.inr ⟨fun i h => absurd h (Nat.not_lt_zero i), rfl⟩
  | j + 1, a => by
    rcases chF_first v j (if v (16 * j + 5) = none then some (16 * j + 5) else a) with ⟨i, h1, h2, h3, h4⟩ | ⟨h1, h2⟩
    · exact Or.inl ⟨i, by omega, h2, h3, h4⟩
    · have h2 : chF v (j + 1) a = if v (16 * j + 5) = none then some (16 * j + 5) else a := h2
      by_cases e : v (16 * j + 5) = none
      · rw [if_pos e] at h2
        exact Or.inl ⟨j, by omega, e, h1, h2⟩
      · rw [if_neg e] at h2
        refine Or.inr ⟨fun i hi => ?_, h2⟩
        by_cases q : i = j
        · rw [q]; exact e
        · exact h1 i (by omega)
theorem pos_4 (v : Nat → Option Bool) (e4 : ¬ v 4 = none) (e3 : ¬ v 3 = none) (e2 : ¬ v 2 = none) (e1 : ¬ v 1 = none) {i : Nat} (hx : ∀ q, q < i → v (16 * q + 5) ≠ none) {q : Nat} (hq : q < 4 + i) : v (pos q) ≠ none := by
  by_cases h4 : q < 4
  · rcases (show q = 0 ∨ q = 1 ∨ q = 2 ∨ q = 3 by omega) with rfl | rfl | rfl | rfl
    · exact e4
    · exact e3
    · exact e2
    · exact e1
  · have h := hx (q - 4) (by omega)
    rw [← pos_x, show 4 + (q - 4) = q by omega] at h
    exact h
theorem choose_first {v : Nat → Option Bool} {n x : Nat} (h : chooseAt v n = some x) : ∃ p, p < n + 5 ∧ x = pos p ∧ v x = none ∧ ∀ q, q < p → v (pos q) ≠ none := by
  rw [choose_eq] at h
  by_cases e4 : v 4 = none
  · rw [if_pos e4] at h
    cases h
    exact ⟨0, by omega, rfl, e4, fun q hq => absurd hq (Nat.not_lt_zero q)⟩
  rw [if_neg e4] at h
  by_cases e3 : v 3 = none
  · rw [if_pos e3] at h
    cases h
    exact ⟨1, by omega, rfl, e3, fun q hq => by rw [show q = 0 by omega]; exact e4⟩
  rw [if_neg e3] at h
  by_cases e2 : v 2 = none
  · rw [if_pos e2] at h
    cases h
    refine ⟨2, by omega, rfl, e2, fun q hq => ?_⟩
    rcases (show q = 0 ∨ q = 1 by omega) with rfl | rfl
    · exact e4
    · exact e3
  rw [if_neg e2] at h
  by_cases e1 : v 1 = none
  · rw [if_pos e1] at h
    cases h
    refine ⟨3, by omega, rfl, e1, fun q hq => ?_⟩
    rcases (show q = 0 ∨ q = 1 ∨ q = 2 by omega) with rfl | rfl | rfl
    · exact e4
    · exact e3
    · exact e2
  rw [if_neg e1] at h
  rcases chF_first v (n + 1) none with ⟨i, h1, h2, h3, h4⟩ | ⟨h1, h2⟩
  · rw [h4] at h
    cases h
    exact ⟨4 + i, by omega, (pos_x i).symm, h2, fun q hq => pos_4 v e4 e3 e2 e1 h3 hq⟩
  · rw [h2] at h
    cases h
theorem choose_none {v : Nat → Option Bool} {n : Nat} (h : chooseAt v n = none) : ∀ q, q < n + 5 → v (pos q) ≠ none := by
  rw [choose_eq] at h
  by_cases e4 : v 4 = none
  · rw [if_pos e4] at h; cases h
  rw [if_neg e4] at h
  by_cases e3 : v 3 = none
  · rw [if_pos e3] at h; cases h
  rw [if_neg e3] at h
  by_cases e2 : v 2 = none
  · rw [if_pos e2] at h; cases h
  rw [if_neg e2] at h
  by_cases e1 : v 1 = none
  · rw [if_pos e1] at h; cases h
  rw [if_neg e1] at h
  rcases chF_first v (n + 1) none with ⟨i, h1, h2, h3, h4⟩ | ⟨h1, h2⟩
  · rw [h4] at h; cases h
  · intro q hq
    exact pos_4 v e4 e3 e2 e1 h1 (by omega)
theorem put_none {U : VS} {a : Nat} {b : Bool} (h : U.1 a = none) : putF U a b = (va_up U.1 a (some b), U.2.1 + 1, va_up U.2.2.1 U.2.1 a, U.2.2.2) := by unfold putF; rw [h]
theorem put_new {U : VS} {a : Nat} {b : Bool} (h : U.1 a = none) : (putF U a b).1 a = some b := by rw [put_none h]; exact va_up_self _ _ _
/-! the stack of choices: B j is the state in which the choice j was made -/
def Lw (c : Nat) (V : VS) (K : KS) (B : Nat → VS) : Prop := okV V ∧ ∀ j, j < c → okV (B j) ∧ Xt (B j) V ∧ (B j).2.1 = K.2.2.1 j ∧ ∀ i, i < j → Xt (B i) (B j)
theorem gb_spec {K : KS} {B : Nat → VS} : ∀ (c : Nat) (V : VS), Lw c V K B → ((gbF c V K).1 = false ∧ ∀ j, j < c → K.2.2.2 j = true) ∨ ∃ (j : Nat) (T : VS), j < c ∧ K.2.2.2 j = false ∧ (∀ i, j < i → i < c → K.2.2.2 i = true) ∧ gbF c V K = (true, putF (unbr T) (K.2.1 j) true, (j + 1, K.2.1, K.2.2.1, va_up K.2.2.2 j true)) ∧ okV T ∧ T.1 = (B j).1 ∧ Xt (B j) T ∧ ∀ i, i < j → Xt (B i) T
  | 0, V, _ => Or.inl ⟨rfl, fun j h => absurd h (Nat.not_lt_zero j)⟩
  | c + 1, V, h => by
    obtain ⟨b1, b2, b3, b4⟩ := h.2 c (Nat.lt_succ_self c)
    have hle : (B c).2.1 ≤ V.2.1 := b2.1
    have hx : ∀ i, i < c → Xt (B i) (undoV V (K.2.2.1 c)) := fun i hi => by
      rw [← b3]
      exact Xt.undo (h.2 i (by omega)).1 h.1 (h.2 i (by omega)).2.1 (b4 i hi).1 hle
    rcases e : K.2.2.2 c with _ | _
    · refine Or.inr ⟨c, undoV V (K.2.2.1 c), by omega, e, fun i h1 h2 => absurd h1 (by omega), gbF_1 e, h.1.undo _, ?_, ?_, hx⟩
      · rw [← b3]; exact undo_base b1 h.1 b2
      · rw [← b3]; exact Xt.undo b1 h.1 b2 (Nat.le_refl _) hle
    · rw [gbF_2 e]
      have h2 : Lw c (undoV V (K.2.2.1 c)) K B := ⟨h.1.undo _, fun j hj => ⟨(h.2 j (by omega)).1, hx j hj, (h.2 j (by omega)).2.2⟩⟩
      rcases gb_spec c _ h2 with ⟨g1, g2⟩ | ⟨j, T, g1, g2, g3, g4⟩
      · refine Or.inl ⟨g1, fun j hj => ?_⟩
        by_cases q : j = c
        · rw [q]; exact e
        · exact g2 j (by omega)
      · refine Or.inr ⟨j, T, by omega, g2, fun i h1 h2 => ?_, g4⟩
        by_cases q : i = c
        · rw [q]; exact e
        · exact g3 i h1 (by omega)
def Lv (n : Nat) (V : VS) (K : KS) (B : Nat → VS) : Prop := Lw K.1 V K B ∧ K.1 + unset V.1 (n + 5) ≤ n + 5 ∧ ∀ j, j < K.1 → (B j).1 (K.2.1 j) = none ∧ (∃ p, p < n + 5 ∧ K.2.1 j = pos p ∧ ∀ q, q < p → (B j).1 (pos q) ≠ none) ∧ j + unset (B j).1 (n + 5) ≤ n + 5
theorem Lv.grow {n : Nat} {V F : VS} {K : KS} {B : Nat → VS} (h : Lv n V K B) (hF : okV F) (hX : Xt V F) : Lv n F K B := by
  have h1 := h.2.1
  have h2 := unset_mono hX.2.2.1 (n + 5)
  exact ⟨⟨hF, fun j hj => ⟨(h.1.2 j hj).1, (h.1.2 j hj).2.1.tr hX, (h.1.2 j hj).2.2⟩⟩, by omega, h.2.2⟩
theorem Lv.choose {n : Nat} (hn : n < 7) {F : VS} {K : KS} {B : Nat → VS} (h : Lv n F K B) {a : Nat} (hc : chooseAt F.1 n = some a) : Lv n (putF F a false) (pushK F K a) (va_up B K.1 F) := by
  obtain ⟨p, hp, rfl, hv, hq⟩ := choose_first hc
  have ha2 : pos p < 112 := pos_lt hn hp
  have hm := Mo.put F ha2 false
  have hu := unset_lt hm.1.2.2.1 hv (put_new (b := false) hv) (n + 5) hp
  have h21 := h.2.1
  refine ⟨⟨h.1.1.put ha2 _, fun j hj => ?_⟩, ?_, fun j hj => ?_⟩
  · have hj : j < K.1 + 1 := hj
    show okV (va_up B K.1 F j) ∧ Xt (va_up B K.1 F j) (putF F (pos p) false) ∧ (va_up B K.1 F j).2.1 = va_up K.2.2.1 K.1 F.2.1 j ∧ ∀ i, i < j → Xt (va_up B K.1 F i) (va_up B K.1 F j)
    by_cases e : j = K.1
    · rw [e, va_up_self, va_up_self]
      refine ⟨h.1.1, hm.1, rfl, fun i hi => ?_⟩
      rw [va_up_ne _ _ (by omega)]
      exact (h.1.2 i hi).2.1
    · obtain ⟨b1, b2, b3, b4⟩ := h.1.2 j (by omega)
      rw [va_up_ne _ _ e, va_up_ne _ _ e]
      refine ⟨b1, b2.tr hm.1, b3, fun i hi => ?_⟩
      rw [va_up_ne _ _ (by omega)]
      exact b4 i hi
  · show K.1 + 1 + unset (putF F (pos p) false).1 (n + 5) ≤ n + 5
    omega
  · have hj : j < K.1 + 1 := hj
    show (va_up B K.1 F j).1 (va_up K.2.1 K.1 (pos p) j) = none ∧ (∃ p', p' < n + 5 ∧ va_up K.2.1 K.1 (pos p) j = pos p' ∧ ∀ q, q < p' → (va_up B K.1 F j).1 (pos q) ≠ none) ∧ j + unset (va_up B K.1 F j).1 (n + 5) ≤ n + 5
    by_cases e : j = K.1
    · rw [e, va_up_self, va_up_self]
      exact ⟨hv, ⟨p, hp, rfl, hq⟩, h21⟩
    · rw [va_up_ne _ _ e, va_up_ne _ _ e]
      exact h.2.2 j (by omega)
theorem unbr_x (T : VS) : Xt T (unbr T) := ⟨Nat.le_refl _, fun _ _ => rfl, fun _ _ h => h, fun _ _ => rfl⟩
theorem Lv.back {n : Nat} (hn : n < 7) {F : VS} {K : KS} {B : Nat → VS} (h : Lv n F K B) {j : Nat} {T : VS} (hj : j < K.1) (o1 : okV T) (e1 : T.1 = (B j).1) (x1 : Xt (B j) T) (x2 : ∀ i, i < j → Xt (B i) T) : Lv n (putF (unbr T) (K.2.1 j) true) (j + 1, K.2.1, K.2.2.1, va_up K.2.2.2 j true) B := by
  obtain ⟨n1, ⟨p, hp, ha, hq⟩, n3⟩ := h.2.2 j hj
  have ha2 : K.2.1 j < 112 := by rw [ha]; exact pos_lt hn hp
  have hm := Mo.put (unbr T) ha2 true
  have hv : (unbr T).1 (K.2.1 j) = none := by
    show T.1 (K.2.1 j) = none
    rw [e1]; exact n1
  have hs := put_new (b := true) hv
  have hlt := unset_lt hm.1.2.2.1 (i := p) (by rw [← ha]; exact hv) (b := true) (by rw [← ha]; exact hs) (n + 5) hp
  have hue : unset (unbr T).1 (n + 5) = unset (B j).1 (n + 5) := by
    show unset T.1 (n + 5) = _
    rw [e1]
  refine ⟨⟨(o1.unbr).put ha2 _, fun i hi => ?_⟩, ?_, fun i hi => ?_⟩
  · have hi : i < j + 1 := hi
    obtain ⟨b1, b2, b3, b4⟩ := h.1.2 i (by omega)
    refine ⟨b1, ?_, b3, b4⟩
    by_cases e : i = j
    · rw [e]; exact x1.tr ((unbr_x T).tr hm.1)
    · exact (x2 i (by omega)).tr ((unbr_x T).tr hm.1)
  · show j + 1 + unset (putF (unbr T) (K.2.1 j) true).1 (n + 5) ≤ n + 5
    omega
  · have hi : i < j + 1 := hi
    exact h.2.2 i (by omega)
/-- what the walk of a search asks -/
theorem sok {C : CS} (hC : okC C) : SOK C := by
  intro P V K hP
  refine ⟨fun V1 K1 => ∃ B, Lv P.1 V1 K1 B, ?_, ?_, ?_, ?_⟩
  · refine ⟨fun _ => V, ⟨⟨dem_ok hC hP (okV.openV V hP), fun j hj => absurd hj (Nat.not_lt_zero j)⟩, ?_, fun j hj => absurd hj (Nat.not_lt_zero j)⟩⟩
    show 0 + unset _ (P.1 + 5) ≤ P.1 + 5
    have := unset_le (demandF C P (openV V P.1)).1 (P.1 + 5)
    omega
  · rintro V1 K1 ⟨B, h⟩
    have h1 := h.2.1
    refine ⟨h.1.1, by omega, fun j hj => ?_⟩
    obtain ⟨n1, ⟨p, hp, ha, hq⟩, n3⟩ := h.2.2 j hj
    obtain ⟨b1, b2, b3, b4⟩ := h.1.2 j hj
    refine ⟨by rw [ha]; exact pos_lt hP hp, ?_⟩
    rw [← b3]
    exact b1.le
  · rintro V1 K1 ⟨B, h⟩ hw hg
    have h := h.grow (h.1.1.follow hC hP) (Mo.follow hC hP V1).1
    rcases gb_spec K1.1 _ h.1 with ⟨g1, -⟩ | ⟨j, T, g1, g2, g3, g4, g5, g6, g7, g8⟩
    · rw [g1] at hg; cases hg
    · rw [g4]
      exact ⟨B, h.back hP g1 g5 g6 g7 g8⟩
  · rintro V1 K1 a ⟨B, h⟩ hw hc
    have h := h.grow (h.1.1.follow hC hP) (Mo.follow hC hP V1).1
    exact ⟨_, h.choose hP hc⟩
end
section
/-! THE PLAIN LAW, 5: the search answers with the first run that is looked for -/
set_option maxRecDepth 100000
theorem anyb_no {q : Nat → Bool} {n : Nat} (h : ∀ i, i < n → q i = false) : anyb q n = false := by
  rcases e : anyb q n with _ | _
  · rfl
  · obtain ⟨i, h1, h2⟩ := (anyb_iff q n).mp e
    rw [h i h1] at h2
    cases h2
theorem anyb_out {q : Nat → Bool} {n : Nat} (h : anyb q n = false) {i : Nat} (hi : i < n) : q i = false := by
  rcases e : q i with _ | _
  · rfl
  · rw [anyb_hit hi e] at h
    cases h
theorem same_at {v : Nat → Option Bool} {f q i : Nat} (h : sameF v f q = true) (hi : i < 4) : v (16 * f + (1 + i)) ≠ none ∧ v (16 * f + (1 + i)) = v (16 * q + (1 + i)) := by
  unfold sameF at h
  rcases e : anyb (fun i => !sameAt v f q (1 + i)) 4 with _ | _
  · have z := anyb_out e hi
    have z : sameAt v f q (1 + i) = true := by simpa using z
    exact of_decide_eq_true z
  · rw [e] at h
    cases h
theorem pow_32 (n : Nat) : 2 ^ (n + 5) = 32 * 2 ^ n := by
  simp only [Nat.pow_succ]
  omega
/-- a contradiction, or two like states: no run that is looked for goes through here -/
theorem wrong_none {C : CS} {P : PS} (hP : P.1 < 7) {N : Nat} (hN : N < 32 * 2 ^ P.1) (hg : goodP C P N) {F : VS} (h : Sd C P.1 N F) : wrongF P F = false := by
  unfold wrongF
  rw [h.1]
  rcases e : P.2.2 with _ | _
  · rfl
  · rcases r : repF F.1 P.1 with _ | _
    · rfl
    · exfalso
      unfold repF at r
      obtain ⟨f, hf, r⟩ := (anyb_iff _ _).mp r
      obtain ⟨q, hq, r⟩ := (anyb_iff _ _).mp r
      refine hg.2.2 e f q (by omega) hq (bits_eq (D := 4) (stt_lt C hN f) (stt_lt C hN q) (fun j hj => ?_))
      obtain ⟨s1, s2⟩ := same_at r hj
      rcases z : F.1 (16 * f + (1 + j)) with _ | b
      · exact absurd z s1
      · rw [z] at s2
        have k1 := h.2 _ _ (by omega) z
        have k2 := h.2 _ _ (by omega) s2.symm
        rw [sim_at C P.1 N f _ (by omega), sgn_k C P.1 N f (by omega) (by omega), show 1 + j - 1 = j by omega] at k1
        rw [sim_at C P.1 N q _ (by omega), sgn_k C P.1 N q (by omega) (by omega), show 1 + j - 1 = j by omega] at k2
        rw [k1, k2]
/-- all places are set: one run -/
theorem leaf_run {C : CS} (hC : okC C) {n : Nat} {v : Nat → Option Bool} (hF : Fix C n v) (h0 : ∀ f, f ≤ n → v (16 * f) = some false) (hc : chooseAt v n = none) : ∃ N, N < 32 * 2 ^ n ∧ (∀ f, f ≤ n → ∀ k, k < 6 + C.1 → v (16 * f + k) = some (sgn C n N f k)) ∧ ∀ i, i < n + 5 → v (pos i) = some (sim C n N (pos i)) := by
  have h10 := hC.1
  obtain ⟨N, hN, hb⟩ := bits_ex (fun j => (v (pos (n + 4 - j))).getD false) (n + 5)
  have hp : ∀ i, i < n + 5 → v (pos i) = some (sim C n N (pos i)) := by
    intro i hi
    rw [sim_pos C n N hi, hb (n + 4 - i) (by omega), show n + 4 - (n + 4 - i) = i by omega]
    rcases e : v (pos i) with _ | b
    · exact absurd e (choose_none hc i hi)
    · rfl
  refine ⟨N, by rw [← pow_32]; exact hN, fun f hf k hk => ?_, hp⟩
  rw [← sim_at C n N f k (by omega)]
  exact fix_all hC hF h0 hp f hf (k + 1) k (by omega) hk
theorem leaf_good {C : CS} (hC : okC C) {P : PS} (hP : P.1 < 7) (V : VS) {F : VS} (hb : (demandF C P (openV V P.1)).2.2.2 = false) (hX : Xt (demandF C P (openV V P.1)) F) (hw : wrongF P F = false) {N : Nat} (hall : ∀ f, f ≤ P.1 → ∀ k, k < 6 + C.1 → F.1 (16 * f + k) = some (sgn C P.1 N f k)) : goodP C P N := by
  have hx := hC.2.2.2.2
  have ho := okV.openV V hP
  refine ⟨fun i hi => ?_, fun hf => ?_, fun hd i j hi hj e => ?_⟩
  · have e1 := hX.2.2.1 _ _ (demand_bad hC hP ho hb hi)
    rw [hall i hi (cX C / 2) (by omega)] at e1
    have e1 := Option.some.inj e1
    unfold badN mof
    rw [e1]
    cases decide (i = P.1) <;> cases par (cX C) <;> rfl
  · unfold begM
    rw [anyb_no (n := 4) (fun i hi => ?_)]
    · rfl
    · have hB := hC.2.2.2.1 (1 + i) (by omega) (by omega)
      have : begAt C (N / 2 ^ (P.1 + 1)) (1 + i) = true := by
        unfold begAt
        refine decide_eq_true ?_
        by_cases q : cB C (1 + i) < 2
        · right
          have e1 := hX.2.2.1 _ _ (demand_beg hC hP ho hb hf (k := 1 + i) (by omega) (by omega) q)
          have e2 := hall 0 (Nat.zero_le _) (1 + i) (by omega)
          rw [show 16 * 0 + (1 + i) = 1 + i by omega, sgn_k C P.1 N 0 (by omega) (by omega), e1] at e2
          have e2 : decide (cB C (1 + i) = 1) = bitF (N / 2 ^ (P.1 + 1)) (1 + i - 1) := Option.some.inj e2
          rw [← e2]
          rcases (show cB C (1 + i) = 0 ∨ cB C (1 + i) = 1 by omega) with z | z <;> rw [z] <;> rfl
        · left; omega
      rw [this]; rfl
  · have : wrongF P F = true := by
      refine wrong_2 hd ?_
      unfold repF
      refine (anyb_iff _ _).mpr ⟨i, by omega, (anyb_iff _ _).mpr ⟨j, hj, ?_⟩⟩
      unfold sameF
      rw [anyb_no (n := 4) (fun k hk => ?_)]
      · rfl
      · have q1 := hall i hi (1 + k) (by omega)
        have q2 := hall j (by omega) (1 + k) (by omega)
        have : sameAt F.1 i j (1 + k) = true := by
          unfold sameAt
          refine decide_eq_true ⟨by rw [q1]; simp, ?_⟩
          rw [q1, q2, sgn_k C P.1 N i (by omega) (by omega), sgn_k C P.1 N j (by omega) (by omega), e]
        rw [this]; rfl
    rw [this] at hw
    cases hw
/-- which runs are still to be looked at: those that go on from here, and those of the choices not yet turned -/
def Lg (C : CS) (P : PS) (V0 V : VS) (K : KS) (B : Nat → VS) : Prop :=
  (∀ N, N < 32 * 2 ^ P.1 → goodP C P N → Sd C P.1 N V ∨ ∃ j, j < K.1 ∧ K.2.2.2 j = false ∧ Sd C P.1 N (B j) ∧ sim C P.1 N (K.2.1 j) = true) ∧
  (∀ j, j < K.1 → K.2.2.2 j = false → V.1 (K.2.1 j) = some false ∧ ∀ i, j < i → i < K.1 → (B i).1 (K.2.1 j) = some false) ∧
  Xt V0 V ∧ ∀ j, j < K.1 → Xt V0 (B j)
theorem Lg.grow {C : CS} (hC : okC C) {P : PS} (hP : P.1 < 7) {V0 V : VS} {K : KS} {B : Nat → VS} (h : Lg C P V0 V K B) : Lg C P V0 (followA C P.1 V) K B := by
  have hm := (Mo.follow hC hP V).1
  refine ⟨fun N hN hg => ?_, fun j hj ht => ⟨hm.2.2.1 _ _ (h.2.1 j hj ht).1, (h.2.1 j hj ht).2⟩, h.2.2.1.tr hm, h.2.2.2⟩
  rcases h.1 N hN hg with q | q
  · exact Or.inl (Sd.follow hC hP q)
  · exact Or.inr q
theorem Lg.choose {C : CS} {P : PS} (hP : P.1 < 7) {V0 F : VS} {K : KS} {B : Nat → VS} (h : Lg C P V0 F K B) {a : Nat} (hc : chooseAt F.1 P.1 = some a) : Lg C P V0 (putF F a false) (pushK F K a) (va_up B K.1 F) := by
  obtain ⟨hv, ha⟩ := choose_spec hP hc
  have hm := (Mo.put F ha false).1
  refine ⟨fun N hN hg => ?_, fun j hj ht => ?_, h.2.2.1.tr hm, fun j hj => ?_⟩
  · rcases h.1 N hN hg with q | ⟨j, q1, q2, q3, q4⟩
    · rcases e : sim C P.1 N a with _ | _
      · exact Or.inl (Sd.put q ha e)
      · refine Or.inr ⟨K.1, Nat.lt_succ_self K.1, va_up_self _ _ _, ?_, ?_⟩
        · rw [va_up_self]; exact q
        · show sim C P.1 N (va_up K.2.1 K.1 a K.1) = true
          rw [va_up_self]; exact e
    · refine Or.inr ⟨j, Nat.lt_succ_of_lt q1, ?_, ?_, ?_⟩
      · show va_up K.2.2.2 K.1 false j = false
        rw [va_up_ne _ _ (by omega)]; exact q2
      · rw [va_up_ne _ _ (by omega)]; exact q3
      · show sim C P.1 N (va_up K.2.1 K.1 a j) = true
        rw [va_up_ne _ _ (by omega)]; exact q4
  · have hj : j < K.1 + 1 := hj
    have ht : va_up K.2.2.2 K.1 false j = false := ht
    show (putF F a false).1 (va_up K.2.1 K.1 a j) = some false ∧ ∀ i, j < i → i < K.1 + 1 → (va_up B K.1 F i).1 (va_up K.2.1 K.1 a j) = some false
    by_cases e : j = K.1
    · rw [e, va_up_self]
      exact ⟨put_new hv, fun i h1 h2 => absurd h1 (by omega)⟩
    · rw [va_up_ne _ _ e] at ht
      rw [va_up_ne _ _ e]
      obtain ⟨r1, r2⟩ := h.2.1 j (by omega) ht
      refine ⟨hm.2.2.1 _ _ r1, fun i h1 h2 => ?_⟩
      by_cases z : i = K.1
      · rw [z, va_up_self]; exact r1
      · rw [va_up_ne _ _ z]; exact r2 i h1 (by omega)
  · have hj : j < K.1 + 1 := hj
    by_cases e : j = K.1
    · rw [e, va_up_self]; exact h.2.2.1
    · rw [va_up_ne _ _ e]; exact h.2.2.2 j (by omega)
theorem Lg.back {C : CS} {P : PS} {V0 F : VS} {K : KS} {B : Nat → VS} (h : Lg C P V0 F K B) (hw : ∀ N, N < 32 * 2 ^ P.1 → goodP C P N → ¬ Sd C P.1 N F) {j : Nat} {T : VS} (hj : j < K.1) (ha : K.2.1 j < 112) (htt : ∀ i, j < i → i < K.1 → K.2.2.2 i = true) (e1 : T.1 = (B j).1) (x1 : Xt (B j) T) : Lg C P V0 (putF (unbr T) (K.2.1 j) true) (j + 1, K.2.1, K.2.2.1, va_up K.2.2.2 j true) B := by
  have hm := (unbr_x T).tr (Mo.put (unbr T) ha true).1
  refine ⟨fun N hN hg => ?_, fun i hi ht => ?_, (h.2.2.2 j hj).tr (x1.tr hm), fun i hi => ?_⟩
  · rcases h.1 N hN hg with q | ⟨i, q1, q2, q3, q4⟩
    · exact absurd q (hw N hN hg)
    · by_cases c1 : j < i
      · rw [htt i c1 q1] at q2; cases q2
      · by_cases c2 : i = j
        · rw [c2] at q3 q4
          refine Or.inl (Sd.put (V := unbr T) ⟨rfl, fun a b hA hb => q3.2 a b hA ?_⟩ ha q4)
          have hb : T.1 a = some b := hb
          rw [← e1]; exact hb
        · refine Or.inr ⟨i, by show i < j + 1; omega, ?_, q3, q4⟩
          show va_up K.2.2.2 j true i = false
          rw [va_up_ne _ _ c2]; exact q2
  · have hi : i < j + 1 := hi
    have ht : va_up K.2.2.2 j true i = false := ht
    by_cases e : i = j
    · rw [e, va_up_self] at ht; cases ht
    · rw [va_up_ne _ _ e] at ht
      obtain ⟨r1, r2⟩ := h.2.1 i (by omega) ht
      refine ⟨hm.2.2.1 _ _ ?_, fun k h1 h2 => r2 k h1 (by have h2 : k < j + 1 := h2; omega)⟩
      rw [e1]
      exact r2 j (by omega) hj
  · have hi : i < j + 1 := hi
    exact h.2.2.2 i (by omega)
/-! how many steps are left -/
def pend (B : Nat → VS) (t : Nat → Bool) (m : Nat) : Nat → Nat
  | 0 => 0
  | j + 1 => pend B t m j + (if t j = false then 2 ^ unset (B j).1 m - 1 else 0)
theorem pend_eq {B B' : Nat → VS} {t t' : Nat → Bool} {m : Nat} : ∀ c, (∀ j, j < c → B j = B' j ∧ t j = t' j) → pend B t m c = pend B' t' m c
  | 0, _ => rfl
  | c + 1, h => by
    rw [pend, pend, pend_eq c (fun j hj => h j (by omega)), (h c (by omega)).1, (h c (by omega)).2]
theorem pend_mono {B : Nat → VS} {t : Nat → Bool} {m j : Nat} : ∀ c, j ≤ c → pend B t m j ≤ pend B t m c
  | 0, h => by rw [show j = 0 by omega]; exact Nat.le_refl _
  | c + 1, h => by
    by_cases e : j = c + 1
    · rw [e]; exact Nat.le_refl _
    · have := pend_mono (B := B) (t := t) (m := m) c (show j ≤ c by omega)
      rw [pend]; omega
def phi (n : Nat) (V : VS) (K : KS) (B : Nat → VS) : Nat := 2 ^ (unset V.1 (n + 5) + 1) - 1 + pend B K.2.2.2 (n + 5) K.1
theorem phi_pos (n : Nat) (V : VS) (K : KS) (B : Nat → VS) : 0 < phi n V K B := by
  unfold phi
  have := Nat.two_pow_pos (unset V.1 (n + 5))
  rw [Nat.pow_succ]
  omega
theorem phi_grow {n : Nat} {V F : VS} {K : KS} {B : Nat → VS} (hX : Xt V F) : phi n F K B ≤ phi n V K B := by
  have h := unset_mono hX.2.2.1 (n + 5)
  have := Nat.pow_le_pow_right (n := 2) (by decide) (show unset F.1 (n + 5) + 1 ≤ unset V.1 (n + 5) + 1 by omega)
  unfold phi
  omega
theorem phi_choose {n : Nat} (hn : n < 7) {F : VS} {K : KS} {B : Nat → VS} {a : Nat} (hc : chooseAt F.1 n = some a) : phi n (putF F a false) (pushK F K a) (va_up B K.1 F) + 1 ≤ phi n F K B := by
  obtain ⟨p, hp, rfl, hv, hq⟩ := choose_first hc
  have ha2 : pos p < 112 := pos_lt hn hp
  have hm := Mo.put F ha2 false
  have hu := unset_lt hm.1.2.2.1 hv (put_new (b := false) hv) (n + 5) hp
  have h1 := Nat.pow_le_pow_right (n := 2) (by decide) hu
  have h2 := Nat.two_pow_pos (unset F.1 (n + 5))
  have h3 : pend (va_up B K.1 F) (va_up K.2.2.2 K.1 false) (n + 5) K.1 = pend B K.2.2.2 (n + 5) K.1 := pend_eq K.1 (fun j hj => ⟨va_up_ne _ _ (by omega), va_up_ne _ _ (by omega)⟩)
  have h4 : pend (va_up B K.1 F) (va_up K.2.2.2 K.1 false) (n + 5) (K.1 + 1) = pend B K.2.2.2 (n + 5) K.1 + (2 ^ unset F.1 (n + 5) - 1) := by
    rw [pend, h3, va_up_self, va_up_self, if_pos rfl]
  show 2 ^ (unset (putF F (pos p) false).1 (n + 5) + 1) - 1 + pend (va_up B K.1 F) (va_up K.2.2.2 K.1 false) (n + 5) (K.1 + 1) + 1 ≤ 2 ^ (unset F.1 (n + 5) + 1) - 1 + pend B K.2.2.2 (n + 5) K.1
  rw [h4, Nat.pow_succ 2 (unset F.1 (n + 5))]
  omega
theorem phi_back {n : Nat} (hn : n < 7) {F : VS} {K : KS} {B : Nat → VS} (h : Lv n F K B) {j : Nat} {T : VS} (hj : j < K.1) (ht : K.2.2.2 j = false) (e1 : T.1 = (B j).1) : phi n (putF (unbr T) (K.2.1 j) true) (j + 1, K.2.1, K.2.2.1, va_up K.2.2.2 j true) B + 1 ≤ phi n F K B := by
  obtain ⟨n1, ⟨p, hp, ha, hq⟩, n3⟩ := h.2.2 j hj
  have ha2 : K.2.1 j < 112 := by rw [ha]; exact pos_lt hn hp
  have hm := Mo.put (unbr T) ha2 true
  have hv : (unbr T).1 (K.2.1 j) = none := by
    show T.1 (K.2.1 j) = none
    rw [e1]; exact n1
  have hs := put_new (b := true) hv
  have hlt := unset_lt hm.1.2.2.1 (i := p) (by rw [← ha]; exact hv) (b := true) (by rw [← ha]; exact hs) (n + 5) hp
  have hue : unset (unbr T).1 (n + 5) = unset (B j).1 (n + 5) := by
    show unset T.1 (n + 5) = _
    rw [e1]
  rw [hue] at hlt
  have h1 := Nat.pow_le_pow_right (n := 2) (by decide) hlt
  have h2 := Nat.two_pow_pos (unset F.1 (n + 5))
  have h5 := Nat.two_pow_pos (unset (B j).1 (n + 5))
  have h3 : pend B (va_up K.2.2.2 j true) (n + 5) j = pend B K.2.2.2 (n + 5) j := pend_eq j (fun i hi => ⟨rfl, va_up_ne _ _ (by omega)⟩)
  have h4 : pend B (va_up K.2.2.2 j true) (n + 5) (j + 1) = pend B K.2.2.2 (n + 5) j := by
    rw [pend, h3, va_up_self, if_neg (by simp)]
    rfl
  have h6 : pend B K.2.2.2 (n + 5) (j + 1) = pend B K.2.2.2 (n + 5) j + (2 ^ unset (B j).1 (n + 5) - 1) := by
    rw [pend, if_pos ht]
  have h7 := pend_mono (B := B) (t := K.2.2.2) (m := n + 5) K.1 (show j + 1 ≤ K.1 by omega)
  show 2 ^ (unset (putF (unbr T) (K.2.1 j) true).1 (n + 5) + 1) - 1 + pend B (va_up K.2.2.2 j true) (n + 5) (j + 1) + 1 ≤ 2 ^ (unset F.1 (n + 5) + 1) - 1 + pend B K.2.2.2 (n + 5) K.1
  rw [h4, Nat.pow_succ 2 (unset F.1 (n + 5))]
  omega
/-- what a search answers -/
def Res (C : CS) (P : PS) (r : Bool × VS × KS) : Prop := (r.1 = false ∧ ∀ N, N < 32 * 2 ^ P.1 → ¬ goodP C P N) ∨ (r.1 = true ∧ ∃ N, N < 32 * 2 ^ P.1 ∧ goodP C P N ∧ (∀ M, M < N → ¬ goodP C P M) ∧ ∀ f, f ≤ P.1 → ∀ k, k < 6 + C.1 → r.2.1.1 (16 * f + k) = some (sgn C P.1 N f k))
theorem srch_ok {C : CS} (hC : okC C) {P : PS} (hP : P.1 < 7) (Vz : VS) (hb : (demandF C P (openV Vz P.1)).2.2.2 = false) : ∀ (k : Nat) (V : VS) (K : KS) (B : Nat → VS), Lv P.1 V K B → Lg C P (demandF C P (openV Vz P.1)) V K B → phi P.1 V K B ≤ k → Res C P (srch C P k V K)
  | 0, V, K, B, _, _, h3 => absurd (phi_pos P.1 V K B) (by omega)
  | k + 1, V, K, B, h1, h2, h3 => by
    have hV := h1.1.1
    have hoF : okV (followA C P.1 V) := hV.follow hC hP
    have hXF := (Mo.follow hC hP V).1
    have h1 := h1.grow hoF hXF
    have h2 := h2.grow hC hP
    have h3 := Nat.le_trans (phi_grow (n := P.1) (K := K) (B := B) hXF) h3
    rcases hw : wrongF P (followA C P.1 V) with _ | _
    · have hbF : (followA C P.1 V).2.2.2 = false := by
        rcases e : (followA C P.1 V).2.2.2 with _ | _
        · rfl
        · rw [wrong_1 e] at hw; cases hw
      rcases hc : chooseAt (followA C P.1 V).1 P.1 with _ | a
      · rw [srch_3 hw hc]
        have h0 : ∀ f, f ≤ P.1 → (followA C P.1 V).1 (16 * f) = some false := fun f hf => h2.2.2.1.2.2.1 _ _ ((Mo.dem hC hP (openV Vz P.1)).1.2.2.1 _ _ (open_0 Vz hP ((Mo.dem hC hP (openV Vz P.1)).low hb) hf))
        obtain ⟨N, hN, hall, hp⟩ := leaf_run hC (follow_fix hC hP hV hbF) h0 hc
        have hg := leaf_good hC hP Vz hb h2.2.2.1 hw hall
        refine Or.inr ⟨rfl, N, hN, hg, fun M hM hgM => ?_, hall⟩
        have hM32 : M < 2 ^ (P.1 + 5) := by rw [pow_32]; omega
        have hN32 : N < 2 ^ (P.1 + 5) := by rw [pow_32]; omega
        rcases h2.1 M (by omega) hgM with q | ⟨j, q1, q2, q3, q4⟩
        · have : M = N := by
            refine bits_eq hM32 hN32 (fun i hi => ?_)
            have e1 := q.2 _ _ (pos_lt hP (show P.1 + 4 - i < P.1 + 5 by omega)) (hp _ (by omega))
            rw [sim_pos C P.1 M (by omega), sim_pos C P.1 N (by omega), show P.1 + 4 - (P.1 + 4 - i) = i by omega] at e1
            exact e1
          omega
        · obtain ⟨-, ⟨p, hp1, hp2, hp3⟩, -⟩ := h1.2.2 j q1
          have hf := (h2.2.1 j q1 q2).1
          rw [hp2] at q4 hf
          rw [hp p hp1] at hf
          have hf := Option.some.inj hf
          rw [sim_pos C P.1 N hp1] at hf
          rw [sim_pos C P.1 M hp1] at q4
          have : N < M := by
            refine lex_lt hN32 hM32 hf q4 (fun i i1 i2 => ?_)
            have hi : P.1 + 4 - i < p := by omega
            rcases z : (B j).1 (pos (P.1 + 4 - i)) with _ | b
            · exact absurd z (hp3 _ hi)
            · have z1 := q3.2 _ _ (pos_lt hP (by omega)) z
              have z2 := (h1.1.2 j q1).2.1.2.2.1 _ _ z
              rw [hp _ (by omega)] at z2
              have z2 := Option.some.inj z2
              rw [sim_pos C P.1 _ (by omega), show P.1 + 4 - (P.1 + 4 - i) = i by omega] at z1 z2
              rw [z1, z2]
          omega
      · rw [srch_4 hw hc]
        have h4 := phi_choose (K := K) (B := B) hP hc
        exact srch_ok hC hP Vz hb k _ _ _ (h1.choose hP hc) (h2.choose hP hc) (by omega)
    · have hno : ∀ N, N < 32 * 2 ^ P.1 → goodP C P N → ¬ Sd C P.1 N (followA C P.1 V) := fun N hN hg hs => by
        rw [wrong_none hP hN hg hs] at hw; cases hw
      rcases gb_spec K.1 _ h1.1 with ⟨g1, g2⟩ | ⟨j, T, g1, g2, g3, g4, g5, g6, g7, g8⟩
      · rw [srch_2 hw g1]
        refine Or.inl ⟨g1, fun N hN hg => ?_⟩
        rcases h2.1 N hN hg with q | ⟨j, q1, q2, q3, q4⟩
        · exact hno N hN hg q
        · rw [g2 j q1] at q2; cases q2
      · rw [srch_1 hw (by rw [g4]), g4]
        have h4 := phi_back hP h1 g1 g2 g6
        obtain ⟨-, ⟨p, hp1, hp2, hp3⟩, -⟩ := h1.2.2 j g1
        exact srch_ok hC hP Vz hb k _ _ _ (h1.back hP g1 g5 g6 g7 g8) (h2.back hno g1 (by rw [hp2]; exact pos_lt hP hp1) g3 g6 g7) (show phi P.1 (putF (unbr T) (K.2.1 j) true) (j + 1, K.2.1, K.2.2.1, va_up K.2.2.2 j true) B ≤ k by omega)
theorem search_ok {C : CS} (hC : okC C) {P : PS} (hP : P.1 < 7) (V : VS) (K : KS) : Res C P (searchF C P V K) := by
  rcases hb : (demandF C P (openV V P.1)).2.2.2 with _ | _
  · refine srch_ok hC hP V hb 5000 _ _ (fun _ => V) ⟨⟨dem_ok hC hP (okV.openV V hP), fun j hj => absurd hj (Nat.not_lt_zero j)⟩, ?_, fun j hj => absurd hj (Nat.not_lt_zero j)⟩ ⟨fun N hN hg => Or.inl (Sd.dem hC hP hg (Sd.opn C V hP)), fun j hj => absurd hj (Nat.not_lt_zero j), Xt.rf _, fun j hj => absurd hj (Nat.not_lt_zero j)⟩ ?_
    · show 0 + unset _ (P.1 + 5) ≤ P.1 + 5
      have := unset_le (demandF C P (openV V P.1)).1 (P.1 + 5)
      omega
    · show 2 ^ (unset (demandF C P (openV V P.1)).1 (P.1 + 5) + 1) - 1 + 0 ≤ 5000
      have h1 := unset_le (demandF C P (openV V P.1)).1 (P.1 + 5)
      have h2 := Nat.pow_le_pow_right (n := 2) (by decide) (show unset (demandF C P (openV V P.1)).1 (P.1 + 5) + 1 ≤ 12 by omega)
      have h3 : 2 ^ 12 = 4096 := by decide
      omega
  · have hF : followA C P.1 (demandF C P (openV V P.1)) = demandF C P (openV V P.1) := followF_stop (Or.inr (Or.inr hb))
    have e : searchF C P V K = gbF 0 (demandF C P (openV V P.1)) (0, K.2) := by
      have := srch_2 (C := C) (P := P) (k := 4999) (V := demandF C P (openV V P.1)) (K := (0, K.2)) (by rw [hF]; exact wrong_1 hb) rfl
      rw [hF] at this
      exact this
    rw [e]
    refine Or.inl ⟨rfl, fun N hN hg => ?_⟩
    have := (Sd.dem hC hP hg (Sd.opn C V hP)).1
    rw [hb] at this
    cases this
end
section
/-! THE PLAIN LAW, 6: the model finds the same -/
set_option maxRecDepth 100000
section RUNS
variable {C : CS} {n N i : Nat} {R : RS}
theorem run_1 (hC : okC C) (hr : R.2.1 = stt C n N i) : (runM C n (N % 2 ^ (n + 1)) i R).1 = (R.1 && (badN C n N i == decide (i = n))) := by
  have e1 : mof (workM C R.2.1 (bitF (N % 2 ^ (n + 1)) (n - i)) R.2.2.1) (cX C) = badN C n N i := by
    rw [hr]
    exact mof_sig hC _ _ _ hC.2.2.2.2
  show (R.1 && (mof (workM C R.2.1 (bitF (N % 2 ^ (n + 1)) (n - i)) R.2.2.1) (cX C) == decide (i = n))) = _
  rw [e1]
theorem run_2 (hC : okC C) (hr : R.2.1 = stt C n N i) : (runM C n (N % 2 ^ (n + 1)) i R).2.1 = stt C n N (i + 1) := by
  show stepM C (workM C R.2.1 (bitF (N % 2 ^ (n + 1)) (n - i)) (workM C R.2.1 (bitF (N % 2 ^ (n + 1)) (n - i)) R.2.2.1)) = _
  rw [hr]
  exact step_sig hC _ _ _
end RUNS
theorem run_spec {C : CS} (hC : okC C) (n N : Nat) (M : MS) : ∀ i, i ≤ n + 1 → ((itr (runM C n (N % 2 ^ (n + 1))) 0 i (true, N / 2 ^ (n + 1), M)).1 = true ↔ ∀ j, j < i → badN C n N j = decide (j = n)) ∧ (itr (runM C n (N % 2 ^ (n + 1))) 0 i (true, N / 2 ^ (n + 1), M)).2.1 = stt C n N i ∧ (∀ j, j < i → (itr (runM C n (N % 2 ^ (n + 1))) 0 i (true, N / 2 ^ (n + 1), M)).2.2.2.1 j = stt C n N j) ∧ (∀ j, j < i → (itr (runM C n (N % 2 ^ (n + 1))) 0 i (true, N / 2 ^ (n + 1), M)).2.2.2.2 j = xx n N j)
  | 0, _ => ⟨⟨fun _ j h => absurd h (Nat.not_lt_zero j), fun _ => rfl⟩, rfl, fun j h => absurd h (Nat.not_lt_zero j), fun j h => absurd h (Nat.not_lt_zero j)⟩
  | i + 1, hi => by
    obtain ⟨r1, r2, r3, r4⟩ := run_spec hC n N M i (by omega)
    have e : itr (runM C n (N % 2 ^ (n + 1))) 0 (i + 1) (true, N / 2 ^ (n + 1), M) = runM C n (N % 2 ^ (n + 1)) (0 + i) (itr (runM C n (N % 2 ^ (n + 1))) 0 i (true, N / 2 ^ (n + 1), M)) := rfl
    rw [e, show 0 + i = i by omega]
    generalize itr (runM C n (N % 2 ^ (n + 1))) 0 i (true, N / 2 ^ (n + 1), M) = R at r1 r2 r3 r4 ⊢
    refine ⟨?_, run_2 hC r2, fun j hj => ?_, fun j hj => ?_⟩
    · rw [run_1 hC r2, Bool.and_eq_true, r1, beq_iff_eq]
      constructor
      · rintro ⟨h1, h2⟩ j hj
        by_cases q : j = i
        · rw [q]; exact h2
        · exact h1 j (by omega)
      · intro h
        exact ⟨fun j hj => h j (by omega), h i (by omega)⟩
    · show va_up R.2.2.2.1 i R.2.1 j = _
      by_cases q : j = i
      · rw [q, va_up_self, r2]
      · rw [va_up_ne _ _ q]; exact r3 j (by omega)
    · show va_up R.2.2.2.2 i (bitF (N % 2 ^ (n + 1)) (n - i)) j = _
      by_cases q : j = i
      · rw [q, va_up_self]; rfl
      · rw [va_up_ne _ _ q]; exact r4 j (by omega)
theorem run_all {C : CS} (hC : okC C) (n N : Nat) (M : MS) : ((runR C n (N / 2 ^ (n + 1)) (N % 2 ^ (n + 1)) M).1 = true ↔ ∀ j, j ≤ n → badN C n N j = decide (j = n)) ∧ (∀ j, j ≤ n → (runR C n (N / 2 ^ (n + 1)) (N % 2 ^ (n + 1)) M).2.2.2.1 j = stt C n N j) ∧ (∀ j, j ≤ n → (runR C n (N / 2 ^ (n + 1)) (N % 2 ^ (n + 1)) M).2.2.2.2 j = xx n N j) := by
  obtain ⟨r1, r2, r3, r4⟩ := run_spec hC n N M (n + 1) (Nat.le_refl _)
  refine ⟨?_, fun j hj => r3 j (by omega), fun j hj => r4 j (by omega)⟩
  unfold runR
  rw [r1]
  exact ⟨fun h j hj => h j (by omega), fun h j hj => h j (by omega)⟩
theorem seen_iff (st : Nat → Nat) (b : Nat) : ∀ i, (seenF st i).testBit b = true ↔ ∃ j, j < i ∧ st j = b
  | 0 => by
    show (0 : Nat).testBit b = true ↔ _
    rw [Nat.zero_testBit]
    exact ⟨fun h => (by cases h), fun ⟨j, h, _⟩ => absurd h (Nat.not_lt_zero j)⟩
  | i + 1 => by
    show (seenF st i ||| 2 ^ st i).testBit b = true ↔ _
    rw [Nat.testBit_or, Bool.or_eq_true, seen_iff st b i, Nat.testBit_two_pow, decide_eq_true_iff]
    constructor
    · rintro (⟨j, h1, h2⟩ | h)
      · exact ⟨j, by omega, h2⟩
      · exact ⟨i, by omega, h⟩
    · rintro ⟨j, h1, h2⟩
      by_cases q : j = i
      · right; rw [← q]; exact h2
      · left; exact ⟨j, by omega, h2⟩
theorem diff_iff (st : Nat → Nat) (n : Nat) : diffM st n = true ↔ ∀ i j, i ≤ n → j < i → st i ≠ st j := by
  unfold diffM
  constructor
  · intro h i j hi hj e
    have h : anyb (fun i => (seenF st i).testBit (st i)) (n + 1) = false := by
      rcases q : anyb (fun i => (seenF st i).testBit (st i)) (n + 1) with _ | _
      · rfl
      · rw [q] at h; cases h
    have h := anyb_out h (i := i) (by omega)
    have h2 := (seen_iff st (st i) i).mpr ⟨j, hj, e.symm⟩
    rw [h2] at h
    cases h
  · intro h
    rw [anyb_no (fun i hi => ?_)]
    · rfl
    · rcases q : (seenF st i).testBit (st i) with _ | _
      · rfl
      · obtain ⟨j, h1, h2⟩ := (seen_iff st (st i) i).mp q
        exact absurd h2.symm (h i j (by omega) h1)
theorem found_step {C : CS} (hC : okC C) (n N : Nat) (M : MS) : (foundStep C n N M).1 = true ↔ goodP C (n, true, false) N := by
  obtain ⟨r1, -, -⟩ := run_all hC n N M
  rcases e : begM C (N / 2 ^ (n + 1)) with _ | _
  · rw [found_no e]
    refine ⟨fun h => (by cases h), fun h => ?_⟩
    have := h.2.1 rfl
    rw [e] at this
    cases this
  · rw [found_go e]
    exact ⟨fun h => ⟨r1.mp h, fun _ => e, fun h => (by cases h)⟩, fun h => r1.mpr h.1⟩
theorem hold_step {C : CS} (hC : okC C) (n N : Nat) (M : MS) : (holdStep C n N M).1 = true ↔ goodP C (n, false, true) N := by
  obtain ⟨r1, r2, -⟩ := run_all hC n N M
  unfold holdStep
  show ((runR C n (N / 2 ^ (n + 1)) (N % 2 ^ (n + 1)) M).1 && diffM (runR C n (N / 2 ^ (n + 1)) (N % 2 ^ (n + 1)) M).2.2.2.1 n) = true ↔ _
  rw [Bool.and_eq_true, r1, diff_iff]
  constructor
  · rintro ⟨h1, h2⟩
    refine ⟨h1, fun h => (by cases h), fun _ i j hi hj => ?_⟩
    have := h2 i j hi hj
    rw [r2 i hi, r2 j (by omega)] at this
    exact this
  · rintro ⟨h1, -, h3⟩
    refine ⟨h1, fun i j hi hj => ?_⟩
    rw [r2 i hi, r2 j (by omega)]
    exact h3 rfl i j hi hj
theorem first_ok {α : Type} {F : Nat → α → Bool × α} {g : Nat → Prop} (hg : ∀ i a, (F i a).1 = true ↔ g i) : ∀ (k n : Nat) (a : α), ((firstF F k n a).1 = false ∧ ∀ i, n ≤ i → i < n + k → ¬ g i) ∨ ∃ i b, n ≤ i ∧ i < n + k ∧ g i ∧ (∀ j, n ≤ j → j < i → ¬ g j) ∧ firstF F k n a = (true, (F i b).2)
  | 0, n, a => Or.inl ⟨rfl, fun i h1 h2 => absurd h1 (by omega)⟩
  | k + 1, n, a => by
    have e : firstF F (k + 1) n a = if (F n a).1 = true then (true, (F n a).2) else firstF F k (n + 1) (F n a).2 := rfl
    by_cases q : (F n a).1 = true
    · rw [if_pos q] at e
      exact Or.inr ⟨n, a, Nat.le_refl n, by omega, (hg n a).mp q, fun j h1 h2 => absurd h1 (by omega), e⟩
    · rw [if_neg q] at e
      have hn : ¬ g n := fun z => q ((hg n a).mpr z)
      rw [e]
      rcases first_ok hg k (n + 1) (F n a).2 with ⟨h1, h2⟩ | ⟨i, b, h1, h2, h3, h4, h5⟩
      · refine Or.inl ⟨h1, fun i i1 i2 => ?_⟩
        by_cases z : i = n
        · rw [z]; exact hn
        · exact h2 i (by omega) (by omega)
      · refine Or.inr ⟨i, b, by omega, by omega, h3, fun j j1 j2 => ?_, h5⟩
        by_cases z : j = n
        · rw [z]; exact hn
        · exact h4 j (by omega) j2
def EX (C : CS) (P : PS) : Prop := ∃ N, N < 32 * 2 ^ P.1 ∧ goodP C P N
theorem found_ok {C : CS} (hC : okC C) (n : Nat) (M : MS) : ((foundM C n M).1 = false ∧ ∀ N, N < 32 * 2 ^ n → ¬ goodP C (n, true, false) N) ∨ ((foundM C n M).1 = true ∧ ∃ N, N < 32 * 2 ^ n ∧ goodP C (n, true, false) N ∧ (∀ M, M < N → ¬ goodP C (n, true, false) M) ∧ ∀ i, i ≤ n → (foundM C n M).2.2.1 i = stt C n N i ∧ (foundM C n M).2.2.2 i = xx n N i) := by
  unfold foundM
  rcases first_ok (fun i a => found_step hC n i a) (32 * 2 ^ n) 0 M with ⟨h1, h2⟩ | ⟨N, b, h1, h2, h3, h4, h5⟩
  · exact Or.inl ⟨h1, fun N hN => h2 N (Nat.zero_le _) (by omega)⟩
  · rw [h5]
    refine Or.inr ⟨rfl, N, by omega, h3, fun j hj => h4 j (Nat.zero_le _) hj, fun i hi => ?_⟩
    obtain ⟨-, r2, r3⟩ := run_all hC n N b
    rw [found_go (h3.2.1 rfl)]
    exact ⟨r2 i hi, r3 i hi⟩
theorem hold_ok {C : CS} (hC : okC C) (n : Nat) (M : MS) : (holdM C n M).1 = true ↔ EX C (n, false, true) := by
  unfold holdM
  rcases first_ok (fun i a => hold_step hC n i a) (32 * 2 ^ n) 0 M with ⟨h1, h2⟩ | ⟨N, b, h1, h2, h3, h4, h5⟩
  · rw [h1]
    exact ⟨fun h => (by cases h), fun ⟨N, hN, hg⟩ => absurd hg (h2 N (Nat.zero_le _) (by have hN : N < 32 * 2 ^ n := hN; omega))⟩
  · rw [h5]
    exact ⟨fun _ => ⟨N, by show N < 32 * 2 ^ n; omega, h3⟩, fun _ => rfl⟩
theorem found_ex {C : CS} (hC : okC C) (n : Nat) (M : MS) : (foundM C n M).1 = true ↔ EX C (n, true, false) := by
  rcases found_ok hC n M with ⟨h1, h2⟩ | ⟨h1, N, h2, h3, -⟩
  · rw [h1]
    exact ⟨fun h => (by cases h), fun ⟨N, hN, hg⟩ => absurd hg (h2 N hN)⟩
  · rw [h1]
    exact ⟨fun _ => ⟨N, h2, h3⟩, fun _ => rfl⟩
theorem seek_ex {C : CS} (hC : okC C) {P : PS} (hP : P.1 < 7) (S : DS) : (seekF C P S).1 = true ↔ EX C P := by
  rcases search_ok hC hP S.2.1 S.2.2 with ⟨h1, h2⟩ | ⟨h1, N, h2, h3, -⟩
  · show (searchF C P S.2.1 S.2.2).1 = true ↔ _
    rw [h1]
    exact ⟨fun h => (by cases h), fun ⟨N, hN, hg⟩ => absurd hg (h2 N hN)⟩
  · show (searchF C P S.2.1 S.2.2).1 = true ↔ _
    rw [h1]
    exact ⟨fun _ => ⟨N, h2, h3⟩, fun _ => rfl⟩
theorem bool_eq {a b : Bool} {q : Prop} (h1 : a = true ↔ q) (h2 : b = true ↔ q) : a = b := by
  cases a <;> cases b
  · rfl
  · exact h1.mpr (h2.mp rfl)
  · exact (h2.mpr (h1.mp rfl)).symm
  · rfl
/-- the desk's values and the model's run -/
def Mat (n : Nat) (V : VS) (M : MS) : Prop := ∀ i, i ≤ n → M.2.1 i < 16 ∧ (∀ k, 1 ≤ k → k < 5 → V.1 (16 * i + k) = some (bitF (M.2.1 i) (k - 1))) ∧ V.1 (16 * i + 5) = some (M.2.2 i)
theorem seek_mat {C : CS} (hC : okC C) {n : Nat} (hn : n < 7) (S : DS) (M : MS) (h : (foundM C n M).1 = true) : Mat n (seekF C (n, true, false) S).2.2.1 (foundM C n M).2 := by
  rcases found_ok hC n M with ⟨h1, -⟩ | ⟨-, N, a1, a2, a3, a4⟩
  · rw [h1] at h; cases h
  rcases search_ok hC (P := (n, true, false)) hn S.2.1 S.2.2 with ⟨-, h2⟩ | ⟨-, N', b1, b2, b3, b4⟩
  · exact absurd a2 (h2 N a1)
  have e : N' = N := by
    rcases Nat.lt_trichotomy N' N with q | q | q
    · exact absurd b2 (a3 _ q)
    · exact q
    · exact absurd a2 (b3 _ q)
  subst e
  intro i hi
  obtain ⟨c1, c2⟩ := a4 i hi
  have b4 : ∀ f, f ≤ n → ∀ k, k < 6 + C.1 → (seekF C (n, true, false) S).2.2.1.1 (16 * f + k) = some (sgn C n N' f k) := b4
  rw [c1, c2]
  refine ⟨stt_lt C a1 i, fun k h1 h2 => ?_, ?_⟩
  · rw [b4 i hi k (by omega), sgn_k C n N' i h1 h2]
  · rw [b4 i hi 5 (by omega), sgn_5]
theorem depth_same {C : CS} (hC : okC C) : ∀ (k n : Nat) (S : DS) (M : MS), n + k ≤ 7 → (depthL C k n S).1 = (leastM C k n M).1 ∧ ∀ m, (leastM C k n M).1 = some m → m < n + k ∧ Mat m (depthL C k n S).2.2.1 (leastM C k n M).2
  | 0, n, S, M, _ => ⟨rfl, fun m h => by cases h⟩
  | k + 1, n, S, M, hk => by
    have e1 : depthL C (k + 1) n S = if (seekF C (n, true, false) S).1 = true then (some n, (seekF C (n, true, false) S).2) else depthL C k (n + 1) (seekF C (n, true, false) S).2 := rfl
    have e2 : leastM C (k + 1) n M = if (foundM C n M).1 = true then (some n, (foundM C n M).2) else leastM C k (n + 1) (foundM C n M).2 := rfl
    have e3 := bool_eq (seek_ex hC (P := (n, true, false)) (show n < 7 by omega) S) (found_ex hC n M)
    rw [e1, e2, e3]
    by_cases q : (foundM C n M).1 = true
    · rw [if_pos q, if_pos q]
      refine ⟨rfl, fun m h => ?_⟩
      cases h
      exact ⟨by omega, seek_mat hC (by omega) S M q⟩
    · rw [if_neg q, if_neg q]
      obtain ⟨i1, i2⟩ := depth_same hC k (n + 1) (seekF C (n, true, false) S).2 (foundM C n M).2 (by omega)
      exact ⟨i1, fun m h => ⟨by have := (i2 m h).1; omega, (i2 m h).2⟩⟩
theorem least_ex {C : CS} (hC : okC C) : ∀ (k n : Nat) (M : MS), (leastM C k n M).1 = none ↔ ∀ i, n ≤ i → i < n + k → ¬ EX C (i, true, false)
  | 0, n, M => ⟨fun _ i h1 h2 => absurd h1 (by omega), fun _ => rfl⟩
  | k + 1, n, M => by
    have e2 : leastM C (k + 1) n M = if (foundM C n M).1 = true then (some n, (foundM C n M).2) else leastM C k (n + 1) (foundM C n M).2 := rfl
    have hf := found_ex hC n M
    rw [e2]
    by_cases q : (foundM C n M).1 = true
    · rw [if_pos q]
      exact ⟨fun h => (by cases h), fun h => absurd (hf.mp q) (h n (Nat.le_refl n) (by omega))⟩
    · rw [if_neg q, least_ex hC k (n + 1)]
      constructor
      · intro h i h1 h2
        by_cases z : i = n
        · rw [z]; exact fun w => q (hf.mpr w)
        · exact h i (by omega) (by omega)
      · intro h i h1 h2
        exact h i (by omega) (by omega)
theorem proof_dead {C : CS} (hC : okC C) : ∀ (j k : Nat) (M : MS), (∃ i, i < k ∧ EX C (i, true, false)) → (proofM C j k M).1 = none
  | 0, _, _, _ => rfl
  | j + 1, k, M, h => by
    obtain ⟨i, hi, he⟩ := h
    have e : proofM C (j + 1) k M = if (holdM C k M).1 = false then (if k = 0 then (some k, (holdM C k M).2) else if (leastM C k 0 (holdM C k M).2).1 = none then (some k, (leastM C k 0 (holdM C k M).2).2) else proofM C j (k + 1) (leastM C k 0 (holdM C k M).2).2) else proofM C j (k + 1) (holdM C k M).2 := rfl
    rw [e]
    by_cases q : (holdM C k M).1 = false
    · rw [if_pos q, if_neg (by omega), if_neg (fun z => (least_ex hC k 0 _).mp z i (Nat.zero_le _) (by omega) he)]
      exact proof_dead hC j (k + 1) _ ⟨i, by omega, he⟩
    · rw [if_neg q]
      exact proof_dead hC j (k + 1) _ ⟨i, by omega, he⟩
theorem proof_same {C : CS} (hC : okC C) : ∀ (j k : Nat) (S : DS) (M : MS), k + j ≤ 7 → (∀ i, i < k → ¬ EX C (i, true, false)) → (proofL C j k S).1 = (proofM C j k M).1
  | 0, _, _, _, _, _ => rfl
  | j + 1, k, S, M, hk, h => by
    have e1 : proofL C (j + 1) k S = if (seekF C (k, false, true) S).1 = false then (some k, (seekF C (k, false, true) S).2) else if (seekF C (k, true, false) (seekF C (k, false, true) S).2).1 = true then (none, (seekF C (k, true, false) (seekF C (k, false, true) S).2).2) else proofL C j (k + 1) (seekF C (k, true, false) (seekF C (k, false, true) S).2).2 := rfl
    have e : proofM C (j + 1) k M = if (holdM C k M).1 = false then (if k = 0 then (some k, (holdM C k M).2) else if (leastM C k 0 (holdM C k M).2).1 = none then (some k, (leastM C k 0 (holdM C k M).2).2) else proofM C j (k + 1) (leastM C k 0 (holdM C k M).2).2) else proofM C j (k + 1) (holdM C k M).2 := rfl
    have hs := bool_eq (seek_ex hC (P := (k, false, true)) (show k < 7 by omega) S) (hold_ok hC k M)
    have hx := seek_ex hC (P := (k, true, false)) (show k < 7 by omega) (seekF C (k, false, true) S).2
    rw [e1, e, hs]
    by_cases q : (holdM C k M).1 = false
    · rw [if_pos q, if_pos q]
      by_cases k0 : k = 0
      · rw [if_pos k0]
      · rw [if_neg k0, if_pos ((least_ex hC k 0 _).mpr (fun i h1 h2 => h i (by omega)))]
    · rw [if_neg q, if_neg q]
      by_cases z : (seekF C (k, true, false) (seekF C (k, false, true) S).2).1 = true
      · rw [if_pos z, proof_dead hC j (k + 1) _ ⟨k, by omega, hx.mp z⟩]
      · rw [if_neg z]
        refine proof_same hC j (k + 1) _ _ (by omega) (fun i hi => ?_)
        by_cases w : i = k
        · rw [w]; exact fun y => z (hx.mpr y)
        · exact h i (by omega)
/-! the answers, one by one -/
theorem same_depth {C : CS} (hC : okC C) (x : Int32) (S : DS) (M : MS) : (depthD C x S).1 = (depthM C x M).1 := by
  rcases e : inT x 0 7 with _ | k
  · rw [depthD_none e, depthM_none e]
  · rw [depthD_some e, depthM_some e]
    obtain ⟨-, h, -⟩ := inT_some e (by decide)
    exact (depth_same hC (k + 1) 0 S M (by omega)).1
theorem same_holds {C : CS} (hC : okC C) (x : Int32) (S : DS) (M : MS) : (holdsD C x S).1 = (holdsM C x M).1 := by
  rcases e : inT x 0 7 with _ | k
  · rw [holdsD_none e, holdsM_none e]
  · rw [holdsD_some e, holdsM_some e]
    obtain ⟨-, h, -⟩ := inT_some e (by decide)
    show some (!(seekF C (k, false, true) S).1) = some (!(holdM C k M).1)
    rw [bool_eq (seek_ex hC (P := (k, false, true)) h S) (hold_ok hC k M)]
theorem same_proof {C : CS} (hC : okC C) (S : DS) (M : MS) : (proofL C 7 0 S).1 = (proofM C 7 0 M).1 := proof_same hC 7 0 S M (by omega) (fun i hi => absurd hi (Nat.not_lt_zero i))
theorem wit_16 : ∀ s, s < 16 → 0 + bitN (some (bitF s 0)) * 2 ^ 0 + bitN (some (bitF s 1)) * 2 ^ 1 + bitN (some (bitF s 2)) * 2 ^ 2 + bitN (some (bitF s 3)) * 2 ^ 3 = s := by decide
theorem same_wit {v : Nat → Option Bool} {i s : Nat} (hs : s < 16) (h : ∀ k, 1 ≤ k → k < 5 → v (16 * i + k) = some (bitF s (k - 1))) : witN v i = s := by
  have e : witN v i = 0 + bitN (v (16 * i + 1)) * 2 ^ 0 + bitN (v (16 * i + 2)) * 2 ^ 1 + bitN (v (16 * i + 3)) * 2 ^ 2 + bitN (v (16 * i + 4)) * 2 ^ 3 := rfl
  rw [e, h 1 (by omega) (by omega), h 2 (by omega) (by omega), h 3 (by omega) (by omega), h 4 (by omega) (by omega)]
  exact wit_16 s hs
theorem same_at6 {C : CS} (hC : okC C) (x : Int32) (S : DS) (M : MS) : atD x (depthL C 7 0 S) = atM x (leastM C 7 0 M) := by
  unfold atD atM
  rw [(depth_same hC 7 0 S M (by omega)).1]
  rfl
theorem at_mat {C : CS} (hC : okC C) {x : Int32} {S : DS} {M : MS} {i : Nat} (h : atM x (leastM C 7 0 M) = some i) : ∃ m, i ≤ m ∧ Mat m (depthL C 7 0 S).2.2.1 (leastM C 7 0 M).2 := by
  unfold atM at h
  rcases e : (leastM C 7 0 M).1 with _ | m
  · rw [e] at h; cases h
  · rw [e] at h
    obtain ⟨h1, h2⟩ := (depth_same hC 7 0 S M (by omega)).2 m e
    obtain ⟨-, h3, -⟩ := inT_some (show inT x 0 (m + 1) = some i from h) (by omega)
    exact ⟨m, by omega, h2⟩
theorem same_witness {C : CS} (hC : okC C) (x : Int32) (S : DS) (M : MS) : (witnessD C x S).1 = (witnessM C x M).1 := by
  have ha := same_at6 hC x S M
  unfold witnessD witnessM
  rw [ha]
  rcases e : atM x (leastM C 7 0 M) with _ | i
  · rfl
  · obtain ⟨m, h1, h2⟩ := at_mat hC (S := S) e
    obtain ⟨h3, h4, -⟩ := h2 i h1
    show some (witN (depthL C 7 0 S).2.2.1.1 i) = some ((leastM C 7 0 M).2.2.1 i)
    rw [same_wit h3 h4]
theorem same_input {C : CS} (hC : okC C) (x : Int32) (S : DS) (M : MS) : (inputD C x S).1 = (inputM C x M).1 := by
  have ha := same_at6 hC x S M
  unfold inputD inputM
  rw [ha]
  rcases e : atM x (leastM C 7 0 M) with _ | i
  · rfl
  · obtain ⟨m, h1, h2⟩ := at_mat hC (S := S) e
    exact (h2 i h1).2.2
theorem wit_known {C : CS} (hC : okC C) (S : DS) : ∀ n P2 V2 K2, depthL C 7 0 S = (some n, P2, V2, K2) → ∀ i k, i ≤ n → 1 ≤ k → k < 5 → ∃ b, V2.1 (16 * i + k) = some b := by
  intro n P2 V2 K2 e i k hi h1 h2
  obtain ⟨d1, d2⟩ := depth_same hC 7 0 S (fun _ => false, fun _ => 0, fun _ => false) (by omega)
  rw [e] at d1 d2
  obtain ⟨-, hm⟩ := d2 n d1.symm
  exact ⟨_, (hm i hi).2.1 k h1 h2⟩
theorem same_value {C : CS} (hC : okC C) (x y z : Int32) (S : DS) (M : MS) : (valueD C x y z S).1 = (valueM C x y z M).1 := by
  have h10 := hC.1
  unfold valueD valueM
  rcases e1 : litOf C x with _ | k
  · rfl
  rcases e2 : inT y 0 16 with _ | s
  · rfl
  obtain ⟨hk, -, -⟩ := lit_some hC e1
  obtain ⟨-, hs, -⟩ := inT_some e2 (by decide)
  generalize b0 z = b
  show vlit (followA C 0 (valV S.2.1 s b)).1 0 k = some (mof (workM C s b M.1) k)
  obtain ⟨N, hN⟩ : ∃ N, N = 2 * s + b.toNat := ⟨_, rfl⟩
  have hb1 : b.toNat ≤ 1 := Bool.toNat_le b
  have t0 : stt C 0 N 0 = s := by
    show N / 2 ^ (0 + 1) = s
    rw [show 2 ^ (0 + 1) = 2 from rfl]
    omega
  have t1 : xx 0 N 0 = b := by
    show decide (N % 2 ^ (0 + 1) / 2 ^ (0 - 0) % 2 = 1) = b
    rw [show 2 ^ (0 + 1) = 2 from rfl, show 2 ^ (0 - 0) = 1 from rfl, show N % 2 / 1 % 2 = b.toNat by omega]
    cases b <;> rfl
  have sk : ∀ j, 1 ≤ j → j < 5 → sim C 0 N j = bitF s (j - 1) := fun j h1 h2 => by
    have := sim_at C 0 N 0 j (by omega)
    rw [show 16 * 0 + j = j by omega, sgn_k C 0 N 0 h1 h2, t0] at this
    exact this
  have s5 : sim C 0 N 5 = b := by
    have := sim_at C 0 N 0 5 (by omega)
    rw [show 16 * 0 + 5 = 5 by omega, sgn_5, t1] at this
    exact this
  have o0 : okV (openV S.2.1 0) := okV.openV S.2.1 (by omega)
  have o1 : okV (itr (valF s) 1 4 (openV S.2.1 0)) := itr_ok o0 fun i a hi ha => ha.put (by omega) _
  have oV : okV (valV S.2.1 s b) := o1.put (by omega) _
  have d0 : Sd C 0 N (openV S.2.1 0) := Sd.opn C S.2.1 (by omega)
  have d1 : Sd C 0 N (itr (valF s) 1 4 (openV S.2.1 0)) := itr_ok d0 fun i a hi ha => Sd.put ha (by omega) (sk (1 + i) (by omega) (by omega))
  have dV : Sd C 0 N (valV S.2.1 s b) := Sd.put d1 (by omega) s5
  have dF : Sd C 0 N (followA C 0 (valV S.2.1 s b)) := Sd.follow hC (by omega) dV
  have m0 : Mo (openV S.2.1 0) (itr (valF s) 1 4 (openV S.2.1 0)) := Mo.loop (fun i a hi => Mo.put a (by omega) _) _
  have m1 : Mo (itr (valF s) 1 4 (openV S.2.1 0)) (valV S.2.1 s b) := Mo.put _ (by omega) _
  have m2 : Mo (valV S.2.1 s b) (followA C 0 (valV S.2.1 s b)) := Mo.follow hC (by omega) _
  have hF := follow_fix hC (n := 0) (by omega) oV dF.1
  have h0 : ∀ f, f ≤ 0 → (followA C 0 (valV S.2.1 s b)).1 (16 * f) = some false := fun f hf => (m0.tr (m1.tr m2)).1.2.2.1 _ _ (open_0 S.2.1 (by omega) d0.1 hf)
  have hp : ∀ i, i < 0 + 5 → (followA C 0 (valV S.2.1 s b)).1 (pos i) = some (sim C 0 N (pos i)) := by
    intro i hi
    refine m2.1.2.2.1 _ _ ?_
    by_cases h4 : i = 4
    · subst h4
      show (valV S.2.1 s b).1 5 = some (sim C 0 N 5)
      rw [s5]
      exact put_set dV.1
    · refine m1.1.2.2.1 _ _ ?_
      have ep : pos i = 4 - i := by unfold pos; rw [if_pos (by omega)]
      rw [ep, sk (4 - i) (by omega) (by omega)]
      obtain ⟨T, hT, q1, q2⟩ := itr_at (F := valF s) (lo := 1) (n := 4) (fun i a hi => Mo.put a (by omega) _) (fun i a hi ha => ha.put (by omega) _) o0 (i := 3 - i) (by omega)
      rw [show 1 + (3 - i) = 4 - i by omega] at q2
      have q2 : Mo (putF T (4 - i) (bitF s (4 - i - 1))) (itr (valF s) 1 4 (openV S.2.1 0)) := q2
      exact q2.1.2.2.1 _ _ (put_set (q2.low d1.1))
  have hv := vlit_of (by omega) (fix_all hC hF h0 hp 0 (Nat.le_refl 0) (k / 2 + 1) (k / 2) (by omega) (by omega))
  rw [hv, mof_sig hC s b M.1 hk]
  show some (mof (sigF C (stt C 0 N 0) (xx 0 N 0)) k) = _
  rw [t0, t1]
/-! the circuit stays sound -/
theorem okC_gate {C : CS} (hC : okC C) (x y : Int32) : okC (gateC C x y).2 := by
  rcases e1 : litOf C x with _ | i
  · rw [gateC_n1 e1]; exact hC
  rcases e2 : litOf C y with _ | j
  · rw [gateC_n2 e2]; exact hC
  by_cases h : C.1 < 10
  · rw [gateC_y e1 e2 h]
    obtain ⟨hi, -, -⟩ := lit_some hC e1
    obtain ⟨hj, -, -⟩ := lit_some hC e2
    obtain ⟨c1, c2, c3, c4, c5⟩ := hC
    refine ⟨h, fun g h1 h2 => ?_, fun k h1 h2 => ?_, c4, ?_⟩
    · have h2 : g < 6 + (C.1 + 1) := h2
      show va_up C.2.1 (6 + C.1) i g < 2 * g ∧ va_up C.2.2.1 (6 + C.1) j g < 2 * g
      by_cases q : g = 6 + C.1
      · rw [q, va_up_self, va_up_self]; exact ⟨hi, hj⟩
      · rw [va_up_ne _ _ q, va_up_ne _ _ q]; exact c2 g h1 (by omega)
    · have := c3 k h1 h2
      show cN C k < 2 * (6 + (C.1 + 1))
      omega
    · show cX C < 2 * (6 + (C.1 + 1))
      omega
  · rw [gateC_n3 h]; exact hC
theorem okC_next {C : CS} (hC : okC C) (x y : Int32) : okC (nextC C x y).2 := by
  rcases e1 : inT x 1 5 with _ | k
  · rw [nextC_n1 e1]; exact hC
  rcases e2 : litOf C y with _ | j
  · rw [nextC_n2 e2]; exact hC
  rw [nextC_y e1 e2]
  obtain ⟨hj, -, -⟩ := lit_some hC e2
  obtain ⟨c1, c2, c3, c4, c5⟩ := hC
  refine ⟨c1, c2, fun q h1 h2 => ?_, c4, c5⟩
  show va_up C.2.2.2.1 k j q < 2 * (6 + C.1)
  by_cases z : q = k
  · rw [z, va_up_self]; exact hj
  · rw [va_up_ne _ _ z]; exact c3 q h1 h2
theorem okC_begin {C : CS} (hC : okC C) (x y : Int32) : okC (beginC C x y).2 := by
  rcases e1 : inT x 1 5 with _ | k
  · rw [beginC_n1 e1]; exact hC
  rcases e2 : inT y 0 3 with _ | j
  · rw [beginC_n2 e2]; exact hC
  rw [beginC_y e1 e2]
  obtain ⟨-, hj, -⟩ := inT_some e2 (by decide)
  obtain ⟨c1, c2, c3, c4, c5⟩ := hC
  refine ⟨c1, c2, c3, fun q h1 h2 => ?_, c5⟩
  show va_up C.2.2.2.2.1 k j q ≤ 2
  by_cases z : q = k
  · rw [z, va_up_self]; omega
  · rw [va_up_ne _ _ z]; exact c4 q h1 h2
theorem okC_bad {C : CS} (hC : okC C) (x : Int32) : okC (badC C x).2 := by
  rcases e1 : litOf C x with _ | j
  · rw [badC_n e1]; exact hC
  rw [badC_y e1]
  obtain ⟨hj, -, -⟩ := lit_some hC e1
  obtain ⟨c1, c2, c3, c4, c5⟩ := hC
  exact ⟨c1, c2, c3, c4, hj⟩
end
section
/-! THE CONSTRUCTORS -/
set_option maxRecDepth 100000
theorem ini_i {f : Int32} (hf : f = 0) (n : Nat) (cA : ClassId) : vp_cell cA (n, .inl (fun _ => f)) = arrV cA n (fun _ => defaultValue .int) := by rw [hf]; rfl
theorem ini_z {f : Int32} (hf : f = 0) (n : Nat) (cA : ClassId) : vp_cell cA (n, .inl (fun _ => f)) = arrV cA n (fun _ => defaultValue .boolean) := by rw [hf]; rfl
theorem n0_0 : nI 0 = 0 := nI_0
theorem b0_0 : bI false = 0 := rfl
theorem o0_0 : oI (some false) = 0 := rfl
section INI
variable {p : Program} {l : Launch} {e : Env} {R : Room} {s : State} {m : MethodId} {args : Array Value} {below : List Frame} {meth : Method} {c : Code} {H : Heap} {locs : List Loc} {cells slots : Nat} {Q : State → Prop}
variable {cc : ByteArray} {pc nL : Nat} {ls : Array Slot} {rest : List Value} {own : String} {D : va_G} {A : Nat → Prop} {tys : List (ClassId × FieldType)} {ws : va_W} {H0 : Heap}
theorem r_newi (E : ev p m c cc nL s args own D tys) (hA : ∀ q : Nat, s.heap.size ≤ q → A q) (hB : wB D A s.heap ws H locs) {n : Nat} (f : Int32) (hf : f = 0) (hn : n < 1000) (hc : cells + 1 ≤ R.cells) (hs : slots + n ≤ R.slots) (hdg : decode cc pc = .ok (.newarray .int, 2))
    (kk : ∀ (q : Nat) (cA : ClassId) (H1 : Heap), ev p m c cc nL s args own D (tys ++ [(cA, .int)]) → wB D A s.heap (ws ++ [(q, .inl (cA, n, .inl (fun _ => f)))]) H1 locs → W p l e R s m args below meth c H1 locs (cells + 1) (slots + n) Q (F0 m (pc + 2) ls (.ref q :: rest))) : W p l e R s m args below meth c H locs cells slots Q (F0 m pc ls (.int (nI n) :: rest)) := by
  refine va_newa (atype := .int) (a0 := (n, .inl (fun _ => f))) (ty := .int) (N' := n) E.x E.b (E.ts _ q87) rfl E.k hB.1 hB.2.1 hB.2.2 hA (ini_i hf n) (nI_pos (by omega)) (nI_clamp (by omega)) ?_ hc hs hdg (fun q cA H1 hK hP hD hS => kk q cA H1 ⟨E.1, hK⟩ ⟨hP, hD, hS⟩)
  show n * 4 ≤ 536870912
  omega
theorem r_newz (E : ev p m c cc nL s args own D tys) (hA : ∀ q : Nat, s.heap.size ≤ q → A q) (hB : wB D A s.heap ws H locs) {n : Nat} (f : Int32) (hf : f = 0) (hn : n < 1000) (hc : cells + 1 ≤ R.cells) (hs : slots + n ≤ R.slots) (hdg : decode cc pc = .ok (.newarray .boolean, 2))
    (kk : ∀ (q : Nat) (cA : ClassId) (H1 : Heap), ev p m c cc nL s args own D (tys ++ [(cA, .boolean)]) → wB D A s.heap (ws ++ [(q, .inl (cA, n, .inl (fun _ => f)))]) H1 locs → W p l e R s m args below meth c H1 locs (cells + 1) (slots + n) Q (F0 m (pc + 2) ls (.ref q :: rest))) : W p l e R s m args below meth c H locs cells slots Q (F0 m pc ls (.int (nI n) :: rest)) := by
  refine va_newa (atype := .boolean) (a0 := (n, .inl (fun _ => f))) (ty := .boolean) (N' := n) E.x E.b (E.ts _ q88) rfl E.k hB.1 hB.2.1 hB.2.2 hA (ini_z hf n) (nI_pos (by omega)) (nI_clamp (by omega)) ?_ hc hs hdg (fun q cA H1 hK hP hD hS => kk q cA H1 ⟨E.1, hK⟩ ⟨hP, hD, hS⟩)
  show n * 1 ≤ 536870912
  omega
theorem r_putF0 (E : ev p m c cc nL s args RX0 D tys) (hB : wB D A H0 ws H locs) (k : Nat) {idx a : Nat} {fs : List Value} {v : Value} {ty : FieldType} {ws' : va_W} (he : ws[0]? = some (a, .inr (0, fs))) (hq : Cond.fieldLink RX0 idx RX0 (TX0 k).2.1 (TX0 k).2.2.1 ∈ lw_all) (hk : k < 17) (hs : (TX0 k).1 = RX0) (hin : meth.name = "<init>") (hfin : (TX0 k).2.2.2 = true) (hd : parseFieldDescriptor (TX0 k).2.2.1 = some ty) (hn : narrow ty v = v) (hfit : fits ty v = true) (hl : k < fs.length) (hw : ws.set 0 (a, .inr (0, fs.set k v)) = ws') (hdg : decode cc pc = .ok (.putfield idx, 3))
    (kk : ∀ (H1 : Heap) (locs1 : List Loc), wB D A H0 ws' H1 locs1 → W p l e R s m args below meth c H1 locs1 cells slots Q (F0 m (pc + 3) ls rest)) : W p l e R s m args below meth c H locs cells slots Q (F0 m pc ls (v :: .ref a :: rest)) :=
  va_putF (C := RX0) (T := TX0) (N := 17) (ref := RX0) E.x E.b E.ts in_X0 tyX0 tyX0_ok nmX0 E.ow E.k hB.1 hB.2.1 hB.2.2 0 he rfl k hk (E.ts _ hq) (fun x h => by rw [hs] at h; exact h) hfin hin hs hd hn hfit hl hdg (fun H1 locs1 hP hD hS => kk H1 locs1 ⟨hw ▸ hP, hw ▸ hD, hS⟩)
theorem r_putF1 (E : ev p m c cc nL s args RX1 D tys) (hB : wB D A H0 ws H locs) (k : Nat) {idx a : Nat} {fs : List Value} {v : Value} {ty : FieldType} {ws' : va_W} (he : ws[0]? = some (a, .inr (1, fs))) (hq : Cond.fieldLink RX1 idx RX1 (TX1 k).2.1 (TX1 k).2.2.1 ∈ lw_all) (hk : k < 9) (hs : (TX1 k).1 = RX1) (hin : meth.name = "<init>") (hfin : (TX1 k).2.2.2 = true) (hd : parseFieldDescriptor (TX1 k).2.2.1 = some ty) (hn : narrow ty v = v) (hfit : fits ty v = true) (hl : k < fs.length) (hw : ws.set 0 (a, .inr (1, fs.set k v)) = ws') (hdg : decode cc pc = .ok (.putfield idx, 3))
    (kk : ∀ (H1 : Heap) (locs1 : List Loc), wB D A H0 ws' H1 locs1 → W p l e R s m args below meth c H1 locs1 cells slots Q (F0 m (pc + 3) ls rest)) : W p l e R s m args below meth c H locs cells slots Q (F0 m pc ls (v :: .ref a :: rest)) :=
  va_putF (C := RX1) (T := TX1) (N := 9) (ref := RX1) E.x E.b E.ts in_X1 tyX1 tyX1_ok nmX1 E.ow E.k hB.1 hB.2.1 hB.2.2 0 he rfl k hk (E.ts _ hq) (fun x h => by rw [hs] at h; exact h) hfin hin hs hd hn hfit hl hdg (fun H1 locs1 hP hD hS => kk H1 locs1 ⟨hw ▸ hP, hw ▸ hD, hS⟩)
end INI
def nx0 (j : Nat) : Nat → Nat := itr (fun k f => va_up f k (2 * k)) 1 j (fun _ => 0)
def CI (j : Nat) : CS := (0, fun _ => 0, fun _ => 0, nx0 j, fun _ => 0, 0)
def PI : PS := (0, false, false)
def VI : VS := (fun _ => some false, 0, fun _ => 0, false)
def KI : KS := (0, fun _ => 0, fun _ => 0, fun _ => false)
def MI : MS := (fun _ => false, fun _ => 0, fun _ => false)
theorem nx0_k {k : Nat} (h1 : 1 ≤ k) (h2 : k < 5) : nx0 4 k = 2 * k := by
  rcases (show k = 1 ∨ k = 2 ∨ k = 3 ∨ k = 4 by omega) with rfl | rfl | rfl | rfl <;> rfl
theorem okC_I : okC (CI 4) := by
  refine ⟨Nat.zero_le _, fun g h1 h2 => absurd h1 (by have h2 : g < 6 + 0 := h2; omega), fun k h1 h2 => ?_, fun k h1 h2 => Nat.zero_le _, ?_⟩
  · show nx0 4 k < 2 * (6 + 0)
    rw [nx0_k h1 h2]; omega
  · show 0 < 2 * (6 + 0)
    omega
abbrev fsD : List Value := [.int (nI 0), .null, .null, .null, .null, .int (nI 0), .int (nI 0), .int (bI false), .int (bI false), .null, .int (nI 0), .null, .int (bI false), .int (nI 0), .null, .null, .null]
def hhD (a0 a1 a2 a3 a4 a5 a6 a7 a8 a9 : Nat) : Nat → Nat := fun k => match k with
  | 0 => a0
  | 1 => a1
  | 2 => a2
  | 3 => a3
  | 4 => a4
  | 5 => a5
  | 6 => a6
  | 7 => a7
  | 8 => a8
  | _ => a9
def ddD (c1 c2 c3 c4 c5 c6 c7 c8 c9 : ClassId) : Nat → ClassId := fun k => match k with
  | 1 => c1
  | 2 => c2
  | 3 => c3
  | 4 => c4
  | 5 => c5
  | 6 => c6
  | 7 => c7
  | 8 => c8
  | _ => c9
set_option maxHeartbeats 4000000 in
set_option maxRecDepth 100000 in
/-- InductionDesk() -/
theorem c_init0 (l : Launch) (D : va_G) (h0 sz : Nat) : Met l yX0_init (ws_ yX0_init cX0_init 2 none) ({ frames := 1, cells := 9, slots := 302, locals := 12 } : Room) (va_Pc [.ref h0] (wP D [] [(h0, .inr (0, fsD))] sz)) (va_Qv (fun u : (Nat → Nat) × (Nat → ClassId) => u.1 0 = h0) (fun u => wQ D (tyD u.2) (va_A [(h0, .inr (0, fsD))] sz) (dk u.1 u.2 (CI 4) PI VI KI)) (va_A [(h0, .inr (0, fsD))] sz)) 9 302 (va_A [(h0, .inr (0, fsD))] sz) := by
  refine Met.ofW (cc := cX0_init) (maxL := 2) (ret := none) (by decide) rfl ?_
  intro p e s m args below meth c s₁ B hml hv
  obtain ⟨rfl, hsz, hP, hK, hD0⟩ := hv
  have hts := atoms_spec (ws := ws_ yX0_init cX0_init 2 none) B.pre
  have hts : ∀ w ∈ lw_all, w.before _ s = true := fun w h => hts w (List.mem_cons_of_mem _ h)
  have hown : s.vm.findClass RX0 = some m.cls := findClass_of_methodNamed B.named
  have hin : meth.name = "<init>" := (name_of_methodNamed B.named B.method).1
  have hr := B.returns
  have hk := B.notSynchronized
  subst hsz
  have hD := hD0.self (sz := s.heap.size)
  generalize hAe : va_A [(h0, .inr (0, fsD))] s.heap.size = A at hD ⊢
  have hA : ∀ q : Nat, s.heap.size ≤ q → A q := fun q h => by rw [← hAe]; exact Or.inr h
  have hB : wB D A s.heap [(h0, .inr (0, fsD))] s.heap [] := ⟨hP, hD, va_S.rf⟩
  have E : ev p m c cX0_init 2 s ([.ref h0] : List Value).toArray RX0 D [] := ⟨⟨B.exec, B.bytes, hml, hown, hts⟩, hK⟩
  have hl := lv_entry ([.ref h0]) (n := 2) (Nat.le_of_ble_eq_true rfl)
  rw [lg_entry_eq]
  generalize (lg_sl ([.ref h0]) ++ List.replicate (2 - (lg_sl ([.ref h0])).length) Slot.unset).toArray = ls at hl ⊢
  have hl : lv_has ls 2 [(0, .ref h0)] := hl
  refine lv_aload_n E.x E.b dX0_init_0 rfl (lv_at hl 0 rfl) ?_
  refine W.objInit E.x E.b E.ow (E.ts _ q32) (E.ts _ q33) (E.ts _ q34) rfl (by rw [hml]; exact hl.1) rfl dX0_init_1 (Nat.le_of_ble_eq_true rfl) (Nat.le_of_ble_eq_true rfl) ?_
  refine W.eq (g2 := F0 m 4 ls []) rfl ?_
  refine lv_aload_n E.x E.b dX0_init_4 rfl (lv_at hl 0 rfl) ?_
  refine lv_bipush (v := nI 16) E.x E.b dX0_init_5 (by decide +kernel) ?_
  refine r_newi E hA hB (n := 16) (nI 0) n0_0 (by omega) (Nat.le_of_ble_eq_true rfl) (Nat.le_of_ble_eq_true rfl) dX0_init_7 (fun a1 c1 H (E : ev p m c cX0_init 2 s ([.ref h0] : List Value).toArray RX0 D [(c1, .int)]) (hB : wB D A s.heap [(h0, .inr (0, [.int (nI 0), .null, .null, .null, .null, .int (nI 0), .int (nI 0), .int (bI false), .int (bI false), .null, .int (nI 0), .null, .int (bI false), .int (nI 0), .null, .null, .null])), (a1, .inl (c1, 16, .inl (fun _ => nI 0)))] H _) => ?_)
  refine r_putF0 E hB 1 (v := .ref a1) (ty := .array .int) rfl q36 (by decide) rfl hin rfl (by decide +kernel) rfl rfl (Nat.le_of_ble_eq_true rfl) rfl dX0_init_9 (fun H locs (hB : wB D A s.heap [(h0, .inr (0, [.int (nI 0), .ref a1, .null, .null, .null, .int (nI 0), .int (nI 0), .int (bI false), .int (bI false), .null, .int (nI 0), .null, .int (bI false), .int (nI 0), .null, .null, .null])), (a1, .inl (c1, 16, .inl (fun _ => nI 0)))] H locs) => ?_)
  refine lv_aload_n E.x E.b dX0_init_12 rfl (lv_at hl 0 rfl) ?_
  refine lv_bipush (v := nI 16) E.x E.b dX0_init_13 (by decide +kernel) ?_
  refine r_newi E hA hB (n := 16) (nI 0) n0_0 (by omega) (Nat.le_of_ble_eq_true rfl) (Nat.le_of_ble_eq_true rfl) dX0_init_15 (fun a2 c2 H (E : ev p m c cX0_init 2 s ([.ref h0] : List Value).toArray RX0 D [(c1, .int), (c2, .int)]) (hB : wB D A s.heap [(h0, .inr (0, [.int (nI 0), .ref a1, .null, .null, .null, .int (nI 0), .int (nI 0), .int (bI false), .int (bI false), .null, .int (nI 0), .null, .int (bI false), .int (nI 0), .null, .null, .null])), (a1, .inl (c1, 16, .inl (fun _ => nI 0))), (a2, .inl (c2, 16, .inl (fun _ => nI 0)))] H _) => ?_)
  refine r_putF0 E hB 2 (v := .ref a2) (ty := .array .int) rfl q37 (by decide) rfl hin rfl (by decide +kernel) rfl rfl (Nat.le_of_ble_eq_true rfl) rfl dX0_init_17 (fun H locs (hB : wB D A s.heap [(h0, .inr (0, [.int (nI 0), .ref a1, .ref a2, .null, .null, .int (nI 0), .int (nI 0), .int (bI false), .int (bI false), .null, .int (nI 0), .null, .int (bI false), .int (nI 0), .null, .null, .null])), (a1, .inl (c1, 16, .inl (fun _ => nI 0))), (a2, .inl (c2, 16, .inl (fun _ => nI 0)))] H locs) => ?_)
  refine lv_aload_n E.x E.b dX0_init_20 rfl (lv_at hl 0 rfl) ?_
  refine lv_iconst (v := nI 5) E.x E.b dX0_init_21 (by decide +kernel) ?_
  refine r_newi E hA hB (n := 5) (nI 0) n0_0 (by omega) (Nat.le_of_ble_eq_true rfl) (Nat.le_of_ble_eq_true rfl) dX0_init_22 (fun a3 c3 H (E : ev p m c cX0_init 2 s ([.ref h0] : List Value).toArray RX0 D [(c1, .int), (c2, .int), (c3, .int)]) (hB : wB D A s.heap [(h0, .inr (0, [.int (nI 0), .ref a1, .ref a2, .null, .null, .int (nI 0), .int (nI 0), .int (bI false), .int (bI false), .null, .int (nI 0), .null, .int (bI false), .int (nI 0), .null, .null, .null])), (a1, .inl (c1, 16, .inl (fun _ => nI 0))), (a2, .inl (c2, 16, .inl (fun _ => nI 0))), (a3, .inl (c3, 5, .inl (fun _ => nI 0)))] H _) => ?_)
  refine r_putF0 E hB 3 (v := .ref a3) (ty := .array .int) rfl q38 (by decide) rfl hin rfl (by decide +kernel) rfl rfl (Nat.le_of_ble_eq_true rfl) rfl dX0_init_24 (fun H locs (hB : wB D A s.heap [(h0, .inr (0, [.int (nI 0), .ref a1, .ref a2, .ref a3, .null, .int (nI 0), .int (nI 0), .int (bI false), .int (bI false), .null, .int (nI 0), .null, .int (bI false), .int (nI 0), .null, .null, .null])), (a1, .inl (c1, 16, .inl (fun _ => nI 0))), (a2, .inl (c2, 16, .inl (fun _ => nI 0))), (a3, .inl (c3, 5, .inl (fun _ => nI 0)))] H locs) => ?_)
  refine lv_aload_n E.x E.b dX0_init_27 rfl (lv_at hl 0 rfl) ?_
  refine lv_iconst (v := nI 5) E.x E.b dX0_init_28 (by decide +kernel) ?_
  refine r_newi E hA hB (n := 5) (nI 0) n0_0 (by omega) (Nat.le_of_ble_eq_true rfl) (Nat.le_of_ble_eq_true rfl) dX0_init_29 (fun a4 c4 H (E : ev p m c cX0_init 2 s ([.ref h0] : List Value).toArray RX0 D [(c1, .int), (c2, .int), (c3, .int), (c4, .int)]) (hB : wB D A s.heap [(h0, .inr (0, [.int (nI 0), .ref a1, .ref a2, .ref a3, .null, .int (nI 0), .int (nI 0), .int (bI false), .int (bI false), .null, .int (nI 0), .null, .int (bI false), .int (nI 0), .null, .null, .null])), (a1, .inl (c1, 16, .inl (fun _ => nI 0))), (a2, .inl (c2, 16, .inl (fun _ => nI 0))), (a3, .inl (c3, 5, .inl (fun _ => nI 0))), (a4, .inl (c4, 5, .inl (fun _ => nI 0)))] H _) => ?_)
  refine r_putF0 E hB 4 (v := .ref a4) (ty := .array .int) rfl q39 (by decide) rfl hin rfl (by decide +kernel) rfl rfl (Nat.le_of_ble_eq_true rfl) rfl dX0_init_31 (fun H locs (hB : wB D A s.heap [(h0, .inr (0, [.int (nI 0), .ref a1, .ref a2, .ref a3, .ref a4, .int (nI 0), .int (nI 0), .int (bI false), .int (bI false), .null, .int (nI 0), .null, .int (bI false), .int (nI 0), .null, .null, .null])), (a1, .inl (c1, 16, .inl (fun _ => nI 0))), (a2, .inl (c2, 16, .inl (fun _ => nI 0))), (a3, .inl (c3, 5, .inl (fun _ => nI 0))), (a4, .inl (c4, 5, .inl (fun _ => nI 0)))] H locs) => ?_)
  refine lv_aload_n E.x E.b dX0_init_34 rfl (lv_at hl 0 rfl) ?_
  refine lv_bipush (v := nI 112) E.x E.b dX0_init_35 (by decide +kernel) ?_
  refine r_newi E hA hB (n := 112) (oI (some false)) o0_0 (by omega) (Nat.le_of_ble_eq_true rfl) (Nat.le_of_ble_eq_true rfl) dX0_init_37 (fun a5 c5 H (E : ev p m c cX0_init 2 s ([.ref h0] : List Value).toArray RX0 D [(c1, .int), (c2, .int), (c3, .int), (c4, .int), (c5, .int)]) (hB : wB D A s.heap [(h0, .inr (0, [.int (nI 0), .ref a1, .ref a2, .ref a3, .ref a4, .int (nI 0), .int (nI 0), .int (bI false), .int (bI false), .null, .int (nI 0), .null, .int (bI false), .int (nI 0), .null, .null, .null])), (a1, .inl (c1, 16, .inl (fun _ => nI 0))), (a2, .inl (c2, 16, .inl (fun _ => nI 0))), (a3, .inl (c3, 5, .inl (fun _ => nI 0))), (a4, .inl (c4, 5, .inl (fun _ => nI 0))), (a5, .inl (c5, 112, .inl (fun _ => oI (some false))))] H _) => ?_)
  refine r_putF0 E hB 9 (v := .ref a5) (ty := .array .int) rfl q44 (by decide) rfl hin rfl (by decide +kernel) rfl rfl (Nat.le_of_ble_eq_true rfl) rfl dX0_init_39 (fun H locs (hB : wB D A s.heap [(h0, .inr (0, [.int (nI 0), .ref a1, .ref a2, .ref a3, .ref a4, .int (nI 0), .int (nI 0), .int (bI false), .int (bI false), .ref a5, .int (nI 0), .null, .int (bI false), .int (nI 0), .null, .null, .null])), (a1, .inl (c1, 16, .inl (fun _ => nI 0))), (a2, .inl (c2, 16, .inl (fun _ => nI 0))), (a3, .inl (c3, 5, .inl (fun _ => nI 0))), (a4, .inl (c4, 5, .inl (fun _ => nI 0))), (a5, .inl (c5, 112, .inl (fun _ => oI (some false))))] H locs) => ?_)
  refine lv_aload_n E.x E.b dX0_init_42 rfl (lv_at hl 0 rfl) ?_
  refine lv_bipush (v := nI 112) E.x E.b dX0_init_43 (by decide +kernel) ?_
  refine r_newi E hA hB (n := 112) (nI 0) n0_0 (by omega) (Nat.le_of_ble_eq_true rfl) (Nat.le_of_ble_eq_true rfl) dX0_init_45 (fun a6 c6 H (E : ev p m c cX0_init 2 s ([.ref h0] : List Value).toArray RX0 D [(c1, .int), (c2, .int), (c3, .int), (c4, .int), (c5, .int), (c6, .int)]) (hB : wB D A s.heap [(h0, .inr (0, [.int (nI 0), .ref a1, .ref a2, .ref a3, .ref a4, .int (nI 0), .int (nI 0), .int (bI false), .int (bI false), .ref a5, .int (nI 0), .null, .int (bI false), .int (nI 0), .null, .null, .null])), (a1, .inl (c1, 16, .inl (fun _ => nI 0))), (a2, .inl (c2, 16, .inl (fun _ => nI 0))), (a3, .inl (c3, 5, .inl (fun _ => nI 0))), (a4, .inl (c4, 5, .inl (fun _ => nI 0))), (a5, .inl (c5, 112, .inl (fun _ => oI (some false)))), (a6, .inl (c6, 112, .inl (fun _ => nI 0)))] H _) => ?_)
  refine r_putF0 E hB 11 (v := .ref a6) (ty := .array .int) rfl q46 (by decide) rfl hin rfl (by decide +kernel) rfl rfl (Nat.le_of_ble_eq_true rfl) rfl dX0_init_47 (fun H locs (hB : wB D A s.heap [(h0, .inr (0, [.int (nI 0), .ref a1, .ref a2, .ref a3, .ref a4, .int (nI 0), .int (nI 0), .int (bI false), .int (bI false), .ref a5, .int (nI 0), .ref a6, .int (bI false), .int (nI 0), .null, .null, .null])), (a1, .inl (c1, 16, .inl (fun _ => nI 0))), (a2, .inl (c2, 16, .inl (fun _ => nI 0))), (a3, .inl (c3, 5, .inl (fun _ => nI 0))), (a4, .inl (c4, 5, .inl (fun _ => nI 0))), (a5, .inl (c5, 112, .inl (fun _ => oI (some false)))), (a6, .inl (c6, 112, .inl (fun _ => nI 0)))] H locs) => ?_)
  refine lv_aload_n E.x E.b dX0_init_50 rfl (lv_at hl 0 rfl) ?_
  refine lv_bipush (v := nI 12) E.x E.b dX0_init_51 (by decide +kernel) ?_
  refine r_newi E hA hB (n := 12) (nI 0) n0_0 (by omega) (Nat.le_of_ble_eq_true rfl) (Nat.le_of_ble_eq_true rfl) dX0_init_53 (fun a7 c7 H (E : ev p m c cX0_init 2 s ([.ref h0] : List Value).toArray RX0 D [(c1, .int), (c2, .int), (c3, .int), (c4, .int), (c5, .int), (c6, .int), (c7, .int)]) (hB : wB D A s.heap [(h0, .inr (0, [.int (nI 0), .ref a1, .ref a2, .ref a3, .ref a4, .int (nI 0), .int (nI 0), .int (bI false), .int (bI false), .ref a5, .int (nI 0), .ref a6, .int (bI false), .int (nI 0), .null, .null, .null])), (a1, .inl (c1, 16, .inl (fun _ => nI 0))), (a2, .inl (c2, 16, .inl (fun _ => nI 0))), (a3, .inl (c3, 5, .inl (fun _ => nI 0))), (a4, .inl (c4, 5, .inl (fun _ => nI 0))), (a5, .inl (c5, 112, .inl (fun _ => oI (some false)))), (a6, .inl (c6, 112, .inl (fun _ => nI 0))), (a7, .inl (c7, 12, .inl (fun _ => nI 0)))] H _) => ?_)
  refine r_putF0 E hB 14 (v := .ref a7) (ty := .array .int) rfl q49 (by decide) rfl hin rfl (by decide +kernel) rfl rfl (Nat.le_of_ble_eq_true rfl) rfl dX0_init_55 (fun H locs (hB : wB D A s.heap [(h0, .inr (0, [.int (nI 0), .ref a1, .ref a2, .ref a3, .ref a4, .int (nI 0), .int (nI 0), .int (bI false), .int (bI false), .ref a5, .int (nI 0), .ref a6, .int (bI false), .int (nI 0), .ref a7, .null, .null])), (a1, .inl (c1, 16, .inl (fun _ => nI 0))), (a2, .inl (c2, 16, .inl (fun _ => nI 0))), (a3, .inl (c3, 5, .inl (fun _ => nI 0))), (a4, .inl (c4, 5, .inl (fun _ => nI 0))), (a5, .inl (c5, 112, .inl (fun _ => oI (some false)))), (a6, .inl (c6, 112, .inl (fun _ => nI 0))), (a7, .inl (c7, 12, .inl (fun _ => nI 0)))] H locs) => ?_)
  refine lv_aload_n E.x E.b dX0_init_58 rfl (lv_at hl 0 rfl) ?_
  refine lv_bipush (v := nI 12) E.x E.b dX0_init_59 (by decide +kernel) ?_
  refine r_newi E hA hB (n := 12) (nI 0) n0_0 (by omega) (Nat.le_of_ble_eq_true rfl) (Nat.le_of_ble_eq_true rfl) dX0_init_61 (fun a8 c8 H (E : ev p m c cX0_init 2 s ([.ref h0] : List Value).toArray RX0 D [(c1, .int), (c2, .int), (c3, .int), (c4, .int), (c5, .int), (c6, .int), (c7, .int), (c8, .int)]) (hB : wB D A s.heap [(h0, .inr (0, [.int (nI 0), .ref a1, .ref a2, .ref a3, .ref a4, .int (nI 0), .int (nI 0), .int (bI false), .int (bI false), .ref a5, .int (nI 0), .ref a6, .int (bI false), .int (nI 0), .ref a7, .null, .null])), (a1, .inl (c1, 16, .inl (fun _ => nI 0))), (a2, .inl (c2, 16, .inl (fun _ => nI 0))), (a3, .inl (c3, 5, .inl (fun _ => nI 0))), (a4, .inl (c4, 5, .inl (fun _ => nI 0))), (a5, .inl (c5, 112, .inl (fun _ => oI (some false)))), (a6, .inl (c6, 112, .inl (fun _ => nI 0))), (a7, .inl (c7, 12, .inl (fun _ => nI 0))), (a8, .inl (c8, 12, .inl (fun _ => nI 0)))] H _) => ?_)
  refine r_putF0 E hB 15 (v := .ref a8) (ty := .array .int) rfl q50 (by decide) rfl hin rfl (by decide +kernel) rfl rfl (Nat.le_of_ble_eq_true rfl) rfl dX0_init_63 (fun H locs (hB : wB D A s.heap [(h0, .inr (0, [.int (nI 0), .ref a1, .ref a2, .ref a3, .ref a4, .int (nI 0), .int (nI 0), .int (bI false), .int (bI false), .ref a5, .int (nI 0), .ref a6, .int (bI false), .int (nI 0), .ref a7, .ref a8, .null])), (a1, .inl (c1, 16, .inl (fun _ => nI 0))), (a2, .inl (c2, 16, .inl (fun _ => nI 0))), (a3, .inl (c3, 5, .inl (fun _ => nI 0))), (a4, .inl (c4, 5, .inl (fun _ => nI 0))), (a5, .inl (c5, 112, .inl (fun _ => oI (some false)))), (a6, .inl (c6, 112, .inl (fun _ => nI 0))), (a7, .inl (c7, 12, .inl (fun _ => nI 0))), (a8, .inl (c8, 12, .inl (fun _ => nI 0)))] H locs) => ?_)
  refine lv_aload_n E.x E.b dX0_init_66 rfl (lv_at hl 0 rfl) ?_
  refine lv_bipush (v := nI 12) E.x E.b dX0_init_67 (by decide +kernel) ?_
  refine r_newz E hA hB (n := 12) (bI false) b0_0 (by omega) (Nat.le_of_ble_eq_true rfl) (Nat.le_of_ble_eq_true rfl) dX0_init_69 (fun a9 c9 H (E : ev p m c cX0_init 2 s ([.ref h0] : List Value).toArray RX0 D [(c1, .int), (c2, .int), (c3, .int), (c4, .int), (c5, .int), (c6, .int), (c7, .int), (c8, .int), (c9, .boolean)]) (hB : wB D A s.heap [(h0, .inr (0, [.int (nI 0), .ref a1, .ref a2, .ref a3, .ref a4, .int (nI 0), .int (nI 0), .int (bI false), .int (bI false), .ref a5, .int (nI 0), .ref a6, .int (bI false), .int (nI 0), .ref a7, .ref a8, .null])), (a1, .inl (c1, 16, .inl (fun _ => nI 0))), (a2, .inl (c2, 16, .inl (fun _ => nI 0))), (a3, .inl (c3, 5, .inl (fun _ => nI 0))), (a4, .inl (c4, 5, .inl (fun _ => nI 0))), (a5, .inl (c5, 112, .inl (fun _ => oI (some false)))), (a6, .inl (c6, 112, .inl (fun _ => nI 0))), (a7, .inl (c7, 12, .inl (fun _ => nI 0))), (a8, .inl (c8, 12, .inl (fun _ => nI 0))), (a9, .inl (c9, 12, .inl (fun _ => bI false)))] H _) => ?_)
  refine r_putF0 E hB 16 (v := .ref a9) (ty := .array .boolean) rfl q51 (by decide) rfl hin rfl (by decide +kernel) rfl rfl (Nat.le_of_ble_eq_true rfl) rfl dX0_init_71 (fun H locs (hB : wB D A s.heap [(h0, .inr (0, [.int (nI 0), .ref a1, .ref a2, .ref a3, .ref a4, .int (nI 0), .int (nI 0), .int (bI false), .int (bI false), .ref a5, .int (nI 0), .ref a6, .int (bI false), .int (nI 0), .ref a7, .ref a8, .ref a9])), (a1, .inl (c1, 16, .inl (fun _ => nI 0))), (a2, .inl (c2, 16, .inl (fun _ => nI 0))), (a3, .inl (c3, 5, .inl (fun _ => nI 0))), (a4, .inl (c4, 5, .inl (fun _ => nI 0))), (a5, .inl (c5, 112, .inl (fun _ => oI (some false)))), (a6, .inl (c6, 112, .inl (fun _ => nI 0))), (a7, .inl (c7, 12, .inl (fun _ => nI 0))), (a8, .inl (c8, 12, .inl (fun _ => nI 0))), (a9, .inl (c9, 12, .inl (fun _ => bI false)))] H locs) => ?_)
  refine W.widen (k := 9) (n := 302) (Nat.le_of_ble_eq_true rfl) (Nat.le_of_ble_eq_true rfl) ?_
  have E : ev p m c cX0_init 2 s ([.ref h0] : List Value).toArray RX0 D (tyD (ddD c1 c2 c3 c4 c5 c6 c7 c8 c9)) := E
  have hB : wB D A s.heap (dk (hhD h0 a1 a2 a3 a4 a5 a6 a7 a8 a9) (ddD c1 c2 c3 c4 c5 c6 c7 c8 c9) (CI 0) PI VI KI) H locs := hB
  refine lv_iconst (v := nI 1) E.x E.b dX0_init_74 (by decide +kernel) ?_
  refine lv_istore_n (lv' := [(1, .int (nI 1)), (0, .ref h0)]) E.x E.b dX0_init_75 rfl hl (by decide) rfl (fun ls hl => ?_)
  refine upL (N := 4) (fun i => ∀ (ls : Array Slot) (H : Heap) (locs : List Loc), lv_has ls 2 [(0, .ref h0), (1, .int (nI (1 + i)))] → wB D A s.heap (dk (hhD h0 a1 a2 a3 a4 a5 a6 a7 a8 a9) (ddD c1 c2 c3 c4 c5 c6 c7 c8 c9) (CI i) PI VI KI) H locs → W p l e ({ frames := 1, cells := 9, slots := 302, locals := 12 } : Room) s m ([.ref h0] : List Value).toArray below meth c H locs 9 302 (MQ below (va_Qv (fun u : (Nat → Nat) × (Nat → ClassId) => u.1 0 = h0) (fun u => wQ D (tyD u.2) A (dk u.1 u.2 (CI 4) PI VI KI)) A) ([.ref h0] : List Value).toArray s 9 302 A) (F0 m 76 ls [])) ?_ 0 (Nat.zero_le _) ls H locs (lv_sub hl [1, 0] rfl) hB
  intro i hii ih ls H locs hl hB
  refine lv_iload_n E.x E.b dX0_init_76 rfl (lv_at hl 1 rfl) ?_
  refine lv_iconst (v := nI 5) E.x E.b dX0_init_77 (by decide +kernel) ?_
  refine n_icmp_ge (tgt := 96) E (by omega) (by omega) dX0_init_78 (by decide) (fun hc => ?_) (fun hc => ?_)
  · obtain rfl : i = 4 := by omega
    exact W.vret E.x E.b hr (fun t ht hW => ⟨⟨((hhD h0 a1 a2 a3 a4 a5 a6 a7 a8 a9), (ddD c1 c2 c3 c4 c5 c6 c7 c8 c9)), rfl, rfl, by rw [ht]; exact hB.1, va_K.moved hW.alike E.k, hB.2.1⟩, hB.2.2.F ht⟩) hB.2.2.2.2 dX0_init_96 hk
  · refine lv_aload_n E.x E.b dX0_init_81 rfl (lv_at hl 0 rfl) ?_
    refine gd_nextOf (h := (hhD h0 a1 a2 a3 a4 a5 a6 a7 a8 a9)) E hB dX0_init_82 ?_
    refine lv_iload_n E.x E.b dX0_init_85 rfl (lv_at hl 1 rfl) ?_
    refine lv_iconst (v := nI 2) E.x E.b dX0_init_86 (by decide +kernel) ?_
    refine lv_iload_n E.x E.b dX0_init_87 rfl (lv_at hl 1 rfl) ?_
    refine n_mul E dX0_init_88 ?_
    refine sd_nextOf (h := (hhD h0 a1 a2 a3 a4 a5 a6 a7 a8 a9)) E hB (i := 1 + i) (x := 2 * (1 + i)) (by omega) dX0_init_89 (fun H locs (hB : wB D A s.heap (dk (hhD h0 a1 a2 a3 a4 a5 a6 a7 a8 a9) (ddD c1 c2 c3 c4 c5 c6 c7 c8 c9) (CI (i + 1)) PI VI KI) H locs) => ?_)
    refine lv_iinc (v := nI (1 + i + 1)) (lv' := [(1, .int (nI (1 + i + 1))), (0, .ref h0)]) E.x E.b dX0_init_90 hl (k := 1) rfl (inc1 _) (by decide) rfl (fun ls hl => ?_)
    refine lv_goto (tgt := 76) E.x E.b dX0_init_93 (by decide) ?_
    exact ih (by omega) ls H locs (lv_sub hl [1, 0] rfl) hB
abbrev fsM : List Value := [.int (nI 0), .null, .null, .null, .null, .int (nI 0), .null, .null, .null]
def hhM (a0 a1 a2 a3 a4 a5 a6 a7 : Nat) : Nat → Nat := fun k => match k with
  | 0 => a0
  | 1 => a1
  | 2 => a2
  | 3 => a3
  | 4 => a4
  | 5 => a5
  | 6 => a6
  | _ => a7
def ddM (c1 c2 c3 c4 c5 c6 c7 : ClassId) : Nat → ClassId := fun k => match k with
  | 1 => c1
  | 2 => c2
  | 3 => c3
  | 4 => c4
  | 5 => c5
  | 6 => c6
  | _ => c7
set_option maxHeartbeats 4000000 in
set_option maxRecDepth 100000 in
/-- InductionDeskModel() -/
theorem c_init1 (l : Launch) (D : va_G) (h0 sz : Nat) : Met l yX1_init (ws_ yX1_init cX1_init 2 none) ({ frames := 1, cells := 7, slots := 60, locals := 12 } : Room) (va_Pc [.ref h0] (wP D [] [(h0, .inr (1, fsM))] sz)) (va_Qv (fun u : (Nat → Nat) × (Nat → ClassId) => u.1 0 = h0) (fun u => wQ D (tyM u.2) (va_A [(h0, .inr (1, fsM))] sz) (mk u.1 u.2 (CI 4) MI)) (va_A [(h0, .inr (1, fsM))] sz)) 7 60 (va_A [(h0, .inr (1, fsM))] sz) := by
  refine Met.ofW (cc := cX1_init) (maxL := 2) (ret := none) (by decide) rfl ?_
  intro p e s m args below meth c s₁ B hml hv
  obtain ⟨rfl, hsz, hP, hK, hD0⟩ := hv
  have hts := atoms_spec (ws := ws_ yX1_init cX1_init 2 none) B.pre
  have hts : ∀ w ∈ lw_all, w.before _ s = true := fun w h => hts w (List.mem_cons_of_mem _ h)
  have hown : s.vm.findClass RX1 = some m.cls := findClass_of_methodNamed B.named
  have hin : meth.name = "<init>" := (name_of_methodNamed B.named B.method).1
  have hr := B.returns
  have hk := B.notSynchronized
  subst hsz
  have hD := hD0.self (sz := s.heap.size)
  generalize hAe : va_A [(h0, .inr (1, fsM))] s.heap.size = A at hD ⊢
  have hA : ∀ q : Nat, s.heap.size ≤ q → A q := fun q h => by rw [← hAe]; exact Or.inr h
  have hB : wB D A s.heap [(h0, .inr (1, fsM))] s.heap [] := ⟨hP, hD, va_S.rf⟩
  have E : ev p m c cX1_init 2 s ([.ref h0] : List Value).toArray RX1 D [] := ⟨⟨B.exec, B.bytes, hml, hown, hts⟩, hK⟩
  have hl := lv_entry ([.ref h0]) (n := 2) (Nat.le_of_ble_eq_true rfl)
  rw [lg_entry_eq]
  generalize (lg_sl ([.ref h0]) ++ List.replicate (2 - (lg_sl ([.ref h0])).length) Slot.unset).toArray = ls at hl ⊢
  have hl : lv_has ls 2 [(0, .ref h0)] := hl
  refine lv_aload_n E.x E.b dX1_init_0 rfl (lv_at hl 0 rfl) ?_
  refine W.objInit E.x E.b E.ow (E.ts _ q191) (E.ts _ q33) (E.ts _ q34) rfl (by rw [hml]; exact hl.1) rfl dX1_init_1 (Nat.le_of_ble_eq_true rfl) (Nat.le_of_ble_eq_true rfl) ?_
  refine W.eq (g2 := F0 m 4 ls []) rfl ?_
  refine lv_aload_n E.x E.b dX1_init_4 rfl (lv_at hl 0 rfl) ?_
  refine lv_bipush (v := nI 10) E.x E.b dX1_init_5 (by decide +kernel) ?_
  refine r_newi E hA hB (n := 10) (nI 0) n0_0 (by omega) (Nat.le_of_ble_eq_true rfl) (Nat.le_of_ble_eq_true rfl) dX1_init_7 (fun a1 c1 H (E : ev p m c cX1_init 2 s ([.ref h0] : List Value).toArray RX1 D [(c1, .int)]) (hB : wB D A s.heap [(h0, .inr (1, [.int (nI 0), .null, .null, .null, .null, .int (nI 0), .null, .null, .null])), (a1, .inl (c1, 10, .inl (fun _ => nI 0)))] H _) => ?_)
  refine r_putF1 E hB 1 (v := .ref a1) (ty := .array .int) rfl q193 (by decide) rfl hin rfl (by decide +kernel) rfl rfl (Nat.le_of_ble_eq_true rfl) rfl dX1_init_9 (fun H locs (hB : wB D A s.heap [(h0, .inr (1, [.int (nI 0), .ref a1, .null, .null, .null, .int (nI 0), .null, .null, .null])), (a1, .inl (c1, 10, .inl (fun _ => nI 0)))] H locs) => ?_)
  refine lv_aload_n E.x E.b dX1_init_12 rfl (lv_at hl 0 rfl) ?_
  refine lv_bipush (v := nI 10) E.x E.b dX1_init_13 (by decide +kernel) ?_
  refine r_newi E hA hB (n := 10) (nI 0) n0_0 (by omega) (Nat.le_of_ble_eq_true rfl) (Nat.le_of_ble_eq_true rfl) dX1_init_15 (fun a2 c2 H (E : ev p m c cX1_init 2 s ([.ref h0] : List Value).toArray RX1 D [(c1, .int), (c2, .int)]) (hB : wB D A s.heap [(h0, .inr (1, [.int (nI 0), .ref a1, .null, .null, .null, .int (nI 0), .null, .null, .null])), (a1, .inl (c1, 10, .inl (fun _ => nI 0))), (a2, .inl (c2, 10, .inl (fun _ => nI 0)))] H _) => ?_)
  refine r_putF1 E hB 2 (v := .ref a2) (ty := .array .int) rfl q194 (by decide) rfl hin rfl (by decide +kernel) rfl rfl (Nat.le_of_ble_eq_true rfl) rfl dX1_init_17 (fun H locs (hB : wB D A s.heap [(h0, .inr (1, [.int (nI 0), .ref a1, .ref a2, .null, .null, .int (nI 0), .null, .null, .null])), (a1, .inl (c1, 10, .inl (fun _ => nI 0))), (a2, .inl (c2, 10, .inl (fun _ => nI 0)))] H locs) => ?_)
  refine lv_aload_n E.x E.b dX1_init_20 rfl (lv_at hl 0 rfl) ?_
  refine lv_iconst (v := nI 5) E.x E.b dX1_init_21 (by decide +kernel) ?_
  refine r_newi E hA hB (n := 5) (nI 0) n0_0 (by omega) (Nat.le_of_ble_eq_true rfl) (Nat.le_of_ble_eq_true rfl) dX1_init_22 (fun a3 c3 H (E : ev p m c cX1_init 2 s ([.ref h0] : List Value).toArray RX1 D [(c1, .int), (c2, .int), (c3, .int)]) (hB : wB D A s.heap [(h0, .inr (1, [.int (nI 0), .ref a1, .ref a2, .null, .null, .int (nI 0), .null, .null, .null])), (a1, .inl (c1, 10, .inl (fun _ => nI 0))), (a2, .inl (c2, 10, .inl (fun _ => nI 0))), (a3, .inl (c3, 5, .inl (fun _ => nI 0)))] H _) => ?_)
  refine r_putF1 E hB 3 (v := .ref a3) (ty := .array .int) rfl q195 (by decide) rfl hin rfl (by decide +kernel) rfl rfl (Nat.le_of_ble_eq_true rfl) rfl dX1_init_24 (fun H locs (hB : wB D A s.heap [(h0, .inr (1, [.int (nI 0), .ref a1, .ref a2, .ref a3, .null, .int (nI 0), .null, .null, .null])), (a1, .inl (c1, 10, .inl (fun _ => nI 0))), (a2, .inl (c2, 10, .inl (fun _ => nI 0))), (a3, .inl (c3, 5, .inl (fun _ => nI 0)))] H locs) => ?_)
  refine lv_aload_n E.x E.b dX1_init_27 rfl (lv_at hl 0 rfl) ?_
  refine lv_iconst (v := nI 5) E.x E.b dX1_init_28 (by decide +kernel) ?_
  refine r_newi E hA hB (n := 5) (nI 0) n0_0 (by omega) (Nat.le_of_ble_eq_true rfl) (Nat.le_of_ble_eq_true rfl) dX1_init_29 (fun a4 c4 H (E : ev p m c cX1_init 2 s ([.ref h0] : List Value).toArray RX1 D [(c1, .int), (c2, .int), (c3, .int), (c4, .int)]) (hB : wB D A s.heap [(h0, .inr (1, [.int (nI 0), .ref a1, .ref a2, .ref a3, .null, .int (nI 0), .null, .null, .null])), (a1, .inl (c1, 10, .inl (fun _ => nI 0))), (a2, .inl (c2, 10, .inl (fun _ => nI 0))), (a3, .inl (c3, 5, .inl (fun _ => nI 0))), (a4, .inl (c4, 5, .inl (fun _ => nI 0)))] H _) => ?_)
  refine r_putF1 E hB 4 (v := .ref a4) (ty := .array .int) rfl q196 (by decide) rfl hin rfl (by decide +kernel) rfl rfl (Nat.le_of_ble_eq_true rfl) rfl dX1_init_31 (fun H locs (hB : wB D A s.heap [(h0, .inr (1, [.int (nI 0), .ref a1, .ref a2, .ref a3, .ref a4, .int (nI 0), .null, .null, .null])), (a1, .inl (c1, 10, .inl (fun _ => nI 0))), (a2, .inl (c2, 10, .inl (fun _ => nI 0))), (a3, .inl (c3, 5, .inl (fun _ => nI 0))), (a4, .inl (c4, 5, .inl (fun _ => nI 0)))] H locs) => ?_)
  refine lv_aload_n E.x E.b dX1_init_34 rfl (lv_at hl 0 rfl) ?_
  refine lv_bipush (v := nI 16) E.x E.b dX1_init_35 (by decide +kernel) ?_
  refine r_newi E hA hB (n := 16) (bI false) b0_0 (by omega) (Nat.le_of_ble_eq_true rfl) (Nat.le_of_ble_eq_true rfl) dX1_init_37 (fun a5 c5 H (E : ev p m c cX1_init 2 s ([.ref h0] : List Value).toArray RX1 D [(c1, .int), (c2, .int), (c3, .int), (c4, .int), (c5, .int)]) (hB : wB D A s.heap [(h0, .inr (1, [.int (nI 0), .ref a1, .ref a2, .ref a3, .ref a4, .int (nI 0), .null, .null, .null])), (a1, .inl (c1, 10, .inl (fun _ => nI 0))), (a2, .inl (c2, 10, .inl (fun _ => nI 0))), (a3, .inl (c3, 5, .inl (fun _ => nI 0))), (a4, .inl (c4, 5, .inl (fun _ => nI 0))), (a5, .inl (c5, 16, .inl (fun _ => bI false)))] H _) => ?_)
  refine r_putF1 E hB 6 (v := .ref a5) (ty := .array .int) rfl q198 (by decide) rfl hin rfl (by decide +kernel) rfl rfl (Nat.le_of_ble_eq_true rfl) rfl dX1_init_39 (fun H locs (hB : wB D A s.heap [(h0, .inr (1, [.int (nI 0), .ref a1, .ref a2, .ref a3, .ref a4, .int (nI 0), .ref a5, .null, .null])), (a1, .inl (c1, 10, .inl (fun _ => nI 0))), (a2, .inl (c2, 10, .inl (fun _ => nI 0))), (a3, .inl (c3, 5, .inl (fun _ => nI 0))), (a4, .inl (c4, 5, .inl (fun _ => nI 0))), (a5, .inl (c5, 16, .inl (fun _ => bI false)))] H locs) => ?_)
  refine lv_aload_n E.x E.b dX1_init_42 rfl (lv_at hl 0 rfl) ?_
  refine lv_bipush (v := nI 7) E.x E.b dX1_init_43 (by decide +kernel) ?_
  refine r_newi E hA hB (n := 7) (nI 0) n0_0 (by omega) (Nat.le_of_ble_eq_true rfl) (Nat.le_of_ble_eq_true rfl) dX1_init_45 (fun a6 c6 H (E : ev p m c cX1_init 2 s ([.ref h0] : List Value).toArray RX1 D [(c1, .int), (c2, .int), (c3, .int), (c4, .int), (c5, .int), (c6, .int)]) (hB : wB D A s.heap [(h0, .inr (1, [.int (nI 0), .ref a1, .ref a2, .ref a3, .ref a4, .int (nI 0), .ref a5, .null, .null])), (a1, .inl (c1, 10, .inl (fun _ => nI 0))), (a2, .inl (c2, 10, .inl (fun _ => nI 0))), (a3, .inl (c3, 5, .inl (fun _ => nI 0))), (a4, .inl (c4, 5, .inl (fun _ => nI 0))), (a5, .inl (c5, 16, .inl (fun _ => bI false))), (a6, .inl (c6, 7, .inl (fun _ => nI 0)))] H _) => ?_)
  refine r_putF1 E hB 7 (v := .ref a6) (ty := .array .int) rfl q199 (by decide) rfl hin rfl (by decide +kernel) rfl rfl (Nat.le_of_ble_eq_true rfl) rfl dX1_init_47 (fun H locs (hB : wB D A s.heap [(h0, .inr (1, [.int (nI 0), .ref a1, .ref a2, .ref a3, .ref a4, .int (nI 0), .ref a5, .ref a6, .null])), (a1, .inl (c1, 10, .inl (fun _ => nI 0))), (a2, .inl (c2, 10, .inl (fun _ => nI 0))), (a3, .inl (c3, 5, .inl (fun _ => nI 0))), (a4, .inl (c4, 5, .inl (fun _ => nI 0))), (a5, .inl (c5, 16, .inl (fun _ => bI false))), (a6, .inl (c6, 7, .inl (fun _ => nI 0)))] H locs) => ?_)
  refine lv_aload_n E.x E.b dX1_init_50 rfl (lv_at hl 0 rfl) ?_
  refine lv_bipush (v := nI 7) E.x E.b dX1_init_51 (by decide +kernel) ?_
  refine r_newi E hA hB (n := 7) (bI false) b0_0 (by omega) (Nat.le_of_ble_eq_true rfl) (Nat.le_of_ble_eq_true rfl) dX1_init_53 (fun a7 c7 H (E : ev p m c cX1_init 2 s ([.ref h0] : List Value).toArray RX1 D [(c1, .int), (c2, .int), (c3, .int), (c4, .int), (c5, .int), (c6, .int), (c7, .int)]) (hB : wB D A s.heap [(h0, .inr (1, [.int (nI 0), .ref a1, .ref a2, .ref a3, .ref a4, .int (nI 0), .ref a5, .ref a6, .null])), (a1, .inl (c1, 10, .inl (fun _ => nI 0))), (a2, .inl (c2, 10, .inl (fun _ => nI 0))), (a3, .inl (c3, 5, .inl (fun _ => nI 0))), (a4, .inl (c4, 5, .inl (fun _ => nI 0))), (a5, .inl (c5, 16, .inl (fun _ => bI false))), (a6, .inl (c6, 7, .inl (fun _ => nI 0))), (a7, .inl (c7, 7, .inl (fun _ => bI false)))] H _) => ?_)
  refine r_putF1 E hB 8 (v := .ref a7) (ty := .array .int) rfl q200 (by decide) rfl hin rfl (by decide +kernel) rfl rfl (Nat.le_of_ble_eq_true rfl) rfl dX1_init_55 (fun H locs (hB : wB D A s.heap [(h0, .inr (1, [.int (nI 0), .ref a1, .ref a2, .ref a3, .ref a4, .int (nI 0), .ref a5, .ref a6, .ref a7])), (a1, .inl (c1, 10, .inl (fun _ => nI 0))), (a2, .inl (c2, 10, .inl (fun _ => nI 0))), (a3, .inl (c3, 5, .inl (fun _ => nI 0))), (a4, .inl (c4, 5, .inl (fun _ => nI 0))), (a5, .inl (c5, 16, .inl (fun _ => bI false))), (a6, .inl (c6, 7, .inl (fun _ => nI 0))), (a7, .inl (c7, 7, .inl (fun _ => bI false)))] H locs) => ?_)
  refine W.widen (k := 7) (n := 60) (Nat.le_of_ble_eq_true rfl) (Nat.le_of_ble_eq_true rfl) ?_
  have E : ev p m c cX1_init 2 s ([.ref h0] : List Value).toArray RX1 D (tyM (ddM c1 c2 c3 c4 c5 c6 c7)) := E
  have hB : wB D A s.heap (mk (hhM h0 a1 a2 a3 a4 a5 a6 a7) (ddM c1 c2 c3 c4 c5 c6 c7) (CI 0) MI) H locs := hB
  refine lv_iconst (v := nI 1) E.x E.b dX1_init_58 (by decide +kernel) ?_
  refine lv_istore_n (lv' := [(1, .int (nI 1)), (0, .ref h0)]) E.x E.b dX1_init_59 rfl hl (by decide) rfl (fun ls hl => ?_)
  refine upL (N := 4) (fun i => ∀ (ls : Array Slot) (H : Heap) (locs : List Loc), lv_has ls 2 [(0, .ref h0), (1, .int (nI (1 + i)))] → wB D A s.heap (mk (hhM h0 a1 a2 a3 a4 a5 a6 a7) (ddM c1 c2 c3 c4 c5 c6 c7) (CI i) MI) H locs → W p l e ({ frames := 1, cells := 7, slots := 60, locals := 12 } : Room) s m ([.ref h0] : List Value).toArray below meth c H locs 7 60 (MQ below (va_Qv (fun u : (Nat → Nat) × (Nat → ClassId) => u.1 0 = h0) (fun u => wQ D (tyM u.2) A (mk u.1 u.2 (CI 4) MI)) A) ([.ref h0] : List Value).toArray s 7 60 A) (F0 m 60 ls [])) ?_ 0 (Nat.zero_le _) ls H locs (lv_sub hl [1, 0] rfl) hB
  intro i hii ih ls H locs hl hB
  refine lv_iload_n E.x E.b dX1_init_60 rfl (lv_at hl 1 rfl) ?_
  refine lv_iconst (v := nI 5) E.x E.b dX1_init_61 (by decide +kernel) ?_
  refine n_icmp_ge (tgt := 80) E (by omega) (by omega) dX1_init_62 (by decide) (fun hc => ?_) (fun hc => ?_)
  · obtain rfl : i = 4 := by omega
    exact W.vret E.x E.b hr (fun t ht hW => ⟨⟨((hhM h0 a1 a2 a3 a4 a5 a6 a7), (ddM c1 c2 c3 c4 c5 c6 c7)), rfl, rfl, by rw [ht]; exact hB.1, va_K.moved hW.alike E.k, hB.2.1⟩, hB.2.2.F ht⟩) hB.2.2.2.2 dX1_init_80 hk
  · refine lv_aload_n E.x E.b dX1_init_65 rfl (lv_at hl 0 rfl) ?_
    refine gm_nexts (h := (hhM h0 a1 a2 a3 a4 a5 a6 a7)) E hB dX1_init_66 ?_
    refine lv_iload_n E.x E.b dX1_init_69 rfl (lv_at hl 1 rfl) ?_
    refine lv_iconst (v := nI 2) E.x E.b dX1_init_70 (by decide +kernel) ?_
    refine lv_iload_n E.x E.b dX1_init_71 rfl (lv_at hl 1 rfl) ?_
    refine n_mul E dX1_init_72 ?_
    refine sm_nexts (h := (hhM h0 a1 a2 a3 a4 a5 a6 a7)) E hB (i := 1 + i) (x := 2 * (1 + i)) (by omega) dX1_init_73 (fun H locs (hB : wB D A s.heap (mk (hhM h0 a1 a2 a3 a4 a5 a6 a7) (ddM c1 c2 c3 c4 c5 c6 c7) (CI (i + 1)) MI) H locs) => ?_)
    refine lv_iinc (v := nI (1 + i + 1)) (lv' := [(1, .int (nI (1 + i + 1))), (0, .ref h0)]) E.x E.b dX1_init_74 hl (k := 1) rfl (inc1 _) (by decide) rfl (fun ls hl => ?_)
    refine lv_goto (tgt := 60) E.x E.b dX1_init_77 (by decide) ?_
    exact ih (by omega) ls H locs (lv_sub hl [1, 0] rfl) hB
end
section
/-! THE LAW, 1: its words (by the skeleton), and its rows -/
set_option maxRecDepth 100000
def R_law : String := "InductionDeskLaw"
def lw_P (b : Addr) (xs : List Int32) (args : Array Value) (s : State) : Prop := args = #[.ref b] ∧ s.IntsAt b xs ∧ xs.length ≤ 256 ∧ (Jvm.Cond.and given_1 narrow_1).before args s = true
def lw_Q (_ : Array Value) (s : State) (o : Outcome) (t : State) : Prop := o = .returned (some (.int 1)) ∧ Framed s o t [] 600000 7290000
def lw_Z (below : List Frame) (a : Array Value) (s : State) : State → Prop := fun t => ∃ o, t.status = .running ∧ Ended t below o ∧ lw_Q a s o t
/-- the law's own end, with 1 on the stack, nothing written that was there before, its room as the claim has it -/
theorem lw_ret {p : Program} {l : Launch} {e : Env} {s : State} {m : MethodId} {below : List Frame} {meth : Method} {c : Code} {b : Nat} (hx : p.tables.exec = Jvm.exec) (hb : c.code = code) (hr : meth.sig.returnType = ret) (hlocks : meth.locks = false) {pc : Nat} {H : Heap} {ls : Array Slot} (hdg : decode code pc = .ok (.ireturn, 1)) : W p l e room_1 s m #[Value.ref b] below meth c H [] 600000 7290000 (lw_Z below #[Value.ref b] s) (F0 m pc ls [.int 1]) := by
  intro T hT X
  obtain ⟨fs, hret, hrun, hended, hW, hframe⟩ := X.leave (v := some (.int 1)) (hlocks := hlocks) (fun h => by rw [hr] at h; cases h)
  have hmeth' : T.vm.method? m = some meth := X.method'
  refine ⟨T.setFrames fs, ?_, .returned (some (.int 1)), hrun, hended, rfl, ⟨_, rfl⟩, hW, hframe⟩
  jvm_step X.here [X.here.top, hx, hb, hdg, hmeth', hr, ret, narrow_b1]
  (try refine ⟨rfl, ?_⟩); (try refine ⟨rfl, ?_⟩)
  first | (intro acts; rw [hret _ acts rfl rfl rfl]) | rw [hret _ _ rfl rfl rfl]
  exact Steps.refl _
/-- what holds at the law's entry: the machine, the code, the tables' words (any of lw_tbl by 'hts w (by decide +kernel)'), the script of L ints xs at the cell b, what the Statement gives of the start (any of its parts by flat_of_before) -/
def lw_At (p : Program) (s : State) (m : MethodId) (meth : Method) (c : Code) (b L : Nat) (xs : Nat → Int32) : Prop :=
  p.tables.exec = Jvm.exec ∧ c.code = code ∧ meth.sig.returnType = ret ∧ c.maxLocals = 4 ∧ s.vm.findClass R_law = some m.cls ∧ (∀ w ∈ lw_tbl, w.before #[Value.ref b] s = true) ∧ va_X b L xs s s.heap ∧ b < s.heap.size ∧ meth.locks = false ∧ (Jvm.Cond.and given_1 narrow_1).before #[Value.ref b] s = true
section LAWR
variable {p : Program} {l : Launch} {e : Env} {R : Room} {s : State} {m : MethodId} {args : Array Value} {below : List Frame} {meth : Method} {c : Code} {H : Heap} {locs : List Loc} {cells slots : Nat} {Q : State → Prop}
variable {cc : ByteArray} {pc nL : Nat} {ls : Array Slot} {rest : List Value} {own : String} {D : va_G} {A : Nat → Prop} {tys : List (ClassId × FieldType)} {ws : va_W} {H0 : Heap}
/-- a call that sees a part of the world: the rest stays, and stands first behind it -/
theorem r_fr (E : ev p m c cc nL s args own D tys) (hA : ∀ q : Nat, s.heap.size ≤ q → A q) (hB : wB D A s.heap ws H locs) (hls : ls.size = nL) {y : MethodName} {cc' : ByteArray} {nL' : Nat} {rm : Room} {w1 w1' wr : va_W} {t1 : List (ClassId × FieldType)} {a ci idx : Nat} {As st : List Value} {fs : List Value} {q : vw_C} {ty : FieldType} {r : Int32} (n : Nat)
    (ct : ctI l y cc' nL' rm D t1 w1 w1' (.ref a :: As) ty r) (hc : Cl[ci]? = some q) (he : w1[0]? = some (a, .inr (ci, fs)))
    (isC isR it : List Nat) (hC : isC.map (fun i => ws[i]?) = w1.map some) (hCf : isC.filterMap (fun i => ws[i]?) = w1) (hRr : isR.map (fun i => ws[i]?) = wr.map some) (hn1 : va_nd isC = true) (hn2 : va_nd isR = true) (hdis : ∀ i ∈ isR, i ∉ isC) (hit : it.filterMap (fun i => tys[i]?) = t1)
    (h1 : Cond.methodLink own idx y ∈ lw_all) (h2 : Cond.instanceMethod y ∈ lw_all) (h3 : Cond.selects q.1 y y ∈ lw_all) (h4 : Cond.initialized q.1 ∈ lw_all) (h5 : Cond.code y cc' nL' (some ty) ∈ lw_all)
    (hd : y.cls = q.1 ∧ y.cls ≠ "java/lang/invoke/MethodHandle" ∧ y.cls ≠ "java/lang/invoke/VarHandle" ∧ (parseMethodDescriptor y.desc).map (fun d => d.parameters.length) = some n) (hn : As.length = n) (hrm : rm.cells = 0 ∧ rm.slots = 0) (hR : rm.frames + 1 ≤ R.frames ∧ 8 + (nL' + 11) + rm.locals ≤ R.locals) (hf : cells ≤ R.cells ∧ slots ≤ R.slots)
    (hst : st = As.reverse ++ .ref a :: rest) (hrest : (rest.map fun v => v.category).sum ≤ 8) (hdg : decode cc pc = .ok (.invokevirtual idx, 3))
    (kk : ∀ (H1 : Heap) (locs1 : List Loc), wB D A s.heap (wr ++ w1') H1 locs1 → W p l e R s m args below meth c H1 locs1 cells slots Q (F0 m (pc + 3) ls (.int r :: rest))) : W p l e R s m args below meth c H locs cells slots Q (F0 m pc ls st) := by
  have hPc := hB.1.sub isC hCf
  have hDc := hB.2.1.sub isC hn1 hC
  have hKc := E.k.sub it hit
  have hFc := va_free (wc := w1) hB.2.1 hB.2.2 hA isC hC
  subst hst
  refine va_calli (va_runV (As := As) (rest := rest) ⟨E.x, E.b, E.ml, E.ow, E.ts⟩ (ct H.size) (cwV n E.ts (lw_V h1 h2 h3 h4 h5) rfl hrm.1 hrm.2 hd hR) ⟨wP.blind, va_recv hKc hPc hc he, fun U hU hW => ⟨rfl, by rw [hU], by rw [hU]; exact hPc, va_K.moved hW.alike hKc, hDc.weaken (fun _ _ _ _ => trivial)⟩⟩ rfl hn hls rfl (lv_room hrest) hdg hf) hB.2.2 (fun q _ h => hFc q h) hFc (fun x u t H1 locs ht hvm hw1 hB1 hz1 hk1 hS => ?_)
  obtain ⟨hP1, hK1, hD1⟩ := hB1
  rw [ht] at hP1
  subst hw1
  obtain ⟨hP, hD⟩ := va_join (wr := wr) (w1 := w1') hB.1 hB.2.1 isC isR hC hRr hn2 hdis hk1 hFc hP1 hD1
  exact kk H1 locs ⟨hP, hD, hS⟩
/-- an int of the script -/
theorem r_sld (E : ev p m c cc nL s args own D tys) {b L : Nat} {xs : Nat → Int32} (hX : va_X b L xs s s.heap) (hbl : b < s.heap.size) (hbA : ¬ A b) (hB : wB D A s.heap ws H locs) {j : Nat} (hj : j < L) (hL : L ≤ 256) (hdg : decode cc pc = .ok (.iaload, 1))
    (kk : W p l e R s m args below meth c H locs cells slots Q (F0 m (pc + 1) ls (.int (xs j) :: rest))) : W p l e R s m args below meth c H locs cells slots Q (F0 m pc ls (.int (nI j) :: .ref b :: rest)) := by
  refine va_sld E.x E.b hX hbl hbA hB.2.2 (vp_in_nI hj (by omega)) hdg ?_
  rw [nI_clamp (by omega)]
  exact kk
end LAWR
theorem inc4 (a : Nat) : nI a + Int32.ofInt 4 = nI (a + 4) := nI_add a 4
theorem go_on {i L : Nat} (hi : i < 2 ^ 30) (hL : L ≤ 256) (h : ¬ nI L - nI 4 < nI i) : i + 4 ≤ L := by
  rw [Int32.lt_iff_toInt_lt, pk_sub_toInt (by omega) (by omega), nI_toInt (by omega)] at h
  omega
end
section
/-! THE LAW, 2: its ten calls -/
set_option maxRecDepth 100000
set_option maxHeartbeats 4000000 in
set_option maxRecDepth 100000 in
/-- the call gate -/
theorem case_gate {p : Program} {l : Launch} {e : Env} {s : State} {m : MethodId} {below : List Frame} {meth : Method} {c : Code} {H : Heap} {locs : List Loc} {ls : Array Slot} {b L i : Nat} {xs : Nat → Int32} {D : va_G} {h g : Nat → Nat} {d f : Nat → ClassId} {C : CS} {P : PS} {V : VS} {K : KS} {M : MS} (E : ev p m c cL_law 4 s #[Value.ref b] R_law D (tyD d ++ tyM f)) (hX : va_X b L xs s s.heap) (hbl : b < s.heap.size) (hL : L ≤ 256) (hi : i + 4 ≤ L) (hC : okC C) (hl : lv_has ls 4 [(0, .ref b), (1, .ref (h 0)), (2, .ref (g 0)), (3, .int (nI i))]) (hB : wB D (fun q => s.heap.size ≤ q) s.heap (dk h d C P V K ++ mk g f C M) H locs)
    (kk : ∀ (C : CS) (P : PS) (V : VS) (K : KS) (M : MS) (H : Heap) (locs : List Loc), okC C → wB D (fun q => s.heap.size ≤ q) s.heap (dk h d C P V K ++ mk g f C M) H locs → W p l e room_1 s m #[Value.ref b] below meth c H locs 18 388 (lw_Z below #[Value.ref b] s) (F0 m 358 ls [])) : W p l e room_1 s m #[Value.ref b] below meth c H locs 18 388 (lw_Z below #[Value.ref b] s) (F0 m 88 ls []) := by
  refine lv_aload_n E.x E.b dL_law_88 rfl (lv_at hl 1 rfl) ?_
  refine lv_aload_n E.x E.b dL_law_89 rfl (lv_at hl 0 rfl) ?_
  refine lv_iload_n E.x E.b dL_law_90 rfl (lv_at hl 3 rfl) ?_
  refine lv_iconst (v := nI 1) E.x E.b dL_law_91 (by decide +kernel) ?_
  refine n_add E dL_law_92 ?_
  refine r_sld E hX hbl (Nat.not_le.mpr hbl) hB (by omega) hL dL_law_93 ?_
  refine lv_aload_n E.x E.b dL_law_94 rfl (lv_at hl 0 rfl) ?_
  refine lv_iload_n E.x E.b dL_law_95 rfl (lv_at hl 3 rfl) ?_
  refine lv_iconst (v := nI 2) E.x E.b dL_law_96 (by decide +kernel) ?_
  refine n_add E dL_law_97 ?_
  refine r_sld E hX hbl (Nat.not_le.mpr hbl) hB (by omega) hL dL_law_98 ?_
  refine r_fr (ci := 0) (q := (RX0, TX0, 17)) (wr := mk g f C M) (rest := []) E (fun _ h => h) hB hl.1 2 (m_gate l D h d C P V K (xs (i + 1)) (xs (i + 2)) hC) rfl rfl [0, 1, 2, 3, 4, 5, 6, 7, 8, 9] [10, 11, 12, 13, 14, 15, 16, 17] [0, 1, 2, 3, 4, 5, 6, 7, 8] rfl rfl rfl (by decide) (by decide) (by decide) rfl q89 q90 q91 q25 q92 (by decide +kernel) rfl ⟨rfl, rfl⟩ ⟨Nat.le_of_ble_eq_true rfl, Nat.le_of_ble_eq_true rfl⟩ ⟨Nat.le_of_ble_eq_true rfl, Nat.le_of_ble_eq_true rfl⟩ rfl (Nat.le_of_ble_eq_true rfl) dL_law_99 (fun H locs (hB : wB D (fun q => s.heap.size ≤ q) s.heap (mk g f C M ++ dk h d (gateC C (xs (i + 1)) (xs (i + 2))).2 P V K) H locs) => ?_)
  refine lv_aload_n E.x E.b dL_law_102 rfl (lv_at hl 2 rfl) ?_
  refine lv_aload_n E.x E.b dL_law_103 rfl (lv_at hl 0 rfl) ?_
  refine lv_iload_n E.x E.b dL_law_104 rfl (lv_at hl 3 rfl) ?_
  refine lv_iconst (v := nI 1) E.x E.b dL_law_105 (by decide +kernel) ?_
  refine n_add E dL_law_106 ?_
  refine r_sld E hX hbl (Nat.not_le.mpr hbl) hB (by omega) hL dL_law_107 ?_
  refine lv_aload_n E.x E.b dL_law_108 rfl (lv_at hl 0 rfl) ?_
  refine lv_iload_n E.x E.b dL_law_109 rfl (lv_at hl 3 rfl) ?_
  refine lv_iconst (v := nI 2) E.x E.b dL_law_110 (by decide +kernel) ?_
  refine n_add E dL_law_111 ?_
  refine r_sld E hX hbl (Nat.not_le.mpr hbl) hB (by omega) hL dL_law_112 ?_
  refine r_fr (ci := 1) (q := (RX1, TX1, 9)) (wr := dk h d (gateC C (xs (i + 1)) (xs (i + 2))).2 P V K) (rest := [_]) E (fun _ h => h) hB hl.1 2 (m1_gate l D g f C M (xs (i + 1)) (xs (i + 2)) hC) rfl rfl [0, 1, 2, 3, 4, 5, 6, 7] [8, 9, 10, 11, 12, 13, 14, 15, 16, 17] [9, 10, 11, 12, 13, 14, 15] rfl rfl rfl (by decide) (by decide) (by decide) rfl q220 q221 q222 q26 q223 (by decide +kernel) rfl ⟨rfl, rfl⟩ ⟨Nat.le_of_ble_eq_true rfl, Nat.le_of_ble_eq_true rfl⟩ ⟨Nat.le_of_ble_eq_true rfl, Nat.le_of_ble_eq_true rfl⟩ rfl (Nat.le_of_ble_eq_true rfl) dL_law_113 (fun H locs (hB : wB D (fun q => s.heap.size ≤ q) s.heap (dk h d (gateC C (xs (i + 1)) (xs (i + 2))).2 P V K ++ mk g f (gateC C (xs (i + 1)) (xs (i + 2))).2 M) H locs) => ?_)
  refine lv_icmp_eq (tgt := 358) E.x E.b dL_law_116 (by decide) (fun _ => ?_) (fun hne => absurd ?_ hne)
  · exact kk (gateC C (xs (i + 1)) (xs (i + 2))).2 P V K M H locs (okC_gate hC _ _) hB
  · rfl
set_option maxHeartbeats 4000000 in
set_option maxRecDepth 100000 in
/-- the call next -/
theorem case_next {p : Program} {l : Launch} {e : Env} {s : State} {m : MethodId} {below : List Frame} {meth : Method} {c : Code} {H : Heap} {locs : List Loc} {ls : Array Slot} {b L i : Nat} {xs : Nat → Int32} {D : va_G} {h g : Nat → Nat} {d f : Nat → ClassId} {C : CS} {P : PS} {V : VS} {K : KS} {M : MS} (E : ev p m c cL_law 4 s #[Value.ref b] R_law D (tyD d ++ tyM f)) (hX : va_X b L xs s s.heap) (hbl : b < s.heap.size) (hL : L ≤ 256) (hi : i + 4 ≤ L) (hC : okC C) (hl : lv_has ls 4 [(0, .ref b), (1, .ref (h 0)), (2, .ref (g 0)), (3, .int (nI i))]) (hB : wB D (fun q => s.heap.size ≤ q) s.heap (dk h d C P V K ++ mk g f C M) H locs)
    (kk : ∀ (C : CS) (P : PS) (V : VS) (K : KS) (M : MS) (H : Heap) (locs : List Loc), okC C → wB D (fun q => s.heap.size ≤ q) s.heap (dk h d C P V K ++ mk g f C M) H locs → W p l e room_1 s m #[Value.ref b] below meth c H locs 18 388 (lw_Z below #[Value.ref b] s) (F0 m 358 ls [])) : W p l e room_1 s m #[Value.ref b] below meth c H locs 18 388 (lw_Z below #[Value.ref b] s) (F0 m 121 ls []) := by
  refine lv_aload_n E.x E.b dL_law_121 rfl (lv_at hl 1 rfl) ?_
  refine lv_aload_n E.x E.b dL_law_122 rfl (lv_at hl 0 rfl) ?_
  refine lv_iload_n E.x E.b dL_law_123 rfl (lv_at hl 3 rfl) ?_
  refine lv_iconst (v := nI 1) E.x E.b dL_law_124 (by decide +kernel) ?_
  refine n_add E dL_law_125 ?_
  refine r_sld E hX hbl (Nat.not_le.mpr hbl) hB (by omega) hL dL_law_126 ?_
  refine lv_aload_n E.x E.b dL_law_127 rfl (lv_at hl 0 rfl) ?_
  refine lv_iload_n E.x E.b dL_law_128 rfl (lv_at hl 3 rfl) ?_
  refine lv_iconst (v := nI 2) E.x E.b dL_law_129 (by decide +kernel) ?_
  refine n_add E dL_law_130 ?_
  refine r_sld E hX hbl (Nat.not_le.mpr hbl) hB (by omega) hL dL_law_131 ?_
  refine r_fr (ci := 0) (q := (RX0, TX0, 17)) (wr := mk g f C M) (rest := []) E (fun _ h => h) hB hl.1 2 (m_next l D h d C P V K (xs (i + 1)) (xs (i + 2)) hC) rfl rfl [0, 1, 2, 3, 4, 5, 6, 7, 8, 9] [10, 11, 12, 13, 14, 15, 16, 17] [0, 1, 2, 3, 4, 5, 6, 7, 8] rfl rfl rfl (by decide) (by decide) (by decide) rfl q97 q98 q99 q25 q100 (by decide +kernel) rfl ⟨rfl, rfl⟩ ⟨Nat.le_of_ble_eq_true rfl, Nat.le_of_ble_eq_true rfl⟩ ⟨Nat.le_of_ble_eq_true rfl, Nat.le_of_ble_eq_true rfl⟩ rfl (Nat.le_of_ble_eq_true rfl) dL_law_132 (fun H locs (hB : wB D (fun q => s.heap.size ≤ q) s.heap (mk g f C M ++ dk h d (nextC C (xs (i + 1)) (xs (i + 2))).2 P V K) H locs) => ?_)
  refine lv_aload_n E.x E.b dL_law_135 rfl (lv_at hl 2 rfl) ?_
  refine lv_aload_n E.x E.b dL_law_136 rfl (lv_at hl 0 rfl) ?_
  refine lv_iload_n E.x E.b dL_law_137 rfl (lv_at hl 3 rfl) ?_
  refine lv_iconst (v := nI 1) E.x E.b dL_law_138 (by decide +kernel) ?_
  refine n_add E dL_law_139 ?_
  refine r_sld E hX hbl (Nat.not_le.mpr hbl) hB (by omega) hL dL_law_140 ?_
  refine lv_aload_n E.x E.b dL_law_141 rfl (lv_at hl 0 rfl) ?_
  refine lv_iload_n E.x E.b dL_law_142 rfl (lv_at hl 3 rfl) ?_
  refine lv_iconst (v := nI 2) E.x E.b dL_law_143 (by decide +kernel) ?_
  refine n_add E dL_law_144 ?_
  refine r_sld E hX hbl (Nat.not_le.mpr hbl) hB (by omega) hL dL_law_145 ?_
  refine r_fr (ci := 1) (q := (RX1, TX1, 9)) (wr := dk h d (nextC C (xs (i + 1)) (xs (i + 2))).2 P V K) (rest := [_]) E (fun _ h => h) hB hl.1 2 (m1_next l D g f C M (xs (i + 1)) (xs (i + 2)) hC) rfl rfl [0, 1, 2, 3, 4, 5, 6, 7] [8, 9, 10, 11, 12, 13, 14, 15, 16, 17] [9, 10, 11, 12, 13, 14, 15] rfl rfl rfl (by decide) (by decide) (by decide) rfl q228 q229 q230 q26 q231 (by decide +kernel) rfl ⟨rfl, rfl⟩ ⟨Nat.le_of_ble_eq_true rfl, Nat.le_of_ble_eq_true rfl⟩ ⟨Nat.le_of_ble_eq_true rfl, Nat.le_of_ble_eq_true rfl⟩ rfl (Nat.le_of_ble_eq_true rfl) dL_law_146 (fun H locs (hB : wB D (fun q => s.heap.size ≤ q) s.heap (dk h d (nextC C (xs (i + 1)) (xs (i + 2))).2 P V K ++ mk g f (nextC C (xs (i + 1)) (xs (i + 2))).2 M) H locs) => ?_)
  refine lv_icmp_eq (tgt := 358) E.x E.b dL_law_149 (by decide) (fun _ => ?_) (fun hne => absurd ?_ hne)
  · exact kk (nextC C (xs (i + 1)) (xs (i + 2))).2 P V K M H locs (okC_next hC _ _) hB
  · rfl
set_option maxHeartbeats 4000000 in
set_option maxRecDepth 100000 in
/-- the call begin -/
theorem case_begin {p : Program} {l : Launch} {e : Env} {s : State} {m : MethodId} {below : List Frame} {meth : Method} {c : Code} {H : Heap} {locs : List Loc} {ls : Array Slot} {b L i : Nat} {xs : Nat → Int32} {D : va_G} {h g : Nat → Nat} {d f : Nat → ClassId} {C : CS} {P : PS} {V : VS} {K : KS} {M : MS} (E : ev p m c cL_law 4 s #[Value.ref b] R_law D (tyD d ++ tyM f)) (hX : va_X b L xs s s.heap) (hbl : b < s.heap.size) (hL : L ≤ 256) (hi : i + 4 ≤ L) (hC : okC C) (hl : lv_has ls 4 [(0, .ref b), (1, .ref (h 0)), (2, .ref (g 0)), (3, .int (nI i))]) (hB : wB D (fun q => s.heap.size ≤ q) s.heap (dk h d C P V K ++ mk g f C M) H locs)
    (kk : ∀ (C : CS) (P : PS) (V : VS) (K : KS) (M : MS) (H : Heap) (locs : List Loc), okC C → wB D (fun q => s.heap.size ≤ q) s.heap (dk h d C P V K ++ mk g f C M) H locs → W p l e room_1 s m #[Value.ref b] below meth c H locs 18 388 (lw_Z below #[Value.ref b] s) (F0 m 358 ls [])) : W p l e room_1 s m #[Value.ref b] below meth c H locs 18 388 (lw_Z below #[Value.ref b] s) (F0 m 154 ls []) := by
  refine lv_aload_n E.x E.b dL_law_154 rfl (lv_at hl 1 rfl) ?_
  refine lv_aload_n E.x E.b dL_law_155 rfl (lv_at hl 0 rfl) ?_
  refine lv_iload_n E.x E.b dL_law_156 rfl (lv_at hl 3 rfl) ?_
  refine lv_iconst (v := nI 1) E.x E.b dL_law_157 (by decide +kernel) ?_
  refine n_add E dL_law_158 ?_
  refine r_sld E hX hbl (Nat.not_le.mpr hbl) hB (by omega) hL dL_law_159 ?_
  refine lv_aload_n E.x E.b dL_law_160 rfl (lv_at hl 0 rfl) ?_
  refine lv_iload_n E.x E.b dL_law_161 rfl (lv_at hl 3 rfl) ?_
  refine lv_iconst (v := nI 2) E.x E.b dL_law_162 (by decide +kernel) ?_
  refine n_add E dL_law_163 ?_
  refine r_sld E hX hbl (Nat.not_le.mpr hbl) hB (by omega) hL dL_law_164 ?_
  refine r_fr (ci := 0) (q := (RX0, TX0, 17)) (wr := mk g f C M) (rest := []) E (fun _ h => h) hB hl.1 2 (m_begin l D h d C P V K (xs (i + 1)) (xs (i + 2))) rfl rfl [0, 1, 2, 3, 4, 5, 6, 7, 8, 9] [10, 11, 12, 13, 14, 15, 16, 17] [0, 1, 2, 3, 4, 5, 6, 7, 8] rfl rfl rfl (by decide) (by decide) (by decide) rfl q101 q102 q103 q25 q104 (by decide +kernel) rfl ⟨rfl, rfl⟩ ⟨Nat.le_of_ble_eq_true rfl, Nat.le_of_ble_eq_true rfl⟩ ⟨Nat.le_of_ble_eq_true rfl, Nat.le_of_ble_eq_true rfl⟩ rfl (Nat.le_of_ble_eq_true rfl) dL_law_165 (fun H locs (hB : wB D (fun q => s.heap.size ≤ q) s.heap (mk g f C M ++ dk h d (beginC C (xs (i + 1)) (xs (i + 2))).2 P V K) H locs) => ?_)
  refine lv_aload_n E.x E.b dL_law_168 rfl (lv_at hl 2 rfl) ?_
  refine lv_aload_n E.x E.b dL_law_169 rfl (lv_at hl 0 rfl) ?_
  refine lv_iload_n E.x E.b dL_law_170 rfl (lv_at hl 3 rfl) ?_
  refine lv_iconst (v := nI 1) E.x E.b dL_law_171 (by decide +kernel) ?_
  refine n_add E dL_law_172 ?_
  refine r_sld E hX hbl (Nat.not_le.mpr hbl) hB (by omega) hL dL_law_173 ?_
  refine lv_aload_n E.x E.b dL_law_174 rfl (lv_at hl 0 rfl) ?_
  refine lv_iload_n E.x E.b dL_law_175 rfl (lv_at hl 3 rfl) ?_
  refine lv_iconst (v := nI 2) E.x E.b dL_law_176 (by decide +kernel) ?_
  refine n_add E dL_law_177 ?_
  refine r_sld E hX hbl (Nat.not_le.mpr hbl) hB (by omega) hL dL_law_178 ?_
  refine r_fr (ci := 1) (q := (RX1, TX1, 9)) (wr := dk h d (beginC C (xs (i + 1)) (xs (i + 2))).2 P V K) (rest := [_]) E (fun _ h => h) hB hl.1 2 (m1_begin l D g f C M (xs (i + 1)) (xs (i + 2))) rfl rfl [0, 1, 2, 3, 4, 5, 6, 7] [8, 9, 10, 11, 12, 13, 14, 15, 16, 17] [9, 10, 11, 12, 13, 14, 15] rfl rfl rfl (by decide) (by decide) (by decide) rfl q235 q236 q237 q26 q238 (by decide +kernel) rfl ⟨rfl, rfl⟩ ⟨Nat.le_of_ble_eq_true rfl, Nat.le_of_ble_eq_true rfl⟩ ⟨Nat.le_of_ble_eq_true rfl, Nat.le_of_ble_eq_true rfl⟩ rfl (Nat.le_of_ble_eq_true rfl) dL_law_179 (fun H locs (hB : wB D (fun q => s.heap.size ≤ q) s.heap (dk h d (beginC C (xs (i + 1)) (xs (i + 2))).2 P V K ++ mk g f (beginC C (xs (i + 1)) (xs (i + 2))).2 M) H locs) => ?_)
  refine lv_icmp_eq (tgt := 358) E.x E.b dL_law_182 (by decide) (fun _ => ?_) (fun hne => absurd ?_ hne)
  · exact kk (beginC C (xs (i + 1)) (xs (i + 2))).2 P V K M H locs (okC_begin hC _ _) hB
  · rfl
set_option maxHeartbeats 4000000 in
set_option maxRecDepth 100000 in
/-- the call bad -/
theorem case_bad {p : Program} {l : Launch} {e : Env} {s : State} {m : MethodId} {below : List Frame} {meth : Method} {c : Code} {H : Heap} {locs : List Loc} {ls : Array Slot} {b L i : Nat} {xs : Nat → Int32} {D : va_G} {h g : Nat → Nat} {d f : Nat → ClassId} {C : CS} {P : PS} {V : VS} {K : KS} {M : MS} (E : ev p m c cL_law 4 s #[Value.ref b] R_law D (tyD d ++ tyM f)) (hX : va_X b L xs s s.heap) (hbl : b < s.heap.size) (hL : L ≤ 256) (hi : i + 4 ≤ L) (hC : okC C) (hl : lv_has ls 4 [(0, .ref b), (1, .ref (h 0)), (2, .ref (g 0)), (3, .int (nI i))]) (hB : wB D (fun q => s.heap.size ≤ q) s.heap (dk h d C P V K ++ mk g f C M) H locs)
    (kk : ∀ (C : CS) (P : PS) (V : VS) (K : KS) (M : MS) (H : Heap) (locs : List Loc), okC C → wB D (fun q => s.heap.size ≤ q) s.heap (dk h d C P V K ++ mk g f C M) H locs → W p l e room_1 s m #[Value.ref b] below meth c H locs 18 388 (lw_Z below #[Value.ref b] s) (F0 m 358 ls [])) : W p l e room_1 s m #[Value.ref b] below meth c H locs 18 388 (lw_Z below #[Value.ref b] s) (F0 m 187 ls []) := by
  refine lv_aload_n E.x E.b dL_law_187 rfl (lv_at hl 1 rfl) ?_
  refine lv_aload_n E.x E.b dL_law_188 rfl (lv_at hl 0 rfl) ?_
  refine lv_iload_n E.x E.b dL_law_189 rfl (lv_at hl 3 rfl) ?_
  refine lv_iconst (v := nI 1) E.x E.b dL_law_190 (by decide +kernel) ?_
  refine n_add E dL_law_191 ?_
  refine r_sld E hX hbl (Nat.not_le.mpr hbl) hB (by omega) hL dL_law_192 ?_
  refine r_fr (ci := 0) (q := (RX0, TX0, 17)) (wr := mk g f C M) (rest := []) E (fun _ h => h) hB hl.1 1 (m_bad l D h d C P V K (xs (i + 1)) hC) rfl rfl [0, 1, 2, 3, 4, 5, 6, 7, 8, 9] [10, 11, 12, 13, 14, 15, 16, 17] [0, 1, 2, 3, 4, 5, 6, 7, 8] rfl rfl rfl (by decide) (by decide) (by decide) rfl q105 q106 q107 q25 q108 (by decide +kernel) rfl ⟨rfl, rfl⟩ ⟨Nat.le_of_ble_eq_true rfl, Nat.le_of_ble_eq_true rfl⟩ ⟨Nat.le_of_ble_eq_true rfl, Nat.le_of_ble_eq_true rfl⟩ rfl (Nat.le_of_ble_eq_true rfl) dL_law_193 (fun H locs (hB : wB D (fun q => s.heap.size ≤ q) s.heap (mk g f C M ++ dk h d (badC C (xs (i + 1))).2 P V K) H locs) => ?_)
  refine lv_aload_n E.x E.b dL_law_196 rfl (lv_at hl 2 rfl) ?_
  refine lv_aload_n E.x E.b dL_law_197 rfl (lv_at hl 0 rfl) ?_
  refine lv_iload_n E.x E.b dL_law_198 rfl (lv_at hl 3 rfl) ?_
  refine lv_iconst (v := nI 1) E.x E.b dL_law_199 (by decide +kernel) ?_
  refine n_add E dL_law_200 ?_
  refine r_sld E hX hbl (Nat.not_le.mpr hbl) hB (by omega) hL dL_law_201 ?_
  refine r_fr (ci := 1) (q := (RX1, TX1, 9)) (wr := dk h d (badC C (xs (i + 1))).2 P V K) (rest := [_]) E (fun _ h => h) hB hl.1 1 (m1_bad l D g f C M (xs (i + 1)) hC) rfl rfl [0, 1, 2, 3, 4, 5, 6, 7] [8, 9, 10, 11, 12, 13, 14, 15, 16, 17] [9, 10, 11, 12, 13, 14, 15] rfl rfl rfl (by decide) (by decide) (by decide) rfl q239 q240 q241 q26 q242 (by decide +kernel) rfl ⟨rfl, rfl⟩ ⟨Nat.le_of_ble_eq_true rfl, Nat.le_of_ble_eq_true rfl⟩ ⟨Nat.le_of_ble_eq_true rfl, Nat.le_of_ble_eq_true rfl⟩ rfl (Nat.le_of_ble_eq_true rfl) dL_law_202 (fun H locs (hB : wB D (fun q => s.heap.size ≤ q) s.heap (dk h d (badC C (xs (i + 1))).2 P V K ++ mk g f (badC C (xs (i + 1))).2 M) H locs) => ?_)
  refine lv_icmp_eq (tgt := 358) E.x E.b dL_law_205 (by decide) (fun _ => ?_) (fun hne => absurd ?_ hne)
  · exact kk (badC C (xs (i + 1))).2 P V K M H locs (okC_bad hC _) hB
  · rfl
set_option maxHeartbeats 4000000 in
set_option maxRecDepth 100000 in
/-- the call value -/
theorem case_value {p : Program} {l : Launch} {e : Env} {s : State} {m : MethodId} {below : List Frame} {meth : Method} {c : Code} {H : Heap} {locs : List Loc} {ls : Array Slot} {b L i : Nat} {xs : Nat → Int32} {D : va_G} {h g : Nat → Nat} {d f : Nat → ClassId} {C : CS} {P : PS} {V : VS} {K : KS} {M : MS} (E : ev p m c cL_law 4 s #[Value.ref b] R_law D (tyD d ++ tyM f)) (hX : va_X b L xs s s.heap) (hbl : b < s.heap.size) (hL : L ≤ 256) (hi : i + 4 ≤ L) (hC : okC C) (hl : lv_has ls 4 [(0, .ref b), (1, .ref (h 0)), (2, .ref (g 0)), (3, .int (nI i))]) (hB : wB D (fun q => s.heap.size ≤ q) s.heap (dk h d C P V K ++ mk g f C M) H locs)
    (kk : ∀ (C : CS) (P : PS) (V : VS) (K : KS) (M : MS) (H : Heap) (locs : List Loc), okC C → wB D (fun q => s.heap.size ≤ q) s.heap (dk h d C P V K ++ mk g f C M) H locs → W p l e room_1 s m #[Value.ref b] below meth c H locs 18 388 (lw_Z below #[Value.ref b] s) (F0 m 358 ls [])) : W p l e room_1 s m #[Value.ref b] below meth c H locs 18 388 (lw_Z below #[Value.ref b] s) (F0 m 210 ls []) := by
  refine lv_aload_n E.x E.b dL_law_210 rfl (lv_at hl 1 rfl) ?_
  refine lv_aload_n E.x E.b dL_law_211 rfl (lv_at hl 0 rfl) ?_
  refine lv_iload_n E.x E.b dL_law_212 rfl (lv_at hl 3 rfl) ?_
  refine lv_iconst (v := nI 1) E.x E.b dL_law_213 (by decide +kernel) ?_
  refine n_add E dL_law_214 ?_
  refine r_sld E hX hbl (Nat.not_le.mpr hbl) hB (by omega) hL dL_law_215 ?_
  refine lv_aload_n E.x E.b dL_law_216 rfl (lv_at hl 0 rfl) ?_
  refine lv_iload_n E.x E.b dL_law_217 rfl (lv_at hl 3 rfl) ?_
  refine lv_iconst (v := nI 2) E.x E.b dL_law_218 (by decide +kernel) ?_
  refine n_add E dL_law_219 ?_
  refine r_sld E hX hbl (Nat.not_le.mpr hbl) hB (by omega) hL dL_law_220 ?_
  refine lv_aload_n E.x E.b dL_law_221 rfl (lv_at hl 0 rfl) ?_
  refine lv_iload_n E.x E.b dL_law_222 rfl (lv_at hl 3 rfl) ?_
  refine lv_iconst (v := nI 3) E.x E.b dL_law_223 (by decide +kernel) ?_
  refine n_add E dL_law_224 ?_
  refine r_sld E hX hbl (Nat.not_le.mpr hbl) hB (by omega) hL dL_law_225 ?_
  refine r_fr (ci := 0) (q := (RX0, TX0, 17)) (wr := mk g f C M) (rest := []) E (fun _ h => h) hB hl.1 3 (m_value l D h d C P V K (xs (i + 1)) (xs (i + 2)) (xs (i + 3)) hC) rfl rfl [0, 1, 2, 3, 4, 5, 6, 7, 8, 9] [10, 11, 12, 13, 14, 15, 16, 17] [0, 1, 2, 3, 4, 5, 6, 7, 8] rfl rfl rfl (by decide) (by decide) (by decide) rfl q109 q110 q111 q25 q112 (by decide +kernel) rfl ⟨rfl, rfl⟩ ⟨Nat.le_of_ble_eq_true rfl, Nat.le_of_ble_eq_true rfl⟩ ⟨Nat.le_of_ble_eq_true rfl, Nat.le_of_ble_eq_true rfl⟩ rfl (Nat.le_of_ble_eq_true rfl) dL_law_226 (fun H locs (hB : wB D (fun q => s.heap.size ≤ q) s.heap (mk g f C M ++ dk h d C (valueD C (xs (i + 1)) (xs (i + 2)) (xs (i + 3)) (P, V, K)).2.1 (valueD C (xs (i + 1)) (xs (i + 2)) (xs (i + 3)) (P, V, K)).2.2.1 (valueD C (xs (i + 1)) (xs (i + 2)) (xs (i + 3)) (P, V, K)).2.2.2) H locs) => ?_)
  refine lv_aload_n E.x E.b dL_law_229 rfl (lv_at hl 2 rfl) ?_
  refine lv_aload_n E.x E.b dL_law_230 rfl (lv_at hl 0 rfl) ?_
  refine lv_iload_n E.x E.b dL_law_231 rfl (lv_at hl 3 rfl) ?_
  refine lv_iconst (v := nI 1) E.x E.b dL_law_232 (by decide +kernel) ?_
  refine n_add E dL_law_233 ?_
  refine r_sld E hX hbl (Nat.not_le.mpr hbl) hB (by omega) hL dL_law_234 ?_
  refine lv_aload_n E.x E.b dL_law_235 rfl (lv_at hl 0 rfl) ?_
  refine lv_iload_n E.x E.b dL_law_236 rfl (lv_at hl 3 rfl) ?_
  refine lv_iconst (v := nI 2) E.x E.b dL_law_237 (by decide +kernel) ?_
  refine n_add E dL_law_238 ?_
  refine r_sld E hX hbl (Nat.not_le.mpr hbl) hB (by omega) hL dL_law_239 ?_
  refine lv_aload_n E.x E.b dL_law_240 rfl (lv_at hl 0 rfl) ?_
  refine lv_iload_n E.x E.b dL_law_241 rfl (lv_at hl 3 rfl) ?_
  refine lv_iconst (v := nI 3) E.x E.b dL_law_242 (by decide +kernel) ?_
  refine n_add E dL_law_243 ?_
  refine r_sld E hX hbl (Nat.not_le.mpr hbl) hB (by omega) hL dL_law_244 ?_
  refine r_fr (ci := 1) (q := (RX1, TX1, 9)) (wr := dk h d C (valueD C (xs (i + 1)) (xs (i + 2)) (xs (i + 3)) (P, V, K)).2.1 (valueD C (xs (i + 1)) (xs (i + 2)) (xs (i + 3)) (P, V, K)).2.2.1 (valueD C (xs (i + 1)) (xs (i + 2)) (xs (i + 3)) (P, V, K)).2.2.2) (rest := [_]) E (fun _ h => h) hB hl.1 3 (m1_value l D g f C M (xs (i + 1)) (xs (i + 2)) (xs (i + 3)) hC) rfl rfl [0, 1, 2, 3, 4, 5, 6, 7] [8, 9, 10, 11, 12, 13, 14, 15, 16, 17] [9, 10, 11, 12, 13, 14, 15] rfl rfl rfl (by decide) (by decide) (by decide) rfl q243 q244 q245 q26 q246 (by decide +kernel) rfl ⟨rfl, rfl⟩ ⟨Nat.le_of_ble_eq_true rfl, Nat.le_of_ble_eq_true rfl⟩ ⟨Nat.le_of_ble_eq_true rfl, Nat.le_of_ble_eq_true rfl⟩ rfl (Nat.le_of_ble_eq_true rfl) dL_law_245 (fun H locs (hB : wB D (fun q => s.heap.size ≤ q) s.heap (dk h d C (valueD C (xs (i + 1)) (xs (i + 2)) (xs (i + 3)) (P, V, K)).2.1 (valueD C (xs (i + 1)) (xs (i + 2)) (xs (i + 3)) (P, V, K)).2.2.1 (valueD C (xs (i + 1)) (xs (i + 2)) (xs (i + 3)) (P, V, K)).2.2.2 ++ mk g f C (valueM C (xs (i + 1)) (xs (i + 2)) (xs (i + 3)) M).2) H locs) => ?_)
  refine lv_icmp_eq (tgt := 358) E.x E.b dL_law_248 (by decide) (fun _ => ?_) (fun hne => absurd ?_ hne)
  · exact kk C (valueD C (xs (i + 1)) (xs (i + 2)) (xs (i + 3)) (P, V, K)).2.1 (valueD C (xs (i + 1)) (xs (i + 2)) (xs (i + 3)) (P, V, K)).2.2.1 (valueD C (xs (i + 1)) (xs (i + 2)) (xs (i + 3)) (P, V, K)).2.2.2 (valueM C (xs (i + 1)) (xs (i + 2)) (xs (i + 3)) M).2 H locs hC hB
  · rw [same_value hC]
set_option maxHeartbeats 4000000 in
set_option maxRecDepth 100000 in
/-- the call depth -/
theorem case_depth {p : Program} {l : Launch} {e : Env} {s : State} {m : MethodId} {below : List Frame} {meth : Method} {c : Code} {H : Heap} {locs : List Loc} {ls : Array Slot} {b L i : Nat} {xs : Nat → Int32} {D : va_G} {h g : Nat → Nat} {d f : Nat → ClassId} {C : CS} {P : PS} {V : VS} {K : KS} {M : MS} (E : ev p m c cL_law 4 s #[Value.ref b] R_law D (tyD d ++ tyM f)) (hX : va_X b L xs s s.heap) (hbl : b < s.heap.size) (hL : L ≤ 256) (hi : i + 4 ≤ L) (hC : okC C) (hl : lv_has ls 4 [(0, .ref b), (1, .ref (h 0)), (2, .ref (g 0)), (3, .int (nI i))]) (hB : wB D (fun q => s.heap.size ≤ q) s.heap (dk h d C P V K ++ mk g f C M) H locs)
    (kk : ∀ (C : CS) (P : PS) (V : VS) (K : KS) (M : MS) (H : Heap) (locs : List Loc), okC C → wB D (fun q => s.heap.size ≤ q) s.heap (dk h d C P V K ++ mk g f C M) H locs → W p l e room_1 s m #[Value.ref b] below meth c H locs 18 388 (lw_Z below #[Value.ref b] s) (F0 m 358 ls [])) : W p l e room_1 s m #[Value.ref b] below meth c H locs 18 388 (lw_Z below #[Value.ref b] s) (F0 m 253 ls []) := by
  refine lv_aload_n E.x E.b dL_law_253 rfl (lv_at hl 1 rfl) ?_
  refine lv_aload_n E.x E.b dL_law_254 rfl (lv_at hl 0 rfl) ?_
  refine lv_iload_n E.x E.b dL_law_255 rfl (lv_at hl 3 rfl) ?_
  refine lv_iconst (v := nI 1) E.x E.b dL_law_256 (by decide +kernel) ?_
  refine n_add E dL_law_257 ?_
  refine r_sld E hX hbl (Nat.not_le.mpr hbl) hB (by omega) hL dL_law_258 ?_
  refine r_fr (ci := 0) (q := (RX0, TX0, 17)) (wr := mk g f C M) (rest := []) E (fun _ h => h) hB hl.1 1 (m_depth l D h d C P V K (xs (i + 1)) hC (sok hC)) rfl rfl [0, 1, 2, 3, 4, 5, 6, 7, 8, 9] [10, 11, 12, 13, 14, 15, 16, 17] [0, 1, 2, 3, 4, 5, 6, 7, 8] rfl rfl rfl (by decide) (by decide) (by decide) rfl q141 q142 q143 q25 q144 (by decide +kernel) rfl ⟨rfl, rfl⟩ ⟨Nat.le_of_ble_eq_true rfl, Nat.le_of_ble_eq_true rfl⟩ ⟨Nat.le_of_ble_eq_true rfl, Nat.le_of_ble_eq_true rfl⟩ rfl (Nat.le_of_ble_eq_true rfl) dL_law_259 (fun H locs (hB : wB D (fun q => s.heap.size ≤ q) s.heap (mk g f C M ++ dk h d C (depthD C (xs (i + 1)) (P, V, K)).2.1 (depthD C (xs (i + 1)) (P, V, K)).2.2.1 (depthD C (xs (i + 1)) (P, V, K)).2.2.2) H locs) => ?_)
  refine lv_aload_n E.x E.b dL_law_262 rfl (lv_at hl 2 rfl) ?_
  refine lv_aload_n E.x E.b dL_law_263 rfl (lv_at hl 0 rfl) ?_
  refine lv_iload_n E.x E.b dL_law_264 rfl (lv_at hl 3 rfl) ?_
  refine lv_iconst (v := nI 1) E.x E.b dL_law_265 (by decide +kernel) ?_
  refine n_add E dL_law_266 ?_
  refine r_sld E hX hbl (Nat.not_le.mpr hbl) hB (by omega) hL dL_law_267 ?_
  refine r_fr (ci := 1) (q := (RX1, TX1, 9)) (wr := dk h d C (depthD C (xs (i + 1)) (P, V, K)).2.1 (depthD C (xs (i + 1)) (P, V, K)).2.2.1 (depthD C (xs (i + 1)) (P, V, K)).2.2.2) (rest := [_]) E (fun _ h => h) hB hl.1 1 (m1_depth l D g f C M (xs (i + 1)) hC) rfl rfl [0, 1, 2, 3, 4, 5, 6, 7] [8, 9, 10, 11, 12, 13, 14, 15, 16, 17] [9, 10, 11, 12, 13, 14, 15] rfl rfl rfl (by decide) (by decide) (by decide) rfl q255 q256 q257 q26 q258 (by decide +kernel) rfl ⟨rfl, rfl⟩ ⟨Nat.le_of_ble_eq_true rfl, Nat.le_of_ble_eq_true rfl⟩ ⟨Nat.le_of_ble_eq_true rfl, Nat.le_of_ble_eq_true rfl⟩ rfl (Nat.le_of_ble_eq_true rfl) dL_law_268 (fun H locs (hB : wB D (fun q => s.heap.size ≤ q) s.heap (dk h d C (depthD C (xs (i + 1)) (P, V, K)).2.1 (depthD C (xs (i + 1)) (P, V, K)).2.2.1 (depthD C (xs (i + 1)) (P, V, K)).2.2.2 ++ mk g f C (depthM C (xs (i + 1)) M).2) H locs) => ?_)
  refine lv_icmp_eq (tgt := 358) E.x E.b dL_law_271 (by decide) (fun _ => ?_) (fun hne => absurd ?_ hne)
  · exact kk C (depthD C (xs (i + 1)) (P, V, K)).2.1 (depthD C (xs (i + 1)) (P, V, K)).2.2.1 (depthD C (xs (i + 1)) (P, V, K)).2.2.2 (depthM C (xs (i + 1)) M).2 H locs hC hB
  · rw [same_depth hC]
set_option maxHeartbeats 4000000 in
set_option maxRecDepth 100000 in
/-- the call holds -/
theorem case_holds {p : Program} {l : Launch} {e : Env} {s : State} {m : MethodId} {below : List Frame} {meth : Method} {c : Code} {H : Heap} {locs : List Loc} {ls : Array Slot} {b L i : Nat} {xs : Nat → Int32} {D : va_G} {h g : Nat → Nat} {d f : Nat → ClassId} {C : CS} {P : PS} {V : VS} {K : KS} {M : MS} (E : ev p m c cL_law 4 s #[Value.ref b] R_law D (tyD d ++ tyM f)) (hX : va_X b L xs s s.heap) (hbl : b < s.heap.size) (hL : L ≤ 256) (hi : i + 4 ≤ L) (hC : okC C) (hl : lv_has ls 4 [(0, .ref b), (1, .ref (h 0)), (2, .ref (g 0)), (3, .int (nI i))]) (hB : wB D (fun q => s.heap.size ≤ q) s.heap (dk h d C P V K ++ mk g f C M) H locs)
    (kk : ∀ (C : CS) (P : PS) (V : VS) (K : KS) (M : MS) (H : Heap) (locs : List Loc), okC C → wB D (fun q => s.heap.size ≤ q) s.heap (dk h d C P V K ++ mk g f C M) H locs → W p l e room_1 s m #[Value.ref b] below meth c H locs 18 388 (lw_Z below #[Value.ref b] s) (F0 m 358 ls [])) : W p l e room_1 s m #[Value.ref b] below meth c H locs 18 388 (lw_Z below #[Value.ref b] s) (F0 m 276 ls []) := by
  refine lv_aload_n E.x E.b dL_law_276 rfl (lv_at hl 1 rfl) ?_
  refine lv_aload_n E.x E.b dL_law_277 rfl (lv_at hl 0 rfl) ?_
  refine lv_iload_n E.x E.b dL_law_278 rfl (lv_at hl 3 rfl) ?_
  refine lv_iconst (v := nI 1) E.x E.b dL_law_279 (by decide +kernel) ?_
  refine n_add E dL_law_280 ?_
  refine r_sld E hX hbl (Nat.not_le.mpr hbl) hB (by omega) hL dL_law_281 ?_
  refine r_fr (ci := 0) (q := (RX0, TX0, 17)) (wr := mk g f C M) (rest := []) E (fun _ h => h) hB hl.1 1 (m_holds l D h d C P V K (xs (i + 1)) hC (sok hC)) rfl rfl [0, 1, 2, 3, 4, 5, 6, 7, 8, 9] [10, 11, 12, 13, 14, 15, 16, 17] [0, 1, 2, 3, 4, 5, 6, 7, 8] rfl rfl rfl (by decide) (by decide) (by decide) rfl q169 q170 q171 q25 q172 (by decide +kernel) rfl ⟨rfl, rfl⟩ ⟨Nat.le_of_ble_eq_true rfl, Nat.le_of_ble_eq_true rfl⟩ ⟨Nat.le_of_ble_eq_true rfl, Nat.le_of_ble_eq_true rfl⟩ rfl (Nat.le_of_ble_eq_true rfl) dL_law_282 (fun H locs (hB : wB D (fun q => s.heap.size ≤ q) s.heap (mk g f C M ++ dk h d C (holdsD C (xs (i + 1)) (P, V, K)).2.1 (holdsD C (xs (i + 1)) (P, V, K)).2.2.1 (holdsD C (xs (i + 1)) (P, V, K)).2.2.2) H locs) => ?_)
  refine lv_aload_n E.x E.b dL_law_285 rfl (lv_at hl 2 rfl) ?_
  refine lv_aload_n E.x E.b dL_law_286 rfl (lv_at hl 0 rfl) ?_
  refine lv_iload_n E.x E.b dL_law_287 rfl (lv_at hl 3 rfl) ?_
  refine lv_iconst (v := nI 1) E.x E.b dL_law_288 (by decide +kernel) ?_
  refine n_add E dL_law_289 ?_
  refine r_sld E hX hbl (Nat.not_le.mpr hbl) hB (by omega) hL dL_law_290 ?_
  refine r_fr (ci := 1) (q := (RX1, TX1, 9)) (wr := dk h d C (holdsD C (xs (i + 1)) (P, V, K)).2.1 (holdsD C (xs (i + 1)) (P, V, K)).2.2.1 (holdsD C (xs (i + 1)) (P, V, K)).2.2.2) (rest := [_]) E (fun _ h => h) hB hl.1 1 (m1_holds l D g f C M (xs (i + 1)) hC) rfl rfl [0, 1, 2, 3, 4, 5, 6, 7] [8, 9, 10, 11, 12, 13, 14, 15, 16, 17] [9, 10, 11, 12, 13, 14, 15] rfl rfl rfl (by decide) (by decide) (by decide) rfl q283 q284 q285 q26 q286 (by decide +kernel) rfl ⟨rfl, rfl⟩ ⟨Nat.le_of_ble_eq_true rfl, Nat.le_of_ble_eq_true rfl⟩ ⟨Nat.le_of_ble_eq_true rfl, Nat.le_of_ble_eq_true rfl⟩ rfl (Nat.le_of_ble_eq_true rfl) dL_law_291 (fun H locs (hB : wB D (fun q => s.heap.size ≤ q) s.heap (dk h d C (holdsD C (xs (i + 1)) (P, V, K)).2.1 (holdsD C (xs (i + 1)) (P, V, K)).2.2.1 (holdsD C (xs (i + 1)) (P, V, K)).2.2.2 ++ mk g f C (holdsM C (xs (i + 1)) M).2) H locs) => ?_)
  refine lv_icmp_eq (tgt := 358) E.x E.b dL_law_294 (by decide) (fun _ => ?_) (fun hne => absurd ?_ hne)
  · exact kk C (holdsD C (xs (i + 1)) (P, V, K)).2.1 (holdsD C (xs (i + 1)) (P, V, K)).2.2.1 (holdsD C (xs (i + 1)) (P, V, K)).2.2.2 (holdsM C (xs (i + 1)) M).2 H locs hC hB
  · rw [same_holds hC]
set_option maxHeartbeats 4000000 in
set_option maxRecDepth 100000 in
/-- the call proof -/
theorem case_proof {p : Program} {l : Launch} {e : Env} {s : State} {m : MethodId} {below : List Frame} {meth : Method} {c : Code} {H : Heap} {locs : List Loc} {ls : Array Slot} {b L i : Nat} {xs : Nat → Int32} {D : va_G} {h g : Nat → Nat} {d f : Nat → ClassId} {C : CS} {P : PS} {V : VS} {K : KS} {M : MS} (E : ev p m c cL_law 4 s #[Value.ref b] R_law D (tyD d ++ tyM f)) (hX : va_X b L xs s s.heap) (hbl : b < s.heap.size) (hL : L ≤ 256) (hi : i + 4 ≤ L) (hC : okC C) (hl : lv_has ls 4 [(0, .ref b), (1, .ref (h 0)), (2, .ref (g 0)), (3, .int (nI i))]) (hB : wB D (fun q => s.heap.size ≤ q) s.heap (dk h d C P V K ++ mk g f C M) H locs)
    (kk : ∀ (C : CS) (P : PS) (V : VS) (K : KS) (M : MS) (H : Heap) (locs : List Loc), okC C → wB D (fun q => s.heap.size ≤ q) s.heap (dk h d C P V K ++ mk g f C M) H locs → W p l e room_1 s m #[Value.ref b] below meth c H locs 18 388 (lw_Z below #[Value.ref b] s) (F0 m 358 ls [])) : W p l e room_1 s m #[Value.ref b] below meth c H locs 18 388 (lw_Z below #[Value.ref b] s) (F0 m 299 ls []) := by
  refine lv_aload_n E.x E.b dL_law_299 rfl (lv_at hl 1 rfl) ?_
  refine r_fr (ci := 0) (q := (RX0, TX0, 17)) (wr := mk g f C M) (rest := []) E (fun _ h => h) hB hl.1 0 (m_proof l D h d C P V K  hC (sok hC)) rfl rfl [0, 1, 2, 3, 4, 5, 6, 7, 8, 9] [10, 11, 12, 13, 14, 15, 16, 17] [0, 1, 2, 3, 4, 5, 6, 7, 8] rfl rfl rfl (by decide) (by decide) (by decide) rfl q173 q174 q175 q25 q176 (by decide +kernel) rfl ⟨rfl, rfl⟩ ⟨Nat.le_of_ble_eq_true rfl, Nat.le_of_ble_eq_true rfl⟩ ⟨Nat.le_of_ble_eq_true rfl, Nat.le_of_ble_eq_true rfl⟩ rfl (Nat.le_of_ble_eq_true rfl) dL_law_300 (fun H locs (hB : wB D (fun q => s.heap.size ≤ q) s.heap (mk g f C M ++ dk h d C (proofL C 7 0 (P, V, K)).2.1 (proofL C 7 0 (P, V, K)).2.2.1 (proofL C 7 0 (P, V, K)).2.2.2) H locs) => ?_)
  refine lv_aload_n E.x E.b dL_law_303 rfl (lv_at hl 2 rfl) ?_
  refine r_fr (ci := 1) (q := (RX1, TX1, 9)) (wr := dk h d C (proofL C 7 0 (P, V, K)).2.1 (proofL C 7 0 (P, V, K)).2.2.1 (proofL C 7 0 (P, V, K)).2.2.2) (rest := [_]) E (fun _ h => h) hB hl.1 0 (m1_proof l D g f C M  hC) rfl rfl [0, 1, 2, 3, 4, 5, 6, 7] [8, 9, 10, 11, 12, 13, 14, 15, 16, 17] [9, 10, 11, 12, 13, 14, 15] rfl rfl rfl (by decide) (by decide) (by decide) rfl q291 q292 q293 q26 q294 (by decide +kernel) rfl ⟨rfl, rfl⟩ ⟨Nat.le_of_ble_eq_true rfl, Nat.le_of_ble_eq_true rfl⟩ ⟨Nat.le_of_ble_eq_true rfl, Nat.le_of_ble_eq_true rfl⟩ rfl (Nat.le_of_ble_eq_true rfl) dL_law_304 (fun H locs (hB : wB D (fun q => s.heap.size ≤ q) s.heap (dk h d C (proofL C 7 0 (P, V, K)).2.1 (proofL C 7 0 (P, V, K)).2.2.1 (proofL C 7 0 (P, V, K)).2.2.2 ++ mk g f C (proofM C 7 0 M).2) H locs) => ?_)
  refine lv_icmp_eq (tgt := 358) E.x E.b dL_law_307 (by decide) (fun _ => ?_) (fun hne => absurd ?_ hne)
  · exact kk C (proofL C 7 0 (P, V, K)).2.1 (proofL C 7 0 (P, V, K)).2.2.1 (proofL C 7 0 (P, V, K)).2.2.2 (proofM C 7 0 M).2 H locs hC hB
  · rw [same_proof hC]
set_option maxHeartbeats 4000000 in
set_option maxRecDepth 100000 in
/-- the call witness -/
theorem case_witness {p : Program} {l : Launch} {e : Env} {s : State} {m : MethodId} {below : List Frame} {meth : Method} {c : Code} {H : Heap} {locs : List Loc} {ls : Array Slot} {b L i : Nat} {xs : Nat → Int32} {D : va_G} {h g : Nat → Nat} {d f : Nat → ClassId} {C : CS} {P : PS} {V : VS} {K : KS} {M : MS} (E : ev p m c cL_law 4 s #[Value.ref b] R_law D (tyD d ++ tyM f)) (hX : va_X b L xs s s.heap) (hbl : b < s.heap.size) (hL : L ≤ 256) (hi : i + 4 ≤ L) (hC : okC C) (hl : lv_has ls 4 [(0, .ref b), (1, .ref (h 0)), (2, .ref (g 0)), (3, .int (nI i))]) (hB : wB D (fun q => s.heap.size ≤ q) s.heap (dk h d C P V K ++ mk g f C M) H locs)
    (kk : ∀ (C : CS) (P : PS) (V : VS) (K : KS) (M : MS) (H : Heap) (locs : List Loc), okC C → wB D (fun q => s.heap.size ≤ q) s.heap (dk h d C P V K ++ mk g f C M) H locs → W p l e room_1 s m #[Value.ref b] below meth c H locs 18 388 (lw_Z below #[Value.ref b] s) (F0 m 358 ls [])) : W p l e room_1 s m #[Value.ref b] below meth c H locs 18 388 (lw_Z below #[Value.ref b] s) (F0 m 312 ls []) := by
  refine lv_aload_n E.x E.b dL_law_312 rfl (lv_at hl 1 rfl) ?_
  refine lv_aload_n E.x E.b dL_law_313 rfl (lv_at hl 0 rfl) ?_
  refine lv_iload_n E.x E.b dL_law_314 rfl (lv_at hl 3 rfl) ?_
  refine lv_iconst (v := nI 1) E.x E.b dL_law_315 (by decide +kernel) ?_
  refine n_add E dL_law_316 ?_
  refine r_sld E hX hbl (Nat.not_le.mpr hbl) hB (by omega) hL dL_law_317 ?_
  refine r_fr (ci := 0) (q := (RX0, TX0, 17)) (wr := mk g f C M) (rest := []) E (fun _ h => h) hB hl.1 1 (m_witness l D h d C P V K (xs (i + 1)) hC (sok hC) (wit_known hC (P, V, K))) rfl rfl [0, 1, 2, 3, 4, 5, 6, 7, 8, 9] [10, 11, 12, 13, 14, 15, 16, 17] [0, 1, 2, 3, 4, 5, 6, 7, 8] rfl rfl rfl (by decide) (by decide) (by decide) rfl q177 q178 q179 q25 q180 (by decide +kernel) rfl ⟨rfl, rfl⟩ ⟨Nat.le_of_ble_eq_true rfl, Nat.le_of_ble_eq_true rfl⟩ ⟨Nat.le_of_ble_eq_true rfl, Nat.le_of_ble_eq_true rfl⟩ rfl (Nat.le_of_ble_eq_true rfl) dL_law_318 (fun H locs (hB : wB D (fun q => s.heap.size ≤ q) s.heap (mk g f C M ++ dk h d C (witnessD C (xs (i + 1)) (P, V, K)).2.1 (witnessD C (xs (i + 1)) (P, V, K)).2.2.1 (witnessD C (xs (i + 1)) (P, V, K)).2.2.2) H locs) => ?_)
  refine lv_aload_n E.x E.b dL_law_321 rfl (lv_at hl 2 rfl) ?_
  refine lv_aload_n E.x E.b dL_law_322 rfl (lv_at hl 0 rfl) ?_
  refine lv_iload_n E.x E.b dL_law_323 rfl (lv_at hl 3 rfl) ?_
  refine lv_iconst (v := nI 1) E.x E.b dL_law_324 (by decide +kernel) ?_
  refine n_add E dL_law_325 ?_
  refine r_sld E hX hbl (Nat.not_le.mpr hbl) hB (by omega) hL dL_law_326 ?_
  refine r_fr (ci := 1) (q := (RX1, TX1, 9)) (wr := dk h d C (witnessD C (xs (i + 1)) (P, V, K)).2.1 (witnessD C (xs (i + 1)) (P, V, K)).2.2.1 (witnessD C (xs (i + 1)) (P, V, K)).2.2.2) (rest := [_]) E (fun _ h => h) hB hl.1 1 (m1_witness l D g f C M (xs (i + 1)) hC) rfl rfl [0, 1, 2, 3, 4, 5, 6, 7] [8, 9, 10, 11, 12, 13, 14, 15, 16, 17] [9, 10, 11, 12, 13, 14, 15] rfl rfl rfl (by decide) (by decide) (by decide) rfl q296 q297 q298 q26 q299 (by decide +kernel) rfl ⟨rfl, rfl⟩ ⟨Nat.le_of_ble_eq_true rfl, Nat.le_of_ble_eq_true rfl⟩ ⟨Nat.le_of_ble_eq_true rfl, Nat.le_of_ble_eq_true rfl⟩ rfl (Nat.le_of_ble_eq_true rfl) dL_law_327 (fun H locs (hB : wB D (fun q => s.heap.size ≤ q) s.heap (dk h d C (witnessD C (xs (i + 1)) (P, V, K)).2.1 (witnessD C (xs (i + 1)) (P, V, K)).2.2.1 (witnessD C (xs (i + 1)) (P, V, K)).2.2.2 ++ mk g f C (witnessM C (xs (i + 1)) M).2) H locs) => ?_)
  refine lv_icmp_eq (tgt := 358) E.x E.b dL_law_330 (by decide) (fun _ => ?_) (fun hne => absurd ?_ hne)
  · exact kk C (witnessD C (xs (i + 1)) (P, V, K)).2.1 (witnessD C (xs (i + 1)) (P, V, K)).2.2.1 (witnessD C (xs (i + 1)) (P, V, K)).2.2.2 (witnessM C (xs (i + 1)) M).2 H locs hC hB
  · rw [same_witness hC]
set_option maxHeartbeats 4000000 in
set_option maxRecDepth 100000 in
/-- the call input -/
theorem case_input {p : Program} {l : Launch} {e : Env} {s : State} {m : MethodId} {below : List Frame} {meth : Method} {c : Code} {H : Heap} {locs : List Loc} {ls : Array Slot} {b L i : Nat} {xs : Nat → Int32} {D : va_G} {h g : Nat → Nat} {d f : Nat → ClassId} {C : CS} {P : PS} {V : VS} {K : KS} {M : MS} (E : ev p m c cL_law 4 s #[Value.ref b] R_law D (tyD d ++ tyM f)) (hX : va_X b L xs s s.heap) (hbl : b < s.heap.size) (hL : L ≤ 256) (hi : i + 4 ≤ L) (hC : okC C) (hl : lv_has ls 4 [(0, .ref b), (1, .ref (h 0)), (2, .ref (g 0)), (3, .int (nI i))]) (hB : wB D (fun q => s.heap.size ≤ q) s.heap (dk h d C P V K ++ mk g f C M) H locs)
    (kk : ∀ (C : CS) (P : PS) (V : VS) (K : KS) (M : MS) (H : Heap) (locs : List Loc), okC C → wB D (fun q => s.heap.size ≤ q) s.heap (dk h d C P V K ++ mk g f C M) H locs → W p l e room_1 s m #[Value.ref b] below meth c H locs 18 388 (lw_Z below #[Value.ref b] s) (F0 m 358 ls [])) : W p l e room_1 s m #[Value.ref b] below meth c H locs 18 388 (lw_Z below #[Value.ref b] s) (F0 m 335 ls []) := by
  refine lv_aload_n E.x E.b dL_law_335 rfl (lv_at hl 1 rfl) ?_
  refine lv_aload_n E.x E.b dL_law_336 rfl (lv_at hl 0 rfl) ?_
  refine lv_iload_n E.x E.b dL_law_337 rfl (lv_at hl 3 rfl) ?_
  refine lv_iconst (v := nI 1) E.x E.b dL_law_338 (by decide +kernel) ?_
  refine n_add E dL_law_339 ?_
  refine r_sld E hX hbl (Nat.not_le.mpr hbl) hB (by omega) hL dL_law_340 ?_
  refine r_fr (ci := 0) (q := (RX0, TX0, 17)) (wr := mk g f C M) (rest := []) E (fun _ h => h) hB hl.1 1 (m_input l D h d C P V K (xs (i + 1)) hC (sok hC)) rfl rfl [0, 1, 2, 3, 4, 5, 6, 7, 8, 9] [10, 11, 12, 13, 14, 15, 16, 17] [0, 1, 2, 3, 4, 5, 6, 7, 8] rfl rfl rfl (by decide) (by decide) (by decide) rfl q182 q183 q184 q25 q185 (by decide +kernel) rfl ⟨rfl, rfl⟩ ⟨Nat.le_of_ble_eq_true rfl, Nat.le_of_ble_eq_true rfl⟩ ⟨Nat.le_of_ble_eq_true rfl, Nat.le_of_ble_eq_true rfl⟩ rfl (Nat.le_of_ble_eq_true rfl) dL_law_341 (fun H locs (hB : wB D (fun q => s.heap.size ≤ q) s.heap (mk g f C M ++ dk h d C (inputD C (xs (i + 1)) (P, V, K)).2.1 (inputD C (xs (i + 1)) (P, V, K)).2.2.1 (inputD C (xs (i + 1)) (P, V, K)).2.2.2) H locs) => ?_)
  refine lv_aload_n E.x E.b dL_law_344 rfl (lv_at hl 2 rfl) ?_
  refine lv_aload_n E.x E.b dL_law_345 rfl (lv_at hl 0 rfl) ?_
  refine lv_iload_n E.x E.b dL_law_346 rfl (lv_at hl 3 rfl) ?_
  refine lv_iconst (v := nI 1) E.x E.b dL_law_347 (by decide +kernel) ?_
  refine n_add E dL_law_348 ?_
  refine r_sld E hX hbl (Nat.not_le.mpr hbl) hB (by omega) hL dL_law_349 ?_
  refine r_fr (ci := 1) (q := (RX1, TX1, 9)) (wr := dk h d C (inputD C (xs (i + 1)) (P, V, K)).2.1 (inputD C (xs (i + 1)) (P, V, K)).2.2.1 (inputD C (xs (i + 1)) (P, V, K)).2.2.2) (rest := [_]) E (fun _ h => h) hB hl.1 1 (m1_input l D g f C M (xs (i + 1)) hC) rfl rfl [0, 1, 2, 3, 4, 5, 6, 7] [8, 9, 10, 11, 12, 13, 14, 15, 16, 17] [9, 10, 11, 12, 13, 14, 15] rfl rfl rfl (by decide) (by decide) (by decide) rfl q300 q301 q302 q26 q303 (by decide +kernel) rfl ⟨rfl, rfl⟩ ⟨Nat.le_of_ble_eq_true rfl, Nat.le_of_ble_eq_true rfl⟩ ⟨Nat.le_of_ble_eq_true rfl, Nat.le_of_ble_eq_true rfl⟩ rfl (Nat.le_of_ble_eq_true rfl) dL_law_350 (fun H locs (hB : wB D (fun q => s.heap.size ≤ q) s.heap (dk h d C (inputD C (xs (i + 1)) (P, V, K)).2.1 (inputD C (xs (i + 1)) (P, V, K)).2.2.1 (inputD C (xs (i + 1)) (P, V, K)).2.2.2 ++ mk g f C (inputM C (xs (i + 1)) M).2) H locs) => ?_)
  refine lv_icmp_eq (tgt := 358) E.x E.b dL_law_353 (by decide) (fun _ => ?_) (fun hne => absurd ?_ hne)
  · exact kk C (inputD C (xs (i + 1)) (P, V, K)).2.1 (inputD C (xs (i + 1)) (P, V, K)).2.2.1 (inputD C (xs (i + 1)) (P, V, K)).2.2.2 (inputM C (xs (i + 1)) M).2 H locs hC hB
  · rw [same_input hC]
end
section
/-! THE LAW, 3: its loop and its start -/
set_option maxRecDepth 100000
set_option maxHeartbeats 4000000 in
set_option maxRecDepth 100000 in
/-- the law's loop -/
theorem law_loop {p : Program} {e : Env} {s : State} {m : MethodId} {below : List Frame} {meth : Method} {c : Code} (l : Launch) {b L : Nat} {xs : Nat → Int32} (hL : L ≤ 256) (C0 : lw_At p s m meth c b L xs) {D : va_G} {h g : Nat → Nat} {d f : Nat → ClassId} (E : ev p m c cL_law 4 s #[Value.ref b] R_law D (tyD d ++ tyM f)) : ∀ (n i : Nat), L + 1 ≤ i + n → i ≤ L → ∀ (C : CS) (P : PS) (V : VS) (K : KS) (M : MS) (H : Heap) (locs : List Loc) (ls : Array Slot), okC C → lv_has ls 4 [(0, .ref b), (1, .ref (h 0)), (2, .ref (g 0)), (3, .int (nI i))] → wB D (fun q => s.heap.size ≤ q) s.heap (dk h d C P V K ++ mk g f C M) H locs → W p l e room_1 s m #[Value.ref b] below meth c H locs 18 388 (lw_Z below #[Value.ref b] s) (F0 m 18 ls []) := by
  obtain ⟨hx, hb, hr, hml, hown, hts, hX, hbl, hlocks, hgv⟩ := id C0
  intro n
  induction n with
  | zero => intro i h1 h2; exact absurd h2 (by omega)
  | succ n ih =>
    intro i h1 h2 C P V K M H locs ls hC hl hB
    refine lv_iload_n E.x E.b dL_law_18 rfl (lv_at hl 3 rfl) ?_
    refine lv_aload_n E.x E.b dL_law_19 rfl (lv_at hl 0 rfl) ?_
    refine va_slen E.x E.b hX hbl (Nat.not_le.mpr hbl) hB.2.2 dL_law_20 ?_
    refine lv_iconst (v := nI 4) E.x E.b dL_law_21 (by decide +kernel) ?_
    refine lv_isub E.x E.b dL_law_22 ?_
    refine lv_icmp_gt (tgt := 364) E.x E.b dL_law_23 (by decide) (fun hc => ?_) (fun hc => ?_)
    · refine lv_iconst (v := 1) E.x E.b dL_law_364 (by decide +kernel) ?_
      refine va_forget (fun q hq => hB.2.2.2.2 q hq) ?_
      refine W.widen (k := 600000) (n := 7290000) (Nat.le_of_ble_eq_true rfl) (Nat.le_of_ble_eq_true rfl) ?_
      exact lw_ret hx hb hr hlocks dL_law_365
    · have hi : i + 4 ≤ L := go_on (by omega) hL hc
      have tail : ∀ (C : CS) (P : PS) (V : VS) (K : KS) (M : MS) (H : Heap) (locs : List Loc), okC C → wB D (fun q => s.heap.size ≤ q) s.heap (dk h d C P V K ++ mk g f C M) H locs → W p l e room_1 s m #[Value.ref b] below meth c H locs 18 388 (lw_Z below #[Value.ref b] s) (F0 m 358 ls []) := by
        intro C P V K M H locs hC hB
        refine lv_iinc (v := nI (i + 4)) (lv' := [(3, .int (nI (i + 4))), (0, .ref b), (1, .ref (h 0)), (2, .ref (g 0))]) E.x E.b dL_law_358 hl (k := 3) rfl (inc4 i) (by decide) rfl (fun ls hl => ?_)
        refine lv_goto (tgt := 18) E.x E.b dL_law_361 (by decide) ?_
        exact ih (i + 4) (by omega) hi C P V K M H locs ls hC (lv_sub hl [1, 2, 3, 0] rfl) hB
      refine lv_aload_n E.x E.b dL_law_26 rfl (lv_at hl 0 rfl) ?_
      refine lv_iload_n E.x E.b dL_law_27 rfl (lv_at hl 3 rfl) ?_
      refine r_sld E hX hbl (Nat.not_le.mpr hbl) hB (by omega) hL dL_law_28 ?_
      refine lv_bipush (v := nI 15) E.x E.b dL_law_29 (by decide +kernel) ?_
      refine lv_iand E.x E.b dL_law_31 ?_
      obtain ⟨j, hj, ej⟩ := pk_andE (xs i) (m := nI 15) 4 (by decide +kernel)
      rw [ej]
      by_cases h10 : 10 ≤ j
      · refine lv_tableOut (tgt := 358) E.x E.b dL_law_32 (Or.inr ?_) (by decide) ?_
        · rw [nI_toInt (by omega)]; omega
        · exact tail C P V K M H locs hC hB
      · rcases (show j = 0 ∨ j = 1 ∨ j = 2 ∨ j = 3 ∨ j = 4 ∨ j = 5 ∨ j = 6 ∨ j = 7 ∨ j = 8 ∨ j = 9 by omega) with rfl | rfl | rfl | rfl | rfl | rfl | rfl | rfl | rfl | rfl
        · refine lv_tableIn (off := 56) (tgt := 88) E.x E.b dL_law_32 (by decide +kernel) (by decide +kernel) (by decide +kernel) (by decide) ?_
          exact case_gate E hX hbl hL hi hC hl hB tail
        · refine lv_tableIn (off := 89) (tgt := 121) E.x E.b dL_law_32 (by decide +kernel) (by decide +kernel) (by decide +kernel) (by decide) ?_
          exact case_next E hX hbl hL hi hC hl hB tail
        · refine lv_tableIn (off := 122) (tgt := 154) E.x E.b dL_law_32 (by decide +kernel) (by decide +kernel) (by decide +kernel) (by decide) ?_
          exact case_begin E hX hbl hL hi hC hl hB tail
        · refine lv_tableIn (off := 155) (tgt := 187) E.x E.b dL_law_32 (by decide +kernel) (by decide +kernel) (by decide +kernel) (by decide) ?_
          exact case_bad E hX hbl hL hi hC hl hB tail
        · refine lv_tableIn (off := 178) (tgt := 210) E.x E.b dL_law_32 (by decide +kernel) (by decide +kernel) (by decide +kernel) (by decide) ?_
          exact case_value E hX hbl hL hi hC hl hB tail
        · refine lv_tableIn (off := 221) (tgt := 253) E.x E.b dL_law_32 (by decide +kernel) (by decide +kernel) (by decide +kernel) (by decide) ?_
          exact case_depth E hX hbl hL hi hC hl hB tail
        · refine lv_tableIn (off := 244) (tgt := 276) E.x E.b dL_law_32 (by decide +kernel) (by decide +kernel) (by decide +kernel) (by decide) ?_
          exact case_holds E hX hbl hL hi hC hl hB tail
        · refine lv_tableIn (off := 267) (tgt := 299) E.x E.b dL_law_32 (by decide +kernel) (by decide +kernel) (by decide +kernel) (by decide) ?_
          exact case_proof E hX hbl hL hi hC hl hB tail
        · refine lv_tableIn (off := 280) (tgt := 312) E.x E.b dL_law_32 (by decide +kernel) (by decide +kernel) (by decide +kernel) (by decide) ?_
          exact case_witness E hX hbl hL hi hC hl hB tail
        · refine lv_tableIn (off := 303) (tgt := 335) E.x E.b dL_law_32 (by decide +kernel) (by decide +kernel) (by decide +kernel) (by decide) ?_
          exact case_input E hX hbl hL hi hC hl hB tail
set_option maxHeartbeats 4000000 in
set_option maxRecDepth 100000 in
/-- THE LAW, from its entry -/
theorem whole_start {p : Program} {e : Env} {s : State} {m : MethodId} {below : List Frame} {meth : Method} {c : Code} (l : Launch) {b L : Nat} {xs : Nat → Int32} (hL : L ≤ 256) (C0 : lw_At p s m meth c b L xs) : W p l e room_1 s m #[Value.ref b] below meth c s.heap [] 0 0 (lw_Z below #[Value.ref b] s) (entryFrame m ([Value.ref b] : List Value).toArray 4) := by
  obtain ⟨hx, hb, hr, hml, hown, hts0, hX, hbl, hlocks, hgv⟩ := id C0
  have hts : ∀ w ∈ lw_all, w.before #[Value.ref b] s = true := fun w h => hts0 w (lw_all_tbl h)
  have hA : ∀ q : Nat, s.heap.size ≤ q → (fun q : Nat => s.heap.size ≤ q) q := fun _ h => h
  obtain ⟨c0, iS0, hKn0⟩ := u_known (C := RX0) (T := TX0) (N := 17) (n := 17) hts in_X0 (hts _ q28)
  obtain ⟨c1, iS1, hKn1⟩ := u_known (C := RX1) (T := TX1) (N := 9) (n := 9) hts in_X1 (hts _ q187)
  obtain ⟨D, hKc⟩ : ∃ D : va_G, ∀ (k : Nat) (q : vw_C), Cl[k]? = some q → u_Kn s q.1 q.2.1 q.2.2 (D.1 k) (D.2 k) := by
    refine ⟨(fun k => if k = 0 then c0 else c1, fun k => if k = 0 then iS0 else iS1), ?_⟩
    intro k q hq
    match k, hq with
    | 0, hq => cases hq; exact hKn0
    | 1, hq => cases hq; exact hKn1
    | k + 2, hq => simp [Cl] at hq
  have hS : va_S (fun q : Nat => s.heap.size ≤ q) s.heap s.heap [] := va_S.rf
  have hK : va_K D Cl [] s := ⟨hKc, fun k q h => by simp at h⟩
  have hP : va_P D Cl [] s.heap := fun k q h => by simp at h
  have hD : va_D (fun q : Nat => s.heap.size ≤ q) [] := ⟨fun i j p q h => by simp at h, fun k q h => by simp at h⟩
  have hl := lv_entry ([.ref b]) (n := 4) (Nat.le_of_ble_eq_true rfl)
  rw [lg_entry_eq]
  generalize (lg_sl ([.ref b]) ++ List.replicate (4 - (lg_sl ([.ref b])).length) Slot.unset).toArray = ls at hl ⊢
  have hl : lv_has ls 4 [(0, .ref b)] := hl
  refine va_new (ci := 0) (fs := fsD) (C := RX0) (T := TX0) (N := 17) hx hb hts in_X0 tyX0 tyX0_ok hown (hts _ q27) (hts _ q28) (hts _ q25) hK hP hD hS hA rfl (fun j hj => by rcases (show j = 0 ∨ j = 1 ∨ j = 2 ∨ j = 3 ∨ j = 4 ∨ j = 5 ∨ j = 6 ∨ j = 7 ∨ j = 8 ∨ j = 9 ∨ j = 10 ∨ j = 11 ∨ j = 12 ∨ j = 13 ∨ j = 14 ∨ j = 15 ∨ j = 16 by omega) with rfl | rfl | rfl | rfl | rfl | rfl | rfl | rfl | rfl | rfl | rfl | rfl | rfl | rfl | rfl | rfl | rfl <;> rfl) (Nat.le_of_ble_eq_true rfl) (Nat.le_of_ble_eq_true rfl) dL_law_0 (fun a0 H hP hD hS => ?_)
  have hP : va_P D Cl [(a0, .inr (0, fsD))] H := hP
  have hD : va_D (fun q : Nat => s.heap.size ≤ q) [(a0, .inr (0, fsD))] := hD
  refine lv_dup hx hb dL_law_3 rfl ?_
  have hFc := va_free (wc := [(a0, .inr (0, fsD))]) hD hS hA [0] rfl
  refine va_callv (va_runI (As := []) (rest := [.ref a0]) ⟨hx, hb, hml, hown, hts⟩ (c_init0 l D a0 H.size) (cwI 0 hts (lw_meth q31) rfl rfl rfl (hts _ q25) (hts _ q29) (hts _ q30) rfl (by decide +kernel) ⟨Nat.le_of_ble_eq_true rfl, Nat.le_of_ble_eq_true rfl⟩) ⟨wP.blind, fun U hU hW => ⟨rfl, by rw [hU], by rw [hU]; exact hP, va_K.moved hW.alike hK, hD.weaken (fun _ _ _ _ => trivial)⟩⟩ rfl rfl hl.1 rfl (lv_room (Nat.le_of_ble_eq_true rfl)) dL_law_4 ⟨Nat.le_of_ble_eq_true rfl, Nat.le_of_ble_eq_true rfl⟩) hS (fun q _ h => hFc q h) hFc (fun u t H1 locs ht hvm hw hB hz1 hk1 hS => ?_)
  obtain ⟨h, d⟩ := u
  have hw : h 0 = a0 := hw
  subst hw
  obtain ⟨hP1, hK1, hD1⟩ := hB
  rw [ht] at hP1
  have hK1 := va_K.moved hvm.symm hK1
  obtain ⟨hP, hD⟩ := va_join (wr := []) (w1 := dk h d (CI 4) PI VI KI) hP hD [0] [] rfl rfl (by decide) (by decide) hk1 hFc hP1 hD1
  have hP : va_P D Cl (dk h d (CI 4) PI VI KI) H1 := hP
  have hD : va_D (fun q : Nat => s.heap.size ≤ q) (dk h d (CI 4) PI VI KI) := hD
  have hK : va_K D Cl (tyD d) s := hK1
  clear hk1 hz1 hFc hP1 hD1 ht
  refine W.widen (k := 10) (n := 319) (Nat.le_of_ble_eq_true rfl) (Nat.le_of_ble_eq_true rfl) ?_
  refine lv_astore_n (lv' := [(1, .ref (h 0)), (0, .ref b)]) hx hb dL_law_7 rfl hl (by decide) rfl (fun ls hl => ?_)
  refine va_new (ci := 1) (fs := fsM) (C := RX1) (T := TX1) (N := 9) hx hb hts in_X1 tyX1 tyX1_ok hown (hts _ q186) (hts _ q187) (hts _ q26) hK hP hD hS hA rfl (fun j hj => by rcases (show j = 0 ∨ j = 1 ∨ j = 2 ∨ j = 3 ∨ j = 4 ∨ j = 5 ∨ j = 6 ∨ j = 7 ∨ j = 8 by omega) with rfl | rfl | rfl | rfl | rfl | rfl | rfl | rfl | rfl <;> rfl) (Nat.le_of_ble_eq_true rfl) (Nat.le_of_ble_eq_true rfl) dL_law_8 (fun a1 H hP hD hS => ?_)
  refine lv_dup hx hb dL_law_11 rfl ?_
  have hPc := hP.sub (ws' := [(a1, .inr (1, fsM))]) [10] rfl
  have hDc := hD.sub (ws' := [(a1, .inr (1, fsM))]) [10] (by decide) rfl
  have hKc := hK.sub (tys' := []) [] rfl
  have hFc := va_free (wc := [(a1, .inr (1, fsM))]) hD hS hA [10] rfl
  refine va_callv (va_runI (As := []) (rest := [.ref a1]) ⟨hx, hb, hml, hown, hts⟩ (c_init1 l D a1 H.size) (cwI 0 hts (lw_meth q190) rfl rfl rfl (hts _ q26) (hts _ q188) (hts _ q189) rfl (by decide +kernel) ⟨Nat.le_of_ble_eq_true rfl, Nat.le_of_ble_eq_true rfl⟩) ⟨wP.blind, fun U hU hW => ⟨rfl, by rw [hU], by rw [hU]; exact hPc, va_K.moved hW.alike hKc, hDc.weaken (fun _ _ _ _ => trivial)⟩⟩ rfl rfl hl.1 rfl (lv_room (Nat.le_of_ble_eq_true rfl)) dL_law_12 ⟨Nat.le_of_ble_eq_true rfl, Nat.le_of_ble_eq_true rfl⟩) hS (fun q _ h => hFc q h) hFc (fun u t H1 locs ht hvm hw hB hz1 hk1 hS => ?_)
  obtain ⟨g, f⟩ := u
  have hw : g 0 = a1 := hw
  subst hw
  obtain ⟨hP1, hK1, hD1⟩ := hB
  rw [ht] at hP1
  have hK1 := va_K.moved hvm.symm hK1
  obtain ⟨hP, hD⟩ := va_join (wr := dk h d (CI 4) PI VI KI) (w1 := mk g f (CI 4) MI) hP hD [10] [0, 1, 2, 3, 4, 5, 6, 7, 8, 9] rfl rfl (by decide) (by decide) hk1 hFc hP1 hD1
  have E : ev p m c cL_law 4 s #[Value.ref b] R_law D (tyD d ++ tyM f) := ⟨⟨hx, hb, hml, hown, hts⟩, hK.app hK1⟩
  refine W.widen (k := 18) (n := 388) (Nat.le_of_ble_eq_true rfl) (Nat.le_of_ble_eq_true rfl) ?_
  refine lv_astore_n (lv' := [(2, .ref (g 0)), (1, .ref (h 0)), (0, .ref b)]) hx hb dL_law_15 rfl hl (by decide) rfl (fun ls hl => ?_)
  refine lv_iconst (v := nI 0) hx hb dL_law_16 (by decide +kernel) ?_
  refine lv_istore_n (lv' := [(3, .int (nI 0)), (2, .ref (g 0)), (1, .ref (h 0)), (0, .ref b)]) hx hb dL_law_17 rfl hl (by decide) rfl (fun ls hl => ?_)
  exact law_loop l hL C0 E (L + 1) 0 (by omega) (Nat.zero_le _) (CI 4) PI VI KI MI H1 locs ls okC_I (lv_sub hl [3, 2, 1, 0] rfl) ⟨hP, hD, hS⟩
end
section
/-! THE CLAIM: by the skeleton -/
set_option maxRecDepth 100000
set_option maxHeartbeats 4000000 in
theorem lw_walk (l : Launch) (b : Addr) (xs : List Int32) : MetFree l x (headSpec (Jvm.Cond.code x code maxLocals ret :: tables_1) room_1) (lw_P b xs) (fun _ _ _ _ _ => True) lw_Q := by
  refine MetFree.of_bodyS (code := code) (maxLocals := maxLocals) (ret := ret) (by decide) ?_ ?_
  · intro args s m h hn
    obtain ⟨meth, c, h1, h2, h3, h4, h5, h6, -, -⟩ := Cond.code_spec hn (atoms_spec (ws := Jvm.Cond.code x code maxLocals ret :: tables_1) h _ List.mem_cons_self)
    exact ⟨meth, c, h1, h2, h3, h4, h5, h6⟩
  · intro p e s m args below meth c s₁ B hml0 hP _
    obtain ⟨rfl, hx, hbd, hgv⟩ := hP
    obtain ⟨scr, harrAt, hlist, hof, hsmall⟩ := hx
    obtain ⟨hcb, hkn, -, -⟩ := State.arrayAt?_spec harrAt
    have hown : s.vm.findClass R_law = some m.cls := findClass_of_methodNamed B.named
    have hts0 : ∀ c ∈ (Jvm.Cond.code x code maxLocals ret :: tables_1), c.before #[Value.ref b] s = true := atoms_spec (ws := Jvm.Cond.code x code maxLocals ret :: tables_1) B.pre
    have hts : ∀ w ∈ lw_tbl, w.before #[Value.ref b] s = true := k2_hts_sels lw_privs (fun w hw => hts0 w (List.mem_cons_of_mem _ hw)) lw_privs_ok
    have hml : c.maxLocals = 4 := B.maxLocals_eq (hts0 _ List.mem_cons_self)
    have X₀ : Stand p l e room_1 s m #[Value.ref b] below meth c s₁ [] 0 0 := Stand.of_body B
    have hh0 : s₁.heap = s.heap := by rw [B.state]; rfl
    have hsz : scr.slots.size = xs.length := by rw [← Array.length_toList, hlist, List.length_map]
    have hval : ∀ j : Nat, j < xs.length → scr.slots[j]? = some (.int (xs.getD j 0)) := fun j hj => by
      rw [← Array.getElem?_toList, hlist]
      simp [hj]
    have hbl : b < s.heap.size := (Array.getElem?_eq_some_iff.mp hcb).1
    have hX : va_X b xs.length (fun j => xs.getD j 0) s s.heap := ⟨scr, hcb, hof, hkn, hsz, hval⟩
    have K : W p l e room_1 s m #[Value.ref b] below meth c s₁.heap [] 0 0 (lw_Z below #[Value.ref b] s) (entryFrame m ([Value.ref b] : List Value).toArray 4) := by
      rw [hh0]
      exact whole_start l hbd ⟨B.exec, B.bytes, B.returns, hml, hown, hts, hX, hbl, B.notSynchronized, hgv⟩
    obtain ⟨t, a1, o, b1, b2, b3⟩ := K s₁ rfl X₀
    exact ⟨t, o, a1, b1, b2, b3⟩
theorem lw_pre_spec {args : Array Value} {s : State} (h : (Jvm.Cond.and given_1 narrow_1).before args s = true) (hr : rest_1_c.before args s = true) : ∃ (b : Addr) (xs : List Int32), lw_P b xs args s := by
  have hs := flat_of_before _ h
  have hq := flat_of_before _ hr
  have hc : (Cond.count 1).before args s = true := hs _ (by decide +kernel)
  have harr : (Cond.arrayOf (.arg 0) .int).before args s = true := hs _ (by decide +kernel)
  have hle : (Cond.le (.length (.arg 0)) (.int 256)).before args s = true := hs _ (by decide +kernel)
  have hlen : (Cond.isInt (.length (.arg 0))).before args s = true := hq _ (by decide +kernel)
  have hall : (Cond.all (.arg 0) (.isInt (.elem (.arg 0) (.index 0)))).before args s = true := hq _ (by decide +kernel)
  obtain ⟨b, xs, hb, hx⟩ := State.ints_of_pre rfl harr hlen hall
  have hsm : xs.length < 2 ^ 31 := hx.choose_spec.2.2.2
  have hev : (Term.length (.arg 0)).eval args s none [] s = some (.int xs.length.toInt32) := hx.length_eval hb
  have hv := Cond.le_ints hev (show (Term.int 256).eval args s none [] s = some (.int 256) from rfl)
  have hd : xs.length.toInt32 ≤ 256 := by
    simpa [Cond.before, Cond.holds, hv] using hle
  have hN : xs.length ≤ 256 := (Int32.ofNat_le_ofNat hsm (by decide)).mp (show Int32.ofNat xs.length ≤ Int32.ofNat 256 from hd)
  exact ⟨b, xs, Cond.one_arg hc (show args[0]? = some (.ref b) from hb), hx, hN, h⟩
theorem lw_comes (l : Launch) : Comes l x (Jvm.Cond.code x code maxLocals ret :: tables_1) room_1 (fun tb e args s => Calls_1 tb e args s ∧ rest_1 tb e args s ∧ Pre_1 tb e args s)
    (fun _ _ args s o t => lw_Q args s o t) := by
  intro p e ha hc hk s m args below hf hfit hheap happ hpre
  obtain ⟨b, xs, hP⟩ := lw_pre_spec hpre.2.2 hpre.2.1
  obtain ⟨k, o, h1, h2, h3, hQ⟩ := lw_walk l b xs p e ha hc hk s m args below hf ((Spec.applies_iff_loose hf).mp happ).1 hP trivial
  exact ⟨k, o, h1, h2, h3, hQ⟩
theorem lw_frame {s t : State} {o : Outcome} {args : Array Value} (h : Framed s o t [] 600000 7290000) :
    Framed s o t (fieldLocs frame_1_writes args s ++ arrayLocs frame_1_arrays args s ++ staticLocs frame_1_statics s) 600000 7290000 := h
theorem lw_limb (L : Cond) (hL : ∀ (args : Array Value) (s t : State), L.after args s (.returned (some (.int 1))) t = true) :
    ArmFor flags0 classFile x code maxLocals ret World_1 tables_1 room_1 Calls_1 rest_1 Pre_1
      (fun tb e a s o t => postC L tb e a s o t ∧ Framed s o t (fieldLocs frame_1_writes a s ++ arrayLocs frame_1_arrays a s ++ staticLocs frame_1_statics s) 600000 7290000) := by
  intro l _ _ _ p e ha hc hk s m args below hf hfit hheap happ hpre
  obtain ⟨k, o, h1, h2, h3, rfl, hF⟩ := lw_comes l p e ha hc hk s m args below hf hfit hheap happ hpre
  exact ⟨k, _, h1, h2, h3, hL args s _, lw_frame hF⟩
theorem i_vc : Claimed_1_1 ∧ Claimed_1_2 := ⟨lw_limb limb_1_1 (fun args s t => by simp [limb_1_1, Cond.after, Cond.holds, Cond.value]), lw_limb limb_1_2 (fun args s t => Cond.after_iff.mpr (by
  first | (rw [show limb_1_2 = Cond.eq .result (.int 1) from rfl, Cond.eq_ints (x := 1) (y := 1) rfl rfl]; simp; done) | (simp [limb_1_2, Cond.value, Term.eval]; done)))⟩
end
