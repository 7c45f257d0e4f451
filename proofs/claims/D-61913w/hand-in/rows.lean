section
-- ===== PART A: goes FIRST, ahead of the names: the tables' words, and 'selects' of the private methods out of them =====
/-- a private method of a class that the tables say can be made, by its rows of tables_1 -/
def lw_okq (q : MethodName × Nat) : Prop := (q.1.cls ≠ "java/lang/invoke/MethodHandle" ∧ q.1.cls ≠ "java/lang/invoke/VarHandle") ∧ Cond.instantiable q.1.cls q.2 ∈ tables_1 ∧ Cond.privateMethod q.1 ∈ tables_1 ∧ Cond.instanceMethod q.1 ∈ tables_1
set_option maxRecDepth 100000
theorem lw_t1 {w : Cond} (h : w ∈ tables_1_1) : w ∈ tables_1 := List.mem_append_left _ h
theorem lw_t2 {w : Cond} (h : w ∈ tables_1_2) : w ∈ tables_1 := List.mem_append_right _ h
theorem lw_p0 : lw_okq (⟨"RenameDesk", "openCount", "()I"⟩, 9) := ⟨⟨by decide +kernel, by decide +kernel⟩, lw_t1 (List.mem_of_getElem? (i := 4) rfl), lw_t1 (List.mem_of_getElem? (i := 45) rfl), lw_t1 (List.mem_of_getElem? (i := 46) rfl)⟩
theorem lw_p1 : lw_okq (⟨"RenameDesk", "isPlace", "(I)Z"⟩, 9) := ⟨⟨by decide +kernel, by decide +kernel⟩, lw_t1 (List.mem_of_getElem? (i := 4) rfl), lw_t1 (List.mem_of_getElem? (i := 61) rfl), lw_t1 (List.mem_of_getElem? (i := 62) rfl)⟩
theorem lw_p2 : lw_okq (⟨"RenameDesk", "isA", "(II)Z"⟩, 9) := ⟨⟨by decide +kernel, by decide +kernel⟩, lw_t1 (List.mem_of_getElem? (i := 4) rfl), lw_t1 (List.mem_of_getElem? (i := 69) rfl), lw_t1 (List.mem_of_getElem? (i := 70) rfl)⟩
theorem lw_p3 : lw_okq (⟨"RenameDesk", "learn", "()V"⟩, 9) := ⟨⟨by decide +kernel, by decide +kernel⟩, lw_t1 (List.mem_of_getElem? (i := 4) rfl), lw_t1 (List.mem_of_getElem? (i := 73) rfl), lw_t1 (List.mem_of_getElem? (i := 74) rfl)⟩
theorem lw_p4 : lw_okq (⟨"RenameDesk", "winner", "(II)I"⟩, 9) := ⟨⟨by decide +kernel, by decide +kernel⟩, lw_t1 (List.mem_of_getElem? (i := 4) rfl), lw_t1 (List.mem_of_getElem? (i := 77) rfl), lw_t1 (List.mem_of_getElem? (i := 78) rfl)⟩
theorem lw_p5 : lw_okq (⟨"RenameDesk", "sees", "(II)Z"⟩, 9) := ⟨⟨by decide +kernel, by decide +kernel⟩, lw_t1 (List.mem_of_getElem? (i := 4) rfl), lw_t1 (List.mem_of_getElem? (i := 81) rfl), lw_t1 (List.mem_of_getElem? (i := 82) rfl)⟩
theorem lw_p6 : lw_okq (⟨"RenameDesk", "inBlockOf", "(II)Z"⟩, 9) := ⟨⟨by decide +kernel, by decide +kernel⟩, lw_t1 (List.mem_of_getElem? (i := 4) rfl), lw_t1 (List.mem_of_getElem? (i := 85) rfl), lw_t1 (List.mem_of_getElem? (i := 86) rfl)⟩
theorem lw_p7 : lw_okq (⟨"RenameDesk", "hides", "(II)Z"⟩, 9) := ⟨⟨by decide +kernel, by decide +kernel⟩, lw_t1 (List.mem_of_getElem? (i := 4) rfl), lw_t1 (List.mem_of_getElem? (i := 89) rfl), lw_t1 (List.mem_of_getElem? (i := 90) rfl)⟩
theorem lw_p8 : lw_okq (⟨"RenameDesk", "legalName", "(II)Z"⟩, 9) := ⟨⟨by decide +kernel, by decide +kernel⟩, lw_t1 (List.mem_of_getElem? (i := 4) rfl), lw_t1 (List.mem_of_getElem? (i := 110) rfl), lw_t1 (List.mem_of_getElem? (i := 111) rfl)⟩
theorem lw_p9 : lw_okq (⟨"RenameDesk", "legalSwap", "(I)Z"⟩, 9) := ⟨⟨by decide +kernel, by decide +kernel⟩, lw_t1 (List.mem_of_getElem? (i := 4) rfl), lw_t1 (List.mem_of_getElem? (i := 122) rfl), lw_t1 (List.mem_of_getElem? (i := 123) rfl)⟩
theorem lw_p10 : lw_okq (⟨"RenameDesk", "legalOut", "(I)Z"⟩, 9) := ⟨⟨by decide +kernel, by decide +kernel⟩, lw_t1 (List.mem_of_getElem? (i := 4) rfl), lw_t1 (List.mem_of_getElem? (i := 130) rfl), lw_t1 (List.mem_of_getElem? (i := 131) rfl)⟩
theorem lw_p11 : lw_okq (⟨"RenameDeskModel", "open", "()I"⟩, 7) := ⟨⟨by decide +kernel, by decide +kernel⟩, lw_t1 (List.mem_of_getElem? (i := 146) rfl), lw_t1 (List.mem_of_getElem? (i := 179) rfl), lw_t1 (List.mem_of_getElem? (i := 180) rfl)⟩
theorem lw_p12 : lw_okq (⟨"RenameDeskModel", "is", "(I)Z"⟩, 7) := ⟨⟨by decide +kernel, by decide +kernel⟩, lw_t1 (List.mem_of_getElem? (i := 146) rfl), lw_t1 (List.mem_of_getElem? (i := 195) rfl), lw_t1 (List.mem_of_getElem? (i := 196) rfl)⟩
theorem lw_p13 : lw_okq (⟨"RenameDeskModel", "bindAll", "()V"⟩, 7) := ⟨⟨by decide +kernel, by decide +kernel⟩, lw_t1 (List.mem_of_getElem? (i := 146) rfl), lw_t1 (List.mem_of_getElem? (i := 203) rfl), lw_t1 (List.mem_of_getElem? (i := 204) rfl)⟩
theorem lw_p14 : lw_okq (⟨"RenameDeskModel", "copy", "()V"⟩, 7) := ⟨⟨by decide +kernel, by decide +kernel⟩, lw_t1 (List.mem_of_getElem? (i := 146) rfl), lw_t1 (List.mem_of_getElem? (i := 207) rfl), lw_t1 (List.mem_of_getElem? (i := 208) rfl)⟩
theorem lw_p15 : lw_okq (⟨"RenameDeskModel", "bind", "(II)I"⟩, 7) := ⟨⟨by decide +kernel, by decide +kernel⟩, lw_t1 (List.mem_of_getElem? (i := 146) rfl), lw_t1 (List.mem_of_getElem? (i := 211) rfl), lw_t1 (List.mem_of_getElem? (i := 212) rfl)⟩
def lw_privs_1 : List (MethodName × Nat) := [(⟨"RenameDesk", "openCount", "()I"⟩, 9), (⟨"RenameDesk", "isPlace", "(I)Z"⟩, 9), (⟨"RenameDesk", "isA", "(II)Z"⟩, 9), (⟨"RenameDesk", "learn", "()V"⟩, 9), (⟨"RenameDesk", "winner", "(II)I"⟩, 9), (⟨"RenameDesk", "sees", "(II)Z"⟩, 9), (⟨"RenameDesk", "inBlockOf", "(II)Z"⟩, 9), (⟨"RenameDesk", "hides", "(II)Z"⟩, 9), (⟨"RenameDesk", "legalName", "(II)Z"⟩, 9), (⟨"RenameDesk", "legalSwap", "(I)Z"⟩, 9), (⟨"RenameDesk", "legalOut", "(I)Z"⟩, 9), (⟨"RenameDeskModel", "open", "()I"⟩, 7), (⟨"RenameDeskModel", "is", "(I)Z"⟩, 7), (⟨"RenameDeskModel", "bindAll", "()V"⟩, 7), (⟨"RenameDeskModel", "copy", "()V"⟩, 7), (⟨"RenameDeskModel", "bind", "(II)I"⟩, 7)]
theorem lw_r1 : ∀ q ∈ lw_privs_1, lw_okq q := List.forall_mem_cons.mpr ⟨lw_p0, List.forall_mem_cons.mpr ⟨lw_p1, List.forall_mem_cons.mpr ⟨lw_p2, List.forall_mem_cons.mpr ⟨lw_p3, List.forall_mem_cons.mpr ⟨lw_p4, List.forall_mem_cons.mpr ⟨lw_p5, List.forall_mem_cons.mpr ⟨lw_p6, List.forall_mem_cons.mpr ⟨lw_p7, List.forall_mem_cons.mpr ⟨lw_p8, List.forall_mem_cons.mpr ⟨lw_p9, List.forall_mem_cons.mpr ⟨lw_p10, List.forall_mem_cons.mpr ⟨lw_p11, List.forall_mem_cons.mpr ⟨lw_p12, List.forall_mem_cons.mpr ⟨lw_p13, List.forall_mem_cons.mpr ⟨lw_p14, List.forall_mem_cons.mpr ⟨lw_p15, fun _ h => absurd h List.not_mem_nil⟩⟩⟩⟩⟩⟩⟩⟩⟩⟩⟩⟩⟩⟩⟩⟩
theorem lw_p16 : lw_okq (⟨"RenameDeskModel", "around", "(I)I"⟩, 7) := ⟨⟨by decide +kernel, by decide +kernel⟩, lw_t1 (List.mem_of_getElem? (i := 146) rfl), lw_t1 (List.mem_of_getElem? (i := 215) rfl), lw_t1 (List.mem_of_getElem? (i := 216) rfl)⟩
theorem lw_p17 : lw_okq (⟨"RenameDeskModel", "last", "(III)I"⟩, 7) := ⟨⟨by decide +kernel, by decide +kernel⟩, lw_t1 (List.mem_of_getElem? (i := 146) rfl), lw_t1 (List.mem_of_getElem? (i := 219) rfl), lw_t1 (List.mem_of_getElem? (i := 220) rfl)⟩
theorem lw_p18 : lw_okq (⟨"RenameDeskModel", "declares", "(I)Z"⟩, 7) := ⟨⟨by decide +kernel, by decide +kernel⟩, lw_t1 (List.mem_of_getElem? (i := 146) rfl), lw_t2 (List.mem_of_getElem? (i := 0) rfl), lw_t2 (List.mem_of_getElem? (i := 1) rfl)⟩
theorem lw_p19 : lw_okq (⟨"RenameDeskModel", "renamed", "(II)Z"⟩, 7) := ⟨⟨by decide +kernel, by decide +kernel⟩, lw_t1 (List.mem_of_getElem? (i := 146) rfl), lw_t2 (List.mem_of_getElem? (i := 4) rfl), lw_t2 (List.mem_of_getElem? (i := 5) rfl)⟩
theorem lw_p20 : lw_okq (⟨"RenameDeskModel", "legal", "()Z"⟩, 7) := ⟨⟨by decide +kernel, by decide +kernel⟩, lw_t1 (List.mem_of_getElem? (i := 146) rfl), lw_t2 (List.mem_of_getElem? (i := 8) rfl), lw_t2 (List.mem_of_getElem? (i := 9) rfl)⟩
theorem lw_p21 : lw_okq (⟨"RenameDeskModel", "accept", "()V"⟩, 7) := ⟨⟨by decide +kernel, by decide +kernel⟩, lw_t1 (List.mem_of_getElem? (i := 146) rfl), lw_t2 (List.mem_of_getElem? (i := 16) rfl), lw_t2 (List.mem_of_getElem? (i := 17) rfl)⟩
theorem lw_p22 : lw_okq (⟨"RenameDeskModel", "place", "(II)V"⟩, 7) := ⟨⟨by decide +kernel, by decide +kernel⟩, lw_t1 (List.mem_of_getElem? (i := 146) rfl), lw_t2 (List.mem_of_getElem? (i := 24) rfl), lw_t2 (List.mem_of_getElem? (i := 25) rfl)⟩
def lw_privs_2 : List (MethodName × Nat) := [(⟨"RenameDeskModel", "around", "(I)I"⟩, 7), (⟨"RenameDeskModel", "last", "(III)I"⟩, 7), (⟨"RenameDeskModel", "declares", "(I)Z"⟩, 7), (⟨"RenameDeskModel", "renamed", "(II)Z"⟩, 7), (⟨"RenameDeskModel", "legal", "()Z"⟩, 7), (⟨"RenameDeskModel", "accept", "()V"⟩, 7), (⟨"RenameDeskModel", "place", "(II)V"⟩, 7)]
theorem lw_r2 : ∀ q ∈ lw_privs_2, lw_okq q := List.forall_mem_cons.mpr ⟨lw_p16, List.forall_mem_cons.mpr ⟨lw_p17, List.forall_mem_cons.mpr ⟨lw_p18, List.forall_mem_cons.mpr ⟨lw_p19, List.forall_mem_cons.mpr ⟨lw_p20, List.forall_mem_cons.mpr ⟨lw_p21, List.forall_mem_cons.mpr ⟨lw_p22, fun _ h => absurd h List.not_mem_nil⟩⟩⟩⟩⟩⟩⟩
def lw_privs : List (MethodName × Nat) := lw_privs_1 ++ (lw_privs_2)
def lw_tbl : List Cond := k2_sels lw_privs ++ tables_1
theorem lw_privs_ok : ∀ q ∈ lw_privs, lw_okq q := by
  show ∀ q ∈ lw_privs_1 ++ (lw_privs_2), lw_okq q
  exact List.forall_mem_append.mpr ⟨lw_r1, lw_r2⟩
-- ===== ONE list of words for every method: the tables' words that hold all through a run =====
def lw_all : List Cond := lw_tbl.filter goodWord
/-- a word of the tables by its place: claim/WORDS.tsv -/
theorem lw_w {w : Cond} (i : Nat) (h : lw_tbl[i]? = some w) (g : goodWord w = true) : w ∈ lw_all := List.mem_filter.mpr ⟨List.mem_of_getElem? h, g⟩
theorem lw_all_tbl {w : Cond} (h : w ∈ lw_all) : w ∈ lw_tbl := (List.mem_filter.mp h).1
theorem lw_self : GoodIn lw_all lw_all := fun w h => ⟨h, good_of_word (List.mem_filter.mp h).2⟩
/-- a class's field words, by their places -/
theorem lw_in (ws : List Cond) (ps : List Nat) (hp : ws = ps.filterMap (fun i => lw_tbl[i]?)) (hg : ws.all goodWord = true) : ∀ w ∈ ws, w ∈ lw_all := by
  intro w h
  have h1 := List.all_eq_true.mp hg w h
  rw [hp] at h
  obtain ⟨i, -, hi⟩ := List.mem_filterMap.mp h
  exact lw_w i hi h1
/-- the words of a contract for the method y with code b, L locals, answer r -/
abbrev ws_ (y : MethodName) (b : ByteArray) (L : Nat) (r : Option FieldType) : List Cond := Cond.code y b L r :: lw_all
theorem lw_meth {y : MethodName} {b : ByteArray} {L : Nat} {r : Option FieldType} (h : Cond.code y b L r ∈ lw_all) : GoodIn lw_all (ws_ y b L r) := by
  intro w hw
  rcases List.mem_cons.mp hw with e | e
  · rw [e]
    exact lw_self _ h
  · exact lw_self _ e
theorem lw_app {a c : List Cond} (ha : ∀ w ∈ a, w ∈ lw_all) (hc : GoodIn lw_all c) : GoodIn lw_all (a ++ c) := by
  intro w hw
  rcases List.mem_append.mp hw with e | e
  · exact lw_self w (ha w e)
  · exact hc w e
/-- what a call through an object asks: cwV n hts (lw_V ..) -/
theorem lw_V {own : String} {idx : Nat} {C : String} {y : MethodName} {b : ByteArray} {L : Nat} {r : Option FieldType} (h1 : Cond.methodLink own idx y ∈ lw_all) (h2 : Cond.instanceMethod y ∈ lw_all) (h3 : Cond.selects C y y ∈ lw_all) (h4 : Cond.initialized C ∈ lw_all) (h5 : Cond.code y b L r ∈ lw_all) : GoodIn lw_all (wsV own idx C y (ws_ y b L r)) := by
  refine lw_app ?_ (lw_meth h5)
  intro w hw
  simp only [List.mem_cons, List.not_mem_nil, or_false] at hw
  rcases hw with e | e | e | e
  · rw [e]; exact h1
  · rw [e]; exact h2
  · rw [e]; exact h3
  · rw [e]; exact h4
/-- what a static call asks: va_cwS n hts (lw_S ..) -/
theorem lw_S {own : String} {idx : Nat} {y : MethodName} {b : ByteArray} {L : Nat} {r : Option FieldType} (h1 : Cond.methodLink own idx y ∈ lw_all) (h2 : Cond.static y ∈ lw_all) (h3 : Cond.initialized y.cls ∈ lw_all) (h4 : Cond.code y b L r ∈ lw_all) : GoodIn lw_all (va_wsS own idx y (ws_ y b L r)) := by
  refine lw_app ?_ (lw_meth h4)
  intro w hw
  simp only [List.mem_cons, List.not_mem_nil, or_false] at hw
  rcases hw with e | e | e
  · rw [e]; exact h1
  · rw [e]; exact h2
  · rw [e]; exact h3
/-- the words of a contract for a method WITH HANDLERS (hh: its table) -/
abbrev wsW_ (y : MethodName) (b : ByteArray) (L : Nat) (r : Option FieldType) (hh : List (Nat × Nat × Nat × Nat)) : List Cond := Cond.codeWith y b L r hh :: lw_all
theorem lw_methW {y : MethodName} {b : ByteArray} {L : Nat} {r : Option FieldType} {hh : List (Nat × Nat × Nat × Nat)} (h : Cond.codeWith y b L r hh ∈ lw_all) : GoodIn lw_all (wsW_ y b L r hh) := by
  intro w hw
  rcases List.mem_cons.mp hw with e | e
  · rw [e]
    exact lw_self _ h
  · exact lw_self _ e
/-- any list of words by their places (lw_in), good -/
theorem lw_good {ws : List Cond} (h : ∀ w ∈ ws, w ∈ lw_all) : GoodIn lw_all ws := fun w hw => lw_self w (h w hw)
/-- what a call of a method with handlers asks: vx_cwVW n hts (lw_VW ..), vx_cwSW n hts (lw_SW ..) -/
theorem lw_VW {own : String} {idx : Nat} {C : String} {y : MethodName} {b : ByteArray} {L : Nat} {r : Option FieldType} {hh : List (Nat × Nat × Nat × Nat)} (h1 : Cond.methodLink own idx y ∈ lw_all) (h2 : Cond.instanceMethod y ∈ lw_all) (h3 : Cond.selects C y y ∈ lw_all) (h4 : Cond.initialized C ∈ lw_all) (h5 : Cond.codeWith y b L r hh ∈ lw_all) : GoodIn lw_all (wsV own idx C y (wsW_ y b L r hh)) := by
  refine lw_app ?_ (lw_methW h5)
  intro w hw
  simp only [List.mem_cons, List.not_mem_nil, or_false] at hw
  rcases hw with e | e | e | e
  · rw [e]; exact h1
  · rw [e]; exact h2
  · rw [e]; exact h3
  · rw [e]; exact h4
theorem lw_SW {own : String} {idx : Nat} {y : MethodName} {b : ByteArray} {L : Nat} {r : Option FieldType} {hh : List (Nat × Nat × Nat × Nat)} (h1 : Cond.methodLink own idx y ∈ lw_all) (h2 : Cond.static y ∈ lw_all) (h3 : Cond.initialized y.cls ∈ lw_all) (h4 : Cond.codeWith y b L r hh ∈ lw_all) : GoodIn lw_all (va_wsS own idx y (wsW_ y b L r hh)) := by
  refine lw_app ?_ (lw_methW h4)
  intro w hw
  simp only [List.mem_cons, List.not_mem_nil, or_false] at hw
  rcases hw with e | e | e
  · rw [e]; exact h1
  · rw [e]; exact h2
  · rw [e]; exact h3
/-- a word by its place in its run of the tables -/
theorem lw_at {r : List Cond} (hr : ∀ w ∈ r, w ∈ lw_tbl) {w : Cond} (i : Nat) (h : r[i]? = some w) : w ∈ lw_tbl := hr w (List.mem_of_getElem? h)
theorem lw_g {w : Cond} (h : w ∈ lw_tbl) (g : goodWord w = true) : w ∈ lw_all := List.mem_filter.mpr ⟨h, g⟩
theorem lw_ms : ∀ w ∈ k2_sels lw_privs, w ∈ lw_tbl := fun w h => show w ∈ k2_sels lw_privs ++ tables_1 from List.mem_append_left _ h
theorem lw_m1 : ∀ w ∈ tables_1_1, w ∈ lw_tbl := fun w h => show w ∈ k2_sels lw_privs ++ tables_1 from List.mem_append_right (k2_sels lw_privs) (show w ∈ tables_1 from List.mem_append_left _ h)
theorem lw_m2 : ∀ w ∈ tables_1_2, w ∈ lw_tbl := fun w h => show w ∈ k2_sels lw_privs ++ tables_1 from List.mem_append_right (k2_sels lw_privs) (show w ∈ tables_1 from List.mem_append_right _ h)
theorem qs0 : (Cond.selects "RenameDesk" ⟨"RenameDesk", "openCount", "()I"⟩ ⟨"RenameDesk", "openCount", "()I"⟩) ∈ lw_all := lw_g (lw_at lw_ms 0 rfl) rfl
theorem qs1 : (Cond.selects "RenameDesk" ⟨"RenameDesk", "isPlace", "(I)Z"⟩ ⟨"RenameDesk", "isPlace", "(I)Z"⟩) ∈ lw_all := lw_g (lw_at lw_ms 1 rfl) rfl
theorem qs2 : (Cond.selects "RenameDesk" ⟨"RenameDesk", "isA", "(II)Z"⟩ ⟨"RenameDesk", "isA", "(II)Z"⟩) ∈ lw_all := lw_g (lw_at lw_ms 2 rfl) rfl
theorem qs3 : (Cond.selects "RenameDesk" ⟨"RenameDesk", "learn", "()V"⟩ ⟨"RenameDesk", "learn", "()V"⟩) ∈ lw_all := lw_g (lw_at lw_ms 3 rfl) rfl
theorem qs4 : (Cond.selects "RenameDesk" ⟨"RenameDesk", "winner", "(II)I"⟩ ⟨"RenameDesk", "winner", "(II)I"⟩) ∈ lw_all := lw_g (lw_at lw_ms 4 rfl) rfl
theorem qs5 : (Cond.selects "RenameDesk" ⟨"RenameDesk", "sees", "(II)Z"⟩ ⟨"RenameDesk", "sees", "(II)Z"⟩) ∈ lw_all := lw_g (lw_at lw_ms 5 rfl) rfl
theorem qs6 : (Cond.selects "RenameDesk" ⟨"RenameDesk", "inBlockOf", "(II)Z"⟩ ⟨"RenameDesk", "inBlockOf", "(II)Z"⟩) ∈ lw_all := lw_g (lw_at lw_ms 6 rfl) rfl
theorem qs7 : (Cond.selects "RenameDesk" ⟨"RenameDesk", "hides", "(II)Z"⟩ ⟨"RenameDesk", "hides", "(II)Z"⟩) ∈ lw_all := lw_g (lw_at lw_ms 7 rfl) rfl
theorem qs8 : (Cond.selects "RenameDesk" ⟨"RenameDesk", "legalName", "(II)Z"⟩ ⟨"RenameDesk", "legalName", "(II)Z"⟩) ∈ lw_all := lw_g (lw_at lw_ms 8 rfl) rfl
theorem qs9 : (Cond.selects "RenameDesk" ⟨"RenameDesk", "legalSwap", "(I)Z"⟩ ⟨"RenameDesk", "legalSwap", "(I)Z"⟩) ∈ lw_all := lw_g (lw_at lw_ms 9 rfl) rfl
theorem qs10 : (Cond.selects "RenameDesk" ⟨"RenameDesk", "legalOut", "(I)Z"⟩ ⟨"RenameDesk", "legalOut", "(I)Z"⟩) ∈ lw_all := lw_g (lw_at lw_ms 10 rfl) rfl
theorem qs11 : (Cond.selects "RenameDeskModel" ⟨"RenameDeskModel", "open", "()I"⟩ ⟨"RenameDeskModel", "open", "()I"⟩) ∈ lw_all := lw_g (lw_at lw_ms 11 rfl) rfl
theorem qs12 : (Cond.selects "RenameDeskModel" ⟨"RenameDeskModel", "is", "(I)Z"⟩ ⟨"RenameDeskModel", "is", "(I)Z"⟩) ∈ lw_all := lw_g (lw_at lw_ms 12 rfl) rfl
theorem qs13 : (Cond.selects "RenameDeskModel" ⟨"RenameDeskModel", "bindAll", "()V"⟩ ⟨"RenameDeskModel", "bindAll", "()V"⟩) ∈ lw_all := lw_g (lw_at lw_ms 13 rfl) rfl
theorem qs14 : (Cond.selects "RenameDeskModel" ⟨"RenameDeskModel", "copy", "()V"⟩ ⟨"RenameDeskModel", "copy", "()V"⟩) ∈ lw_all := lw_g (lw_at lw_ms 14 rfl) rfl
theorem qs15 : (Cond.selects "RenameDeskModel" ⟨"RenameDeskModel", "bind", "(II)I"⟩ ⟨"RenameDeskModel", "bind", "(II)I"⟩) ∈ lw_all := lw_g (lw_at lw_ms 15 rfl) rfl
theorem qs16 : (Cond.selects "RenameDeskModel" ⟨"RenameDeskModel", "around", "(I)I"⟩ ⟨"RenameDeskModel", "around", "(I)I"⟩) ∈ lw_all := lw_g (lw_at lw_ms 16 rfl) rfl
theorem qs17 : (Cond.selects "RenameDeskModel" ⟨"RenameDeskModel", "last", "(III)I"⟩ ⟨"RenameDeskModel", "last", "(III)I"⟩) ∈ lw_all := lw_g (lw_at lw_ms 17 rfl) rfl
theorem qs18 : (Cond.selects "RenameDeskModel" ⟨"RenameDeskModel", "declares", "(I)Z"⟩ ⟨"RenameDeskModel", "declares", "(I)Z"⟩) ∈ lw_all := lw_g (lw_at lw_ms 18 rfl) rfl
theorem qs19 : (Cond.selects "RenameDeskModel" ⟨"RenameDeskModel", "renamed", "(II)Z"⟩ ⟨"RenameDeskModel", "renamed", "(II)Z"⟩) ∈ lw_all := lw_g (lw_at lw_ms 19 rfl) rfl
theorem qs20 : (Cond.selects "RenameDeskModel" ⟨"RenameDeskModel", "legal", "()Z"⟩ ⟨"RenameDeskModel", "legal", "()Z"⟩) ∈ lw_all := lw_g (lw_at lw_ms 20 rfl) rfl
theorem qs21 : (Cond.selects "RenameDeskModel" ⟨"RenameDeskModel", "accept", "()V"⟩ ⟨"RenameDeskModel", "accept", "()V"⟩) ∈ lw_all := lw_g (lw_at lw_ms 21 rfl) rfl
theorem qs22 : (Cond.selects "RenameDeskModel" ⟨"RenameDeskModel", "place", "(II)V"⟩ ⟨"RenameDeskModel", "place", "(II)V"⟩) ∈ lw_all := lw_g (lw_at lw_ms 22 rfl) rfl
end
section
/-! RenameDesk -/
set_option maxRecDepth 100000
def RX0 : String := "RenameDesk"
def TX0 : u_T := fun k => match k with
  | 0 => ("RenameDesk", "kinds", "[B", true)
  | 1 => ("RenameDesk", "names", "[B", true)
  | 2 => ("RenameDesk", "size", "I", false)
  | 3 => ("RenameDesk", "known", "Z", false)
  | 4 => ("RenameDesk", "block", "[B", true)
  | 5 => ("RenameDesk", "deep", "[B", true)
  | 6 => ("RenameDesk", "ends", "[B", true)
  | 7 => ("RenameDesk", "boundTo", "[B", true)
  | _ => ("RenameDesk", "openBlocks", "[B", true)
def tyX0 : Nat → FieldType := fun k => match k with
  | 0 => .array .byte
  | 1 => .array .byte
  | 2 => .int
  | 3 => .boolean
  | 4 => .array .byte
  | 5 => .array .byte
  | 6 => .array .byte
  | 7 => .array .byte
  | _ => .array .byte
abbrev wsX00 : List Cond := u_ws RX0 TX0 9
theorem nmX0 : ∀ a, a < 9 → ∀ b, b < 9 → a ≠ b → (TX0 a).2.1 ≠ (TX0 b).2.1 := by decide +kernel
theorem tyX0_ok : ∀ k, k < 9 → parseFieldDescriptor (TX0 k).2.2.1 = some (tyX0 k) := by decide +kernel
abbrev cX0_init : ByteArray := prog_1_method_1_code
def yX0_init : MethodName := ⟨RX0, "<init>", "()V"⟩
theorem dX0_init_0 : decode cX0_init 0 = .ok (.aload_n 0, 1) := by decide +kernel
theorem dX0_init_1 : decode cX0_init 1 = .ok (.invokespecial 1, 3) := by decide +kernel
theorem dX0_init_4 : decode cX0_init 4 = .ok (.aload_n 0, 1) := by decide +kernel
theorem dX0_init_5 : decode cX0_init 5 = .ok (.bipush 28, 2) := by decide +kernel
theorem dX0_init_7 : decode cX0_init 7 = .ok (.newarray .byte, 2) := by decide +kernel
theorem dX0_init_9 : decode cX0_init 9 = .ok (.putfield 7, 3) := by decide +kernel
theorem dX0_init_12 : decode cX0_init 12 = .ok (.aload_n 0, 1) := by decide +kernel
theorem dX0_init_13 : decode cX0_init 13 = .ok (.bipush 28, 2) := by decide +kernel
theorem dX0_init_15 : decode cX0_init 15 = .ok (.newarray .byte, 2) := by decide +kernel
theorem dX0_init_17 : decode cX0_init 17 = .ok (.putfield 13, 3) := by decide +kernel
theorem dX0_init_20 : decode cX0_init 20 = .ok (.aload_n 0, 1) := by decide +kernel
theorem dX0_init_21 : decode cX0_init 21 = .ok (.bipush 28, 2) := by decide +kernel
theorem dX0_init_23 : decode cX0_init 23 = .ok (.newarray .byte, 2) := by decide +kernel
theorem dX0_init_25 : decode cX0_init 25 = .ok (.putfield 16, 3) := by decide +kernel
theorem dX0_init_28 : decode cX0_init 28 = .ok (.aload_n 0, 1) := by decide +kernel
theorem dX0_init_29 : decode cX0_init 29 = .ok (.bipush 28, 2) := by decide +kernel
theorem dX0_init_31 : decode cX0_init 31 = .ok (.newarray .byte, 2) := by decide +kernel
theorem dX0_init_33 : decode cX0_init 33 = .ok (.putfield 19, 3) := by decide +kernel
theorem dX0_init_36 : decode cX0_init 36 = .ok (.aload_n 0, 1) := by decide +kernel
theorem dX0_init_37 : decode cX0_init 37 = .ok (.bipush 28, 2) := by decide +kernel
theorem dX0_init_39 : decode cX0_init 39 = .ok (.newarray .byte, 2) := by decide +kernel
theorem dX0_init_41 : decode cX0_init 41 = .ok (.putfield 22, 3) := by decide +kernel
theorem dX0_init_44 : decode cX0_init 44 = .ok (.aload_n 0, 1) := by decide +kernel
theorem dX0_init_45 : decode cX0_init 45 = .ok (.bipush 28, 2) := by decide +kernel
theorem dX0_init_47 : decode cX0_init 47 = .ok (.newarray .byte, 2) := by decide +kernel
theorem dX0_init_49 : decode cX0_init 49 = .ok (.putfield 25, 3) := by decide +kernel
theorem dX0_init_52 : decode cX0_init 52 = .ok (.aload_n 0, 1) := by decide +kernel
theorem dX0_init_53 : decode cX0_init 53 = .ok (.bipush 30, 2) := by decide +kernel
theorem dX0_init_55 : decode cX0_init 55 = .ok (.newarray .byte, 2) := by decide +kernel
theorem dX0_init_57 : decode cX0_init 57 = .ok (.putfield 28, 3) := by decide +kernel
theorem dX0_init_60 : decode cX0_init 60 = .ok (.return_, 1) := by decide +kernel
abbrev cX0_add : ByteArray := prog_1_method_4_code
def yX0_add : MethodName := ⟨RX0, "add", "(II)I"⟩
theorem dX0_add_0 : decode cX0_add 0 = .ok (.iload_n 1, 1) := by decide +kernel
theorem dX0_add_1 : decode cX0_add 1 = .ok (.iconst 2, 1) := by decide +kernel
theorem dX0_add_2 : decode cX0_add 2 = .ok (.if_icmp .eq 8, 3) := by decide +kernel
theorem dX0_add_5 : decode cX0_add 5 = .ok (.iload_n 1, 1) := by decide +kernel
theorem dX0_add_6 : decode cX0_add 6 = .ok (.iconst 3, 1) := by decide +kernel
theorem dX0_add_7 : decode cX0_add 7 = .ok (.if_icmp .ne 7, 3) := by decide +kernel
theorem dX0_add_10 : decode cX0_add 10 = .ok (.iconst 1, 1) := by decide +kernel
theorem dX0_add_11 : decode cX0_add 11 = .ok (.goto 4, 3) := by decide +kernel
theorem dX0_add_14 : decode cX0_add 14 = .ok (.iconst 0, 1) := by decide +kernel
theorem dX0_add_15 : decode cX0_add 15 = .ok (.istore_n 3, 1) := by decide +kernel
theorem dX0_add_16 : decode cX0_add 16 = .ok (.iload_n 1, 1) := by decide +kernel
theorem dX0_add_17 : decode cX0_add 17 = .ok (.ifCond .lt 22, 3) := by decide +kernel
theorem dX0_add_20 : decode cX0_add 20 = .ok (.iload_n 1, 1) := by decide +kernel
theorem dX0_add_21 : decode cX0_add 21 = .ok (.iconst 3, 1) := by decide +kernel
theorem dX0_add_22 : decode cX0_add 22 = .ok (.if_icmp .gt 17, 3) := by decide +kernel
theorem dX0_add_25 : decode cX0_add 25 = .ok (.iload_n 3, 1) := by decide +kernel
theorem dX0_add_26 : decode cX0_add 26 = .ok (.ifCond .eq 15, 3) := by decide +kernel
theorem dX0_add_29 : decode cX0_add 29 = .ok (.iload_n 2, 1) := by decide +kernel
theorem dX0_add_30 : decode cX0_add 30 = .ok (.ifCond .lt 9, 3) := by decide +kernel
theorem dX0_add_33 : decode cX0_add 33 = .ok (.iload_n 2, 1) := by decide +kernel
theorem dX0_add_34 : decode cX0_add 34 = .ok (.bipush 8, 2) := by decide +kernel
theorem dX0_add_36 : decode cX0_add 36 = .ok (.if_icmp .lt 5, 3) := by decide +kernel
theorem dX0_add_39 : decode cX0_add 39 = .ok (.iconst (-1), 1) := by decide +kernel
theorem dX0_add_40 : decode cX0_add 40 = .ok (.ireturn, 1) := by decide +kernel
theorem dX0_add_41 : decode cX0_add 41 = .ok (.iload_n 1, 1) := by decide +kernel
theorem dX0_add_42 : decode cX0_add 42 = .ok (.iconst 1, 1) := by decide +kernel
theorem dX0_add_43 : decode cX0_add 43 = .ok (.if_icmp .ne 12, 3) := by decide +kernel
theorem dX0_add_46 : decode cX0_add 46 = .ok (.aload_n 0, 1) := by decide +kernel
theorem dX0_add_47 : decode cX0_add 47 = .ok (.invokevirtual 39, 3) := by decide +kernel
theorem dX0_add_50 : decode cX0_add 50 = .ok (.ifCond .ne 5, 3) := by decide +kernel
theorem dX0_add_53 : decode cX0_add 53 = .ok (.iconst (-1), 1) := by decide +kernel
theorem dX0_add_54 : decode cX0_add 54 = .ok (.ireturn, 1) := by decide +kernel
theorem dX0_add_55 : decode cX0_add 55 = .ok (.aload_n 0, 1) := by decide +kernel
theorem dX0_add_56 : decode cX0_add 56 = .ok (.getfield 31, 3) := by decide +kernel
theorem dX0_add_59 : decode cX0_add 59 = .ok (.bipush 28, 2) := by decide +kernel
theorem dX0_add_61 : decode cX0_add 61 = .ok (.if_icmp .lt 6, 3) := by decide +kernel
theorem dX0_add_64 : decode cX0_add 64 = .ok (.bipush (-2), 2) := by decide +kernel
theorem dX0_add_66 : decode cX0_add 66 = .ok (.ireturn, 1) := by decide +kernel
theorem dX0_add_67 : decode cX0_add 67 = .ok (.aload_n 0, 1) := by decide +kernel
theorem dX0_add_68 : decode cX0_add 68 = .ok (.getfield 7, 3) := by decide +kernel
theorem dX0_add_71 : decode cX0_add 71 = .ok (.aload_n 0, 1) := by decide +kernel
theorem dX0_add_72 : decode cX0_add 72 = .ok (.getfield 31, 3) := by decide +kernel
theorem dX0_add_75 : decode cX0_add 75 = .ok (.iload_n 1, 1) := by decide +kernel
theorem dX0_add_76 : decode cX0_add 76 = .ok (.i2b, 1) := by decide +kernel
theorem dX0_add_77 : decode cX0_add 77 = .ok (.bastore, 1) := by decide +kernel
theorem dX0_add_78 : decode cX0_add 78 = .ok (.aload_n 0, 1) := by decide +kernel
theorem dX0_add_79 : decode cX0_add 79 = .ok (.getfield 13, 3) := by decide +kernel
theorem dX0_add_82 : decode cX0_add 82 = .ok (.aload_n 0, 1) := by decide +kernel
theorem dX0_add_83 : decode cX0_add 83 = .ok (.getfield 31, 3) := by decide +kernel
theorem dX0_add_86 : decode cX0_add 86 = .ok (.iload_n 3, 1) := by decide +kernel
theorem dX0_add_87 : decode cX0_add 87 = .ok (.ifCond .eq 7, 3) := by decide +kernel
theorem dX0_add_90 : decode cX0_add 90 = .ok (.iload_n 2, 1) := by decide +kernel
theorem dX0_add_91 : decode cX0_add 91 = .ok (.goto 4, 3) := by decide +kernel
theorem dX0_add_94 : decode cX0_add 94 = .ok (.iconst 0, 1) := by decide +kernel
theorem dX0_add_95 : decode cX0_add 95 = .ok (.i2b, 1) := by decide +kernel
theorem dX0_add_96 : decode cX0_add 96 = .ok (.bastore, 1) := by decide +kernel
theorem dX0_add_97 : decode cX0_add 97 = .ok (.aload_n 0, 1) := by decide +kernel
theorem dX0_add_98 : decode cX0_add 98 = .ok (.dup, 1) := by decide +kernel
theorem dX0_add_99 : decode cX0_add 99 = .ok (.getfield 31, 3) := by decide +kernel
theorem dX0_add_102 : decode cX0_add 102 = .ok (.iconst 1, 1) := by decide +kernel
theorem dX0_add_103 : decode cX0_add 103 = .ok (.iadd, 1) := by decide +kernel
theorem dX0_add_104 : decode cX0_add 104 = .ok (.putfield 31, 3) := by decide +kernel
theorem dX0_add_107 : decode cX0_add 107 = .ok (.aload_n 0, 1) := by decide +kernel
theorem dX0_add_108 : decode cX0_add 108 = .ok (.iconst 0, 1) := by decide +kernel
theorem dX0_add_109 : decode cX0_add 109 = .ok (.putfield 43, 3) := by decide +kernel
theorem dX0_add_112 : decode cX0_add 112 = .ok (.aload_n 0, 1) := by decide +kernel
theorem dX0_add_113 : decode cX0_add 113 = .ok (.getfield 31, 3) := by decide +kernel
theorem dX0_add_116 : decode cX0_add 116 = .ok (.iconst 1, 1) := by decide +kernel
theorem dX0_add_117 : decode cX0_add 117 = .ok (.isub, 1) := by decide +kernel
theorem dX0_add_118 : decode cX0_add 118 = .ok (.ireturn, 1) := by decide +kernel
abbrev cX0_openCount : ByteArray := prog_1_method_5_code
def yX0_openCount : MethodName := ⟨RX0, "openCount", "()I"⟩
theorem dX0_openCount_0 : decode cX0_openCount 0 = .ok (.iconst 0, 1) := by decide +kernel
theorem dX0_openCount_1 : decode cX0_openCount 1 = .ok (.istore_n 1, 1) := by decide +kernel
theorem dX0_openCount_2 : decode cX0_openCount 2 = .ok (.iconst 0, 1) := by decide +kernel
theorem dX0_openCount_3 : decode cX0_openCount 3 = .ok (.istore_n 2, 1) := by decide +kernel
theorem dX0_openCount_4 : decode cX0_openCount 4 = .ok (.iload_n 2, 1) := by decide +kernel
theorem dX0_openCount_5 : decode cX0_openCount 5 = .ok (.aload_n 0, 1) := by decide +kernel
theorem dX0_openCount_6 : decode cX0_openCount 6 = .ok (.getfield 31, 3) := by decide +kernel
theorem dX0_openCount_9 : decode cX0_openCount 9 = .ok (.if_icmp .ge 40, 3) := by decide +kernel
theorem dX0_openCount_12 : decode cX0_openCount 12 = .ok (.iload_n 1, 1) := by decide +kernel
theorem dX0_openCount_13 : decode cX0_openCount 13 = .ok (.aload_n 0, 1) := by decide +kernel
theorem dX0_openCount_14 : decode cX0_openCount 14 = .ok (.getfield 7, 3) := by decide +kernel
theorem dX0_openCount_17 : decode cX0_openCount 17 = .ok (.iload_n 2, 1) := by decide +kernel
theorem dX0_openCount_18 : decode cX0_openCount 18 = .ok (.baload, 1) := by decide +kernel
theorem dX0_openCount_19 : decode cX0_openCount 19 = .ok (.ifCond .ne 7, 3) := by decide +kernel
theorem dX0_openCount_22 : decode cX0_openCount 22 = .ok (.iconst 1, 1) := by decide +kernel
theorem dX0_openCount_23 : decode cX0_openCount 23 = .ok (.goto 18, 3) := by decide +kernel
theorem dX0_openCount_26 : decode cX0_openCount 26 = .ok (.aload_n 0, 1) := by decide +kernel
theorem dX0_openCount_27 : decode cX0_openCount 27 = .ok (.getfield 7, 3) := by decide +kernel
theorem dX0_openCount_30 : decode cX0_openCount 30 = .ok (.iload_n 2, 1) := by decide +kernel
theorem dX0_openCount_31 : decode cX0_openCount 31 = .ok (.baload, 1) := by decide +kernel
theorem dX0_openCount_32 : decode cX0_openCount 32 = .ok (.iconst 1, 1) := by decide +kernel
theorem dX0_openCount_33 : decode cX0_openCount 33 = .ok (.if_icmp .ne 7, 3) := by decide +kernel
theorem dX0_openCount_36 : decode cX0_openCount 36 = .ok (.iconst (-1), 1) := by decide +kernel
theorem dX0_openCount_37 : decode cX0_openCount 37 = .ok (.goto 4, 3) := by decide +kernel
theorem dX0_openCount_40 : decode cX0_openCount 40 = .ok (.iconst 0, 1) := by decide +kernel
theorem dX0_openCount_41 : decode cX0_openCount 41 = .ok (.iadd, 1) := by decide +kernel
theorem dX0_openCount_42 : decode cX0_openCount 42 = .ok (.istore_n 1, 1) := by decide +kernel
theorem dX0_openCount_43 : decode cX0_openCount 43 = .ok (.iinc 2 1, 3) := by decide +kernel
theorem dX0_openCount_46 : decode cX0_openCount 46 = .ok (.goto (-42), 3) := by decide +kernel
theorem dX0_openCount_49 : decode cX0_openCount 49 = .ok (.iload_n 1, 1) := by decide +kernel
theorem dX0_openCount_50 : decode cX0_openCount 50 = .ok (.ireturn, 1) := by decide +kernel
abbrev cX0_drop : ByteArray := prog_1_method_6_code
def yX0_drop : MethodName := ⟨RX0, "drop", "()I"⟩
theorem dX0_drop_0 : decode cX0_drop 0 = .ok (.aload_n 0, 1) := by decide +kernel
theorem dX0_drop_1 : decode cX0_drop 1 = .ok (.getfield 31, 3) := by decide +kernel
theorem dX0_drop_4 : decode cX0_drop 4 = .ok (.ifCond .ne 5, 3) := by decide +kernel
theorem dX0_drop_7 : decode cX0_drop 7 = .ok (.iconst (-1), 1) := by decide +kernel
theorem dX0_drop_8 : decode cX0_drop 8 = .ok (.ireturn, 1) := by decide +kernel
theorem dX0_drop_9 : decode cX0_drop 9 = .ok (.aload_n 0, 1) := by decide +kernel
theorem dX0_drop_10 : decode cX0_drop 10 = .ok (.dup, 1) := by decide +kernel
theorem dX0_drop_11 : decode cX0_drop 11 = .ok (.getfield 31, 3) := by decide +kernel
theorem dX0_drop_14 : decode cX0_drop 14 = .ok (.iconst 1, 1) := by decide +kernel
theorem dX0_drop_15 : decode cX0_drop 15 = .ok (.isub, 1) := by decide +kernel
theorem dX0_drop_16 : decode cX0_drop 16 = .ok (.putfield 31, 3) := by decide +kernel
theorem dX0_drop_19 : decode cX0_drop 19 = .ok (.aload_n 0, 1) := by decide +kernel
theorem dX0_drop_20 : decode cX0_drop 20 = .ok (.iconst 0, 1) := by decide +kernel
theorem dX0_drop_21 : decode cX0_drop 21 = .ok (.putfield 43, 3) := by decide +kernel
theorem dX0_drop_24 : decode cX0_drop 24 = .ok (.aload_n 0, 1) := by decide +kernel
theorem dX0_drop_25 : decode cX0_drop 25 = .ok (.getfield 31, 3) := by decide +kernel
theorem dX0_drop_28 : decode cX0_drop 28 = .ok (.ireturn, 1) := by decide +kernel
abbrev cX0_length : ByteArray := prog_1_method_7_code
def yX0_length : MethodName := ⟨RX0, "length", "()I"⟩
theorem dX0_length_0 : decode cX0_length 0 = .ok (.aload_n 0, 1) := by decide +kernel
theorem dX0_length_1 : decode cX0_length 1 = .ok (.getfield 31, 3) := by decide +kernel
theorem dX0_length_4 : decode cX0_length 4 = .ok (.ireturn, 1) := by decide +kernel
abbrev cX0_token : ByteArray := prog_1_method_8_code
def yX0_token : MethodName := ⟨RX0, "token", "(I)I"⟩
theorem dX0_token_0 : decode cX0_token 0 = .ok (.aload_n 0, 1) := by decide +kernel
theorem dX0_token_1 : decode cX0_token 1 = .ok (.iload_n 1, 1) := by decide +kernel
theorem dX0_token_2 : decode cX0_token 2 = .ok (.invokevirtual 35, 3) := by decide +kernel
theorem dX0_token_5 : decode cX0_token 5 = .ok (.ifCond .eq 21, 3) := by decide +kernel
theorem dX0_token_8 : decode cX0_token 8 = .ok (.aload_n 0, 1) := by decide +kernel
theorem dX0_token_9 : decode cX0_token 9 = .ok (.getfield 7, 3) := by decide +kernel
theorem dX0_token_12 : decode cX0_token 12 = .ok (.iload_n 1, 1) := by decide +kernel
theorem dX0_token_13 : decode cX0_token 13 = .ok (.baload, 1) := by decide +kernel
theorem dX0_token_14 : decode cX0_token 14 = .ok (.iconst 4, 1) := by decide +kernel
theorem dX0_token_15 : decode cX0_token 15 = .ok (.aload_n 0, 1) := by decide +kernel
theorem dX0_token_16 : decode cX0_token 16 = .ok (.getfield 13, 3) := by decide +kernel
theorem dX0_token_19 : decode cX0_token 19 = .ok (.iload_n 1, 1) := by decide +kernel
theorem dX0_token_20 : decode cX0_token 20 = .ok (.baload, 1) := by decide +kernel
theorem dX0_token_21 : decode cX0_token 21 = .ok (.imul, 1) := by decide +kernel
theorem dX0_token_22 : decode cX0_token 22 = .ok (.iadd, 1) := by decide +kernel
theorem dX0_token_23 : decode cX0_token 23 = .ok (.goto 4, 3) := by decide +kernel
theorem dX0_token_26 : decode cX0_token 26 = .ok (.iconst (-1), 1) := by decide +kernel
theorem dX0_token_27 : decode cX0_token 27 = .ok (.ireturn, 1) := by decide +kernel
abbrev cX0_isPlace : ByteArray := prog_1_method_2_code
def yX0_isPlace : MethodName := ⟨RX0, "isPlace", "(I)Z"⟩
theorem dX0_isPlace_0 : decode cX0_isPlace 0 = .ok (.iload_n 1, 1) := by decide +kernel
theorem dX0_isPlace_1 : decode cX0_isPlace 1 = .ok (.ifCond .lt 15, 3) := by decide +kernel
theorem dX0_isPlace_4 : decode cX0_isPlace 4 = .ok (.iload_n 1, 1) := by decide +kernel
theorem dX0_isPlace_5 : decode cX0_isPlace 5 = .ok (.aload_n 0, 1) := by decide +kernel
theorem dX0_isPlace_6 : decode cX0_isPlace 6 = .ok (.getfield 31, 3) := by decide +kernel
theorem dX0_isPlace_9 : decode cX0_isPlace 9 = .ok (.if_icmp .ge 7, 3) := by decide +kernel
theorem dX0_isPlace_12 : decode cX0_isPlace 12 = .ok (.iconst 1, 1) := by decide +kernel
theorem dX0_isPlace_13 : decode cX0_isPlace 13 = .ok (.goto 4, 3) := by decide +kernel
theorem dX0_isPlace_16 : decode cX0_isPlace 16 = .ok (.iconst 0, 1) := by decide +kernel
theorem dX0_isPlace_17 : decode cX0_isPlace 17 = .ok (.ireturn, 1) := by decide +kernel
abbrev cX0_bound : ByteArray := prog_1_method_14_code
def yX0_bound : MethodName := ⟨RX0, "bound", "(I)I"⟩
theorem dX0_bound_0 : decode cX0_bound 0 = .ok (.aload_n 0, 1) := by decide +kernel
theorem dX0_bound_1 : decode cX0_bound 1 = .ok (.iload_n 1, 1) := by decide +kernel
theorem dX0_bound_2 : decode cX0_bound 2 = .ok (.iconst 3, 1) := by decide +kernel
theorem dX0_bound_3 : decode cX0_bound 3 = .ok (.invokevirtual 61, 3) := by decide +kernel
theorem dX0_bound_6 : decode cX0_bound 6 = .ok (.ifCond .ne 5, 3) := by decide +kernel
theorem dX0_bound_9 : decode cX0_bound 9 = .ok (.iconst (-1), 1) := by decide +kernel
theorem dX0_bound_10 : decode cX0_bound 10 = .ok (.ireturn, 1) := by decide +kernel
theorem dX0_bound_11 : decode cX0_bound 11 = .ok (.aload_n 0, 1) := by decide +kernel
theorem dX0_bound_12 : decode cX0_bound 12 = .ok (.invokevirtual 64, 3) := by decide +kernel
theorem dX0_bound_15 : decode cX0_bound 15 = .ok (.aload_n 0, 1) := by decide +kernel
theorem dX0_bound_16 : decode cX0_bound 16 = .ok (.getfield 25, 3) := by decide +kernel
theorem dX0_bound_19 : decode cX0_bound 19 = .ok (.iload_n 1, 1) := by decide +kernel
theorem dX0_bound_20 : decode cX0_bound 20 = .ok (.baload, 1) := by decide +kernel
theorem dX0_bound_21 : decode cX0_bound 21 = .ok (.ireturn, 1) := by decide +kernel
abbrev cX0_isA : ByteArray := prog_1_method_3_code
def yX0_isA : MethodName := ⟨RX0, "isA", "(II)Z"⟩
theorem dX0_isA_0 : decode cX0_isA 0 = .ok (.aload_n 0, 1) := by decide +kernel
theorem dX0_isA_1 : decode cX0_isA 1 = .ok (.iload_n 1, 1) := by decide +kernel
theorem dX0_isA_2 : decode cX0_isA 2 = .ok (.invokevirtual 35, 3) := by decide +kernel
theorem dX0_isA_5 : decode cX0_isA 5 = .ok (.ifCond .eq 17, 3) := by decide +kernel
theorem dX0_isA_8 : decode cX0_isA 8 = .ok (.aload_n 0, 1) := by decide +kernel
theorem dX0_isA_9 : decode cX0_isA 9 = .ok (.getfield 7, 3) := by decide +kernel
theorem dX0_isA_12 : decode cX0_isA 12 = .ok (.iload_n 1, 1) := by decide +kernel
theorem dX0_isA_13 : decode cX0_isA 13 = .ok (.baload, 1) := by decide +kernel
theorem dX0_isA_14 : decode cX0_isA 14 = .ok (.iload_n 2, 1) := by decide +kernel
theorem dX0_isA_15 : decode cX0_isA 15 = .ok (.if_icmp .ne 7, 3) := by decide +kernel
theorem dX0_isA_18 : decode cX0_isA 18 = .ok (.iconst 1, 1) := by decide +kernel
theorem dX0_isA_19 : decode cX0_isA 19 = .ok (.goto 4, 3) := by decide +kernel
theorem dX0_isA_22 : decode cX0_isA 22 = .ok (.iconst 0, 1) := by decide +kernel
theorem dX0_isA_23 : decode cX0_isA 23 = .ok (.ireturn, 1) := by decide +kernel
abbrev cX0_learn : ByteArray := prog_1_method_9_code
def yX0_learn : MethodName := ⟨RX0, "learn", "()V"⟩
theorem dX0_learn_0 : decode cX0_learn 0 = .ok (.aload_n 0, 1) := by decide +kernel
theorem dX0_learn_1 : decode cX0_learn 1 = .ok (.getfield 43, 3) := by decide +kernel
theorem dX0_learn_4 : decode cX0_learn 4 = .ok (.ifCond .eq 4, 3) := by decide +kernel
theorem dX0_learn_7 : decode cX0_learn 7 = .ok (.return_, 1) := by decide +kernel
theorem dX0_learn_8 : decode cX0_learn 8 = .ok (.aload_n 0, 1) := by decide +kernel
theorem dX0_learn_9 : decode cX0_learn 9 = .ok (.iconst 1, 1) := by decide +kernel
theorem dX0_learn_10 : decode cX0_learn 10 = .ok (.putfield 43, 3) := by decide +kernel
theorem dX0_learn_13 : decode cX0_learn 13 = .ok (.iconst 0, 1) := by decide +kernel
theorem dX0_learn_14 : decode cX0_learn 14 = .ok (.istore_n 1, 1) := by decide +kernel
theorem dX0_learn_15 : decode cX0_learn 15 = .ok (.iconst 0, 1) := by decide +kernel
theorem dX0_learn_16 : decode cX0_learn 16 = .ok (.istore_n 2, 1) := by decide +kernel
theorem dX0_learn_17 : decode cX0_learn 17 = .ok (.iload_n 2, 1) := by decide +kernel
theorem dX0_learn_18 : decode cX0_learn 18 = .ok (.aload_n 0, 1) := by decide +kernel
theorem dX0_learn_19 : decode cX0_learn 19 = .ok (.getfield 31, 3) := by decide +kernel
theorem dX0_learn_22 : decode cX0_learn 22 = .ok (.if_icmp .ge 99, 3) := by decide +kernel
theorem dX0_learn_25 : decode cX0_learn 25 = .ok (.aload_n 0, 1) := by decide +kernel
theorem dX0_learn_26 : decode cX0_learn 26 = .ok (.getfield 16, 3) := by decide +kernel
theorem dX0_learn_29 : decode cX0_learn 29 = .ok (.iload_n 2, 1) := by decide +kernel
theorem dX0_learn_30 : decode cX0_learn 30 = .ok (.iload_n 1, 1) := by decide +kernel
theorem dX0_learn_31 : decode cX0_learn 31 = .ok (.ifCond .le 14, 3) := by decide +kernel
theorem dX0_learn_34 : decode cX0_learn 34 = .ok (.aload_n 0, 1) := by decide +kernel
theorem dX0_learn_35 : decode cX0_learn 35 = .ok (.getfield 28, 3) := by decide +kernel
theorem dX0_learn_38 : decode cX0_learn 38 = .ok (.iload_n 1, 1) := by decide +kernel
theorem dX0_learn_39 : decode cX0_learn 39 = .ok (.iconst 1, 1) := by decide +kernel
theorem dX0_learn_40 : decode cX0_learn 40 = .ok (.isub, 1) := by decide +kernel
theorem dX0_learn_41 : decode cX0_learn 41 = .ok (.baload, 1) := by decide +kernel
theorem dX0_learn_42 : decode cX0_learn 42 = .ok (.goto 4, 3) := by decide +kernel
theorem dX0_learn_45 : decode cX0_learn 45 = .ok (.iconst (-1), 1) := by decide +kernel
theorem dX0_learn_46 : decode cX0_learn 46 = .ok (.bastore, 1) := by decide +kernel
theorem dX0_learn_47 : decode cX0_learn 47 = .ok (.aload_n 0, 1) := by decide +kernel
theorem dX0_learn_48 : decode cX0_learn 48 = .ok (.getfield 19, 3) := by decide +kernel
theorem dX0_learn_51 : decode cX0_learn 51 = .ok (.iload_n 2, 1) := by decide +kernel
theorem dX0_learn_52 : decode cX0_learn 52 = .ok (.iload_n 1, 1) := by decide +kernel
theorem dX0_learn_53 : decode cX0_learn 53 = .ok (.i2b, 1) := by decide +kernel
theorem dX0_learn_54 : decode cX0_learn 54 = .ok (.bastore, 1) := by decide +kernel
theorem dX0_learn_55 : decode cX0_learn 55 = .ok (.aload_n 0, 1) := by decide +kernel
theorem dX0_learn_56 : decode cX0_learn 56 = .ok (.getfield 7, 3) := by decide +kernel
theorem dX0_learn_59 : decode cX0_learn 59 = .ok (.iload_n 2, 1) := by decide +kernel
theorem dX0_learn_60 : decode cX0_learn 60 = .ok (.baload, 1) := by decide +kernel
theorem dX0_learn_61 : decode cX0_learn 61 = .ok (.ifCond .ne 28, 3) := by decide +kernel
theorem dX0_learn_64 : decode cX0_learn 64 = .ok (.aload_n 0, 1) := by decide +kernel
theorem dX0_learn_65 : decode cX0_learn 65 = .ok (.getfield 28, 3) := by decide +kernel
theorem dX0_learn_68 : decode cX0_learn 68 = .ok (.iload_n 1, 1) := by decide +kernel
theorem dX0_learn_69 : decode cX0_learn 69 = .ok (.iload_n 2, 1) := by decide +kernel
theorem dX0_learn_70 : decode cX0_learn 70 = .ok (.i2b, 1) := by decide +kernel
theorem dX0_learn_71 : decode cX0_learn 71 = .ok (.bastore, 1) := by decide +kernel
theorem dX0_learn_72 : decode cX0_learn 72 = .ok (.aload_n 0, 1) := by decide +kernel
theorem dX0_learn_73 : decode cX0_learn 73 = .ok (.getfield 22, 3) := by decide +kernel
theorem dX0_learn_76 : decode cX0_learn 76 = .ok (.iload_n 2, 1) := by decide +kernel
theorem dX0_learn_77 : decode cX0_learn 77 = .ok (.aload_n 0, 1) := by decide +kernel
theorem dX0_learn_78 : decode cX0_learn 78 = .ok (.getfield 31, 3) := by decide +kernel
theorem dX0_learn_81 : decode cX0_learn 81 = .ok (.i2b, 1) := by decide +kernel
theorem dX0_learn_82 : decode cX0_learn 82 = .ok (.bastore, 1) := by decide +kernel
theorem dX0_learn_83 : decode cX0_learn 83 = .ok (.iinc 1 1, 3) := by decide +kernel
theorem dX0_learn_86 : decode cX0_learn 86 = .ok (.goto 29, 3) := by decide +kernel
theorem dX0_learn_89 : decode cX0_learn 89 = .ok (.aload_n 0, 1) := by decide +kernel
theorem dX0_learn_90 : decode cX0_learn 90 = .ok (.getfield 7, 3) := by decide +kernel
theorem dX0_learn_93 : decode cX0_learn 93 = .ok (.iload_n 2, 1) := by decide +kernel
theorem dX0_learn_94 : decode cX0_learn 94 = .ok (.baload, 1) := by decide +kernel
theorem dX0_learn_95 : decode cX0_learn 95 = .ok (.iconst 1, 1) := by decide +kernel
theorem dX0_learn_96 : decode cX0_learn 96 = .ok (.if_icmp .ne 19, 3) := by decide +kernel
theorem dX0_learn_99 : decode cX0_learn 99 = .ok (.iinc 1 (-1), 3) := by decide +kernel
theorem dX0_learn_102 : decode cX0_learn 102 = .ok (.aload_n 0, 1) := by decide +kernel
theorem dX0_learn_103 : decode cX0_learn 103 = .ok (.getfield 22, 3) := by decide +kernel
theorem dX0_learn_106 : decode cX0_learn 106 = .ok (.aload_n 0, 1) := by decide +kernel
theorem dX0_learn_107 : decode cX0_learn 107 = .ok (.getfield 28, 3) := by decide +kernel
theorem dX0_learn_110 : decode cX0_learn 110 = .ok (.iload_n 1, 1) := by decide +kernel
theorem dX0_learn_111 : decode cX0_learn 111 = .ok (.baload, 1) := by decide +kernel
theorem dX0_learn_112 : decode cX0_learn 112 = .ok (.iload_n 2, 1) := by decide +kernel
theorem dX0_learn_113 : decode cX0_learn 113 = .ok (.i2b, 1) := by decide +kernel
theorem dX0_learn_114 : decode cX0_learn 114 = .ok (.bastore, 1) := by decide +kernel
theorem dX0_learn_115 : decode cX0_learn 115 = .ok (.iinc 2 1, 3) := by decide +kernel
theorem dX0_learn_118 : decode cX0_learn 118 = .ok (.goto (-101), 3) := by decide +kernel
theorem dX0_learn_121 : decode cX0_learn 121 = .ok (.iconst 0, 1) := by decide +kernel
theorem dX0_learn_122 : decode cX0_learn 122 = .ok (.istore_n 2, 1) := by decide +kernel
theorem dX0_learn_123 : decode cX0_learn 123 = .ok (.iload_n 2, 1) := by decide +kernel
theorem dX0_learn_124 : decode cX0_learn 124 = .ok (.aload_n 0, 1) := by decide +kernel
theorem dX0_learn_125 : decode cX0_learn 125 = .ok (.getfield 31, 3) := by decide +kernel
theorem dX0_learn_128 : decode cX0_learn 128 = .ok (.if_icmp .ge 41, 3) := by decide +kernel
theorem dX0_learn_131 : decode cX0_learn 131 = .ok (.aload_n 0, 1) := by decide +kernel
theorem dX0_learn_132 : decode cX0_learn 132 = .ok (.getfield 25, 3) := by decide +kernel
theorem dX0_learn_135 : decode cX0_learn 135 = .ok (.iload_n 2, 1) := by decide +kernel
theorem dX0_learn_136 : decode cX0_learn 136 = .ok (.aload_n 0, 1) := by decide +kernel
theorem dX0_learn_137 : decode cX0_learn 137 = .ok (.getfield 7, 3) := by decide +kernel
theorem dX0_learn_140 : decode cX0_learn 140 = .ok (.iload_n 2, 1) := by decide +kernel
theorem dX0_learn_141 : decode cX0_learn 141 = .ok (.baload, 1) := by decide +kernel
theorem dX0_learn_142 : decode cX0_learn 142 = .ok (.iconst 3, 1) := by decide +kernel
theorem dX0_learn_143 : decode cX0_learn 143 = .ok (.if_icmp .ne 17, 3) := by decide +kernel
theorem dX0_learn_146 : decode cX0_learn 146 = .ok (.aload_n 0, 1) := by decide +kernel
theorem dX0_learn_147 : decode cX0_learn 147 = .ok (.aload_n 0, 1) := by decide +kernel
theorem dX0_learn_148 : decode cX0_learn 148 = .ok (.getfield 13, 3) := by decide +kernel
theorem dX0_learn_151 : decode cX0_learn 151 = .ok (.iload_n 2, 1) := by decide +kernel
theorem dX0_learn_152 : decode cX0_learn 152 = .ok (.baload, 1) := by decide +kernel
theorem dX0_learn_153 : decode cX0_learn 153 = .ok (.iload_n 2, 1) := by decide +kernel
theorem dX0_learn_154 : decode cX0_learn 154 = .ok (.invokevirtual 47, 3) := by decide +kernel
theorem dX0_learn_157 : decode cX0_learn 157 = .ok (.goto 4, 3) := by decide +kernel
theorem dX0_learn_160 : decode cX0_learn 160 = .ok (.iconst (-1), 1) := by decide +kernel
theorem dX0_learn_161 : decode cX0_learn 161 = .ok (.i2b, 1) := by decide +kernel
theorem dX0_learn_162 : decode cX0_learn 162 = .ok (.bastore, 1) := by decide +kernel
theorem dX0_learn_163 : decode cX0_learn 163 = .ok (.iinc 2 1, 3) := by decide +kernel
theorem dX0_learn_166 : decode cX0_learn 166 = .ok (.goto (-43), 3) := by decide +kernel
theorem dX0_learn_169 : decode cX0_learn 169 = .ok (.return_, 1) := by decide +kernel
abbrev cX0_winner : ByteArray := prog_1_method_13_code
def yX0_winner : MethodName := ⟨RX0, "winner", "(II)I"⟩
theorem dX0_winner_0 : decode cX0_winner 0 = .ok (.iconst (-1), 1) := by decide +kernel
theorem dX0_winner_1 : decode cX0_winner 1 = .ok (.istore_n 3, 1) := by decide +kernel
theorem dX0_winner_2 : decode cX0_winner 2 = .ok (.iconst 0, 1) := by decide +kernel
theorem dX0_winner_3 : decode cX0_winner 3 = .ok (.istore 4, 2) := by decide +kernel
theorem dX0_winner_5 : decode cX0_winner 5 = .ok (.iload 4, 2) := by decide +kernel
theorem dX0_winner_7 : decode cX0_winner 7 = .ok (.iload_n 2, 1) := by decide +kernel
theorem dX0_winner_8 : decode cX0_winner 8 = .ok (.if_icmp .ge 70, 3) := by decide +kernel
theorem dX0_winner_11 : decode cX0_winner 11 = .ok (.aload_n 0, 1) := by decide +kernel
theorem dX0_winner_12 : decode cX0_winner 12 = .ok (.getfield 7, 3) := by decide +kernel
theorem dX0_winner_15 : decode cX0_winner 15 = .ok (.iload 4, 2) := by decide +kernel
theorem dX0_winner_17 : decode cX0_winner 17 = .ok (.baload, 1) := by decide +kernel
theorem dX0_winner_18 : decode cX0_winner 18 = .ok (.iconst 2, 1) := by decide +kernel
theorem dX0_winner_19 : decode cX0_winner 19 = .ok (.if_icmp .ne 28, 3) := by decide +kernel
theorem dX0_winner_22 : decode cX0_winner 22 = .ok (.aload_n 0, 1) := by decide +kernel
theorem dX0_winner_23 : decode cX0_winner 23 = .ok (.getfield 13, 3) := by decide +kernel
theorem dX0_winner_26 : decode cX0_winner 26 = .ok (.iload 4, 2) := by decide +kernel
theorem dX0_winner_28 : decode cX0_winner 28 = .ok (.baload, 1) := by decide +kernel
theorem dX0_winner_29 : decode cX0_winner 29 = .ok (.iload_n 1, 1) := by decide +kernel
theorem dX0_winner_30 : decode cX0_winner 30 = .ok (.if_icmp .ne 17, 3) := by decide +kernel
theorem dX0_winner_33 : decode cX0_winner 33 = .ok (.aload_n 0, 1) := by decide +kernel
theorem dX0_winner_34 : decode cX0_winner 34 = .ok (.iload 4, 2) := by decide +kernel
theorem dX0_winner_36 : decode cX0_winner 36 = .ok (.iload_n 2, 1) := by decide +kernel
theorem dX0_winner_37 : decode cX0_winner 37 = .ok (.invokevirtual 55, 3) := by decide +kernel
theorem dX0_winner_40 : decode cX0_winner 40 = .ok (.ifCond .eq 7, 3) := by decide +kernel
theorem dX0_winner_43 : decode cX0_winner 43 = .ok (.iconst 1, 1) := by decide +kernel
theorem dX0_winner_44 : decode cX0_winner 44 = .ok (.goto 4, 3) := by decide +kernel
theorem dX0_winner_47 : decode cX0_winner 47 = .ok (.iconst 0, 1) := by decide +kernel
theorem dX0_winner_48 : decode cX0_winner 48 = .ok (.istore 5, 2) := by decide +kernel
theorem dX0_winner_50 : decode cX0_winner 50 = .ok (.iload 5, 2) := by decide +kernel
theorem dX0_winner_52 : decode cX0_winner 52 = .ok (.ifCond .eq 20, 3) := by decide +kernel
theorem dX0_winner_55 : decode cX0_winner 55 = .ok (.iload_n 3, 1) := by decide +kernel
theorem dX0_winner_56 : decode cX0_winner 56 = .ok (.ifCond .lt 13, 3) := by decide +kernel
theorem dX0_winner_59 : decode cX0_winner 59 = .ok (.aload_n 0, 1) := by decide +kernel
theorem dX0_winner_60 : decode cX0_winner 60 = .ok (.iload 4, 2) := by decide +kernel
theorem dX0_winner_62 : decode cX0_winner 62 = .ok (.iload_n 3, 1) := by decide +kernel
theorem dX0_winner_63 : decode cX0_winner 63 = .ok (.invokevirtual 58, 3) := by decide +kernel
theorem dX0_winner_66 : decode cX0_winner 66 = .ok (.ifCond .eq 6, 3) := by decide +kernel
theorem dX0_winner_69 : decode cX0_winner 69 = .ok (.iload 4, 2) := by decide +kernel
theorem dX0_winner_71 : decode cX0_winner 71 = .ok (.istore_n 3, 1) := by decide +kernel
theorem dX0_winner_72 : decode cX0_winner 72 = .ok (.iinc 4 1, 3) := by decide +kernel
theorem dX0_winner_75 : decode cX0_winner 75 = .ok (.goto (-70), 3) := by decide +kernel
theorem dX0_winner_78 : decode cX0_winner 78 = .ok (.iload_n 3, 1) := by decide +kernel
theorem dX0_winner_79 : decode cX0_winner 79 = .ok (.ireturn, 1) := by decide +kernel
abbrev cX0_sees : ByteArray := prog_1_method_11_code
def yX0_sees : MethodName := ⟨RX0, "sees", "(II)Z"⟩
theorem dX0_sees_0 : decode cX0_sees 0 = .ok (.iload_n 1, 1) := by decide +kernel
theorem dX0_sees_1 : decode cX0_sees 1 = .ok (.iload_n 2, 1) := by decide +kernel
theorem dX0_sees_2 : decode cX0_sees 2 = .ok (.if_icmp .ge 16, 3) := by decide +kernel
theorem dX0_sees_5 : decode cX0_sees 5 = .ok (.aload_n 0, 1) := by decide +kernel
theorem dX0_sees_6 : decode cX0_sees 6 = .ok (.iload_n 1, 1) := by decide +kernel
theorem dX0_sees_7 : decode cX0_sees 7 = .ok (.iload_n 2, 1) := by decide +kernel
theorem dX0_sees_8 : decode cX0_sees 8 = .ok (.invokevirtual 51, 3) := by decide +kernel
theorem dX0_sees_11 : decode cX0_sees 11 = .ok (.ifCond .eq 7, 3) := by decide +kernel
theorem dX0_sees_14 : decode cX0_sees 14 = .ok (.iconst 1, 1) := by decide +kernel
theorem dX0_sees_15 : decode cX0_sees 15 = .ok (.goto 4, 3) := by decide +kernel
theorem dX0_sees_18 : decode cX0_sees 18 = .ok (.iconst 0, 1) := by decide +kernel
theorem dX0_sees_19 : decode cX0_sees 19 = .ok (.ireturn, 1) := by decide +kernel
abbrev cX0_inBlockOf : ByteArray := prog_1_method_10_code
def yX0_inBlockOf : MethodName := ⟨RX0, "inBlockOf", "(II)Z"⟩
theorem dX0_inBlockOf_0 : decode cX0_inBlockOf 0 = .ok (.aload_n 0, 1) := by decide +kernel
theorem dX0_inBlockOf_1 : decode cX0_inBlockOf 1 = .ok (.getfield 16, 3) := by decide +kernel
theorem dX0_inBlockOf_4 : decode cX0_inBlockOf 4 = .ok (.iload_n 1, 1) := by decide +kernel
theorem dX0_inBlockOf_5 : decode cX0_inBlockOf 5 = .ok (.baload, 1) := by decide +kernel
theorem dX0_inBlockOf_6 : decode cX0_inBlockOf 6 = .ok (.istore_n 3, 1) := by decide +kernel
theorem dX0_inBlockOf_7 : decode cX0_inBlockOf 7 = .ok (.iload_n 3, 1) := by decide +kernel
theorem dX0_inBlockOf_8 : decode cX0_inBlockOf 8 = .ok (.ifCond .lt 18, 3) := by decide +kernel
theorem dX0_inBlockOf_11 : decode cX0_inBlockOf 11 = .ok (.iload_n 2, 1) := by decide +kernel
theorem dX0_inBlockOf_12 : decode cX0_inBlockOf 12 = .ok (.iload_n 3, 1) := by decide +kernel
theorem dX0_inBlockOf_13 : decode cX0_inBlockOf 13 = .ok (.if_icmp .le 17, 3) := by decide +kernel
theorem dX0_inBlockOf_16 : decode cX0_inBlockOf 16 = .ok (.iload_n 2, 1) := by decide +kernel
theorem dX0_inBlockOf_17 : decode cX0_inBlockOf 17 = .ok (.aload_n 0, 1) := by decide +kernel
theorem dX0_inBlockOf_18 : decode cX0_inBlockOf 18 = .ok (.getfield 22, 3) := by decide +kernel
theorem dX0_inBlockOf_21 : decode cX0_inBlockOf 21 = .ok (.iload_n 3, 1) := by decide +kernel
theorem dX0_inBlockOf_22 : decode cX0_inBlockOf 22 = .ok (.baload, 1) := by decide +kernel
theorem dX0_inBlockOf_23 : decode cX0_inBlockOf 23 = .ok (.if_icmp .gt 7, 3) := by decide +kernel
theorem dX0_inBlockOf_26 : decode cX0_inBlockOf 26 = .ok (.iconst 1, 1) := by decide +kernel
theorem dX0_inBlockOf_27 : decode cX0_inBlockOf 27 = .ok (.goto 4, 3) := by decide +kernel
theorem dX0_inBlockOf_30 : decode cX0_inBlockOf 30 = .ok (.iconst 0, 1) := by decide +kernel
theorem dX0_inBlockOf_31 : decode cX0_inBlockOf 31 = .ok (.ireturn, 1) := by decide +kernel
end
section
set_option maxRecDepth 100000
abbrev cX0_hides : ByteArray := prog_1_method_12_code
def yX0_hides : MethodName := ⟨RX0, "hides", "(II)Z"⟩
theorem dX0_hides_0 : decode cX0_hides 0 = .ok (.aload_n 0, 1) := by decide +kernel
theorem dX0_hides_1 : decode cX0_hides 1 = .ok (.getfield 19, 3) := by decide +kernel
theorem dX0_hides_4 : decode cX0_hides 4 = .ok (.iload_n 1, 1) := by decide +kernel
theorem dX0_hides_5 : decode cX0_hides 5 = .ok (.baload, 1) := by decide +kernel
theorem dX0_hides_6 : decode cX0_hides 6 = .ok (.aload_n 0, 1) := by decide +kernel
theorem dX0_hides_7 : decode cX0_hides 7 = .ok (.getfield 19, 3) := by decide +kernel
theorem dX0_hides_10 : decode cX0_hides 10 = .ok (.iload_n 2, 1) := by decide +kernel
theorem dX0_hides_11 : decode cX0_hides 11 = .ok (.baload, 1) := by decide +kernel
theorem dX0_hides_12 : decode cX0_hides 12 = .ok (.if_icmp .gt 23, 3) := by decide +kernel
theorem dX0_hides_15 : decode cX0_hides 15 = .ok (.aload_n 0, 1) := by decide +kernel
theorem dX0_hides_16 : decode cX0_hides 16 = .ok (.getfield 19, 3) := by decide +kernel
theorem dX0_hides_19 : decode cX0_hides 19 = .ok (.iload_n 1, 1) := by decide +kernel
theorem dX0_hides_20 : decode cX0_hides 20 = .ok (.baload, 1) := by decide +kernel
theorem dX0_hides_21 : decode cX0_hides 21 = .ok (.aload_n 0, 1) := by decide +kernel
theorem dX0_hides_22 : decode cX0_hides 22 = .ok (.getfield 19, 3) := by decide +kernel
theorem dX0_hides_25 : decode cX0_hides 25 = .ok (.iload_n 2, 1) := by decide +kernel
theorem dX0_hides_26 : decode cX0_hides 26 = .ok (.baload, 1) := by decide +kernel
theorem dX0_hides_27 : decode cX0_hides 27 = .ok (.if_icmp .ne 12, 3) := by decide +kernel
theorem dX0_hides_30 : decode cX0_hides 30 = .ok (.iload_n 1, 1) := by decide +kernel
theorem dX0_hides_31 : decode cX0_hides 31 = .ok (.iload_n 2, 1) := by decide +kernel
theorem dX0_hides_32 : decode cX0_hides 32 = .ok (.if_icmp .le 7, 3) := by decide +kernel
theorem dX0_hides_35 : decode cX0_hides 35 = .ok (.iconst 1, 1) := by decide +kernel
theorem dX0_hides_36 : decode cX0_hides 36 = .ok (.goto 4, 3) := by decide +kernel
theorem dX0_hides_39 : decode cX0_hides 39 = .ok (.iconst 0, 1) := by decide +kernel
theorem dX0_hides_40 : decode cX0_hides 40 = .ok (.ireturn, 1) := by decide +kernel
abbrev cX0_uses : ByteArray := prog_1_method_15_code
def yX0_uses : MethodName := ⟨RX0, "uses", "(I)I"⟩
theorem dX0_uses_0 : decode cX0_uses 0 = .ok (.aload_n 0, 1) := by decide +kernel
theorem dX0_uses_1 : decode cX0_uses 1 = .ok (.iload_n 1, 1) := by decide +kernel
theorem dX0_uses_2 : decode cX0_uses 2 = .ok (.iconst 2, 1) := by decide +kernel
theorem dX0_uses_3 : decode cX0_uses 3 = .ok (.invokevirtual 61, 3) := by decide +kernel
theorem dX0_uses_6 : decode cX0_uses 6 = .ok (.ifCond .ne 5, 3) := by decide +kernel
theorem dX0_uses_9 : decode cX0_uses 9 = .ok (.iconst 0, 1) := by decide +kernel
theorem dX0_uses_10 : decode cX0_uses 10 = .ok (.ireturn, 1) := by decide +kernel
theorem dX0_uses_11 : decode cX0_uses 11 = .ok (.aload_n 0, 1) := by decide +kernel
theorem dX0_uses_12 : decode cX0_uses 12 = .ok (.invokevirtual 64, 3) := by decide +kernel
theorem dX0_uses_15 : decode cX0_uses 15 = .ok (.iconst 0, 1) := by decide +kernel
theorem dX0_uses_16 : decode cX0_uses 16 = .ok (.istore_n 2, 1) := by decide +kernel
theorem dX0_uses_17 : decode cX0_uses 17 = .ok (.iconst 0, 1) := by decide +kernel
theorem dX0_uses_18 : decode cX0_uses 18 = .ok (.istore_n 3, 1) := by decide +kernel
theorem dX0_uses_19 : decode cX0_uses 19 = .ok (.iload_n 3, 1) := by decide +kernel
theorem dX0_uses_20 : decode cX0_uses 20 = .ok (.aload_n 0, 1) := by decide +kernel
theorem dX0_uses_21 : decode cX0_uses 21 = .ok (.getfield 31, 3) := by decide +kernel
theorem dX0_uses_24 : decode cX0_uses 24 = .ok (.if_icmp .ge 29, 3) := by decide +kernel
theorem dX0_uses_27 : decode cX0_uses 27 = .ok (.iload_n 2, 1) := by decide +kernel
theorem dX0_uses_28 : decode cX0_uses 28 = .ok (.aload_n 0, 1) := by decide +kernel
theorem dX0_uses_29 : decode cX0_uses 29 = .ok (.getfield 25, 3) := by decide +kernel
theorem dX0_uses_32 : decode cX0_uses 32 = .ok (.iload_n 3, 1) := by decide +kernel
theorem dX0_uses_33 : decode cX0_uses 33 = .ok (.baload, 1) := by decide +kernel
theorem dX0_uses_34 : decode cX0_uses 34 = .ok (.iload_n 1, 1) := by decide +kernel
theorem dX0_uses_35 : decode cX0_uses 35 = .ok (.if_icmp .ne 9, 3) := by decide +kernel
theorem dX0_uses_38 : decode cX0_uses 38 = .ok (.iconst 1, 1) := by decide +kernel
theorem dX0_uses_39 : decode cX0_uses 39 = .ok (.iload_n 3, 1) := by decide +kernel
theorem dX0_uses_40 : decode cX0_uses 40 = .ok (.ishl, 1) := by decide +kernel
theorem dX0_uses_41 : decode cX0_uses 41 = .ok (.goto 4, 3) := by decide +kernel
theorem dX0_uses_44 : decode cX0_uses 44 = .ok (.iconst 0, 1) := by decide +kernel
theorem dX0_uses_45 : decode cX0_uses 45 = .ok (.ior, 1) := by decide +kernel
theorem dX0_uses_46 : decode cX0_uses 46 = .ok (.istore_n 2, 1) := by decide +kernel
theorem dX0_uses_47 : decode cX0_uses 47 = .ok (.iinc 3 1, 3) := by decide +kernel
theorem dX0_uses_50 : decode cX0_uses 50 = .ok (.goto (-31), 3) := by decide +kernel
theorem dX0_uses_53 : decode cX0_uses 53 = .ok (.iload_n 2, 1) := by decide +kernel
theorem dX0_uses_54 : decode cX0_uses 54 = .ok (.ireturn, 1) := by decide +kernel
abbrev cX0_free : ByteArray := prog_1_method_16_code
def yX0_free : MethodName := ⟨RX0, "free", "()I"⟩
theorem dX0_free_0 : decode cX0_free 0 = .ok (.aload_n 0, 1) := by decide +kernel
theorem dX0_free_1 : decode cX0_free 1 = .ok (.invokevirtual 64, 3) := by decide +kernel
theorem dX0_free_4 : decode cX0_free 4 = .ok (.iconst 0, 1) := by decide +kernel
theorem dX0_free_5 : decode cX0_free 5 = .ok (.istore_n 1, 1) := by decide +kernel
theorem dX0_free_6 : decode cX0_free 6 = .ok (.iconst 0, 1) := by decide +kernel
theorem dX0_free_7 : decode cX0_free 7 = .ok (.istore_n 2, 1) := by decide +kernel
theorem dX0_free_8 : decode cX0_free 8 = .ok (.iload_n 2, 1) := by decide +kernel
theorem dX0_free_9 : decode cX0_free 9 = .ok (.aload_n 0, 1) := by decide +kernel
theorem dX0_free_10 : decode cX0_free 10 = .ok (.getfield 31, 3) := by decide +kernel
theorem dX0_free_13 : decode cX0_free 13 = .ok (.if_icmp .ge 38, 3) := by decide +kernel
theorem dX0_free_16 : decode cX0_free 16 = .ok (.iload_n 1, 1) := by decide +kernel
theorem dX0_free_17 : decode cX0_free 17 = .ok (.aload_n 0, 1) := by decide +kernel
theorem dX0_free_18 : decode cX0_free 18 = .ok (.getfield 7, 3) := by decide +kernel
theorem dX0_free_21 : decode cX0_free 21 = .ok (.iload_n 2, 1) := by decide +kernel
theorem dX0_free_22 : decode cX0_free 22 = .ok (.baload, 1) := by decide +kernel
theorem dX0_free_23 : decode cX0_free 23 = .ok (.iconst 3, 1) := by decide +kernel
theorem dX0_free_24 : decode cX0_free 24 = .ok (.if_icmp .ne 18, 3) := by decide +kernel
theorem dX0_free_27 : decode cX0_free 27 = .ok (.aload_n 0, 1) := by decide +kernel
theorem dX0_free_28 : decode cX0_free 28 = .ok (.getfield 25, 3) := by decide +kernel
theorem dX0_free_31 : decode cX0_free 31 = .ok (.iload_n 2, 1) := by decide +kernel
theorem dX0_free_32 : decode cX0_free 32 = .ok (.baload, 1) := by decide +kernel
theorem dX0_free_33 : decode cX0_free 33 = .ok (.ifCond .ge 9, 3) := by decide +kernel
theorem dX0_free_36 : decode cX0_free 36 = .ok (.iconst 1, 1) := by decide +kernel
theorem dX0_free_37 : decode cX0_free 37 = .ok (.iload_n 2, 1) := by decide +kernel
theorem dX0_free_38 : decode cX0_free 38 = .ok (.ishl, 1) := by decide +kernel
theorem dX0_free_39 : decode cX0_free 39 = .ok (.goto 4, 3) := by decide +kernel
theorem dX0_free_42 : decode cX0_free 42 = .ok (.iconst 0, 1) := by decide +kernel
theorem dX0_free_43 : decode cX0_free 43 = .ok (.ior, 1) := by decide +kernel
theorem dX0_free_44 : decode cX0_free 44 = .ok (.istore_n 1, 1) := by decide +kernel
theorem dX0_free_45 : decode cX0_free 45 = .ok (.iinc 2 1, 3) := by decide +kernel
theorem dX0_free_48 : decode cX0_free 48 = .ok (.goto (-40), 3) := by decide +kernel
theorem dX0_free_51 : decode cX0_free 51 = .ok (.iload_n 1, 1) := by decide +kernel
theorem dX0_free_52 : decode cX0_free 52 = .ok (.ireturn, 1) := by decide +kernel
abbrev cX0_unused : ByteArray := prog_1_method_17_code
def yX0_unused : MethodName := ⟨RX0, "unused", "()I"⟩
theorem dX0_unused_0 : decode cX0_unused 0 = .ok (.iconst 0, 1) := by decide +kernel
theorem dX0_unused_1 : decode cX0_unused 1 = .ok (.istore_n 1, 1) := by decide +kernel
theorem dX0_unused_2 : decode cX0_unused 2 = .ok (.iconst 0, 1) := by decide +kernel
theorem dX0_unused_3 : decode cX0_unused 3 = .ok (.istore_n 2, 1) := by decide +kernel
theorem dX0_unused_4 : decode cX0_unused 4 = .ok (.iload_n 2, 1) := by decide +kernel
theorem dX0_unused_5 : decode cX0_unused 5 = .ok (.aload_n 0, 1) := by decide +kernel
theorem dX0_unused_6 : decode cX0_unused 6 = .ok (.getfield 31, 3) := by decide +kernel
theorem dX0_unused_9 : decode cX0_unused 9 = .ok (.if_icmp .ge 37, 3) := by decide +kernel
theorem dX0_unused_12 : decode cX0_unused 12 = .ok (.iload_n 1, 1) := by decide +kernel
theorem dX0_unused_13 : decode cX0_unused 13 = .ok (.aload_n 0, 1) := by decide +kernel
theorem dX0_unused_14 : decode cX0_unused 14 = .ok (.getfield 7, 3) := by decide +kernel
theorem dX0_unused_17 : decode cX0_unused 17 = .ok (.iload_n 2, 1) := by decide +kernel
theorem dX0_unused_18 : decode cX0_unused 18 = .ok (.baload, 1) := by decide +kernel
theorem dX0_unused_19 : decode cX0_unused 19 = .ok (.iconst 2, 1) := by decide +kernel
theorem dX0_unused_20 : decode cX0_unused 20 = .ok (.if_icmp .ne 17, 3) := by decide +kernel
theorem dX0_unused_23 : decode cX0_unused 23 = .ok (.aload_n 0, 1) := by decide +kernel
theorem dX0_unused_24 : decode cX0_unused 24 = .ok (.iload_n 2, 1) := by decide +kernel
theorem dX0_unused_25 : decode cX0_unused 25 = .ok (.invokevirtual 67, 3) := by decide +kernel
theorem dX0_unused_28 : decode cX0_unused 28 = .ok (.ifCond .ne 9, 3) := by decide +kernel
theorem dX0_unused_31 : decode cX0_unused 31 = .ok (.iconst 1, 1) := by decide +kernel
theorem dX0_unused_32 : decode cX0_unused 32 = .ok (.iload_n 2, 1) := by decide +kernel
theorem dX0_unused_33 : decode cX0_unused 33 = .ok (.ishl, 1) := by decide +kernel
theorem dX0_unused_34 : decode cX0_unused 34 = .ok (.goto 4, 3) := by decide +kernel
theorem dX0_unused_37 : decode cX0_unused 37 = .ok (.iconst 0, 1) := by decide +kernel
theorem dX0_unused_38 : decode cX0_unused 38 = .ok (.ior, 1) := by decide +kernel
theorem dX0_unused_39 : decode cX0_unused 39 = .ok (.istore_n 1, 1) := by decide +kernel
theorem dX0_unused_40 : decode cX0_unused 40 = .ok (.iinc 2 1, 3) := by decide +kernel
theorem dX0_unused_43 : decode cX0_unused 43 = .ok (.goto (-39), 3) := by decide +kernel
theorem dX0_unused_46 : decode cX0_unused 46 = .ok (.iload_n 1, 1) := by decide +kernel
theorem dX0_unused_47 : decode cX0_unused 47 = .ok (.ireturn, 1) := by decide +kernel
abbrev cX0_names : ByteArray := prog_1_method_19_code
def yX0_names : MethodName := ⟨RX0, "names", "(I)I"⟩
theorem dX0_names_0 : decode cX0_names 0 = .ok (.aload_n 0, 1) := by decide +kernel
theorem dX0_names_1 : decode cX0_names 1 = .ok (.iload_n 1, 1) := by decide +kernel
theorem dX0_names_2 : decode cX0_names 2 = .ok (.iconst 2, 1) := by decide +kernel
theorem dX0_names_3 : decode cX0_names 3 = .ok (.invokevirtual 61, 3) := by decide +kernel
theorem dX0_names_6 : decode cX0_names 6 = .ok (.ifCond .ne 5, 3) := by decide +kernel
theorem dX0_names_9 : decode cX0_names 9 = .ok (.iconst 0, 1) := by decide +kernel
theorem dX0_names_10 : decode cX0_names 10 = .ok (.ireturn, 1) := by decide +kernel
theorem dX0_names_11 : decode cX0_names 11 = .ok (.aload_n 0, 1) := by decide +kernel
theorem dX0_names_12 : decode cX0_names 12 = .ok (.invokevirtual 64, 3) := by decide +kernel
theorem dX0_names_15 : decode cX0_names 15 = .ok (.iconst 0, 1) := by decide +kernel
theorem dX0_names_16 : decode cX0_names 16 = .ok (.istore_n 2, 1) := by decide +kernel
theorem dX0_names_17 : decode cX0_names 17 = .ok (.iconst 0, 1) := by decide +kernel
theorem dX0_names_18 : decode cX0_names 18 = .ok (.istore_n 3, 1) := by decide +kernel
theorem dX0_names_19 : decode cX0_names 19 = .ok (.iload_n 3, 1) := by decide +kernel
theorem dX0_names_20 : decode cX0_names 20 = .ok (.bipush 8, 2) := by decide +kernel
theorem dX0_names_22 : decode cX0_names 22 = .ok (.if_icmp .ge 28, 3) := by decide +kernel
theorem dX0_names_25 : decode cX0_names 25 = .ok (.iload_n 2, 1) := by decide +kernel
theorem dX0_names_26 : decode cX0_names 26 = .ok (.aload_n 0, 1) := by decide +kernel
theorem dX0_names_27 : decode cX0_names 27 = .ok (.iload_n 1, 1) := by decide +kernel
theorem dX0_names_28 : decode cX0_names 28 = .ok (.iload_n 3, 1) := by decide +kernel
theorem dX0_names_29 : decode cX0_names 29 = .ok (.invokevirtual 71, 3) := by decide +kernel
theorem dX0_names_32 : decode cX0_names 32 = .ok (.ifCond .eq 9, 3) := by decide +kernel
theorem dX0_names_35 : decode cX0_names 35 = .ok (.iconst 1, 1) := by decide +kernel
theorem dX0_names_36 : decode cX0_names 36 = .ok (.iload_n 3, 1) := by decide +kernel
theorem dX0_names_37 : decode cX0_names 37 = .ok (.ishl, 1) := by decide +kernel
theorem dX0_names_38 : decode cX0_names 38 = .ok (.goto 4, 3) := by decide +kernel
theorem dX0_names_41 : decode cX0_names 41 = .ok (.iconst 0, 1) := by decide +kernel
theorem dX0_names_42 : decode cX0_names 42 = .ok (.ior, 1) := by decide +kernel
theorem dX0_names_43 : decode cX0_names 43 = .ok (.istore_n 2, 1) := by decide +kernel
theorem dX0_names_44 : decode cX0_names 44 = .ok (.iinc 3 1, 3) := by decide +kernel
theorem dX0_names_47 : decode cX0_names 47 = .ok (.goto (-28), 3) := by decide +kernel
theorem dX0_names_50 : decode cX0_names 50 = .ok (.iload_n 2, 1) := by decide +kernel
theorem dX0_names_51 : decode cX0_names 51 = .ok (.ireturn, 1) := by decide +kernel
abbrev cX0_legalName : ByteArray := prog_1_method_18_code
def yX0_legalName : MethodName := ⟨RX0, "legalName", "(II)Z"⟩
theorem dX0_legalName_0 : decode cX0_legalName 0 = .ok (.iload_n 2, 1) := by decide +kernel
theorem dX0_legalName_1 : decode cX0_legalName 1 = .ok (.aload_n 0, 1) := by decide +kernel
theorem dX0_legalName_2 : decode cX0_legalName 2 = .ok (.getfield 13, 3) := by decide +kernel
theorem dX0_legalName_5 : decode cX0_legalName 5 = .ok (.iload_n 1, 1) := by decide +kernel
theorem dX0_legalName_6 : decode cX0_legalName 6 = .ok (.baload, 1) := by decide +kernel
theorem dX0_legalName_7 : decode cX0_legalName 7 = .ok (.if_icmp .ne 5, 3) := by decide +kernel
theorem dX0_legalName_10 : decode cX0_legalName 10 = .ok (.iconst 1, 1) := by decide +kernel
theorem dX0_legalName_11 : decode cX0_legalName 11 = .ok (.ireturn, 1) := by decide +kernel
theorem dX0_legalName_12 : decode cX0_legalName 12 = .ok (.iload_n 1, 1) := by decide +kernel
theorem dX0_legalName_13 : decode cX0_legalName 13 = .ok (.iconst 1, 1) := by decide +kernel
theorem dX0_legalName_14 : decode cX0_legalName 14 = .ok (.iadd, 1) := by decide +kernel
theorem dX0_legalName_15 : decode cX0_legalName 15 = .ok (.istore_n 3, 1) := by decide +kernel
theorem dX0_legalName_16 : decode cX0_legalName 16 = .ok (.iload_n 3, 1) := by decide +kernel
theorem dX0_legalName_17 : decode cX0_legalName 17 = .ok (.aload_n 0, 1) := by decide +kernel
theorem dX0_legalName_18 : decode cX0_legalName 18 = .ok (.getfield 31, 3) := by decide +kernel
theorem dX0_legalName_21 : decode cX0_legalName 21 = .ok (.if_icmp .ge 101, 3) := by decide +kernel
theorem dX0_legalName_24 : decode cX0_legalName 24 = .ok (.aload_n 0, 1) := by decide +kernel
theorem dX0_legalName_25 : decode cX0_legalName 25 = .ok (.getfield 25, 3) := by decide +kernel
theorem dX0_legalName_28 : decode cX0_legalName 28 = .ok (.iload_n 3, 1) := by decide +kernel
theorem dX0_legalName_29 : decode cX0_legalName 29 = .ok (.baload, 1) := by decide +kernel
theorem dX0_legalName_30 : decode cX0_legalName 30 = .ok (.iload_n 1, 1) := by decide +kernel
theorem dX0_legalName_31 : decode cX0_legalName 31 = .ok (.if_icmp .ne 31, 3) := by decide +kernel
theorem dX0_legalName_34 : decode cX0_legalName 34 = .ok (.aload_n 0, 1) := by decide +kernel
theorem dX0_legalName_35 : decode cX0_legalName 35 = .ok (.iload_n 2, 1) := by decide +kernel
theorem dX0_legalName_36 : decode cX0_legalName 36 = .ok (.iload_n 3, 1) := by decide +kernel
theorem dX0_legalName_37 : decode cX0_legalName 37 = .ok (.invokevirtual 47, 3) := by decide +kernel
theorem dX0_legalName_40 : decode cX0_legalName 40 = .ok (.istore 4, 2) := by decide +kernel
theorem dX0_legalName_42 : decode cX0_legalName 42 = .ok (.iload 4, 2) := by decide +kernel
theorem dX0_legalName_44 : decode cX0_legalName 44 = .ok (.ifCond .lt 15, 3) := by decide +kernel
theorem dX0_legalName_47 : decode cX0_legalName 47 = .ok (.aload_n 0, 1) := by decide +kernel
theorem dX0_legalName_48 : decode cX0_legalName 48 = .ok (.iload 4, 2) := by decide +kernel
theorem dX0_legalName_50 : decode cX0_legalName 50 = .ok (.iload_n 1, 1) := by decide +kernel
theorem dX0_legalName_51 : decode cX0_legalName 51 = .ok (.invokevirtual 58, 3) := by decide +kernel
theorem dX0_legalName_54 : decode cX0_legalName 54 = .ok (.ifCond .eq 5, 3) := by decide +kernel
theorem dX0_legalName_57 : decode cX0_legalName 57 = .ok (.iconst 0, 1) := by decide +kernel
theorem dX0_legalName_58 : decode cX0_legalName 58 = .ok (.ireturn, 1) := by decide +kernel
theorem dX0_legalName_59 : decode cX0_legalName 59 = .ok (.goto 57, 3) := by decide +kernel
theorem dX0_legalName_62 : decode cX0_legalName 62 = .ok (.aload_n 0, 1) := by decide +kernel
theorem dX0_legalName_63 : decode cX0_legalName 63 = .ok (.getfield 7, 3) := by decide +kernel
theorem dX0_legalName_66 : decode cX0_legalName 66 = .ok (.iload_n 3, 1) := by decide +kernel
theorem dX0_legalName_67 : decode cX0_legalName 67 = .ok (.baload, 1) := by decide +kernel
theorem dX0_legalName_68 : decode cX0_legalName 68 = .ok (.iconst 3, 1) := by decide +kernel
theorem dX0_legalName_69 : decode cX0_legalName 69 = .ok (.if_icmp .ne 47, 3) := by decide +kernel
theorem dX0_legalName_72 : decode cX0_legalName 72 = .ok (.aload_n 0, 1) := by decide +kernel
theorem dX0_legalName_73 : decode cX0_legalName 73 = .ok (.getfield 13, 3) := by decide +kernel
theorem dX0_legalName_76 : decode cX0_legalName 76 = .ok (.iload_n 3, 1) := by decide +kernel
theorem dX0_legalName_77 : decode cX0_legalName 77 = .ok (.baload, 1) := by decide +kernel
theorem dX0_legalName_78 : decode cX0_legalName 78 = .ok (.iload_n 2, 1) := by decide +kernel
theorem dX0_legalName_79 : decode cX0_legalName 79 = .ok (.if_icmp .ne 37, 3) := by decide +kernel
theorem dX0_legalName_82 : decode cX0_legalName 82 = .ok (.aload_n 0, 1) := by decide +kernel
theorem dX0_legalName_83 : decode cX0_legalName 83 = .ok (.iload_n 1, 1) := by decide +kernel
theorem dX0_legalName_84 : decode cX0_legalName 84 = .ok (.iload_n 3, 1) := by decide +kernel
theorem dX0_legalName_85 : decode cX0_legalName 85 = .ok (.invokevirtual 55, 3) := by decide +kernel
theorem dX0_legalName_88 : decode cX0_legalName 88 = .ok (.ifCond .eq 28, 3) := by decide +kernel
theorem dX0_legalName_91 : decode cX0_legalName 91 = .ok (.aload_n 0, 1) := by decide +kernel
theorem dX0_legalName_92 : decode cX0_legalName 92 = .ok (.getfield 25, 3) := by decide +kernel
theorem dX0_legalName_95 : decode cX0_legalName 95 = .ok (.iload_n 3, 1) := by decide +kernel
theorem dX0_legalName_96 : decode cX0_legalName 96 = .ok (.baload, 1) := by decide +kernel
theorem dX0_legalName_97 : decode cX0_legalName 97 = .ok (.ifCond .lt 17, 3) := by decide +kernel
theorem dX0_legalName_100 : decode cX0_legalName 100 = .ok (.aload_n 0, 1) := by decide +kernel
theorem dX0_legalName_101 : decode cX0_legalName 101 = .ok (.iload_n 1, 1) := by decide +kernel
theorem dX0_legalName_102 : decode cX0_legalName 102 = .ok (.aload_n 0, 1) := by decide +kernel
theorem dX0_legalName_103 : decode cX0_legalName 103 = .ok (.getfield 25, 3) := by decide +kernel
theorem dX0_legalName_106 : decode cX0_legalName 106 = .ok (.iload_n 3, 1) := by decide +kernel
theorem dX0_legalName_107 : decode cX0_legalName 107 = .ok (.baload, 1) := by decide +kernel
theorem dX0_legalName_108 : decode cX0_legalName 108 = .ok (.invokevirtual 58, 3) := by decide +kernel
theorem dX0_legalName_111 : decode cX0_legalName 111 = .ok (.ifCond .eq 5, 3) := by decide +kernel
theorem dX0_legalName_114 : decode cX0_legalName 114 = .ok (.iconst 0, 1) := by decide +kernel
theorem dX0_legalName_115 : decode cX0_legalName 115 = .ok (.ireturn, 1) := by decide +kernel
theorem dX0_legalName_116 : decode cX0_legalName 116 = .ok (.iinc 3 1, 3) := by decide +kernel
theorem dX0_legalName_119 : decode cX0_legalName 119 = .ok (.goto (-103), 3) := by decide +kernel
theorem dX0_legalName_122 : decode cX0_legalName 122 = .ok (.iconst 1, 1) := by decide +kernel
theorem dX0_legalName_123 : decode cX0_legalName 123 = .ok (.ireturn, 1) := by decide +kernel
abbrev cX0_rename : ByteArray := prog_1_method_20_code
def yX0_rename : MethodName := ⟨RX0, "rename", "(II)I"⟩
theorem dX0_rename_0 : decode cX0_rename 0 = .ok (.aload_n 0, 1) := by decide +kernel
theorem dX0_rename_1 : decode cX0_rename 1 = .ok (.iload_n 1, 1) := by decide +kernel
theorem dX0_rename_2 : decode cX0_rename 2 = .ok (.iconst 2, 1) := by decide +kernel
theorem dX0_rename_3 : decode cX0_rename 3 = .ok (.invokevirtual 61, 3) := by decide +kernel
theorem dX0_rename_6 : decode cX0_rename 6 = .ok (.ifCond .eq 13, 3) := by decide +kernel
theorem dX0_rename_9 : decode cX0_rename 9 = .ok (.iload_n 2, 1) := by decide +kernel
theorem dX0_rename_10 : decode cX0_rename 10 = .ok (.ifCond .lt 9, 3) := by decide +kernel
theorem dX0_rename_13 : decode cX0_rename 13 = .ok (.iload_n 2, 1) := by decide +kernel
theorem dX0_rename_14 : decode cX0_rename 14 = .ok (.bipush 8, 2) := by decide +kernel
theorem dX0_rename_16 : decode cX0_rename 16 = .ok (.if_icmp .lt 5, 3) := by decide +kernel
theorem dX0_rename_19 : decode cX0_rename 19 = .ok (.iconst (-1), 1) := by decide +kernel
theorem dX0_rename_20 : decode cX0_rename 20 = .ok (.ireturn, 1) := by decide +kernel
theorem dX0_rename_21 : decode cX0_rename 21 = .ok (.aload_n 0, 1) := by decide +kernel
theorem dX0_rename_22 : decode cX0_rename 22 = .ok (.invokevirtual 64, 3) := by decide +kernel
theorem dX0_rename_25 : decode cX0_rename 25 = .ok (.aload_n 0, 1) := by decide +kernel
theorem dX0_rename_26 : decode cX0_rename 26 = .ok (.iload_n 1, 1) := by decide +kernel
theorem dX0_rename_27 : decode cX0_rename 27 = .ok (.iload_n 2, 1) := by decide +kernel
theorem dX0_rename_28 : decode cX0_rename 28 = .ok (.invokevirtual 71, 3) := by decide +kernel
theorem dX0_rename_31 : decode cX0_rename 31 = .ok (.ifCond .ne 6, 3) := by decide +kernel
theorem dX0_rename_34 : decode cX0_rename 34 = .ok (.bipush (-3), 2) := by decide +kernel
theorem dX0_rename_36 : decode cX0_rename 36 = .ok (.ireturn, 1) := by decide +kernel
theorem dX0_rename_37 : decode cX0_rename 37 = .ok (.iconst 0, 1) := by decide +kernel
theorem dX0_rename_38 : decode cX0_rename 38 = .ok (.istore_n 3, 1) := by decide +kernel
theorem dX0_rename_39 : decode cX0_rename 39 = .ok (.iconst 0, 1) := by decide +kernel
theorem dX0_rename_40 : decode cX0_rename 40 = .ok (.istore 4, 2) := by decide +kernel
theorem dX0_rename_42 : decode cX0_rename 42 = .ok (.iload 4, 2) := by decide +kernel
theorem dX0_rename_44 : decode cX0_rename 44 = .ok (.aload_n 0, 1) := by decide +kernel
theorem dX0_rename_45 : decode cX0_rename 45 = .ok (.getfield 31, 3) := by decide +kernel
theorem dX0_rename_48 : decode cX0_rename 48 = .ok (.if_icmp .ge 49, 3) := by decide +kernel
theorem dX0_rename_51 : decode cX0_rename 51 = .ok (.iload 4, 2) := by decide +kernel
theorem dX0_rename_53 : decode cX0_rename 53 = .ok (.iload_n 1, 1) := by decide +kernel
theorem dX0_rename_54 : decode cX0_rename 54 = .ok (.if_icmp .eq 14, 3) := by decide +kernel
theorem dX0_rename_57 : decode cX0_rename 57 = .ok (.aload_n 0, 1) := by decide +kernel
theorem dX0_rename_58 : decode cX0_rename 58 = .ok (.getfield 25, 3) := by decide +kernel
theorem dX0_rename_61 : decode cX0_rename 61 = .ok (.iload 4, 2) := by decide +kernel
theorem dX0_rename_63 : decode cX0_rename 63 = .ok (.baload, 1) := by decide +kernel
theorem dX0_rename_64 : decode cX0_rename 64 = .ok (.iload_n 1, 1) := by decide +kernel
theorem dX0_rename_65 : decode cX0_rename 65 = .ok (.if_icmp .ne 26, 3) := by decide +kernel
theorem dX0_rename_68 : decode cX0_rename 68 = .ok (.aload_n 0, 1) := by decide +kernel
theorem dX0_rename_69 : decode cX0_rename 69 = .ok (.getfield 13, 3) := by decide +kernel
theorem dX0_rename_72 : decode cX0_rename 72 = .ok (.iload 4, 2) := by decide +kernel
theorem dX0_rename_74 : decode cX0_rename 74 = .ok (.baload, 1) := by decide +kernel
theorem dX0_rename_75 : decode cX0_rename 75 = .ok (.iload_n 2, 1) := by decide +kernel
theorem dX0_rename_76 : decode cX0_rename 76 = .ok (.if_icmp .eq 15, 3) := by decide +kernel
theorem dX0_rename_79 : decode cX0_rename 79 = .ok (.aload_n 0, 1) := by decide +kernel
theorem dX0_rename_80 : decode cX0_rename 80 = .ok (.getfield 13, 3) := by decide +kernel
theorem dX0_rename_83 : decode cX0_rename 83 = .ok (.iload 4, 2) := by decide +kernel
theorem dX0_rename_85 : decode cX0_rename 85 = .ok (.iload_n 2, 1) := by decide +kernel
theorem dX0_rename_86 : decode cX0_rename 86 = .ok (.i2b, 1) := by decide +kernel
theorem dX0_rename_87 : decode cX0_rename 87 = .ok (.bastore, 1) := by decide +kernel
theorem dX0_rename_88 : decode cX0_rename 88 = .ok (.iinc 3 1, 3) := by decide +kernel
theorem dX0_rename_91 : decode cX0_rename 91 = .ok (.iinc 4 1, 3) := by decide +kernel
theorem dX0_rename_94 : decode cX0_rename 94 = .ok (.goto (-52), 3) := by decide +kernel
theorem dX0_rename_97 : decode cX0_rename 97 = .ok (.iload_n 3, 1) := by decide +kernel
theorem dX0_rename_98 : decode cX0_rename 98 = .ok (.ireturn, 1) := by decide +kernel
abbrev cX0_swap : ByteArray := prog_1_method_21_code
def yX0_swap : MethodName := ⟨RX0, "swap", "(I)I"⟩
theorem dX0_swap_0 : decode cX0_swap 0 = .ok (.aload_n 0, 1) := by decide +kernel
theorem dX0_swap_1 : decode cX0_swap 1 = .ok (.iload_n 1, 1) := by decide +kernel
theorem dX0_swap_2 : decode cX0_swap 2 = .ok (.invokevirtual 35, 3) := by decide +kernel
theorem dX0_swap_5 : decode cX0_swap 5 = .ok (.ifCond .eq 39, 3) := by decide +kernel
theorem dX0_swap_8 : decode cX0_swap 8 = .ok (.aload_n 0, 1) := by decide +kernel
theorem dX0_swap_9 : decode cX0_swap 9 = .ok (.iload_n 1, 1) := by decide +kernel
theorem dX0_swap_10 : decode cX0_swap 10 = .ok (.iconst 1, 1) := by decide +kernel
theorem dX0_swap_11 : decode cX0_swap 11 = .ok (.iadd, 1) := by decide +kernel
theorem dX0_swap_12 : decode cX0_swap 12 = .ok (.invokevirtual 35, 3) := by decide +kernel
theorem dX0_swap_15 : decode cX0_swap 15 = .ok (.ifCond .eq 29, 3) := by decide +kernel
theorem dX0_swap_18 : decode cX0_swap 18 = .ok (.aload_n 0, 1) := by decide +kernel
theorem dX0_swap_19 : decode cX0_swap 19 = .ok (.getfield 7, 3) := by decide +kernel
theorem dX0_swap_22 : decode cX0_swap 22 = .ok (.iload_n 1, 1) := by decide +kernel
theorem dX0_swap_23 : decode cX0_swap 23 = .ok (.baload, 1) := by decide +kernel
theorem dX0_swap_24 : decode cX0_swap 24 = .ok (.iconst 2, 1) := by decide +kernel
theorem dX0_swap_25 : decode cX0_swap 25 = .ok (.if_icmp .lt 19, 3) := by decide +kernel
theorem dX0_swap_28 : decode cX0_swap 28 = .ok (.aload_n 0, 1) := by decide +kernel
theorem dX0_swap_29 : decode cX0_swap 29 = .ok (.getfield 7, 3) := by decide +kernel
theorem dX0_swap_32 : decode cX0_swap 32 = .ok (.iload_n 1, 1) := by decide +kernel
theorem dX0_swap_33 : decode cX0_swap 33 = .ok (.iconst 1, 1) := by decide +kernel
theorem dX0_swap_34 : decode cX0_swap 34 = .ok (.iadd, 1) := by decide +kernel
theorem dX0_swap_35 : decode cX0_swap 35 = .ok (.baload, 1) := by decide +kernel
theorem dX0_swap_36 : decode cX0_swap 36 = .ok (.iconst 2, 1) := by decide +kernel
theorem dX0_swap_37 : decode cX0_swap 37 = .ok (.if_icmp .lt 7, 3) := by decide +kernel
theorem dX0_swap_40 : decode cX0_swap 40 = .ok (.iconst 1, 1) := by decide +kernel
theorem dX0_swap_41 : decode cX0_swap 41 = .ok (.goto 4, 3) := by decide +kernel
theorem dX0_swap_44 : decode cX0_swap 44 = .ok (.iconst 0, 1) := by decide +kernel
theorem dX0_swap_45 : decode cX0_swap 45 = .ok (.istore_n 2, 1) := by decide +kernel
theorem dX0_swap_46 : decode cX0_swap 46 = .ok (.iload_n 2, 1) := by decide +kernel
theorem dX0_swap_47 : decode cX0_swap 47 = .ok (.ifCond .ne 5, 3) := by decide +kernel
theorem dX0_swap_50 : decode cX0_swap 50 = .ok (.iconst (-1), 1) := by decide +kernel
theorem dX0_swap_51 : decode cX0_swap 51 = .ok (.ireturn, 1) := by decide +kernel
theorem dX0_swap_52 : decode cX0_swap 52 = .ok (.aload_n 0, 1) := by decide +kernel
theorem dX0_swap_53 : decode cX0_swap 53 = .ok (.invokevirtual 64, 3) := by decide +kernel
theorem dX0_swap_56 : decode cX0_swap 56 = .ok (.aload_n 0, 1) := by decide +kernel
theorem dX0_swap_57 : decode cX0_swap 57 = .ok (.iload_n 1, 1) := by decide +kernel
theorem dX0_swap_58 : decode cX0_swap 58 = .ok (.invokevirtual 74, 3) := by decide +kernel
theorem dX0_swap_61 : decode cX0_swap 61 = .ok (.ifCond .ne 6, 3) := by decide +kernel
theorem dX0_swap_64 : decode cX0_swap 64 = .ok (.bipush (-3), 2) := by decide +kernel
theorem dX0_swap_66 : decode cX0_swap 66 = .ok (.ireturn, 1) := by decide +kernel
theorem dX0_swap_67 : decode cX0_swap 67 = .ok (.aload_n 0, 1) := by decide +kernel
theorem dX0_swap_68 : decode cX0_swap 68 = .ok (.getfield 7, 3) := by decide +kernel
theorem dX0_swap_71 : decode cX0_swap 71 = .ok (.iload_n 1, 1) := by decide +kernel
theorem dX0_swap_72 : decode cX0_swap 72 = .ok (.baload, 1) := by decide +kernel
theorem dX0_swap_73 : decode cX0_swap 73 = .ok (.istore_n 3, 1) := by decide +kernel
theorem dX0_swap_74 : decode cX0_swap 74 = .ok (.aload_n 0, 1) := by decide +kernel
theorem dX0_swap_75 : decode cX0_swap 75 = .ok (.getfield 13, 3) := by decide +kernel
theorem dX0_swap_78 : decode cX0_swap 78 = .ok (.iload_n 1, 1) := by decide +kernel
theorem dX0_swap_79 : decode cX0_swap 79 = .ok (.baload, 1) := by decide +kernel
theorem dX0_swap_80 : decode cX0_swap 80 = .ok (.istore 4, 2) := by decide +kernel
theorem dX0_swap_82 : decode cX0_swap 82 = .ok (.aload_n 0, 1) := by decide +kernel
theorem dX0_swap_83 : decode cX0_swap 83 = .ok (.getfield 7, 3) := by decide +kernel
theorem dX0_swap_86 : decode cX0_swap 86 = .ok (.iload_n 1, 1) := by decide +kernel
theorem dX0_swap_87 : decode cX0_swap 87 = .ok (.aload_n 0, 1) := by decide +kernel
theorem dX0_swap_88 : decode cX0_swap 88 = .ok (.getfield 7, 3) := by decide +kernel
theorem dX0_swap_91 : decode cX0_swap 91 = .ok (.iload_n 1, 1) := by decide +kernel
theorem dX0_swap_92 : decode cX0_swap 92 = .ok (.iconst 1, 1) := by decide +kernel
theorem dX0_swap_93 : decode cX0_swap 93 = .ok (.iadd, 1) := by decide +kernel
theorem dX0_swap_94 : decode cX0_swap 94 = .ok (.baload, 1) := by decide +kernel
theorem dX0_swap_95 : decode cX0_swap 95 = .ok (.bastore, 1) := by decide +kernel
theorem dX0_swap_96 : decode cX0_swap 96 = .ok (.aload_n 0, 1) := by decide +kernel
theorem dX0_swap_97 : decode cX0_swap 97 = .ok (.getfield 13, 3) := by decide +kernel
theorem dX0_swap_100 : decode cX0_swap 100 = .ok (.iload_n 1, 1) := by decide +kernel
theorem dX0_swap_101 : decode cX0_swap 101 = .ok (.aload_n 0, 1) := by decide +kernel
theorem dX0_swap_102 : decode cX0_swap 102 = .ok (.getfield 13, 3) := by decide +kernel
theorem dX0_swap_105 : decode cX0_swap 105 = .ok (.iload_n 1, 1) := by decide +kernel
theorem dX0_swap_106 : decode cX0_swap 106 = .ok (.iconst 1, 1) := by decide +kernel
theorem dX0_swap_107 : decode cX0_swap 107 = .ok (.iadd, 1) := by decide +kernel
theorem dX0_swap_108 : decode cX0_swap 108 = .ok (.baload, 1) := by decide +kernel
theorem dX0_swap_109 : decode cX0_swap 109 = .ok (.bastore, 1) := by decide +kernel
theorem dX0_swap_110 : decode cX0_swap 110 = .ok (.aload_n 0, 1) := by decide +kernel
theorem dX0_swap_111 : decode cX0_swap 111 = .ok (.getfield 7, 3) := by decide +kernel
theorem dX0_swap_114 : decode cX0_swap 114 = .ok (.iload_n 1, 1) := by decide +kernel
theorem dX0_swap_115 : decode cX0_swap 115 = .ok (.iconst 1, 1) := by decide +kernel
theorem dX0_swap_116 : decode cX0_swap 116 = .ok (.iadd, 1) := by decide +kernel
theorem dX0_swap_117 : decode cX0_swap 117 = .ok (.iload_n 3, 1) := by decide +kernel
theorem dX0_swap_118 : decode cX0_swap 118 = .ok (.bastore, 1) := by decide +kernel
theorem dX0_swap_119 : decode cX0_swap 119 = .ok (.aload_n 0, 1) := by decide +kernel
theorem dX0_swap_120 : decode cX0_swap 120 = .ok (.getfield 13, 3) := by decide +kernel
theorem dX0_swap_123 : decode cX0_swap 123 = .ok (.iload_n 1, 1) := by decide +kernel
theorem dX0_swap_124 : decode cX0_swap 124 = .ok (.iconst 1, 1) := by decide +kernel
theorem dX0_swap_125 : decode cX0_swap 125 = .ok (.iadd, 1) := by decide +kernel
theorem dX0_swap_126 : decode cX0_swap 126 = .ok (.iload 4, 2) := by decide +kernel
theorem dX0_swap_128 : decode cX0_swap 128 = .ok (.bastore, 1) := by decide +kernel
theorem dX0_swap_129 : decode cX0_swap 129 = .ok (.aload_n 0, 1) := by decide +kernel
theorem dX0_swap_130 : decode cX0_swap 130 = .ok (.iconst 0, 1) := by decide +kernel
theorem dX0_swap_131 : decode cX0_swap 131 = .ok (.putfield 43, 3) := by decide +kernel
theorem dX0_swap_134 : decode cX0_swap 134 = .ok (.iload_n 1, 1) := by decide +kernel
theorem dX0_swap_135 : decode cX0_swap 135 = .ok (.ireturn, 1) := by decide +kernel
abbrev cX0_legalSwap : ByteArray := prog_1_method_22_code
def yX0_legalSwap : MethodName := ⟨RX0, "legalSwap", "(I)Z"⟩
theorem dX0_legalSwap_0 : decode cX0_legalSwap 0 = .ok (.aload_n 0, 1) := by decide +kernel
theorem dX0_legalSwap_1 : decode cX0_legalSwap 1 = .ok (.getfield 13, 3) := by decide +kernel
theorem dX0_legalSwap_4 : decode cX0_legalSwap 4 = .ok (.iload_n 1, 1) := by decide +kernel
theorem dX0_legalSwap_5 : decode cX0_legalSwap 5 = .ok (.baload, 1) := by decide +kernel
theorem dX0_legalSwap_6 : decode cX0_legalSwap 6 = .ok (.aload_n 0, 1) := by decide +kernel
theorem dX0_legalSwap_7 : decode cX0_legalSwap 7 = .ok (.getfield 13, 3) := by decide +kernel
theorem dX0_legalSwap_10 : decode cX0_legalSwap 10 = .ok (.iload_n 1, 1) := by decide +kernel
theorem dX0_legalSwap_11 : decode cX0_legalSwap 11 = .ok (.iconst 1, 1) := by decide +kernel
theorem dX0_legalSwap_12 : decode cX0_legalSwap 12 = .ok (.iadd, 1) := by decide +kernel
theorem dX0_legalSwap_13 : decode cX0_legalSwap 13 = .ok (.baload, 1) := by decide +kernel
theorem dX0_legalSwap_14 : decode cX0_legalSwap 14 = .ok (.if_icmp .ne 25, 3) := by decide +kernel
theorem dX0_legalSwap_17 : decode cX0_legalSwap 17 = .ok (.aload_n 0, 1) := by decide +kernel
theorem dX0_legalSwap_18 : decode cX0_legalSwap 18 = .ok (.getfield 7, 3) := by decide +kernel
theorem dX0_legalSwap_21 : decode cX0_legalSwap 21 = .ok (.iload_n 1, 1) := by decide +kernel
theorem dX0_legalSwap_22 : decode cX0_legalSwap 22 = .ok (.baload, 1) := by decide +kernel
theorem dX0_legalSwap_23 : decode cX0_legalSwap 23 = .ok (.iconst 3, 1) := by decide +kernel
theorem dX0_legalSwap_24 : decode cX0_legalSwap 24 = .ok (.if_icmp .ne 17, 3) := by decide +kernel
theorem dX0_legalSwap_27 : decode cX0_legalSwap 27 = .ok (.aload_n 0, 1) := by decide +kernel
theorem dX0_legalSwap_28 : decode cX0_legalSwap 28 = .ok (.getfield 7, 3) := by decide +kernel
theorem dX0_legalSwap_31 : decode cX0_legalSwap 31 = .ok (.iload_n 1, 1) := by decide +kernel
theorem dX0_legalSwap_32 : decode cX0_legalSwap 32 = .ok (.iconst 1, 1) := by decide +kernel
theorem dX0_legalSwap_33 : decode cX0_legalSwap 33 = .ok (.iadd, 1) := by decide +kernel
theorem dX0_legalSwap_34 : decode cX0_legalSwap 34 = .ok (.baload, 1) := by decide +kernel
theorem dX0_legalSwap_35 : decode cX0_legalSwap 35 = .ok (.iconst 3, 1) := by decide +kernel
theorem dX0_legalSwap_36 : decode cX0_legalSwap 36 = .ok (.if_icmp .ne 5, 3) := by decide +kernel
theorem dX0_legalSwap_39 : decode cX0_legalSwap 39 = .ok (.iconst 1, 1) := by decide +kernel
theorem dX0_legalSwap_40 : decode cX0_legalSwap 40 = .ok (.ireturn, 1) := by decide +kernel
theorem dX0_legalSwap_41 : decode cX0_legalSwap 41 = .ok (.aload_n 0, 1) := by decide +kernel
theorem dX0_legalSwap_42 : decode cX0_legalSwap 42 = .ok (.getfield 7, 3) := by decide +kernel
theorem dX0_legalSwap_45 : decode cX0_legalSwap 45 = .ok (.iload_n 1, 1) := by decide +kernel
theorem dX0_legalSwap_46 : decode cX0_legalSwap 46 = .ok (.baload, 1) := by decide +kernel
theorem dX0_legalSwap_47 : decode cX0_legalSwap 47 = .ok (.iconst 3, 1) := by decide +kernel
theorem dX0_legalSwap_48 : decode cX0_legalSwap 48 = .ok (.if_icmp .eq 15, 3) := by decide +kernel
theorem dX0_legalSwap_51 : decode cX0_legalSwap 51 = .ok (.aload_n 0, 1) := by decide +kernel
theorem dX0_legalSwap_52 : decode cX0_legalSwap 52 = .ok (.getfield 7, 3) := by decide +kernel
theorem dX0_legalSwap_55 : decode cX0_legalSwap 55 = .ok (.iload_n 1, 1) := by decide +kernel
theorem dX0_legalSwap_56 : decode cX0_legalSwap 56 = .ok (.iconst 1, 1) := by decide +kernel
theorem dX0_legalSwap_57 : decode cX0_legalSwap 57 = .ok (.iadd, 1) := by decide +kernel
theorem dX0_legalSwap_58 : decode cX0_legalSwap 58 = .ok (.baload, 1) := by decide +kernel
theorem dX0_legalSwap_59 : decode cX0_legalSwap 59 = .ok (.iconst 3, 1) := by decide +kernel
theorem dX0_legalSwap_60 : decode cX0_legalSwap 60 = .ok (.if_icmp .ne 5, 3) := by decide +kernel
theorem dX0_legalSwap_63 : decode cX0_legalSwap 63 = .ok (.iconst 0, 1) := by decide +kernel
theorem dX0_legalSwap_64 : decode cX0_legalSwap 64 = .ok (.ireturn, 1) := by decide +kernel
theorem dX0_legalSwap_65 : decode cX0_legalSwap 65 = .ok (.aload_n 0, 1) := by decide +kernel
theorem dX0_legalSwap_66 : decode cX0_legalSwap 66 = .ok (.iload_n 1, 1) := by decide +kernel
theorem dX0_legalSwap_67 : decode cX0_legalSwap 67 = .ok (.iconst 1, 1) := by decide +kernel
theorem dX0_legalSwap_68 : decode cX0_legalSwap 68 = .ok (.iadd, 1) := by decide +kernel
theorem dX0_legalSwap_69 : decode cX0_legalSwap 69 = .ok (.invokevirtual 67, 3) := by decide +kernel
theorem dX0_legalSwap_72 : decode cX0_legalSwap 72 = .ok (.ifCond .ne 7, 3) := by decide +kernel
theorem dX0_legalSwap_75 : decode cX0_legalSwap 75 = .ok (.iconst 1, 1) := by decide +kernel
theorem dX0_legalSwap_76 : decode cX0_legalSwap 76 = .ok (.goto 4, 3) := by decide +kernel
theorem dX0_legalSwap_79 : decode cX0_legalSwap 79 = .ok (.iconst 0, 1) := by decide +kernel
theorem dX0_legalSwap_80 : decode cX0_legalSwap 80 = .ok (.ireturn, 1) := by decide +kernel
end
section
set_option maxRecDepth 100000
abbrev cX0_moveOut : ByteArray := prog_1_method_24_code
def yX0_moveOut : MethodName := ⟨RX0, "moveOut", "(I)I"⟩
theorem dX0_moveOut_0 : decode cX0_moveOut 0 = .ok (.aload_n 0, 1) := by decide +kernel
theorem dX0_moveOut_1 : decode cX0_moveOut 1 = .ok (.iload_n 1, 1) := by decide +kernel
theorem dX0_moveOut_2 : decode cX0_moveOut 2 = .ok (.iconst 2, 1) := by decide +kernel
theorem dX0_moveOut_3 : decode cX0_moveOut 3 = .ok (.invokevirtual 61, 3) := by decide +kernel
theorem dX0_moveOut_6 : decode cX0_moveOut 6 = .ok (.ifCond .ne 5, 3) := by decide +kernel
theorem dX0_moveOut_9 : decode cX0_moveOut 9 = .ok (.iconst (-1), 1) := by decide +kernel
theorem dX0_moveOut_10 : decode cX0_moveOut 10 = .ok (.ireturn, 1) := by decide +kernel
theorem dX0_moveOut_11 : decode cX0_moveOut 11 = .ok (.aload_n 0, 1) := by decide +kernel
theorem dX0_moveOut_12 : decode cX0_moveOut 12 = .ok (.invokevirtual 64, 3) := by decide +kernel
theorem dX0_moveOut_15 : decode cX0_moveOut 15 = .ok (.aload_n 0, 1) := by decide +kernel
theorem dX0_moveOut_16 : decode cX0_moveOut 16 = .ok (.getfield 16, 3) := by decide +kernel
theorem dX0_moveOut_19 : decode cX0_moveOut 19 = .ok (.iload_n 1, 1) := by decide +kernel
theorem dX0_moveOut_20 : decode cX0_moveOut 20 = .ok (.baload, 1) := by decide +kernel
theorem dX0_moveOut_21 : decode cX0_moveOut 21 = .ok (.istore_n 2, 1) := by decide +kernel
theorem dX0_moveOut_22 : decode cX0_moveOut 22 = .ok (.iload_n 2, 1) := by decide +kernel
theorem dX0_moveOut_23 : decode cX0_moveOut 23 = .ok (.iconst (-1), 1) := by decide +kernel
theorem dX0_moveOut_24 : decode cX0_moveOut 24 = .ok (.if_icmp .ne 5, 3) := by decide +kernel
theorem dX0_moveOut_27 : decode cX0_moveOut 27 = .ok (.iconst (-1), 1) := by decide +kernel
theorem dX0_moveOut_28 : decode cX0_moveOut 28 = .ok (.ireturn, 1) := by decide +kernel
theorem dX0_moveOut_29 : decode cX0_moveOut 29 = .ok (.aload_n 0, 1) := by decide +kernel
theorem dX0_moveOut_30 : decode cX0_moveOut 30 = .ok (.iload_n 1, 1) := by decide +kernel
theorem dX0_moveOut_31 : decode cX0_moveOut 31 = .ok (.invokevirtual 77, 3) := by decide +kernel
theorem dX0_moveOut_34 : decode cX0_moveOut 34 = .ok (.ifCond .ne 6, 3) := by decide +kernel
theorem dX0_moveOut_37 : decode cX0_moveOut 37 = .ok (.bipush (-3), 2) := by decide +kernel
theorem dX0_moveOut_39 : decode cX0_moveOut 39 = .ok (.ireturn, 1) := by decide +kernel
theorem dX0_moveOut_40 : decode cX0_moveOut 40 = .ok (.aload_n 0, 1) := by decide +kernel
theorem dX0_moveOut_41 : decode cX0_moveOut 41 = .ok (.getfield 13, 3) := by decide +kernel
theorem dX0_moveOut_44 : decode cX0_moveOut 44 = .ok (.iload_n 1, 1) := by decide +kernel
theorem dX0_moveOut_45 : decode cX0_moveOut 45 = .ok (.baload, 1) := by decide +kernel
theorem dX0_moveOut_46 : decode cX0_moveOut 46 = .ok (.istore_n 3, 1) := by decide +kernel
theorem dX0_moveOut_47 : decode cX0_moveOut 47 = .ok (.iload_n 1, 1) := by decide +kernel
theorem dX0_moveOut_48 : decode cX0_moveOut 48 = .ok (.istore 4, 2) := by decide +kernel
theorem dX0_moveOut_50 : decode cX0_moveOut 50 = .ok (.iload 4, 2) := by decide +kernel
theorem dX0_moveOut_52 : decode cX0_moveOut 52 = .ok (.iload_n 2, 1) := by decide +kernel
theorem dX0_moveOut_53 : decode cX0_moveOut 53 = .ok (.if_icmp .le 41, 3) := by decide +kernel
theorem dX0_moveOut_56 : decode cX0_moveOut 56 = .ok (.aload_n 0, 1) := by decide +kernel
theorem dX0_moveOut_57 : decode cX0_moveOut 57 = .ok (.getfield 7, 3) := by decide +kernel
theorem dX0_moveOut_60 : decode cX0_moveOut 60 = .ok (.iload 4, 2) := by decide +kernel
theorem dX0_moveOut_62 : decode cX0_moveOut 62 = .ok (.aload_n 0, 1) := by decide +kernel
theorem dX0_moveOut_63 : decode cX0_moveOut 63 = .ok (.getfield 7, 3) := by decide +kernel
theorem dX0_moveOut_66 : decode cX0_moveOut 66 = .ok (.iload 4, 2) := by decide +kernel
theorem dX0_moveOut_68 : decode cX0_moveOut 68 = .ok (.iconst 1, 1) := by decide +kernel
theorem dX0_moveOut_69 : decode cX0_moveOut 69 = .ok (.isub, 1) := by decide +kernel
theorem dX0_moveOut_70 : decode cX0_moveOut 70 = .ok (.baload, 1) := by decide +kernel
theorem dX0_moveOut_71 : decode cX0_moveOut 71 = .ok (.bastore, 1) := by decide +kernel
theorem dX0_moveOut_72 : decode cX0_moveOut 72 = .ok (.aload_n 0, 1) := by decide +kernel
theorem dX0_moveOut_73 : decode cX0_moveOut 73 = .ok (.getfield 13, 3) := by decide +kernel
theorem dX0_moveOut_76 : decode cX0_moveOut 76 = .ok (.iload 4, 2) := by decide +kernel
theorem dX0_moveOut_78 : decode cX0_moveOut 78 = .ok (.aload_n 0, 1) := by decide +kernel
theorem dX0_moveOut_79 : decode cX0_moveOut 79 = .ok (.getfield 13, 3) := by decide +kernel
theorem dX0_moveOut_82 : decode cX0_moveOut 82 = .ok (.iload 4, 2) := by decide +kernel
theorem dX0_moveOut_84 : decode cX0_moveOut 84 = .ok (.iconst 1, 1) := by decide +kernel
theorem dX0_moveOut_85 : decode cX0_moveOut 85 = .ok (.isub, 1) := by decide +kernel
theorem dX0_moveOut_86 : decode cX0_moveOut 86 = .ok (.baload, 1) := by decide +kernel
theorem dX0_moveOut_87 : decode cX0_moveOut 87 = .ok (.bastore, 1) := by decide +kernel
theorem dX0_moveOut_88 : decode cX0_moveOut 88 = .ok (.iinc 4 (-1), 3) := by decide +kernel
theorem dX0_moveOut_91 : decode cX0_moveOut 91 = .ok (.goto (-41), 3) := by decide +kernel
theorem dX0_moveOut_94 : decode cX0_moveOut 94 = .ok (.aload_n 0, 1) := by decide +kernel
theorem dX0_moveOut_95 : decode cX0_moveOut 95 = .ok (.getfield 7, 3) := by decide +kernel
theorem dX0_moveOut_98 : decode cX0_moveOut 98 = .ok (.iload_n 2, 1) := by decide +kernel
theorem dX0_moveOut_99 : decode cX0_moveOut 99 = .ok (.iconst 2, 1) := by decide +kernel
theorem dX0_moveOut_100 : decode cX0_moveOut 100 = .ok (.bastore, 1) := by decide +kernel
theorem dX0_moveOut_101 : decode cX0_moveOut 101 = .ok (.aload_n 0, 1) := by decide +kernel
theorem dX0_moveOut_102 : decode cX0_moveOut 102 = .ok (.getfield 13, 3) := by decide +kernel
theorem dX0_moveOut_105 : decode cX0_moveOut 105 = .ok (.iload_n 2, 1) := by decide +kernel
theorem dX0_moveOut_106 : decode cX0_moveOut 106 = .ok (.iload_n 3, 1) := by decide +kernel
theorem dX0_moveOut_107 : decode cX0_moveOut 107 = .ok (.bastore, 1) := by decide +kernel
theorem dX0_moveOut_108 : decode cX0_moveOut 108 = .ok (.aload_n 0, 1) := by decide +kernel
theorem dX0_moveOut_109 : decode cX0_moveOut 109 = .ok (.iconst 0, 1) := by decide +kernel
theorem dX0_moveOut_110 : decode cX0_moveOut 110 = .ok (.putfield 43, 3) := by decide +kernel
theorem dX0_moveOut_113 : decode cX0_moveOut 113 = .ok (.iload_n 2, 1) := by decide +kernel
theorem dX0_moveOut_114 : decode cX0_moveOut 114 = .ok (.ireturn, 1) := by decide +kernel
abbrev cX0_legalOut : ByteArray := prog_1_method_23_code
def yX0_legalOut : MethodName := ⟨RX0, "legalOut", "(I)Z"⟩
theorem dX0_legalOut_0 : decode cX0_legalOut 0 = .ok (.aload_n 0, 1) := by decide +kernel
theorem dX0_legalOut_1 : decode cX0_legalOut 1 = .ok (.getfield 16, 3) := by decide +kernel
theorem dX0_legalOut_4 : decode cX0_legalOut 4 = .ok (.iload_n 1, 1) := by decide +kernel
theorem dX0_legalOut_5 : decode cX0_legalOut 5 = .ok (.baload, 1) := by decide +kernel
theorem dX0_legalOut_6 : decode cX0_legalOut 6 = .ok (.istore_n 2, 1) := by decide +kernel
theorem dX0_legalOut_7 : decode cX0_legalOut 7 = .ok (.aload_n 0, 1) := by decide +kernel
theorem dX0_legalOut_8 : decode cX0_legalOut 8 = .ok (.iload_n 1, 1) := by decide +kernel
theorem dX0_legalOut_9 : decode cX0_legalOut 9 = .ok (.invokevirtual 67, 3) := by decide +kernel
theorem dX0_legalOut_12 : decode cX0_legalOut 12 = .ok (.istore_n 3, 1) := by decide +kernel
theorem dX0_legalOut_13 : decode cX0_legalOut 13 = .ok (.iload_n 2, 1) := by decide +kernel
theorem dX0_legalOut_14 : decode cX0_legalOut 14 = .ok (.iconst 1, 1) := by decide +kernel
theorem dX0_legalOut_15 : decode cX0_legalOut 15 = .ok (.iadd, 1) := by decide +kernel
theorem dX0_legalOut_16 : decode cX0_legalOut 16 = .ok (.istore 4, 2) := by decide +kernel
theorem dX0_legalOut_18 : decode cX0_legalOut 18 = .ok (.iload 4, 2) := by decide +kernel
theorem dX0_legalOut_20 : decode cX0_legalOut 20 = .ok (.iload_n 1, 1) := by decide +kernel
theorem dX0_legalOut_21 : decode cX0_legalOut 21 = .ok (.if_icmp .ge 53, 3) := by decide +kernel
theorem dX0_legalOut_24 : decode cX0_legalOut 24 = .ok (.iload_n 3, 1) := by decide +kernel
theorem dX0_legalOut_25 : decode cX0_legalOut 25 = .ok (.ifCond .eq 43, 3) := by decide +kernel
theorem dX0_legalOut_28 : decode cX0_legalOut 28 = .ok (.aload_n 0, 1) := by decide +kernel
theorem dX0_legalOut_29 : decode cX0_legalOut 29 = .ok (.getfield 7, 3) := by decide +kernel
theorem dX0_legalOut_32 : decode cX0_legalOut 32 = .ok (.iload 4, 2) := by decide +kernel
theorem dX0_legalOut_34 : decode cX0_legalOut 34 = .ok (.baload, 1) := by decide +kernel
theorem dX0_legalOut_35 : decode cX0_legalOut 35 = .ok (.iconst 2, 1) := by decide +kernel
theorem dX0_legalOut_36 : decode cX0_legalOut 36 = .ok (.if_icmp .ne 32, 3) := by decide +kernel
theorem dX0_legalOut_39 : decode cX0_legalOut 39 = .ok (.aload_n 0, 1) := by decide +kernel
theorem dX0_legalOut_40 : decode cX0_legalOut 40 = .ok (.getfield 13, 3) := by decide +kernel
theorem dX0_legalOut_43 : decode cX0_legalOut 43 = .ok (.iload 4, 2) := by decide +kernel
theorem dX0_legalOut_45 : decode cX0_legalOut 45 = .ok (.baload, 1) := by decide +kernel
theorem dX0_legalOut_46 : decode cX0_legalOut 46 = .ok (.aload_n 0, 1) := by decide +kernel
theorem dX0_legalOut_47 : decode cX0_legalOut 47 = .ok (.getfield 13, 3) := by decide +kernel
theorem dX0_legalOut_50 : decode cX0_legalOut 50 = .ok (.iload_n 1, 1) := by decide +kernel
theorem dX0_legalOut_51 : decode cX0_legalOut 51 = .ok (.baload, 1) := by decide +kernel
theorem dX0_legalOut_52 : decode cX0_legalOut 52 = .ok (.if_icmp .ne 16, 3) := by decide +kernel
theorem dX0_legalOut_55 : decode cX0_legalOut 55 = .ok (.aload_n 0, 1) := by decide +kernel
theorem dX0_legalOut_56 : decode cX0_legalOut 56 = .ok (.getfield 16, 3) := by decide +kernel
theorem dX0_legalOut_59 : decode cX0_legalOut 59 = .ok (.iload 4, 2) := by decide +kernel
theorem dX0_legalOut_61 : decode cX0_legalOut 61 = .ok (.baload, 1) := by decide +kernel
theorem dX0_legalOut_62 : decode cX0_legalOut 62 = .ok (.iload_n 2, 1) := by decide +kernel
theorem dX0_legalOut_63 : decode cX0_legalOut 63 = .ok (.if_icmp .ne 5, 3) := by decide +kernel
theorem dX0_legalOut_66 : decode cX0_legalOut 66 = .ok (.iconst 0, 1) := by decide +kernel
theorem dX0_legalOut_67 : decode cX0_legalOut 67 = .ok (.ireturn, 1) := by decide +kernel
theorem dX0_legalOut_68 : decode cX0_legalOut 68 = .ok (.iinc 4 1, 3) := by decide +kernel
theorem dX0_legalOut_71 : decode cX0_legalOut 71 = .ok (.goto (-53), 3) := by decide +kernel
theorem dX0_legalOut_74 : decode cX0_legalOut 74 = .ok (.iload_n 2, 1) := by decide +kernel
theorem dX0_legalOut_75 : decode cX0_legalOut 75 = .ok (.iconst 1, 1) := by decide +kernel
theorem dX0_legalOut_76 : decode cX0_legalOut 76 = .ok (.iadd, 1) := by decide +kernel
theorem dX0_legalOut_77 : decode cX0_legalOut 77 = .ok (.istore 4, 2) := by decide +kernel
theorem dX0_legalOut_79 : decode cX0_legalOut 79 = .ok (.iload 4, 2) := by decide +kernel
theorem dX0_legalOut_81 : decode cX0_legalOut 81 = .ok (.aload_n 0, 1) := by decide +kernel
theorem dX0_legalOut_82 : decode cX0_legalOut 82 = .ok (.getfield 31, 3) := by decide +kernel
theorem dX0_legalOut_85 : decode cX0_legalOut 85 = .ok (.if_icmp .ge 107, 3) := by decide +kernel
theorem dX0_legalOut_88 : decode cX0_legalOut 88 = .ok (.aload_n 0, 1) := by decide +kernel
theorem dX0_legalOut_89 : decode cX0_legalOut 89 = .ok (.getfield 7, 3) := by decide +kernel
theorem dX0_legalOut_92 : decode cX0_legalOut 92 = .ok (.iload 4, 2) := by decide +kernel
theorem dX0_legalOut_94 : decode cX0_legalOut 94 = .ok (.baload, 1) := by decide +kernel
theorem dX0_legalOut_95 : decode cX0_legalOut 95 = .ok (.iconst 3, 1) := by decide +kernel
theorem dX0_legalOut_96 : decode cX0_legalOut 96 = .ok (.if_icmp .ne 34, 3) := by decide +kernel
theorem dX0_legalOut_99 : decode cX0_legalOut 99 = .ok (.aload_n 0, 1) := by decide +kernel
theorem dX0_legalOut_100 : decode cX0_legalOut 100 = .ok (.getfield 13, 3) := by decide +kernel
theorem dX0_legalOut_103 : decode cX0_legalOut 103 = .ok (.iload 4, 2) := by decide +kernel
theorem dX0_legalOut_105 : decode cX0_legalOut 105 = .ok (.baload, 1) := by decide +kernel
theorem dX0_legalOut_106 : decode cX0_legalOut 106 = .ok (.aload_n 0, 1) := by decide +kernel
theorem dX0_legalOut_107 : decode cX0_legalOut 107 = .ok (.getfield 13, 3) := by decide +kernel
theorem dX0_legalOut_110 : decode cX0_legalOut 110 = .ok (.iload_n 1, 1) := by decide +kernel
theorem dX0_legalOut_111 : decode cX0_legalOut 111 = .ok (.baload, 1) := by decide +kernel
theorem dX0_legalOut_112 : decode cX0_legalOut 112 = .ok (.if_icmp .ne 18, 3) := by decide +kernel
theorem dX0_legalOut_115 : decode cX0_legalOut 115 = .ok (.aload_n 0, 1) := by decide +kernel
theorem dX0_legalOut_116 : decode cX0_legalOut 116 = .ok (.getfield 25, 3) := by decide +kernel
theorem dX0_legalOut_119 : decode cX0_legalOut 119 = .ok (.iload 4, 2) := by decide +kernel
theorem dX0_legalOut_121 : decode cX0_legalOut 121 = .ok (.baload, 1) := by decide +kernel
theorem dX0_legalOut_122 : decode cX0_legalOut 122 = .ok (.iload_n 1, 1) := by decide +kernel
theorem dX0_legalOut_123 : decode cX0_legalOut 123 = .ok (.if_icmp .eq 7, 3) := by decide +kernel
theorem dX0_legalOut_126 : decode cX0_legalOut 126 = .ok (.iconst 1, 1) := by decide +kernel
theorem dX0_legalOut_127 : decode cX0_legalOut 127 = .ok (.goto 4, 3) := by decide +kernel
theorem dX0_legalOut_130 : decode cX0_legalOut 130 = .ok (.iconst 0, 1) := by decide +kernel
theorem dX0_legalOut_131 : decode cX0_legalOut 131 = .ok (.istore 5, 2) := by decide +kernel
theorem dX0_legalOut_133 : decode cX0_legalOut 133 = .ok (.iload 5, 2) := by decide +kernel
theorem dX0_legalOut_135 : decode cX0_legalOut 135 = .ok (.ifCond .eq 51, 3) := by decide +kernel
theorem dX0_legalOut_138 : decode cX0_legalOut 138 = .ok (.aload_n 0, 1) := by decide +kernel
theorem dX0_legalOut_139 : decode cX0_legalOut 139 = .ok (.iload_n 2, 1) := by decide +kernel
theorem dX0_legalOut_140 : decode cX0_legalOut 140 = .ok (.iload 4, 2) := by decide +kernel
theorem dX0_legalOut_142 : decode cX0_legalOut 142 = .ok (.invokevirtual 51, 3) := by decide +kernel
theorem dX0_legalOut_145 : decode cX0_legalOut 145 = .ok (.ifCond .eq 41, 3) := by decide +kernel
theorem dX0_legalOut_148 : decode cX0_legalOut 148 = .ok (.aload_n 0, 1) := by decide +kernel
theorem dX0_legalOut_149 : decode cX0_legalOut 149 = .ok (.getfield 25, 3) := by decide +kernel
theorem dX0_legalOut_152 : decode cX0_legalOut 152 = .ok (.iload 4, 2) := by decide +kernel
theorem dX0_legalOut_154 : decode cX0_legalOut 154 = .ok (.baload, 1) := by decide +kernel
theorem dX0_legalOut_155 : decode cX0_legalOut 155 = .ok (.ifCond .lt 29, 3) := by decide +kernel
theorem dX0_legalOut_158 : decode cX0_legalOut 158 = .ok (.aload_n 0, 1) := by decide +kernel
theorem dX0_legalOut_159 : decode cX0_legalOut 159 = .ok (.getfield 25, 3) := by decide +kernel
theorem dX0_legalOut_162 : decode cX0_legalOut 162 = .ok (.iload 4, 2) := by decide +kernel
theorem dX0_legalOut_164 : decode cX0_legalOut 164 = .ok (.baload, 1) := by decide +kernel
theorem dX0_legalOut_165 : decode cX0_legalOut 165 = .ok (.iload_n 2, 1) := by decide +kernel
theorem dX0_legalOut_166 : decode cX0_legalOut 166 = .ok (.if_icmp .ge 20, 3) := by decide +kernel
theorem dX0_legalOut_169 : decode cX0_legalOut 169 = .ok (.aload_n 0, 1) := by decide +kernel
theorem dX0_legalOut_170 : decode cX0_legalOut 170 = .ok (.aload_n 0, 1) := by decide +kernel
theorem dX0_legalOut_171 : decode cX0_legalOut 171 = .ok (.getfield 25, 3) := by decide +kernel
theorem dX0_legalOut_174 : decode cX0_legalOut 174 = .ok (.iload 4, 2) := by decide +kernel
theorem dX0_legalOut_176 : decode cX0_legalOut 176 = .ok (.baload, 1) := by decide +kernel
theorem dX0_legalOut_177 : decode cX0_legalOut 177 = .ok (.iload_n 2, 1) := by decide +kernel
theorem dX0_legalOut_178 : decode cX0_legalOut 178 = .ok (.invokevirtual 58, 3) := by decide +kernel
theorem dX0_legalOut_181 : decode cX0_legalOut 181 = .ok (.ifCond .ne 5, 3) := by decide +kernel
theorem dX0_legalOut_184 : decode cX0_legalOut 184 = .ok (.iconst 0, 1) := by decide +kernel
theorem dX0_legalOut_185 : decode cX0_legalOut 185 = .ok (.ireturn, 1) := by decide +kernel
theorem dX0_legalOut_186 : decode cX0_legalOut 186 = .ok (.iinc 4 1, 3) := by decide +kernel
theorem dX0_legalOut_189 : decode cX0_legalOut 189 = .ok (.goto (-110), 3) := by decide +kernel
theorem dX0_legalOut_192 : decode cX0_legalOut 192 = .ok (.iconst 1, 1) := by decide +kernel
theorem dX0_legalOut_193 : decode cX0_legalOut 193 = .ok (.ireturn, 1) := by decide +kernel
abbrev cX0_canMoveOut : ByteArray := prog_1_method_25_code
def yX0_canMoveOut : MethodName := ⟨RX0, "canMoveOut", "(I)Z"⟩
theorem dX0_canMoveOut_0 : decode cX0_canMoveOut 0 = .ok (.aload_n 0, 1) := by decide +kernel
theorem dX0_canMoveOut_1 : decode cX0_canMoveOut 1 = .ok (.iload_n 1, 1) := by decide +kernel
theorem dX0_canMoveOut_2 : decode cX0_canMoveOut 2 = .ok (.iconst 2, 1) := by decide +kernel
theorem dX0_canMoveOut_3 : decode cX0_canMoveOut 3 = .ok (.invokevirtual 61, 3) := by decide +kernel
theorem dX0_canMoveOut_6 : decode cX0_canMoveOut 6 = .ok (.ifCond .ne 5, 3) := by decide +kernel
theorem dX0_canMoveOut_9 : decode cX0_canMoveOut 9 = .ok (.iconst 0, 1) := by decide +kernel
theorem dX0_canMoveOut_10 : decode cX0_canMoveOut 10 = .ok (.ireturn, 1) := by decide +kernel
theorem dX0_canMoveOut_11 : decode cX0_canMoveOut 11 = .ok (.aload_n 0, 1) := by decide +kernel
theorem dX0_canMoveOut_12 : decode cX0_canMoveOut 12 = .ok (.invokevirtual 64, 3) := by decide +kernel
theorem dX0_canMoveOut_15 : decode cX0_canMoveOut 15 = .ok (.aload_n 0, 1) := by decide +kernel
theorem dX0_canMoveOut_16 : decode cX0_canMoveOut 16 = .ok (.getfield 16, 3) := by decide +kernel
theorem dX0_canMoveOut_19 : decode cX0_canMoveOut 19 = .ok (.iload_n 1, 1) := by decide +kernel
theorem dX0_canMoveOut_20 : decode cX0_canMoveOut 20 = .ok (.baload, 1) := by decide +kernel
theorem dX0_canMoveOut_21 : decode cX0_canMoveOut 21 = .ok (.iconst (-1), 1) := by decide +kernel
theorem dX0_canMoveOut_22 : decode cX0_canMoveOut 22 = .ok (.if_icmp .eq 15, 3) := by decide +kernel
theorem dX0_canMoveOut_25 : decode cX0_canMoveOut 25 = .ok (.aload_n 0, 1) := by decide +kernel
theorem dX0_canMoveOut_26 : decode cX0_canMoveOut 26 = .ok (.iload_n 1, 1) := by decide +kernel
theorem dX0_canMoveOut_27 : decode cX0_canMoveOut 27 = .ok (.invokevirtual 77, 3) := by decide +kernel
theorem dX0_canMoveOut_30 : decode cX0_canMoveOut 30 = .ok (.ifCond .eq 7, 3) := by decide +kernel
theorem dX0_canMoveOut_33 : decode cX0_canMoveOut 33 = .ok (.iconst 1, 1) := by decide +kernel
theorem dX0_canMoveOut_34 : decode cX0_canMoveOut 34 = .ok (.goto 4, 3) := by decide +kernel
theorem dX0_canMoveOut_37 : decode cX0_canMoveOut 37 = .ok (.iconst 0, 1) := by decide +kernel
theorem dX0_canMoveOut_38 : decode cX0_canMoveOut 38 = .ok (.ireturn, 1) := by decide +kernel
abbrev cX0_depth : ByteArray := prog_1_method_26_code
def yX0_depth : MethodName := ⟨RX0, "depth", "(I)I"⟩
theorem dX0_depth_0 : decode cX0_depth 0 = .ok (.aload_n 0, 1) := by decide +kernel
theorem dX0_depth_1 : decode cX0_depth 1 = .ok (.iload_n 1, 1) := by decide +kernel
theorem dX0_depth_2 : decode cX0_depth 2 = .ok (.invokevirtual 35, 3) := by decide +kernel
theorem dX0_depth_5 : decode cX0_depth 5 = .ok (.ifCond .ne 5, 3) := by decide +kernel
theorem dX0_depth_8 : decode cX0_depth 8 = .ok (.iconst (-1), 1) := by decide +kernel
theorem dX0_depth_9 : decode cX0_depth 9 = .ok (.ireturn, 1) := by decide +kernel
theorem dX0_depth_10 : decode cX0_depth 10 = .ok (.aload_n 0, 1) := by decide +kernel
theorem dX0_depth_11 : decode cX0_depth 11 = .ok (.invokevirtual 64, 3) := by decide +kernel
theorem dX0_depth_14 : decode cX0_depth 14 = .ok (.aload_n 0, 1) := by decide +kernel
theorem dX0_depth_15 : decode cX0_depth 15 = .ok (.getfield 19, 3) := by decide +kernel
theorem dX0_depth_18 : decode cX0_depth 18 = .ok (.iload_n 1, 1) := by decide +kernel
theorem dX0_depth_19 : decode cX0_depth 19 = .ok (.baload, 1) := by decide +kernel
theorem dX0_depth_20 : decode cX0_depth 20 = .ok (.ireturn, 1) := by decide +kernel
abbrev cX0_visible : ByteArray := prog_1_method_27_code
def yX0_visible : MethodName := ⟨RX0, "visible", "(I)I"⟩
theorem dX0_visible_0 : decode cX0_visible 0 = .ok (.aload_n 0, 1) := by decide +kernel
theorem dX0_visible_1 : decode cX0_visible 1 = .ok (.iload_n 1, 1) := by decide +kernel
theorem dX0_visible_2 : decode cX0_visible 2 = .ok (.invokevirtual 35, 3) := by decide +kernel
theorem dX0_visible_5 : decode cX0_visible 5 = .ok (.ifCond .ne 5, 3) := by decide +kernel
theorem dX0_visible_8 : decode cX0_visible 8 = .ok (.iconst 0, 1) := by decide +kernel
theorem dX0_visible_9 : decode cX0_visible 9 = .ok (.ireturn, 1) := by decide +kernel
theorem dX0_visible_10 : decode cX0_visible 10 = .ok (.aload_n 0, 1) := by decide +kernel
theorem dX0_visible_11 : decode cX0_visible 11 = .ok (.invokevirtual 64, 3) := by decide +kernel
theorem dX0_visible_14 : decode cX0_visible 14 = .ok (.iconst 0, 1) := by decide +kernel
theorem dX0_visible_15 : decode cX0_visible 15 = .ok (.istore_n 2, 1) := by decide +kernel
theorem dX0_visible_16 : decode cX0_visible 16 = .ok (.iconst 0, 1) := by decide +kernel
theorem dX0_visible_17 : decode cX0_visible 17 = .ok (.istore_n 3, 1) := by decide +kernel
theorem dX0_visible_18 : decode cX0_visible 18 = .ok (.iload_n 3, 1) := by decide +kernel
theorem dX0_visible_19 : decode cX0_visible 19 = .ok (.bipush 8, 2) := by decide +kernel
theorem dX0_visible_21 : decode cX0_visible 21 = .ok (.if_icmp .ge 28, 3) := by decide +kernel
theorem dX0_visible_24 : decode cX0_visible 24 = .ok (.iload_n 2, 1) := by decide +kernel
theorem dX0_visible_25 : decode cX0_visible 25 = .ok (.aload_n 0, 1) := by decide +kernel
theorem dX0_visible_26 : decode cX0_visible 26 = .ok (.iload_n 3, 1) := by decide +kernel
theorem dX0_visible_27 : decode cX0_visible 27 = .ok (.iload_n 1, 1) := by decide +kernel
theorem dX0_visible_28 : decode cX0_visible 28 = .ok (.invokevirtual 47, 3) := by decide +kernel
theorem dX0_visible_31 : decode cX0_visible 31 = .ok (.ifCond .lt 9, 3) := by decide +kernel
theorem dX0_visible_34 : decode cX0_visible 34 = .ok (.iconst 1, 1) := by decide +kernel
theorem dX0_visible_35 : decode cX0_visible 35 = .ok (.iload_n 3, 1) := by decide +kernel
theorem dX0_visible_36 : decode cX0_visible 36 = .ok (.ishl, 1) := by decide +kernel
theorem dX0_visible_37 : decode cX0_visible 37 = .ok (.goto 4, 3) := by decide +kernel
theorem dX0_visible_40 : decode cX0_visible 40 = .ok (.iconst 0, 1) := by decide +kernel
theorem dX0_visible_41 : decode cX0_visible 41 = .ok (.ior, 1) := by decide +kernel
theorem dX0_visible_42 : decode cX0_visible 42 = .ok (.istore_n 2, 1) := by decide +kernel
theorem dX0_visible_43 : decode cX0_visible 43 = .ok (.iinc 3 1, 3) := by decide +kernel
theorem dX0_visible_46 : decode cX0_visible 46 = .ok (.goto (-28), 3) := by decide +kernel
theorem dX0_visible_49 : decode cX0_visible 49 = .ok (.iload_n 2, 1) := by decide +kernel
theorem dX0_visible_50 : decode cX0_visible 50 = .ok (.ireturn, 1) := by decide +kernel
end
section
set_option maxRecDepth 100000
theorem q24 : (Jvm.Cond.initialized "RenameDesk") ∈ lw_all := lw_g (lw_at lw_m1 1 rfl) rfl
theorem q27 : (Jvm.Cond.instantiable "RenameDesk" (9 : Nat)) ∈ lw_all := lw_g (lw_at lw_m1 4 rfl) rfl
theorem q29 : (Jvm.Cond.instanceMethod ({ cls := "RenameDesk", name := "<init>", desc := "()V" } : Jvm.MethodName)) ∈ lw_all := lw_g (lw_at lw_m1 6 rfl) rfl
theorem q30 : (Jvm.Cond.code ({ cls := "RenameDesk", name := "<init>", desc := "()V" } : Jvm.MethodName) prog_1_method_1_code (1 : Nat) (Option.none : Option Jvm.ClassFile.FieldType)) ∈ lw_all := lw_g (lw_at lw_m1 7 rfl) rfl
theorem q31 : (Jvm.Cond.methodLink "RenameDesk" (1 : Nat) ({ cls := "java/lang/Object", name := "<init>", desc := "()V" } : Jvm.MethodName)) ∈ lw_all := lw_g (lw_at lw_m1 8 rfl) rfl
theorem q34 : (Jvm.Cond.fieldLink "RenameDesk" (7 : Nat) "RenameDesk" "kinds" "[B") ∈ lw_all := lw_g (lw_at lw_m1 11 rfl) rfl
theorem q35 : (Jvm.Cond.fieldLink "RenameDesk" (13 : Nat) "RenameDesk" "names" "[B") ∈ lw_all := lw_g (lw_at lw_m1 12 rfl) rfl
theorem q36 : (Jvm.Cond.fieldLink "RenameDesk" (31 : Nat) "RenameDesk" "size" "I") ∈ lw_all := lw_g (lw_at lw_m1 13 rfl) rfl
theorem q37 : (Jvm.Cond.fieldLink "RenameDesk" (43 : Nat) "RenameDesk" "known" "Z") ∈ lw_all := lw_g (lw_at lw_m1 14 rfl) rfl
theorem q38 : (Jvm.Cond.fieldLink "RenameDesk" (16 : Nat) "RenameDesk" "block" "[B") ∈ lw_all := lw_g (lw_at lw_m1 15 rfl) rfl
theorem q39 : (Jvm.Cond.fieldLink "RenameDesk" (19 : Nat) "RenameDesk" "deep" "[B") ∈ lw_all := lw_g (lw_at lw_m1 16 rfl) rfl
theorem q40 : (Jvm.Cond.fieldLink "RenameDesk" (22 : Nat) "RenameDesk" "ends" "[B") ∈ lw_all := lw_g (lw_at lw_m1 17 rfl) rfl
theorem q41 : (Jvm.Cond.fieldLink "RenameDesk" (25 : Nat) "RenameDesk" "boundTo" "[B") ∈ lw_all := lw_g (lw_at lw_m1 18 rfl) rfl
theorem q42 : (Jvm.Cond.fieldLink "RenameDesk" (28 : Nat) "RenameDesk" "openBlocks" "[B") ∈ lw_all := lw_g (lw_at lw_m1 19 rfl) rfl
theorem q43 : (Jvm.Cond.laysFinal "RenameDesk" "RenameDesk" "kinds" "[B") ∈ lw_all := lw_g (lw_at lw_m1 20 rfl) rfl
theorem q44 : (Jvm.Cond.soleField "RenameDesk" "kinds") ∈ lw_all := lw_g (lw_at lw_m1 21 rfl) rfl
theorem q45 : (Jvm.Cond.laysFinal "RenameDesk" "RenameDesk" "names" "[B") ∈ lw_all := lw_g (lw_at lw_m1 22 rfl) rfl
theorem q46 : (Jvm.Cond.soleField "RenameDesk" "names") ∈ lw_all := lw_g (lw_at lw_m1 23 rfl) rfl
theorem q47 : (Jvm.Cond.lays "RenameDesk" "RenameDesk" "size" "I") ∈ lw_all := lw_g (lw_at lw_m1 24 rfl) rfl
theorem q48 : (Jvm.Cond.soleField "RenameDesk" "size") ∈ lw_all := lw_g (lw_at lw_m1 25 rfl) rfl
theorem q49 : (Jvm.Cond.lays "RenameDesk" "RenameDesk" "known" "Z") ∈ lw_all := lw_g (lw_at lw_m1 26 rfl) rfl
theorem q50 : (Jvm.Cond.soleField "RenameDesk" "known") ∈ lw_all := lw_g (lw_at lw_m1 27 rfl) rfl
theorem q51 : (Jvm.Cond.laysFinal "RenameDesk" "RenameDesk" "block" "[B") ∈ lw_all := lw_g (lw_at lw_m1 28 rfl) rfl
theorem q52 : (Jvm.Cond.soleField "RenameDesk" "block") ∈ lw_all := lw_g (lw_at lw_m1 29 rfl) rfl
theorem q53 : (Jvm.Cond.laysFinal "RenameDesk" "RenameDesk" "deep" "[B") ∈ lw_all := lw_g (lw_at lw_m1 30 rfl) rfl
theorem q54 : (Jvm.Cond.soleField "RenameDesk" "deep") ∈ lw_all := lw_g (lw_at lw_m1 31 rfl) rfl
theorem q55 : (Jvm.Cond.laysFinal "RenameDesk" "RenameDesk" "ends" "[B") ∈ lw_all := lw_g (lw_at lw_m1 32 rfl) rfl
theorem q56 : (Jvm.Cond.soleField "RenameDesk" "ends") ∈ lw_all := lw_g (lw_at lw_m1 33 rfl) rfl
theorem q57 : (Jvm.Cond.laysFinal "RenameDesk" "RenameDesk" "boundTo" "[B") ∈ lw_all := lw_g (lw_at lw_m1 34 rfl) rfl
theorem q58 : (Jvm.Cond.soleField "RenameDesk" "boundTo") ∈ lw_all := lw_g (lw_at lw_m1 35 rfl) rfl
theorem q59 : (Jvm.Cond.laysFinal "RenameDesk" "RenameDesk" "openBlocks" "[B") ∈ lw_all := lw_g (lw_at lw_m1 36 rfl) rfl
theorem q60 : (Jvm.Cond.soleField "RenameDesk" "openBlocks") ∈ lw_all := lw_g (lw_at lw_m1 37 rfl) rfl
theorem q61 : (Jvm.Cond.superclass "RenameDesk" "java/lang/Object") ∈ lw_all := lw_g (lw_at lw_m1 38 rfl) rfl
theorem q64 : (Jvm.Cond.instanceMethod ({ cls := "RenameDesk", name := "add", desc := "(II)I" } : Jvm.MethodName)) ∈ lw_all := lw_g (lw_at lw_m1 41 rfl) rfl
theorem q65 : (Jvm.Cond.selects "RenameDesk" ({ cls := "RenameDesk", name := "add", desc := "(II)I" } : Jvm.MethodName) ({ cls := "RenameDesk", name := "add", desc := "(II)I" } : Jvm.MethodName)) ∈ lw_all := lw_g (lw_at lw_m1 42 rfl) rfl
theorem q66 : (Jvm.Cond.code ({ cls := "RenameDesk", name := "add", desc := "(II)I" } : Jvm.MethodName) prog_1_method_4_code (4 : Nat) (Option.some Jvm.ClassFile.FieldType.int)) ∈ lw_all := lw_g (lw_at lw_m1 43 rfl) rfl
theorem q67 : (Jvm.Cond.methodLink "RenameDesk" (39 : Nat) ({ cls := "RenameDesk", name := "openCount", desc := "()I" } : Jvm.MethodName)) ∈ lw_all := lw_g (lw_at lw_m1 44 rfl) rfl
theorem q68 : (Jvm.Cond.privateMethod ({ cls := "RenameDesk", name := "openCount", desc := "()I" } : Jvm.MethodName)) ∈ lw_tbl := lw_at lw_m1 45 rfl
theorem q69 : (Jvm.Cond.instanceMethod ({ cls := "RenameDesk", name := "openCount", desc := "()I" } : Jvm.MethodName)) ∈ lw_all := lw_g (lw_at lw_m1 46 rfl) rfl
theorem q70 : (Jvm.Cond.code ({ cls := "RenameDesk", name := "openCount", desc := "()I" } : Jvm.MethodName) prog_1_method_5_code (3 : Nat) (Option.some Jvm.ClassFile.FieldType.int)) ∈ lw_all := lw_g (lw_at lw_m1 47 rfl) rfl
theorem q72 : (Jvm.Cond.instanceMethod ({ cls := "RenameDesk", name := "drop", desc := "()I" } : Jvm.MethodName)) ∈ lw_all := lw_g (lw_at lw_m1 49 rfl) rfl
theorem q73 : (Jvm.Cond.selects "RenameDesk" ({ cls := "RenameDesk", name := "drop", desc := "()I" } : Jvm.MethodName) ({ cls := "RenameDesk", name := "drop", desc := "()I" } : Jvm.MethodName)) ∈ lw_all := lw_g (lw_at lw_m1 50 rfl) rfl
theorem q74 : (Jvm.Cond.code ({ cls := "RenameDesk", name := "drop", desc := "()I" } : Jvm.MethodName) prog_1_method_6_code (1 : Nat) (Option.some Jvm.ClassFile.FieldType.int)) ∈ lw_all := lw_g (lw_at lw_m1 51 rfl) rfl
theorem q76 : (Jvm.Cond.instanceMethod ({ cls := "RenameDesk", name := "length", desc := "()I" } : Jvm.MethodName)) ∈ lw_all := lw_g (lw_at lw_m1 53 rfl) rfl
theorem q77 : (Jvm.Cond.selects "RenameDesk" ({ cls := "RenameDesk", name := "length", desc := "()I" } : Jvm.MethodName) ({ cls := "RenameDesk", name := "length", desc := "()I" } : Jvm.MethodName)) ∈ lw_all := lw_g (lw_at lw_m1 54 rfl) rfl
theorem q78 : (Jvm.Cond.code ({ cls := "RenameDesk", name := "length", desc := "()I" } : Jvm.MethodName) prog_1_method_7_code (1 : Nat) (Option.some Jvm.ClassFile.FieldType.int)) ∈ lw_all := lw_g (lw_at lw_m1 55 rfl) rfl
theorem q80 : (Jvm.Cond.instanceMethod ({ cls := "RenameDesk", name := "token", desc := "(I)I" } : Jvm.MethodName)) ∈ lw_all := lw_g (lw_at lw_m1 57 rfl) rfl
theorem q81 : (Jvm.Cond.selects "RenameDesk" ({ cls := "RenameDesk", name := "token", desc := "(I)I" } : Jvm.MethodName) ({ cls := "RenameDesk", name := "token", desc := "(I)I" } : Jvm.MethodName)) ∈ lw_all := lw_g (lw_at lw_m1 58 rfl) rfl
theorem q82 : (Jvm.Cond.code ({ cls := "RenameDesk", name := "token", desc := "(I)I" } : Jvm.MethodName) prog_1_method_8_code (2 : Nat) (Option.some Jvm.ClassFile.FieldType.int)) ∈ lw_all := lw_g (lw_at lw_m1 59 rfl) rfl
theorem q83 : (Jvm.Cond.methodLink "RenameDesk" (35 : Nat) ({ cls := "RenameDesk", name := "isPlace", desc := "(I)Z" } : Jvm.MethodName)) ∈ lw_all := lw_g (lw_at lw_m1 60 rfl) rfl
theorem q84 : (Jvm.Cond.privateMethod ({ cls := "RenameDesk", name := "isPlace", desc := "(I)Z" } : Jvm.MethodName)) ∈ lw_tbl := lw_at lw_m1 61 rfl
theorem q85 : (Jvm.Cond.instanceMethod ({ cls := "RenameDesk", name := "isPlace", desc := "(I)Z" } : Jvm.MethodName)) ∈ lw_all := lw_g (lw_at lw_m1 62 rfl) rfl
theorem q86 : (Jvm.Cond.code ({ cls := "RenameDesk", name := "isPlace", desc := "(I)Z" } : Jvm.MethodName) prog_1_method_2_code (2 : Nat) (Option.some Jvm.ClassFile.FieldType.boolean)) ∈ lw_all := lw_g (lw_at lw_m1 63 rfl) rfl
theorem q88 : (Jvm.Cond.instanceMethod ({ cls := "RenameDesk", name := "bound", desc := "(I)I" } : Jvm.MethodName)) ∈ lw_all := lw_g (lw_at lw_m1 65 rfl) rfl
theorem q89 : (Jvm.Cond.selects "RenameDesk" ({ cls := "RenameDesk", name := "bound", desc := "(I)I" } : Jvm.MethodName) ({ cls := "RenameDesk", name := "bound", desc := "(I)I" } : Jvm.MethodName)) ∈ lw_all := lw_g (lw_at lw_m1 66 rfl) rfl
theorem q90 : (Jvm.Cond.code ({ cls := "RenameDesk", name := "bound", desc := "(I)I" } : Jvm.MethodName) prog_1_method_14_code (2 : Nat) (Option.some Jvm.ClassFile.FieldType.int)) ∈ lw_all := lw_g (lw_at lw_m1 67 rfl) rfl
theorem q91 : (Jvm.Cond.methodLink "RenameDesk" (61 : Nat) ({ cls := "RenameDesk", name := "isA", desc := "(II)Z" } : Jvm.MethodName)) ∈ lw_all := lw_g (lw_at lw_m1 68 rfl) rfl
theorem q92 : (Jvm.Cond.privateMethod ({ cls := "RenameDesk", name := "isA", desc := "(II)Z" } : Jvm.MethodName)) ∈ lw_tbl := lw_at lw_m1 69 rfl
theorem q93 : (Jvm.Cond.instanceMethod ({ cls := "RenameDesk", name := "isA", desc := "(II)Z" } : Jvm.MethodName)) ∈ lw_all := lw_g (lw_at lw_m1 70 rfl) rfl
theorem q94 : (Jvm.Cond.code ({ cls := "RenameDesk", name := "isA", desc := "(II)Z" } : Jvm.MethodName) prog_1_method_3_code (3 : Nat) (Option.some Jvm.ClassFile.FieldType.boolean)) ∈ lw_all := lw_g (lw_at lw_m1 71 rfl) rfl
theorem q95 : (Jvm.Cond.methodLink "RenameDesk" (64 : Nat) ({ cls := "RenameDesk", name := "learn", desc := "()V" } : Jvm.MethodName)) ∈ lw_all := lw_g (lw_at lw_m1 72 rfl) rfl
theorem q96 : (Jvm.Cond.privateMethod ({ cls := "RenameDesk", name := "learn", desc := "()V" } : Jvm.MethodName)) ∈ lw_tbl := lw_at lw_m1 73 rfl
theorem q97 : (Jvm.Cond.instanceMethod ({ cls := "RenameDesk", name := "learn", desc := "()V" } : Jvm.MethodName)) ∈ lw_all := lw_g (lw_at lw_m1 74 rfl) rfl
theorem q98 : (Jvm.Cond.code ({ cls := "RenameDesk", name := "learn", desc := "()V" } : Jvm.MethodName) prog_1_method_9_code (3 : Nat) (Option.none : Option Jvm.ClassFile.FieldType)) ∈ lw_all := lw_g (lw_at lw_m1 75 rfl) rfl
theorem q99 : (Jvm.Cond.methodLink "RenameDesk" (47 : Nat) ({ cls := "RenameDesk", name := "winner", desc := "(II)I" } : Jvm.MethodName)) ∈ lw_all := lw_g (lw_at lw_m1 76 rfl) rfl
theorem q100 : (Jvm.Cond.privateMethod ({ cls := "RenameDesk", name := "winner", desc := "(II)I" } : Jvm.MethodName)) ∈ lw_tbl := lw_at lw_m1 77 rfl
theorem q101 : (Jvm.Cond.instanceMethod ({ cls := "RenameDesk", name := "winner", desc := "(II)I" } : Jvm.MethodName)) ∈ lw_all := lw_g (lw_at lw_m1 78 rfl) rfl
theorem q102 : (Jvm.Cond.code ({ cls := "RenameDesk", name := "winner", desc := "(II)I" } : Jvm.MethodName) prog_1_method_13_code (6 : Nat) (Option.some Jvm.ClassFile.FieldType.int)) ∈ lw_all := lw_g (lw_at lw_m1 79 rfl) rfl
theorem q103 : (Jvm.Cond.methodLink "RenameDesk" (55 : Nat) ({ cls := "RenameDesk", name := "sees", desc := "(II)Z" } : Jvm.MethodName)) ∈ lw_all := lw_g (lw_at lw_m1 80 rfl) rfl
theorem q104 : (Jvm.Cond.privateMethod ({ cls := "RenameDesk", name := "sees", desc := "(II)Z" } : Jvm.MethodName)) ∈ lw_tbl := lw_at lw_m1 81 rfl
theorem q105 : (Jvm.Cond.instanceMethod ({ cls := "RenameDesk", name := "sees", desc := "(II)Z" } : Jvm.MethodName)) ∈ lw_all := lw_g (lw_at lw_m1 82 rfl) rfl
theorem q106 : (Jvm.Cond.code ({ cls := "RenameDesk", name := "sees", desc := "(II)Z" } : Jvm.MethodName) prog_1_method_11_code (3 : Nat) (Option.some Jvm.ClassFile.FieldType.boolean)) ∈ lw_all := lw_g (lw_at lw_m1 83 rfl) rfl
theorem q107 : (Jvm.Cond.methodLink "RenameDesk" (51 : Nat) ({ cls := "RenameDesk", name := "inBlockOf", desc := "(II)Z" } : Jvm.MethodName)) ∈ lw_all := lw_g (lw_at lw_m1 84 rfl) rfl
theorem q108 : (Jvm.Cond.privateMethod ({ cls := "RenameDesk", name := "inBlockOf", desc := "(II)Z" } : Jvm.MethodName)) ∈ lw_tbl := lw_at lw_m1 85 rfl
theorem q109 : (Jvm.Cond.instanceMethod ({ cls := "RenameDesk", name := "inBlockOf", desc := "(II)Z" } : Jvm.MethodName)) ∈ lw_all := lw_g (lw_at lw_m1 86 rfl) rfl
theorem q110 : (Jvm.Cond.code ({ cls := "RenameDesk", name := "inBlockOf", desc := "(II)Z" } : Jvm.MethodName) prog_1_method_10_code (4 : Nat) (Option.some Jvm.ClassFile.FieldType.boolean)) ∈ lw_all := lw_g (lw_at lw_m1 87 rfl) rfl
theorem q111 : (Jvm.Cond.methodLink "RenameDesk" (58 : Nat) ({ cls := "RenameDesk", name := "hides", desc := "(II)Z" } : Jvm.MethodName)) ∈ lw_all := lw_g (lw_at lw_m1 88 rfl) rfl
theorem q112 : (Jvm.Cond.privateMethod ({ cls := "RenameDesk", name := "hides", desc := "(II)Z" } : Jvm.MethodName)) ∈ lw_tbl := lw_at lw_m1 89 rfl
theorem q113 : (Jvm.Cond.instanceMethod ({ cls := "RenameDesk", name := "hides", desc := "(II)Z" } : Jvm.MethodName)) ∈ lw_all := lw_g (lw_at lw_m1 90 rfl) rfl
theorem q114 : (Jvm.Cond.code ({ cls := "RenameDesk", name := "hides", desc := "(II)Z" } : Jvm.MethodName) prog_1_method_12_code (3 : Nat) (Option.some Jvm.ClassFile.FieldType.boolean)) ∈ lw_all := lw_g (lw_at lw_m1 91 rfl) rfl
theorem q116 : (Jvm.Cond.instanceMethod ({ cls := "RenameDesk", name := "uses", desc := "(I)I" } : Jvm.MethodName)) ∈ lw_all := lw_g (lw_at lw_m1 93 rfl) rfl
theorem q117 : (Jvm.Cond.selects "RenameDesk" ({ cls := "RenameDesk", name := "uses", desc := "(I)I" } : Jvm.MethodName) ({ cls := "RenameDesk", name := "uses", desc := "(I)I" } : Jvm.MethodName)) ∈ lw_all := lw_g (lw_at lw_m1 94 rfl) rfl
theorem q118 : (Jvm.Cond.code ({ cls := "RenameDesk", name := "uses", desc := "(I)I" } : Jvm.MethodName) prog_1_method_15_code (4 : Nat) (Option.some Jvm.ClassFile.FieldType.int)) ∈ lw_all := lw_g (lw_at lw_m1 95 rfl) rfl
theorem q120 : (Jvm.Cond.instanceMethod ({ cls := "RenameDesk", name := "free", desc := "()I" } : Jvm.MethodName)) ∈ lw_all := lw_g (lw_at lw_m1 97 rfl) rfl
theorem q121 : (Jvm.Cond.selects "RenameDesk" ({ cls := "RenameDesk", name := "free", desc := "()I" } : Jvm.MethodName) ({ cls := "RenameDesk", name := "free", desc := "()I" } : Jvm.MethodName)) ∈ lw_all := lw_g (lw_at lw_m1 98 rfl) rfl
theorem q122 : (Jvm.Cond.code ({ cls := "RenameDesk", name := "free", desc := "()I" } : Jvm.MethodName) prog_1_method_16_code (3 : Nat) (Option.some Jvm.ClassFile.FieldType.int)) ∈ lw_all := lw_g (lw_at lw_m1 99 rfl) rfl
theorem q124 : (Jvm.Cond.instanceMethod ({ cls := "RenameDesk", name := "unused", desc := "()I" } : Jvm.MethodName)) ∈ lw_all := lw_g (lw_at lw_m1 101 rfl) rfl
theorem q125 : (Jvm.Cond.selects "RenameDesk" ({ cls := "RenameDesk", name := "unused", desc := "()I" } : Jvm.MethodName) ({ cls := "RenameDesk", name := "unused", desc := "()I" } : Jvm.MethodName)) ∈ lw_all := lw_g (lw_at lw_m1 102 rfl) rfl
theorem q126 : (Jvm.Cond.code ({ cls := "RenameDesk", name := "unused", desc := "()I" } : Jvm.MethodName) prog_1_method_17_code (3 : Nat) (Option.some Jvm.ClassFile.FieldType.int)) ∈ lw_all := lw_g (lw_at lw_m1 103 rfl) rfl
theorem q127 : (Jvm.Cond.methodLink "RenameDesk" (67 : Nat) ({ cls := "RenameDesk", name := "uses", desc := "(I)I" } : Jvm.MethodName)) ∈ lw_all := lw_g (lw_at lw_m1 104 rfl) rfl
theorem q129 : (Jvm.Cond.instanceMethod ({ cls := "RenameDesk", name := "names", desc := "(I)I" } : Jvm.MethodName)) ∈ lw_all := lw_g (lw_at lw_m1 106 rfl) rfl
theorem q130 : (Jvm.Cond.selects "RenameDesk" ({ cls := "RenameDesk", name := "names", desc := "(I)I" } : Jvm.MethodName) ({ cls := "RenameDesk", name := "names", desc := "(I)I" } : Jvm.MethodName)) ∈ lw_all := lw_g (lw_at lw_m1 107 rfl) rfl
theorem q131 : (Jvm.Cond.code ({ cls := "RenameDesk", name := "names", desc := "(I)I" } : Jvm.MethodName) prog_1_method_19_code (4 : Nat) (Option.some Jvm.ClassFile.FieldType.int)) ∈ lw_all := lw_g (lw_at lw_m1 108 rfl) rfl
theorem q132 : (Jvm.Cond.methodLink "RenameDesk" (71 : Nat) ({ cls := "RenameDesk", name := "legalName", desc := "(II)Z" } : Jvm.MethodName)) ∈ lw_all := lw_g (lw_at lw_m1 109 rfl) rfl
theorem q133 : (Jvm.Cond.privateMethod ({ cls := "RenameDesk", name := "legalName", desc := "(II)Z" } : Jvm.MethodName)) ∈ lw_tbl := lw_at lw_m1 110 rfl
theorem q134 : (Jvm.Cond.instanceMethod ({ cls := "RenameDesk", name := "legalName", desc := "(II)Z" } : Jvm.MethodName)) ∈ lw_all := lw_g (lw_at lw_m1 111 rfl) rfl
theorem q135 : (Jvm.Cond.code ({ cls := "RenameDesk", name := "legalName", desc := "(II)Z" } : Jvm.MethodName) prog_1_method_18_code (5 : Nat) (Option.some Jvm.ClassFile.FieldType.boolean)) ∈ lw_all := lw_g (lw_at lw_m1 112 rfl) rfl
theorem q137 : (Jvm.Cond.instanceMethod ({ cls := "RenameDesk", name := "rename", desc := "(II)I" } : Jvm.MethodName)) ∈ lw_all := lw_g (lw_at lw_m1 114 rfl) rfl
theorem q138 : (Jvm.Cond.selects "RenameDesk" ({ cls := "RenameDesk", name := "rename", desc := "(II)I" } : Jvm.MethodName) ({ cls := "RenameDesk", name := "rename", desc := "(II)I" } : Jvm.MethodName)) ∈ lw_all := lw_g (lw_at lw_m1 115 rfl) rfl
theorem q139 : (Jvm.Cond.code ({ cls := "RenameDesk", name := "rename", desc := "(II)I" } : Jvm.MethodName) prog_1_method_20_code (5 : Nat) (Option.some Jvm.ClassFile.FieldType.int)) ∈ lw_all := lw_g (lw_at lw_m1 116 rfl) rfl
theorem q141 : (Jvm.Cond.instanceMethod ({ cls := "RenameDesk", name := "swap", desc := "(I)I" } : Jvm.MethodName)) ∈ lw_all := lw_g (lw_at lw_m1 118 rfl) rfl
theorem q142 : (Jvm.Cond.selects "RenameDesk" ({ cls := "RenameDesk", name := "swap", desc := "(I)I" } : Jvm.MethodName) ({ cls := "RenameDesk", name := "swap", desc := "(I)I" } : Jvm.MethodName)) ∈ lw_all := lw_g (lw_at lw_m1 119 rfl) rfl
theorem q143 : (Jvm.Cond.code ({ cls := "RenameDesk", name := "swap", desc := "(I)I" } : Jvm.MethodName) prog_1_method_21_code (5 : Nat) (Option.some Jvm.ClassFile.FieldType.int)) ∈ lw_all := lw_g (lw_at lw_m1 120 rfl) rfl
theorem q144 : (Jvm.Cond.methodLink "RenameDesk" (74 : Nat) ({ cls := "RenameDesk", name := "legalSwap", desc := "(I)Z" } : Jvm.MethodName)) ∈ lw_all := lw_g (lw_at lw_m1 121 rfl) rfl
theorem q145 : (Jvm.Cond.privateMethod ({ cls := "RenameDesk", name := "legalSwap", desc := "(I)Z" } : Jvm.MethodName)) ∈ lw_tbl := lw_at lw_m1 122 rfl
theorem q146 : (Jvm.Cond.instanceMethod ({ cls := "RenameDesk", name := "legalSwap", desc := "(I)Z" } : Jvm.MethodName)) ∈ lw_all := lw_g (lw_at lw_m1 123 rfl) rfl
theorem q147 : (Jvm.Cond.code ({ cls := "RenameDesk", name := "legalSwap", desc := "(I)Z" } : Jvm.MethodName) prog_1_method_22_code (2 : Nat) (Option.some Jvm.ClassFile.FieldType.boolean)) ∈ lw_all := lw_g (lw_at lw_m1 124 rfl) rfl
theorem q149 : (Jvm.Cond.instanceMethod ({ cls := "RenameDesk", name := "moveOut", desc := "(I)I" } : Jvm.MethodName)) ∈ lw_all := lw_g (lw_at lw_m1 126 rfl) rfl
theorem q150 : (Jvm.Cond.selects "RenameDesk" ({ cls := "RenameDesk", name := "moveOut", desc := "(I)I" } : Jvm.MethodName) ({ cls := "RenameDesk", name := "moveOut", desc := "(I)I" } : Jvm.MethodName)) ∈ lw_all := lw_g (lw_at lw_m1 127 rfl) rfl
theorem q151 : (Jvm.Cond.code ({ cls := "RenameDesk", name := "moveOut", desc := "(I)I" } : Jvm.MethodName) prog_1_method_24_code (5 : Nat) (Option.some Jvm.ClassFile.FieldType.int)) ∈ lw_all := lw_g (lw_at lw_m1 128 rfl) rfl
theorem q152 : (Jvm.Cond.methodLink "RenameDesk" (77 : Nat) ({ cls := "RenameDesk", name := "legalOut", desc := "(I)Z" } : Jvm.MethodName)) ∈ lw_all := lw_g (lw_at lw_m1 129 rfl) rfl
theorem q153 : (Jvm.Cond.privateMethod ({ cls := "RenameDesk", name := "legalOut", desc := "(I)Z" } : Jvm.MethodName)) ∈ lw_tbl := lw_at lw_m1 130 rfl
theorem q154 : (Jvm.Cond.instanceMethod ({ cls := "RenameDesk", name := "legalOut", desc := "(I)Z" } : Jvm.MethodName)) ∈ lw_all := lw_g (lw_at lw_m1 131 rfl) rfl
theorem q155 : (Jvm.Cond.code ({ cls := "RenameDesk", name := "legalOut", desc := "(I)Z" } : Jvm.MethodName) prog_1_method_23_code (6 : Nat) (Option.some Jvm.ClassFile.FieldType.boolean)) ∈ lw_all := lw_g (lw_at lw_m1 132 rfl) rfl
theorem q157 : (Jvm.Cond.instanceMethod ({ cls := "RenameDesk", name := "canMoveOut", desc := "(I)Z" } : Jvm.MethodName)) ∈ lw_all := lw_g (lw_at lw_m1 134 rfl) rfl
theorem q158 : (Jvm.Cond.selects "RenameDesk" ({ cls := "RenameDesk", name := "canMoveOut", desc := "(I)Z" } : Jvm.MethodName) ({ cls := "RenameDesk", name := "canMoveOut", desc := "(I)Z" } : Jvm.MethodName)) ∈ lw_all := lw_g (lw_at lw_m1 135 rfl) rfl
theorem q159 : (Jvm.Cond.code ({ cls := "RenameDesk", name := "canMoveOut", desc := "(I)Z" } : Jvm.MethodName) prog_1_method_25_code (2 : Nat) (Option.some Jvm.ClassFile.FieldType.boolean)) ∈ lw_all := lw_g (lw_at lw_m1 136 rfl) rfl
theorem q161 : (Jvm.Cond.instanceMethod ({ cls := "RenameDesk", name := "depth", desc := "(I)I" } : Jvm.MethodName)) ∈ lw_all := lw_g (lw_at lw_m1 138 rfl) rfl
theorem q162 : (Jvm.Cond.selects "RenameDesk" ({ cls := "RenameDesk", name := "depth", desc := "(I)I" } : Jvm.MethodName) ({ cls := "RenameDesk", name := "depth", desc := "(I)I" } : Jvm.MethodName)) ∈ lw_all := lw_g (lw_at lw_m1 139 rfl) rfl
theorem q163 : (Jvm.Cond.code ({ cls := "RenameDesk", name := "depth", desc := "(I)I" } : Jvm.MethodName) prog_1_method_26_code (2 : Nat) (Option.some Jvm.ClassFile.FieldType.int)) ∈ lw_all := lw_g (lw_at lw_m1 140 rfl) rfl
theorem q165 : (Jvm.Cond.instanceMethod ({ cls := "RenameDesk", name := "visible", desc := "(I)I" } : Jvm.MethodName)) ∈ lw_all := lw_g (lw_at lw_m1 142 rfl) rfl
theorem q166 : (Jvm.Cond.selects "RenameDesk" ({ cls := "RenameDesk", name := "visible", desc := "(I)I" } : Jvm.MethodName) ({ cls := "RenameDesk", name := "visible", desc := "(I)I" } : Jvm.MethodName)) ∈ lw_all := lw_g (lw_at lw_m1 143 rfl) rfl
theorem q167 : (Jvm.Cond.code ({ cls := "RenameDesk", name := "visible", desc := "(I)I" } : Jvm.MethodName) prog_1_method_27_code (4 : Nat) (Option.some Jvm.ClassFile.FieldType.int)) ∈ lw_all := lw_g (lw_at lw_m1 144 rfl) rfl
theorem in_X0 : ∀ w ∈ wsX00, w ∈ lw_all := lw_in wsX00 [43, 45, 47, 49, 51, 53, 55, 57, 59] (by decide +kernel) (by decide +kernel)
end
section
/-! RenameDeskModel -/
set_option maxRecDepth 100000
def RX1 : String := "RenameDeskModel"
def TX1 : u_T := fun k => match k with
  | 0 => ("RenameDeskModel", "size", "I", false)
  | 1 => ("RenameDeskModel", "kinds", "[I", false)
  | 2 => ("RenameDeskModel", "names", "[I", false)
  | 3 => ("RenameDeskModel", "kind", "[I", false)
  | 4 => ("RenameDeskModel", "name", "[I", false)
  | 5 => ("RenameDeskModel", "origin", "[I", false)
  | _ => ("RenameDeskModel", "was", "[I", false)
def tyX1 : Nat → FieldType := fun k => match k with
  | 0 => .int
  | 1 => .array .int
  | 2 => .array .int
  | 3 => .array .int
  | 4 => .array .int
  | 5 => .array .int
  | _ => .array .int
abbrev wsX10 : List Cond := u_ws RX1 TX1 7
theorem nmX1 : ∀ a, a < 7 → ∀ b, b < 7 → a ≠ b → (TX1 a).2.1 ≠ (TX1 b).2.1 := by decide +kernel
theorem tyX1_ok : ∀ k, k < 7 → parseFieldDescriptor (TX1 k).2.2.1 = some (tyX1 k) := by decide +kernel
abbrev cX1_init : ByteArray := prog_3_method_1_code
def yX1_init : MethodName := ⟨RX1, "<init>", "()V"⟩
theorem dX1_init_0 : decode cX1_init 0 = .ok (.aload_n 0, 1) := by decide +kernel
theorem dX1_init_1 : decode cX1_init 1 = .ok (.invokespecial 1, 3) := by decide +kernel
theorem dX1_init_4 : decode cX1_init 4 = .ok (.aload_n 0, 1) := by decide +kernel
theorem dX1_init_5 : decode cX1_init 5 = .ok (.bipush 28, 2) := by decide +kernel
theorem dX1_init_7 : decode cX1_init 7 = .ok (.newarray .int, 2) := by decide +kernel
theorem dX1_init_9 : decode cX1_init 9 = .ok (.putfield 7, 3) := by decide +kernel
theorem dX1_init_12 : decode cX1_init 12 = .ok (.aload_n 0, 1) := by decide +kernel
theorem dX1_init_13 : decode cX1_init 13 = .ok (.bipush 28, 2) := by decide +kernel
theorem dX1_init_15 : decode cX1_init 15 = .ok (.newarray .int, 2) := by decide +kernel
theorem dX1_init_17 : decode cX1_init 17 = .ok (.putfield 13, 3) := by decide +kernel
theorem dX1_init_20 : decode cX1_init 20 = .ok (.aload_n 0, 1) := by decide +kernel
theorem dX1_init_21 : decode cX1_init 21 = .ok (.bipush 28, 2) := by decide +kernel
theorem dX1_init_23 : decode cX1_init 23 = .ok (.newarray .int, 2) := by decide +kernel
theorem dX1_init_25 : decode cX1_init 25 = .ok (.putfield 16, 3) := by decide +kernel
theorem dX1_init_28 : decode cX1_init 28 = .ok (.aload_n 0, 1) := by decide +kernel
theorem dX1_init_29 : decode cX1_init 29 = .ok (.bipush 28, 2) := by decide +kernel
theorem dX1_init_31 : decode cX1_init 31 = .ok (.newarray .int, 2) := by decide +kernel
theorem dX1_init_33 : decode cX1_init 33 = .ok (.putfield 19, 3) := by decide +kernel
theorem dX1_init_36 : decode cX1_init 36 = .ok (.aload_n 0, 1) := by decide +kernel
theorem dX1_init_37 : decode cX1_init 37 = .ok (.bipush 28, 2) := by decide +kernel
theorem dX1_init_39 : decode cX1_init 39 = .ok (.newarray .int, 2) := by decide +kernel
theorem dX1_init_41 : decode cX1_init 41 = .ok (.putfield 22, 3) := by decide +kernel
theorem dX1_init_44 : decode cX1_init 44 = .ok (.aload_n 0, 1) := by decide +kernel
theorem dX1_init_45 : decode cX1_init 45 = .ok (.bipush 28, 2) := by decide +kernel
theorem dX1_init_47 : decode cX1_init 47 = .ok (.newarray .int, 2) := by decide +kernel
theorem dX1_init_49 : decode cX1_init 49 = .ok (.putfield 25, 3) := by decide +kernel
theorem dX1_init_52 : decode cX1_init 52 = .ok (.return_, 1) := by decide +kernel
abbrev cX1_add : ByteArray := prog_3_method_10_code
def yX1_add : MethodName := ⟨RX1, "add", "(II)I"⟩
theorem dX1_add_0 : decode cX1_add 0 = .ok (.iload_n 1, 1) := by decide +kernel
theorem dX1_add_1 : decode cX1_add 1 = .ok (.iconst 2, 1) := by decide +kernel
theorem dX1_add_2 : decode cX1_add 2 = .ok (.if_icmp .eq 8, 3) := by decide +kernel
theorem dX1_add_5 : decode cX1_add 5 = .ok (.iload_n 1, 1) := by decide +kernel
theorem dX1_add_6 : decode cX1_add 6 = .ok (.iconst 3, 1) := by decide +kernel
theorem dX1_add_7 : decode cX1_add 7 = .ok (.if_icmp .ne 7, 3) := by decide +kernel
theorem dX1_add_10 : decode cX1_add 10 = .ok (.iconst 1, 1) := by decide +kernel
theorem dX1_add_11 : decode cX1_add 11 = .ok (.goto 4, 3) := by decide +kernel
theorem dX1_add_14 : decode cX1_add 14 = .ok (.iconst 0, 1) := by decide +kernel
theorem dX1_add_15 : decode cX1_add 15 = .ok (.istore_n 3, 1) := by decide +kernel
theorem dX1_add_16 : decode cX1_add 16 = .ok (.iload_n 1, 1) := by decide +kernel
theorem dX1_add_17 : decode cX1_add 17 = .ok (.ifCond .lt 34, 3) := by decide +kernel
theorem dX1_add_20 : decode cX1_add 20 = .ok (.iload_n 1, 1) := by decide +kernel
theorem dX1_add_21 : decode cX1_add 21 = .ok (.iconst 3, 1) := by decide +kernel
theorem dX1_add_22 : decode cX1_add 22 = .ok (.if_icmp .gt 29, 3) := by decide +kernel
theorem dX1_add_25 : decode cX1_add 25 = .ok (.iload_n 1, 1) := by decide +kernel
theorem dX1_add_26 : decode cX1_add 26 = .ok (.iconst 1, 1) := by decide +kernel
theorem dX1_add_27 : decode cX1_add 27 = .ok (.if_icmp .ne 10, 3) := by decide +kernel
theorem dX1_add_30 : decode cX1_add 30 = .ok (.aload_n 0, 1) := by decide +kernel
theorem dX1_add_31 : decode cX1_add 31 = .ok (.invokevirtual 47, 3) := by decide +kernel
theorem dX1_add_34 : decode cX1_add 34 = .ok (.ifCond .eq 17, 3) := by decide +kernel
theorem dX1_add_37 : decode cX1_add 37 = .ok (.iload_n 3, 1) := by decide +kernel
theorem dX1_add_38 : decode cX1_add 38 = .ok (.ifCond .eq 15, 3) := by decide +kernel
theorem dX1_add_41 : decode cX1_add 41 = .ok (.iload_n 2, 1) := by decide +kernel
theorem dX1_add_42 : decode cX1_add 42 = .ok (.ifCond .lt 9, 3) := by decide +kernel
theorem dX1_add_45 : decode cX1_add 45 = .ok (.iload_n 2, 1) := by decide +kernel
theorem dX1_add_46 : decode cX1_add 46 = .ok (.bipush 7, 2) := by decide +kernel
theorem dX1_add_48 : decode cX1_add 48 = .ok (.if_icmp .le 5, 3) := by decide +kernel
theorem dX1_add_51 : decode cX1_add 51 = .ok (.iconst (-1), 1) := by decide +kernel
theorem dX1_add_52 : decode cX1_add 52 = .ok (.ireturn, 1) := by decide +kernel
theorem dX1_add_53 : decode cX1_add 53 = .ok (.aload_n 0, 1) := by decide +kernel
theorem dX1_add_54 : decode cX1_add 54 = .ok (.getfield 28, 3) := by decide +kernel
theorem dX1_add_57 : decode cX1_add 57 = .ok (.bipush 28, 2) := by decide +kernel
theorem dX1_add_59 : decode cX1_add 59 = .ok (.if_icmp .lt 6, 3) := by decide +kernel
theorem dX1_add_62 : decode cX1_add 62 = .ok (.bipush (-2), 2) := by decide +kernel
theorem dX1_add_64 : decode cX1_add 64 = .ok (.ireturn, 1) := by decide +kernel
theorem dX1_add_65 : decode cX1_add 65 = .ok (.aload_n 0, 1) := by decide +kernel
theorem dX1_add_66 : decode cX1_add 66 = .ok (.getfield 7, 3) := by decide +kernel
theorem dX1_add_69 : decode cX1_add 69 = .ok (.aload_n 0, 1) := by decide +kernel
theorem dX1_add_70 : decode cX1_add 70 = .ok (.getfield 28, 3) := by decide +kernel
theorem dX1_add_73 : decode cX1_add 73 = .ok (.iload_n 1, 1) := by decide +kernel
theorem dX1_add_74 : decode cX1_add 74 = .ok (.iastore, 1) := by decide +kernel
theorem dX1_add_75 : decode cX1_add 75 = .ok (.aload_n 0, 1) := by decide +kernel
theorem dX1_add_76 : decode cX1_add 76 = .ok (.getfield 13, 3) := by decide +kernel
theorem dX1_add_79 : decode cX1_add 79 = .ok (.aload_n 0, 1) := by decide +kernel
theorem dX1_add_80 : decode cX1_add 80 = .ok (.getfield 28, 3) := by decide +kernel
theorem dX1_add_83 : decode cX1_add 83 = .ok (.iload_n 3, 1) := by decide +kernel
theorem dX1_add_84 : decode cX1_add 84 = .ok (.ifCond .eq 7, 3) := by decide +kernel
theorem dX1_add_87 : decode cX1_add 87 = .ok (.iload_n 2, 1) := by decide +kernel
theorem dX1_add_88 : decode cX1_add 88 = .ok (.goto 4, 3) := by decide +kernel
theorem dX1_add_91 : decode cX1_add 91 = .ok (.iconst 0, 1) := by decide +kernel
theorem dX1_add_92 : decode cX1_add 92 = .ok (.iastore, 1) := by decide +kernel
theorem dX1_add_93 : decode cX1_add 93 = .ok (.aload_n 0, 1) := by decide +kernel
theorem dX1_add_94 : decode cX1_add 94 = .ok (.dup, 1) := by decide +kernel
theorem dX1_add_95 : decode cX1_add 95 = .ok (.getfield 28, 3) := by decide +kernel
theorem dX1_add_98 : decode cX1_add 98 = .ok (.iconst 1, 1) := by decide +kernel
theorem dX1_add_99 : decode cX1_add 99 = .ok (.iadd, 1) := by decide +kernel
theorem dX1_add_100 : decode cX1_add 100 = .ok (.putfield 28, 3) := by decide +kernel
theorem dX1_add_103 : decode cX1_add 103 = .ok (.aload_n 0, 1) := by decide +kernel
theorem dX1_add_104 : decode cX1_add 104 = .ok (.getfield 28, 3) := by decide +kernel
theorem dX1_add_107 : decode cX1_add 107 = .ok (.iconst 1, 1) := by decide +kernel
theorem dX1_add_108 : decode cX1_add 108 = .ok (.isub, 1) := by decide +kernel
theorem dX1_add_109 : decode cX1_add 109 = .ok (.ireturn, 1) := by decide +kernel
abbrev cX1_open : ByteArray := prog_3_method_11_code
def yX1_open : MethodName := ⟨RX1, "open", "()I"⟩
theorem dX1_open_0 : decode cX1_open 0 = .ok (.iconst 0, 1) := by decide +kernel
theorem dX1_open_1 : decode cX1_open 1 = .ok (.istore_n 1, 1) := by decide +kernel
theorem dX1_open_2 : decode cX1_open 2 = .ok (.iconst 0, 1) := by decide +kernel
theorem dX1_open_3 : decode cX1_open 3 = .ok (.istore_n 2, 1) := by decide +kernel
theorem dX1_open_4 : decode cX1_open 4 = .ok (.iload_n 2, 1) := by decide +kernel
theorem dX1_open_5 : decode cX1_open 5 = .ok (.aload_n 0, 1) := by decide +kernel
theorem dX1_open_6 : decode cX1_open 6 = .ok (.getfield 28, 3) := by decide +kernel
theorem dX1_open_9 : decode cX1_open 9 = .ok (.if_icmp .ge 42, 3) := by decide +kernel
theorem dX1_open_12 : decode cX1_open 12 = .ok (.aload_n 0, 1) := by decide +kernel
theorem dX1_open_13 : decode cX1_open 13 = .ok (.getfield 7, 3) := by decide +kernel
theorem dX1_open_16 : decode cX1_open 16 = .ok (.iload_n 2, 1) := by decide +kernel
theorem dX1_open_17 : decode cX1_open 17 = .ok (.iaload, 1) := by decide +kernel
theorem dX1_open_18 : decode cX1_open 18 = .ok (.ifCond .ne 9, 3) := by decide +kernel
theorem dX1_open_21 : decode cX1_open 21 = .ok (.iload_n 1, 1) := by decide +kernel
theorem dX1_open_22 : decode cX1_open 22 = .ok (.iconst 1, 1) := by decide +kernel
theorem dX1_open_23 : decode cX1_open 23 = .ok (.iadd, 1) := by decide +kernel
theorem dX1_open_24 : decode cX1_open 24 = .ok (.goto 20, 3) := by decide +kernel
theorem dX1_open_27 : decode cX1_open 27 = .ok (.aload_n 0, 1) := by decide +kernel
theorem dX1_open_28 : decode cX1_open 28 = .ok (.getfield 7, 3) := by decide +kernel
theorem dX1_open_31 : decode cX1_open 31 = .ok (.iload_n 2, 1) := by decide +kernel
theorem dX1_open_32 : decode cX1_open 32 = .ok (.iaload, 1) := by decide +kernel
theorem dX1_open_33 : decode cX1_open 33 = .ok (.iconst 1, 1) := by decide +kernel
theorem dX1_open_34 : decode cX1_open 34 = .ok (.if_icmp .ne 9, 3) := by decide +kernel
theorem dX1_open_37 : decode cX1_open 37 = .ok (.iload_n 1, 1) := by decide +kernel
theorem dX1_open_38 : decode cX1_open 38 = .ok (.iconst 1, 1) := by decide +kernel
theorem dX1_open_39 : decode cX1_open 39 = .ok (.isub, 1) := by decide +kernel
theorem dX1_open_40 : decode cX1_open 40 = .ok (.goto 4, 3) := by decide +kernel
theorem dX1_open_43 : decode cX1_open 43 = .ok (.iload_n 1, 1) := by decide +kernel
theorem dX1_open_44 : decode cX1_open 44 = .ok (.istore_n 1, 1) := by decide +kernel
theorem dX1_open_45 : decode cX1_open 45 = .ok (.iinc 2 1, 3) := by decide +kernel
theorem dX1_open_48 : decode cX1_open 48 = .ok (.goto (-44), 3) := by decide +kernel
theorem dX1_open_51 : decode cX1_open 51 = .ok (.iload_n 1, 1) := by decide +kernel
theorem dX1_open_52 : decode cX1_open 52 = .ok (.ireturn, 1) := by decide +kernel
abbrev cX1_drop : ByteArray := prog_3_method_12_code
def yX1_drop : MethodName := ⟨RX1, "drop", "()I"⟩
theorem dX1_drop_0 : decode cX1_drop 0 = .ok (.aload_n 0, 1) := by decide +kernel
theorem dX1_drop_1 : decode cX1_drop 1 = .ok (.getfield 28, 3) := by decide +kernel
theorem dX1_drop_4 : decode cX1_drop 4 = .ok (.ifCond .ne 5, 3) := by decide +kernel
theorem dX1_drop_7 : decode cX1_drop 7 = .ok (.iconst (-1), 1) := by decide +kernel
theorem dX1_drop_8 : decode cX1_drop 8 = .ok (.ireturn, 1) := by decide +kernel
theorem dX1_drop_9 : decode cX1_drop 9 = .ok (.aload_n 0, 1) := by decide +kernel
theorem dX1_drop_10 : decode cX1_drop 10 = .ok (.dup, 1) := by decide +kernel
theorem dX1_drop_11 : decode cX1_drop 11 = .ok (.getfield 28, 3) := by decide +kernel
theorem dX1_drop_14 : decode cX1_drop 14 = .ok (.iconst 1, 1) := by decide +kernel
theorem dX1_drop_15 : decode cX1_drop 15 = .ok (.isub, 1) := by decide +kernel
theorem dX1_drop_16 : decode cX1_drop 16 = .ok (.putfield 28, 3) := by decide +kernel
theorem dX1_drop_19 : decode cX1_drop 19 = .ok (.aload_n 0, 1) := by decide +kernel
theorem dX1_drop_20 : decode cX1_drop 20 = .ok (.getfield 28, 3) := by decide +kernel
theorem dX1_drop_23 : decode cX1_drop 23 = .ok (.ireturn, 1) := by decide +kernel
abbrev cX1_length : ByteArray := prog_3_method_13_code
def yX1_length : MethodName := ⟨RX1, "length", "()I"⟩
theorem dX1_length_0 : decode cX1_length 0 = .ok (.aload_n 0, 1) := by decide +kernel
theorem dX1_length_1 : decode cX1_length 1 = .ok (.getfield 28, 3) := by decide +kernel
theorem dX1_length_4 : decode cX1_length 4 = .ok (.ireturn, 1) := by decide +kernel
abbrev cX1_token : ByteArray := prog_3_method_14_code
def yX1_token : MethodName := ⟨RX1, "token", "(I)I"⟩
theorem dX1_token_0 : decode cX1_token 0 = .ok (.aload_n 0, 1) := by decide +kernel
theorem dX1_token_1 : decode cX1_token 1 = .ok (.iload_n 1, 1) := by decide +kernel
theorem dX1_token_2 : decode cX1_token 2 = .ok (.invokevirtual 51, 3) := by decide +kernel
theorem dX1_token_5 : decode cX1_token 5 = .ok (.ifCond .eq 21, 3) := by decide +kernel
theorem dX1_token_8 : decode cX1_token 8 = .ok (.aload_n 0, 1) := by decide +kernel
theorem dX1_token_9 : decode cX1_token 9 = .ok (.getfield 7, 3) := by decide +kernel
theorem dX1_token_12 : decode cX1_token 12 = .ok (.iload_n 1, 1) := by decide +kernel
theorem dX1_token_13 : decode cX1_token 13 = .ok (.iaload, 1) := by decide +kernel
theorem dX1_token_14 : decode cX1_token 14 = .ok (.iconst 4, 1) := by decide +kernel
theorem dX1_token_15 : decode cX1_token 15 = .ok (.aload_n 0, 1) := by decide +kernel
theorem dX1_token_16 : decode cX1_token 16 = .ok (.getfield 13, 3) := by decide +kernel
theorem dX1_token_19 : decode cX1_token 19 = .ok (.iload_n 1, 1) := by decide +kernel
theorem dX1_token_20 : decode cX1_token 20 = .ok (.iaload, 1) := by decide +kernel
theorem dX1_token_21 : decode cX1_token 21 = .ok (.imul, 1) := by decide +kernel
theorem dX1_token_22 : decode cX1_token 22 = .ok (.iadd, 1) := by decide +kernel
theorem dX1_token_23 : decode cX1_token 23 = .ok (.goto 4, 3) := by decide +kernel
theorem dX1_token_26 : decode cX1_token 26 = .ok (.iconst (-1), 1) := by decide +kernel
theorem dX1_token_27 : decode cX1_token 27 = .ok (.ireturn, 1) := by decide +kernel
abbrev cX1_is : ByteArray := prog_3_method_2_code
def yX1_is : MethodName := ⟨RX1, "is", "(I)Z"⟩
theorem dX1_is_0 : decode cX1_is 0 = .ok (.iload_n 1, 1) := by decide +kernel
theorem dX1_is_1 : decode cX1_is 1 = .ok (.ifCond .lt 15, 3) := by decide +kernel
theorem dX1_is_4 : decode cX1_is 4 = .ok (.iload_n 1, 1) := by decide +kernel
theorem dX1_is_5 : decode cX1_is 5 = .ok (.aload_n 0, 1) := by decide +kernel
theorem dX1_is_6 : decode cX1_is 6 = .ok (.getfield 28, 3) := by decide +kernel
theorem dX1_is_9 : decode cX1_is 9 = .ok (.if_icmp .ge 7, 3) := by decide +kernel
theorem dX1_is_12 : decode cX1_is 12 = .ok (.iconst 1, 1) := by decide +kernel
theorem dX1_is_13 : decode cX1_is 13 = .ok (.goto 4, 3) := by decide +kernel
theorem dX1_is_16 : decode cX1_is 16 = .ok (.iconst 0, 1) := by decide +kernel
theorem dX1_is_17 : decode cX1_is 17 = .ok (.ireturn, 1) := by decide +kernel
abbrev cX1_bound : ByteArray := prog_3_method_15_code
def yX1_bound : MethodName := ⟨RX1, "bound", "(I)I"⟩
theorem dX1_bound_0 : decode cX1_bound 0 = .ok (.aload_n 0, 1) := by decide +kernel
theorem dX1_bound_1 : decode cX1_bound 1 = .ok (.invokevirtual 55, 3) := by decide +kernel
theorem dX1_bound_4 : decode cX1_bound 4 = .ok (.aload_n 0, 1) := by decide +kernel
theorem dX1_bound_5 : decode cX1_bound 5 = .ok (.iload_n 1, 1) := by decide +kernel
theorem dX1_bound_6 : decode cX1_bound 6 = .ok (.invokevirtual 51, 3) := by decide +kernel
theorem dX1_bound_9 : decode cX1_bound 9 = .ok (.ifCond .eq 12, 3) := by decide +kernel
theorem dX1_bound_12 : decode cX1_bound 12 = .ok (.aload_n 0, 1) := by decide +kernel
theorem dX1_bound_13 : decode cX1_bound 13 = .ok (.getfield 25, 3) := by decide +kernel
theorem dX1_bound_16 : decode cX1_bound 16 = .ok (.iload_n 1, 1) := by decide +kernel
theorem dX1_bound_17 : decode cX1_bound 17 = .ok (.iaload, 1) := by decide +kernel
theorem dX1_bound_18 : decode cX1_bound 18 = .ok (.goto 4, 3) := by decide +kernel
theorem dX1_bound_21 : decode cX1_bound 21 = .ok (.iconst (-1), 1) := by decide +kernel
theorem dX1_bound_22 : decode cX1_bound 22 = .ok (.ireturn, 1) := by decide +kernel
abbrev cX1_bindAll : ByteArray := prog_3_method_7_code
def yX1_bindAll : MethodName := ⟨RX1, "bindAll", "()V"⟩
theorem dX1_bindAll_0 : decode cX1_bindAll 0 = .ok (.aload_n 0, 1) := by decide +kernel
theorem dX1_bindAll_1 : decode cX1_bindAll 1 = .ok (.invokevirtual 40, 3) := by decide +kernel
theorem dX1_bindAll_4 : decode cX1_bindAll 4 = .ok (.iconst 0, 1) := by decide +kernel
theorem dX1_bindAll_5 : decode cX1_bindAll 5 = .ok (.istore_n 1, 1) := by decide +kernel
theorem dX1_bindAll_6 : decode cX1_bindAll 6 = .ok (.iload_n 1, 1) := by decide +kernel
theorem dX1_bindAll_7 : decode cX1_bindAll 7 = .ok (.aload_n 0, 1) := by decide +kernel
theorem dX1_bindAll_8 : decode cX1_bindAll 8 = .ok (.getfield 28, 3) := by decide +kernel
theorem dX1_bindAll_11 : decode cX1_bindAll 11 = .ok (.if_icmp .ge 40, 3) := by decide +kernel
theorem dX1_bindAll_14 : decode cX1_bindAll 14 = .ok (.aload_n 0, 1) := by decide +kernel
theorem dX1_bindAll_15 : decode cX1_bindAll 15 = .ok (.getfield 25, 3) := by decide +kernel
theorem dX1_bindAll_18 : decode cX1_bindAll 18 = .ok (.iload_n 1, 1) := by decide +kernel
theorem dX1_bindAll_19 : decode cX1_bindAll 19 = .ok (.aload_n 0, 1) := by decide +kernel
theorem dX1_bindAll_20 : decode cX1_bindAll 20 = .ok (.getfield 16, 3) := by decide +kernel
theorem dX1_bindAll_23 : decode cX1_bindAll 23 = .ok (.iload_n 1, 1) := by decide +kernel
theorem dX1_bindAll_24 : decode cX1_bindAll 24 = .ok (.iaload, 1) := by decide +kernel
theorem dX1_bindAll_25 : decode cX1_bindAll 25 = .ok (.iconst 3, 1) := by decide +kernel
theorem dX1_bindAll_26 : decode cX1_bindAll 26 = .ok (.if_icmp .ne 17, 3) := by decide +kernel
theorem dX1_bindAll_29 : decode cX1_bindAll 29 = .ok (.aload_n 0, 1) := by decide +kernel
theorem dX1_bindAll_30 : decode cX1_bindAll 30 = .ok (.iload_n 1, 1) := by decide +kernel
theorem dX1_bindAll_31 : decode cX1_bindAll 31 = .ok (.aload_n 0, 1) := by decide +kernel
theorem dX1_bindAll_32 : decode cX1_bindAll 32 = .ok (.getfield 19, 3) := by decide +kernel
theorem dX1_bindAll_35 : decode cX1_bindAll 35 = .ok (.iload_n 1, 1) := by decide +kernel
theorem dX1_bindAll_36 : decode cX1_bindAll 36 = .ok (.iaload, 1) := by decide +kernel
theorem dX1_bindAll_37 : decode cX1_bindAll 37 = .ok (.invokevirtual 43, 3) := by decide +kernel
theorem dX1_bindAll_40 : decode cX1_bindAll 40 = .ok (.goto 4, 3) := by decide +kernel
theorem dX1_bindAll_43 : decode cX1_bindAll 43 = .ok (.iconst (-1), 1) := by decide +kernel
theorem dX1_bindAll_44 : decode cX1_bindAll 44 = .ok (.iastore, 1) := by decide +kernel
theorem dX1_bindAll_45 : decode cX1_bindAll 45 = .ok (.iinc 1 1, 3) := by decide +kernel
theorem dX1_bindAll_48 : decode cX1_bindAll 48 = .ok (.goto (-42), 3) := by decide +kernel
theorem dX1_bindAll_51 : decode cX1_bindAll 51 = .ok (.return_, 1) := by decide +kernel
abbrev cX1_copy : ByteArray := prog_3_method_3_code
def yX1_copy : MethodName := ⟨RX1, "copy", "()V"⟩
theorem dX1_copy_0 : decode cX1_copy 0 = .ok (.iconst 0, 1) := by decide +kernel
theorem dX1_copy_1 : decode cX1_copy 1 = .ok (.istore_n 1, 1) := by decide +kernel
theorem dX1_copy_2 : decode cX1_copy 2 = .ok (.iload_n 1, 1) := by decide +kernel
theorem dX1_copy_3 : decode cX1_copy 3 = .ok (.bipush 28, 2) := by decide +kernel
theorem dX1_copy_5 : decode cX1_copy 5 = .ok (.if_icmp .ge 40, 3) := by decide +kernel
theorem dX1_copy_8 : decode cX1_copy 8 = .ok (.aload_n 0, 1) := by decide +kernel
theorem dX1_copy_9 : decode cX1_copy 9 = .ok (.getfield 16, 3) := by decide +kernel
theorem dX1_copy_12 : decode cX1_copy 12 = .ok (.iload_n 1, 1) := by decide +kernel
theorem dX1_copy_13 : decode cX1_copy 13 = .ok (.aload_n 0, 1) := by decide +kernel
theorem dX1_copy_14 : decode cX1_copy 14 = .ok (.getfield 7, 3) := by decide +kernel
theorem dX1_copy_17 : decode cX1_copy 17 = .ok (.iload_n 1, 1) := by decide +kernel
theorem dX1_copy_18 : decode cX1_copy 18 = .ok (.iaload, 1) := by decide +kernel
theorem dX1_copy_19 : decode cX1_copy 19 = .ok (.iastore, 1) := by decide +kernel
theorem dX1_copy_20 : decode cX1_copy 20 = .ok (.aload_n 0, 1) := by decide +kernel
theorem dX1_copy_21 : decode cX1_copy 21 = .ok (.getfield 19, 3) := by decide +kernel
theorem dX1_copy_24 : decode cX1_copy 24 = .ok (.iload_n 1, 1) := by decide +kernel
theorem dX1_copy_25 : decode cX1_copy 25 = .ok (.aload_n 0, 1) := by decide +kernel
theorem dX1_copy_26 : decode cX1_copy 26 = .ok (.getfield 13, 3) := by decide +kernel
theorem dX1_copy_29 : decode cX1_copy 29 = .ok (.iload_n 1, 1) := by decide +kernel
theorem dX1_copy_30 : decode cX1_copy 30 = .ok (.iaload, 1) := by decide +kernel
theorem dX1_copy_31 : decode cX1_copy 31 = .ok (.iastore, 1) := by decide +kernel
theorem dX1_copy_32 : decode cX1_copy 32 = .ok (.aload_n 0, 1) := by decide +kernel
theorem dX1_copy_33 : decode cX1_copy 33 = .ok (.getfield 22, 3) := by decide +kernel
theorem dX1_copy_36 : decode cX1_copy 36 = .ok (.iload_n 1, 1) := by decide +kernel
theorem dX1_copy_37 : decode cX1_copy 37 = .ok (.iload_n 1, 1) := by decide +kernel
theorem dX1_copy_38 : decode cX1_copy 38 = .ok (.iastore, 1) := by decide +kernel
theorem dX1_copy_39 : decode cX1_copy 39 = .ok (.iinc 1 1, 3) := by decide +kernel
theorem dX1_copy_42 : decode cX1_copy 42 = .ok (.goto (-40), 3) := by decide +kernel
theorem dX1_copy_45 : decode cX1_copy 45 = .ok (.return_, 1) := by decide +kernel
abbrev cX1_bind : ByteArray := prog_3_method_6_code
def yX1_bind : MethodName := ⟨RX1, "bind", "(II)I"⟩
theorem dX1_bind_0 : decode cX1_bind 0 = .ok (.aload_n 0, 1) := by decide +kernel
theorem dX1_bind_1 : decode cX1_bind 1 = .ok (.iload_n 1, 1) := by decide +kernel
theorem dX1_bind_2 : decode cX1_bind 2 = .ok (.invokevirtual 32, 3) := by decide +kernel
theorem dX1_bind_5 : decode cX1_bind 5 = .ok (.istore_n 3, 1) := by decide +kernel
theorem dX1_bind_6 : decode cX1_bind 6 = .ok (.iconst 0, 1) := by decide +kernel
theorem dX1_bind_7 : decode cX1_bind 7 = .ok (.istore 4, 2) := by decide +kernel
theorem dX1_bind_9 : decode cX1_bind 9 = .ok (.iload 4, 2) := by decide +kernel
theorem dX1_bind_11 : decode cX1_bind 11 = .ok (.bipush 28, 2) := by decide +kernel
theorem dX1_bind_13 : decode cX1_bind 13 = .ok (.if_icmp .gt 36, 3) := by decide +kernel
theorem dX1_bind_16 : decode cX1_bind 16 = .ok (.aload_n 0, 1) := by decide +kernel
theorem dX1_bind_17 : decode cX1_bind 17 = .ok (.iload_n 3, 1) := by decide +kernel
theorem dX1_bind_18 : decode cX1_bind 18 = .ok (.iload_n 1, 1) := by decide +kernel
theorem dX1_bind_19 : decode cX1_bind 19 = .ok (.iload_n 2, 1) := by decide +kernel
theorem dX1_bind_20 : decode cX1_bind 20 = .ok (.invokevirtual 36, 3) := by decide +kernel
theorem dX1_bind_23 : decode cX1_bind 23 = .ok (.istore 5, 2) := by decide +kernel
theorem dX1_bind_25 : decode cX1_bind 25 = .ok (.iload 5, 2) := by decide +kernel
theorem dX1_bind_27 : decode cX1_bind 27 = .ok (.ifCond .ge 7, 3) := by decide +kernel
theorem dX1_bind_30 : decode cX1_bind 30 = .ok (.iload_n 3, 1) := by decide +kernel
theorem dX1_bind_31 : decode cX1_bind 31 = .ok (.ifCond .ge 6, 3) := by decide +kernel
theorem dX1_bind_34 : decode cX1_bind 34 = .ok (.iload 5, 2) := by decide +kernel
theorem dX1_bind_36 : decode cX1_bind 36 = .ok (.ireturn, 1) := by decide +kernel
theorem dX1_bind_37 : decode cX1_bind 37 = .ok (.aload_n 0, 1) := by decide +kernel
theorem dX1_bind_38 : decode cX1_bind 38 = .ok (.iload_n 3, 1) := by decide +kernel
theorem dX1_bind_39 : decode cX1_bind 39 = .ok (.invokevirtual 32, 3) := by decide +kernel
theorem dX1_bind_42 : decode cX1_bind 42 = .ok (.istore_n 3, 1) := by decide +kernel
theorem dX1_bind_43 : decode cX1_bind 43 = .ok (.iinc 4 1, 3) := by decide +kernel
theorem dX1_bind_46 : decode cX1_bind 46 = .ok (.goto (-37), 3) := by decide +kernel
theorem dX1_bind_49 : decode cX1_bind 49 = .ok (.iconst (-1), 1) := by decide +kernel
theorem dX1_bind_50 : decode cX1_bind 50 = .ok (.ireturn, 1) := by decide +kernel
abbrev cX1_around : ByteArray := prog_3_method_4_code
def yX1_around : MethodName := ⟨RX1, "around", "(I)I"⟩
theorem dX1_around_0 : decode cX1_around 0 = .ok (.iconst 0, 1) := by decide +kernel
theorem dX1_around_1 : decode cX1_around 1 = .ok (.istore_n 2, 1) := by decide +kernel
theorem dX1_around_2 : decode cX1_around 2 = .ok (.iload_n 1, 1) := by decide +kernel
theorem dX1_around_3 : decode cX1_around 3 = .ok (.iconst 1, 1) := by decide +kernel
theorem dX1_around_4 : decode cX1_around 4 = .ok (.isub, 1) := by decide +kernel
theorem dX1_around_5 : decode cX1_around 5 = .ok (.istore_n 3, 1) := by decide +kernel
theorem dX1_around_6 : decode cX1_around 6 = .ok (.iload_n 3, 1) := by decide +kernel
theorem dX1_around_7 : decode cX1_around 7 = .ok (.ifCond .lt 57, 3) := by decide +kernel
theorem dX1_around_10 : decode cX1_around 10 = .ok (.aload_n 0, 1) := by decide +kernel
theorem dX1_around_11 : decode cX1_around 11 = .ok (.getfield 16, 3) := by decide +kernel
theorem dX1_around_14 : decode cX1_around 14 = .ok (.iload_n 3, 1) := by decide +kernel
theorem dX1_around_15 : decode cX1_around 15 = .ok (.iaload, 1) := by decide +kernel
theorem dX1_around_16 : decode cX1_around 16 = .ok (.ifCond .ne 9, 3) := by decide +kernel
theorem dX1_around_19 : decode cX1_around 19 = .ok (.iload_n 2, 1) := by decide +kernel
theorem dX1_around_20 : decode cX1_around 20 = .ok (.ifCond .ne 5, 3) := by decide +kernel
theorem dX1_around_23 : decode cX1_around 23 = .ok (.iload_n 3, 1) := by decide +kernel
theorem dX1_around_24 : decode cX1_around 24 = .ok (.ireturn, 1) := by decide +kernel
theorem dX1_around_25 : decode cX1_around 25 = .ok (.aload_n 0, 1) := by decide +kernel
theorem dX1_around_26 : decode cX1_around 26 = .ok (.getfield 16, 3) := by decide +kernel
theorem dX1_around_29 : decode cX1_around 29 = .ok (.iload_n 3, 1) := by decide +kernel
theorem dX1_around_30 : decode cX1_around 30 = .ok (.iaload, 1) := by decide +kernel
theorem dX1_around_31 : decode cX1_around 31 = .ok (.iconst 1, 1) := by decide +kernel
theorem dX1_around_32 : decode cX1_around 32 = .ok (.if_icmp .ne 9, 3) := by decide +kernel
theorem dX1_around_35 : decode cX1_around 35 = .ok (.iload_n 2, 1) := by decide +kernel
theorem dX1_around_36 : decode cX1_around 36 = .ok (.iconst 1, 1) := by decide +kernel
theorem dX1_around_37 : decode cX1_around 37 = .ok (.iadd, 1) := by decide +kernel
theorem dX1_around_38 : decode cX1_around 38 = .ok (.goto 19, 3) := by decide +kernel
theorem dX1_around_41 : decode cX1_around 41 = .ok (.aload_n 0, 1) := by decide +kernel
theorem dX1_around_42 : decode cX1_around 42 = .ok (.getfield 16, 3) := by decide +kernel
theorem dX1_around_45 : decode cX1_around 45 = .ok (.iload_n 3, 1) := by decide +kernel
theorem dX1_around_46 : decode cX1_around 46 = .ok (.iaload, 1) := by decide +kernel
theorem dX1_around_47 : decode cX1_around 47 = .ok (.ifCond .ne 9, 3) := by decide +kernel
theorem dX1_around_50 : decode cX1_around 50 = .ok (.iload_n 2, 1) := by decide +kernel
theorem dX1_around_51 : decode cX1_around 51 = .ok (.iconst 1, 1) := by decide +kernel
theorem dX1_around_52 : decode cX1_around 52 = .ok (.isub, 1) := by decide +kernel
theorem dX1_around_53 : decode cX1_around 53 = .ok (.goto 4, 3) := by decide +kernel
theorem dX1_around_56 : decode cX1_around 56 = .ok (.iload_n 2, 1) := by decide +kernel
theorem dX1_around_57 : decode cX1_around 57 = .ok (.istore_n 2, 1) := by decide +kernel
theorem dX1_around_58 : decode cX1_around 58 = .ok (.iinc 3 (-1), 3) := by decide +kernel
theorem dX1_around_61 : decode cX1_around 61 = .ok (.goto (-55), 3) := by decide +kernel
theorem dX1_around_64 : decode cX1_around 64 = .ok (.iconst (-1), 1) := by decide +kernel
theorem dX1_around_65 : decode cX1_around 65 = .ok (.ireturn, 1) := by decide +kernel
abbrev cX1_last : ByteArray := prog_3_method_5_code
def yX1_last : MethodName := ⟨RX1, "last", "(III)I"⟩
theorem dX1_last_0 : decode cX1_last 0 = .ok (.iload_n 2, 1) := by decide +kernel
theorem dX1_last_1 : decode cX1_last 1 = .ok (.iconst 1, 1) := by decide +kernel
theorem dX1_last_2 : decode cX1_last 2 = .ok (.isub, 1) := by decide +kernel
theorem dX1_last_3 : decode cX1_last 3 = .ok (.istore 4, 2) := by decide +kernel
theorem dX1_last_5 : decode cX1_last 5 = .ok (.iload 4, 2) := by decide +kernel
theorem dX1_last_7 : decode cX1_last 7 = .ok (.iload_n 1, 1) := by decide +kernel
theorem dX1_last_8 : decode cX1_last 8 = .ok (.if_icmp .le 44, 3) := by decide +kernel
theorem dX1_last_11 : decode cX1_last 11 = .ok (.aload_n 0, 1) := by decide +kernel
theorem dX1_last_12 : decode cX1_last 12 = .ok (.getfield 16, 3) := by decide +kernel
theorem dX1_last_15 : decode cX1_last 15 = .ok (.iload 4, 2) := by decide +kernel
theorem dX1_last_17 : decode cX1_last 17 = .ok (.iaload, 1) := by decide +kernel
theorem dX1_last_18 : decode cX1_last 18 = .ok (.iconst 2, 1) := by decide +kernel
theorem dX1_last_19 : decode cX1_last 19 = .ok (.if_icmp .ne 27, 3) := by decide +kernel
theorem dX1_last_22 : decode cX1_last 22 = .ok (.aload_n 0, 1) := by decide +kernel
theorem dX1_last_23 : decode cX1_last 23 = .ok (.getfield 19, 3) := by decide +kernel
theorem dX1_last_26 : decode cX1_last 26 = .ok (.iload 4, 2) := by decide +kernel
theorem dX1_last_28 : decode cX1_last 28 = .ok (.iaload, 1) := by decide +kernel
theorem dX1_last_29 : decode cX1_last 29 = .ok (.iload_n 3, 1) := by decide +kernel
theorem dX1_last_30 : decode cX1_last 30 = .ok (.if_icmp .ne 16, 3) := by decide +kernel
theorem dX1_last_33 : decode cX1_last 33 = .ok (.aload_n 0, 1) := by decide +kernel
theorem dX1_last_34 : decode cX1_last 34 = .ok (.iload 4, 2) := by decide +kernel
theorem dX1_last_36 : decode cX1_last 36 = .ok (.invokevirtual 32, 3) := by decide +kernel
theorem dX1_last_39 : decode cX1_last 39 = .ok (.iload_n 1, 1) := by decide +kernel
theorem dX1_last_40 : decode cX1_last 40 = .ok (.if_icmp .ne 6, 3) := by decide +kernel
theorem dX1_last_43 : decode cX1_last 43 = .ok (.iload 4, 2) := by decide +kernel
theorem dX1_last_45 : decode cX1_last 45 = .ok (.ireturn, 1) := by decide +kernel
theorem dX1_last_46 : decode cX1_last 46 = .ok (.iinc 4 (-1), 3) := by decide +kernel
theorem dX1_last_49 : decode cX1_last 49 = .ok (.goto (-44), 3) := by decide +kernel
theorem dX1_last_52 : decode cX1_last 52 = .ok (.iconst (-1), 1) := by decide +kernel
theorem dX1_last_53 : decode cX1_last 53 = .ok (.ireturn, 1) := by decide +kernel
abbrev cX1_uses : ByteArray := prog_3_method_16_code
def yX1_uses : MethodName := ⟨RX1, "uses", "(I)I"⟩
theorem dX1_uses_0 : decode cX1_uses 0 = .ok (.aload_n 0, 1) := by decide +kernel
theorem dX1_uses_1 : decode cX1_uses 1 = .ok (.invokevirtual 55, 3) := by decide +kernel
theorem dX1_uses_4 : decode cX1_uses 4 = .ok (.iconst 0, 1) := by decide +kernel
theorem dX1_uses_5 : decode cX1_uses 5 = .ok (.istore_n 2, 1) := by decide +kernel
theorem dX1_uses_6 : decode cX1_uses 6 = .ok (.iconst 0, 1) := by decide +kernel
theorem dX1_uses_7 : decode cX1_uses 7 = .ok (.istore_n 3, 1) := by decide +kernel
theorem dX1_uses_8 : decode cX1_uses 8 = .ok (.iload_n 3, 1) := by decide +kernel
theorem dX1_uses_9 : decode cX1_uses 9 = .ok (.aload_n 0, 1) := by decide +kernel
theorem dX1_uses_10 : decode cX1_uses 10 = .ok (.getfield 28, 3) := by decide +kernel
theorem dX1_uses_13 : decode cX1_uses 13 = .ok (.if_icmp .ge 37, 3) := by decide +kernel
theorem dX1_uses_16 : decode cX1_uses 16 = .ok (.aload_n 0, 1) := by decide +kernel
theorem dX1_uses_17 : decode cX1_uses 17 = .ok (.iload_n 1, 1) := by decide +kernel
theorem dX1_uses_18 : decode cX1_uses 18 = .ok (.invokevirtual 51, 3) := by decide +kernel
theorem dX1_uses_21 : decode cX1_uses 21 = .ok (.ifCond .eq 29, 3) := by decide +kernel
theorem dX1_uses_24 : decode cX1_uses 24 = .ok (.aload_n 0, 1) := by decide +kernel
theorem dX1_uses_25 : decode cX1_uses 25 = .ok (.getfield 25, 3) := by decide +kernel
theorem dX1_uses_28 : decode cX1_uses 28 = .ok (.iload_n 3, 1) := by decide +kernel
theorem dX1_uses_29 : decode cX1_uses 29 = .ok (.iaload, 1) := by decide +kernel
theorem dX1_uses_30 : decode cX1_uses 30 = .ok (.iload_n 1, 1) := by decide +kernel
theorem dX1_uses_31 : decode cX1_uses 31 = .ok (.if_icmp .ne 11, 3) := by decide +kernel
theorem dX1_uses_34 : decode cX1_uses 34 = .ok (.iload_n 2, 1) := by decide +kernel
theorem dX1_uses_35 : decode cX1_uses 35 = .ok (.iconst 1, 1) := by decide +kernel
theorem dX1_uses_36 : decode cX1_uses 36 = .ok (.iload_n 3, 1) := by decide +kernel
theorem dX1_uses_37 : decode cX1_uses 37 = .ok (.ishl, 1) := by decide +kernel
theorem dX1_uses_38 : decode cX1_uses 38 = .ok (.ior, 1) := by decide +kernel
theorem dX1_uses_39 : decode cX1_uses 39 = .ok (.goto 4, 3) := by decide +kernel
theorem dX1_uses_42 : decode cX1_uses 42 = .ok (.iload_n 2, 1) := by decide +kernel
theorem dX1_uses_43 : decode cX1_uses 43 = .ok (.istore_n 2, 1) := by decide +kernel
theorem dX1_uses_44 : decode cX1_uses 44 = .ok (.iinc 3 1, 3) := by decide +kernel
theorem dX1_uses_47 : decode cX1_uses 47 = .ok (.goto (-39), 3) := by decide +kernel
theorem dX1_uses_50 : decode cX1_uses 50 = .ok (.iload_n 2, 1) := by decide +kernel
theorem dX1_uses_51 : decode cX1_uses 51 = .ok (.ireturn, 1) := by decide +kernel
abbrev cX1_free : ByteArray := prog_3_method_17_code
def yX1_free : MethodName := ⟨RX1, "free", "()I"⟩
theorem dX1_free_0 : decode cX1_free 0 = .ok (.aload_n 0, 1) := by decide +kernel
theorem dX1_free_1 : decode cX1_free 1 = .ok (.invokevirtual 55, 3) := by decide +kernel
theorem dX1_free_4 : decode cX1_free 4 = .ok (.iconst 0, 1) := by decide +kernel
theorem dX1_free_5 : decode cX1_free 5 = .ok (.istore_n 1, 1) := by decide +kernel
theorem dX1_free_6 : decode cX1_free 6 = .ok (.iconst 0, 1) := by decide +kernel
theorem dX1_free_7 : decode cX1_free 7 = .ok (.istore_n 2, 1) := by decide +kernel
theorem dX1_free_8 : decode cX1_free 8 = .ok (.iload_n 2, 1) := by decide +kernel
theorem dX1_free_9 : decode cX1_free 9 = .ok (.aload_n 0, 1) := by decide +kernel
theorem dX1_free_10 : decode cX1_free 10 = .ok (.getfield 28, 3) := by decide +kernel
theorem dX1_free_13 : decode cX1_free 13 = .ok (.if_icmp .ge 38, 3) := by decide +kernel
theorem dX1_free_16 : decode cX1_free 16 = .ok (.aload_n 0, 1) := by decide +kernel
theorem dX1_free_17 : decode cX1_free 17 = .ok (.getfield 7, 3) := by decide +kernel
theorem dX1_free_20 : decode cX1_free 20 = .ok (.iload_n 2, 1) := by decide +kernel
theorem dX1_free_21 : decode cX1_free 21 = .ok (.iaload, 1) := by decide +kernel
theorem dX1_free_22 : decode cX1_free 22 = .ok (.iconst 3, 1) := by decide +kernel
theorem dX1_free_23 : decode cX1_free 23 = .ok (.if_icmp .ne 20, 3) := by decide +kernel
theorem dX1_free_26 : decode cX1_free 26 = .ok (.aload_n 0, 1) := by decide +kernel
theorem dX1_free_27 : decode cX1_free 27 = .ok (.getfield 25, 3) := by decide +kernel
theorem dX1_free_30 : decode cX1_free 30 = .ok (.iload_n 2, 1) := by decide +kernel
theorem dX1_free_31 : decode cX1_free 31 = .ok (.iaload, 1) := by decide +kernel
theorem dX1_free_32 : decode cX1_free 32 = .ok (.ifCond .ge 11, 3) := by decide +kernel
theorem dX1_free_35 : decode cX1_free 35 = .ok (.iload_n 1, 1) := by decide +kernel
theorem dX1_free_36 : decode cX1_free 36 = .ok (.iconst 1, 1) := by decide +kernel
theorem dX1_free_37 : decode cX1_free 37 = .ok (.iload_n 2, 1) := by decide +kernel
theorem dX1_free_38 : decode cX1_free 38 = .ok (.ishl, 1) := by decide +kernel
theorem dX1_free_39 : decode cX1_free 39 = .ok (.ior, 1) := by decide +kernel
theorem dX1_free_40 : decode cX1_free 40 = .ok (.goto 4, 3) := by decide +kernel
theorem dX1_free_43 : decode cX1_free 43 = .ok (.iload_n 1, 1) := by decide +kernel
theorem dX1_free_44 : decode cX1_free 44 = .ok (.istore_n 1, 1) := by decide +kernel
theorem dX1_free_45 : decode cX1_free 45 = .ok (.iinc 2 1, 3) := by decide +kernel
theorem dX1_free_48 : decode cX1_free 48 = .ok (.goto (-40), 3) := by decide +kernel
theorem dX1_free_51 : decode cX1_free 51 = .ok (.iload_n 1, 1) := by decide +kernel
theorem dX1_free_52 : decode cX1_free 52 = .ok (.ireturn, 1) := by decide +kernel
end
section
set_option maxRecDepth 100000
abbrev cX1_unused : ByteArray := prog_3_method_18_code
def yX1_unused : MethodName := ⟨RX1, "unused", "()I"⟩
theorem dX1_unused_0 : decode cX1_unused 0 = .ok (.iconst 0, 1) := by decide +kernel
theorem dX1_unused_1 : decode cX1_unused 1 = .ok (.istore_n 1, 1) := by decide +kernel
theorem dX1_unused_2 : decode cX1_unused 2 = .ok (.iconst 0, 1) := by decide +kernel
theorem dX1_unused_3 : decode cX1_unused 3 = .ok (.istore_n 2, 1) := by decide +kernel
theorem dX1_unused_4 : decode cX1_unused 4 = .ok (.iload_n 2, 1) := by decide +kernel
theorem dX1_unused_5 : decode cX1_unused 5 = .ok (.aload_n 0, 1) := by decide +kernel
theorem dX1_unused_6 : decode cX1_unused 6 = .ok (.getfield 28, 3) := by decide +kernel
theorem dX1_unused_9 : decode cX1_unused 9 = .ok (.if_icmp .ge 37, 3) := by decide +kernel
theorem dX1_unused_12 : decode cX1_unused 12 = .ok (.aload_n 0, 1) := by decide +kernel
theorem dX1_unused_13 : decode cX1_unused 13 = .ok (.getfield 7, 3) := by decide +kernel
theorem dX1_unused_16 : decode cX1_unused 16 = .ok (.iload_n 2, 1) := by decide +kernel
theorem dX1_unused_17 : decode cX1_unused 17 = .ok (.iaload, 1) := by decide +kernel
theorem dX1_unused_18 : decode cX1_unused 18 = .ok (.iconst 2, 1) := by decide +kernel
theorem dX1_unused_19 : decode cX1_unused 19 = .ok (.if_icmp .ne 19, 3) := by decide +kernel
theorem dX1_unused_22 : decode cX1_unused 22 = .ok (.aload_n 0, 1) := by decide +kernel
theorem dX1_unused_23 : decode cX1_unused 23 = .ok (.iload_n 2, 1) := by decide +kernel
theorem dX1_unused_24 : decode cX1_unused 24 = .ok (.invokevirtual 58, 3) := by decide +kernel
theorem dX1_unused_27 : decode cX1_unused 27 = .ok (.ifCond .ne 11, 3) := by decide +kernel
theorem dX1_unused_30 : decode cX1_unused 30 = .ok (.iload_n 1, 1) := by decide +kernel
theorem dX1_unused_31 : decode cX1_unused 31 = .ok (.iconst 1, 1) := by decide +kernel
theorem dX1_unused_32 : decode cX1_unused 32 = .ok (.iload_n 2, 1) := by decide +kernel
theorem dX1_unused_33 : decode cX1_unused 33 = .ok (.ishl, 1) := by decide +kernel
theorem dX1_unused_34 : decode cX1_unused 34 = .ok (.ior, 1) := by decide +kernel
theorem dX1_unused_35 : decode cX1_unused 35 = .ok (.goto 4, 3) := by decide +kernel
theorem dX1_unused_38 : decode cX1_unused 38 = .ok (.iload_n 1, 1) := by decide +kernel
theorem dX1_unused_39 : decode cX1_unused 39 = .ok (.istore_n 1, 1) := by decide +kernel
theorem dX1_unused_40 : decode cX1_unused 40 = .ok (.iinc 2 1, 3) := by decide +kernel
theorem dX1_unused_43 : decode cX1_unused 43 = .ok (.goto (-39), 3) := by decide +kernel
theorem dX1_unused_46 : decode cX1_unused 46 = .ok (.iload_n 1, 1) := by decide +kernel
theorem dX1_unused_47 : decode cX1_unused 47 = .ok (.ireturn, 1) := by decide +kernel
abbrev cX1_names : ByteArray := prog_3_method_21_code
def yX1_names : MethodName := ⟨RX1, "names", "(I)I"⟩
theorem dX1_names_0 : decode cX1_names 0 = .ok (.iconst 0, 1) := by decide +kernel
theorem dX1_names_1 : decode cX1_names 1 = .ok (.istore_n 2, 1) := by decide +kernel
theorem dX1_names_2 : decode cX1_names 2 = .ok (.iconst 0, 1) := by decide +kernel
theorem dX1_names_3 : decode cX1_names 3 = .ok (.istore_n 3, 1) := by decide +kernel
theorem dX1_names_4 : decode cX1_names 4 = .ok (.iload_n 3, 1) := by decide +kernel
theorem dX1_names_5 : decode cX1_names 5 = .ok (.bipush 8, 2) := by decide +kernel
theorem dX1_names_7 : decode cX1_names 7 = .ok (.if_icmp .ge 36, 3) := by decide +kernel
theorem dX1_names_10 : decode cX1_names 10 = .ok (.aload_n 0, 1) := by decide +kernel
theorem dX1_names_11 : decode cX1_names 11 = .ok (.iload_n 1, 1) := by decide +kernel
theorem dX1_names_12 : decode cX1_names 12 = .ok (.invokevirtual 65, 3) := by decide +kernel
theorem dX1_names_15 : decode cX1_names 15 = .ok (.ifCond .eq 28, 3) := by decide +kernel
theorem dX1_names_18 : decode cX1_names 18 = .ok (.aload_n 0, 1) := by decide +kernel
theorem dX1_names_19 : decode cX1_names 19 = .ok (.iload_n 1, 1) := by decide +kernel
theorem dX1_names_20 : decode cX1_names 20 = .ok (.iload_n 3, 1) := by decide +kernel
theorem dX1_names_21 : decode cX1_names 21 = .ok (.invokevirtual 68, 3) := by decide +kernel
theorem dX1_names_24 : decode cX1_names 24 = .ok (.ifCond .eq 11, 3) := by decide +kernel
theorem dX1_names_27 : decode cX1_names 27 = .ok (.iload_n 2, 1) := by decide +kernel
theorem dX1_names_28 : decode cX1_names 28 = .ok (.iconst 1, 1) := by decide +kernel
theorem dX1_names_29 : decode cX1_names 29 = .ok (.iload_n 3, 1) := by decide +kernel
theorem dX1_names_30 : decode cX1_names 30 = .ok (.ishl, 1) := by decide +kernel
theorem dX1_names_31 : decode cX1_names 31 = .ok (.ior, 1) := by decide +kernel
theorem dX1_names_32 : decode cX1_names 32 = .ok (.goto 4, 3) := by decide +kernel
theorem dX1_names_35 : decode cX1_names 35 = .ok (.iload_n 2, 1) := by decide +kernel
theorem dX1_names_36 : decode cX1_names 36 = .ok (.istore_n 2, 1) := by decide +kernel
theorem dX1_names_37 : decode cX1_names 37 = .ok (.iinc 3 1, 3) := by decide +kernel
theorem dX1_names_40 : decode cX1_names 40 = .ok (.goto (-36), 3) := by decide +kernel
theorem dX1_names_43 : decode cX1_names 43 = .ok (.iload_n 2, 1) := by decide +kernel
theorem dX1_names_44 : decode cX1_names 44 = .ok (.ireturn, 1) := by decide +kernel
abbrev cX1_declares : ByteArray := prog_3_method_20_code
def yX1_declares : MethodName := ⟨RX1, "declares", "(I)Z"⟩
theorem dX1_declares_0 : decode cX1_declares 0 = .ok (.aload_n 0, 1) := by decide +kernel
theorem dX1_declares_1 : decode cX1_declares 1 = .ok (.iload_n 1, 1) := by decide +kernel
theorem dX1_declares_2 : decode cX1_declares 2 = .ok (.invokevirtual 51, 3) := by decide +kernel
theorem dX1_declares_5 : decode cX1_declares 5 = .ok (.ifCond .eq 17, 3) := by decide +kernel
theorem dX1_declares_8 : decode cX1_declares 8 = .ok (.aload_n 0, 1) := by decide +kernel
theorem dX1_declares_9 : decode cX1_declares 9 = .ok (.getfield 7, 3) := by decide +kernel
theorem dX1_declares_12 : decode cX1_declares 12 = .ok (.iload_n 1, 1) := by decide +kernel
theorem dX1_declares_13 : decode cX1_declares 13 = .ok (.iaload, 1) := by decide +kernel
theorem dX1_declares_14 : decode cX1_declares 14 = .ok (.iconst 2, 1) := by decide +kernel
theorem dX1_declares_15 : decode cX1_declares 15 = .ok (.if_icmp .ne 7, 3) := by decide +kernel
theorem dX1_declares_18 : decode cX1_declares 18 = .ok (.iconst 1, 1) := by decide +kernel
theorem dX1_declares_19 : decode cX1_declares 19 = .ok (.goto 4, 3) := by decide +kernel
theorem dX1_declares_22 : decode cX1_declares 22 = .ok (.iconst 0, 1) := by decide +kernel
theorem dX1_declares_23 : decode cX1_declares 23 = .ok (.ireturn, 1) := by decide +kernel
abbrev cX1_renamed : ByteArray := prog_3_method_19_code
def yX1_renamed : MethodName := ⟨RX1, "renamed", "(II)Z"⟩
theorem dX1_renamed_0 : decode cX1_renamed 0 = .ok (.aload_n 0, 1) := by decide +kernel
theorem dX1_renamed_1 : decode cX1_renamed 1 = .ok (.invokevirtual 55, 3) := by decide +kernel
theorem dX1_renamed_4 : decode cX1_renamed 4 = .ok (.iconst 0, 1) := by decide +kernel
theorem dX1_renamed_5 : decode cX1_renamed 5 = .ok (.istore_n 3, 1) := by decide +kernel
theorem dX1_renamed_6 : decode cX1_renamed 6 = .ok (.iload_n 3, 1) := by decide +kernel
theorem dX1_renamed_7 : decode cX1_renamed 7 = .ok (.aload_n 0, 1) := by decide +kernel
theorem dX1_renamed_8 : decode cX1_renamed 8 = .ok (.getfield 28, 3) := by decide +kernel
theorem dX1_renamed_11 : decode cX1_renamed 11 = .ok (.if_icmp .ge 40, 3) := by decide +kernel
theorem dX1_renamed_14 : decode cX1_renamed 14 = .ok (.aload_n 0, 1) := by decide +kernel
theorem dX1_renamed_15 : decode cX1_renamed 15 = .ok (.getfield 19, 3) := by decide +kernel
theorem dX1_renamed_18 : decode cX1_renamed 18 = .ok (.iload_n 3, 1) := by decide +kernel
theorem dX1_renamed_19 : decode cX1_renamed 19 = .ok (.iload_n 3, 1) := by decide +kernel
theorem dX1_renamed_20 : decode cX1_renamed 20 = .ok (.iload_n 1, 1) := by decide +kernel
theorem dX1_renamed_21 : decode cX1_renamed 21 = .ok (.if_icmp .eq 13, 3) := by decide +kernel
theorem dX1_renamed_24 : decode cX1_renamed 24 = .ok (.aload_n 0, 1) := by decide +kernel
theorem dX1_renamed_25 : decode cX1_renamed 25 = .ok (.getfield 25, 3) := by decide +kernel
theorem dX1_renamed_28 : decode cX1_renamed 28 = .ok (.iload_n 3, 1) := by decide +kernel
theorem dX1_renamed_29 : decode cX1_renamed 29 = .ok (.iaload, 1) := by decide +kernel
theorem dX1_renamed_30 : decode cX1_renamed 30 = .ok (.iload_n 1, 1) := by decide +kernel
theorem dX1_renamed_31 : decode cX1_renamed 31 = .ok (.if_icmp .ne 7, 3) := by decide +kernel
theorem dX1_renamed_34 : decode cX1_renamed 34 = .ok (.iload_n 2, 1) := by decide +kernel
theorem dX1_renamed_35 : decode cX1_renamed 35 = .ok (.goto 9, 3) := by decide +kernel
theorem dX1_renamed_38 : decode cX1_renamed 38 = .ok (.aload_n 0, 1) := by decide +kernel
theorem dX1_renamed_39 : decode cX1_renamed 39 = .ok (.getfield 19, 3) := by decide +kernel
theorem dX1_renamed_42 : decode cX1_renamed 42 = .ok (.iload_n 3, 1) := by decide +kernel
theorem dX1_renamed_43 : decode cX1_renamed 43 = .ok (.iaload, 1) := by decide +kernel
theorem dX1_renamed_44 : decode cX1_renamed 44 = .ok (.iastore, 1) := by decide +kernel
theorem dX1_renamed_45 : decode cX1_renamed 45 = .ok (.iinc 3 1, 3) := by decide +kernel
theorem dX1_renamed_48 : decode cX1_renamed 48 = .ok (.goto (-42), 3) := by decide +kernel
theorem dX1_renamed_51 : decode cX1_renamed 51 = .ok (.aload_n 0, 1) := by decide +kernel
theorem dX1_renamed_52 : decode cX1_renamed 52 = .ok (.invokevirtual 61, 3) := by decide +kernel
theorem dX1_renamed_55 : decode cX1_renamed 55 = .ok (.ireturn, 1) := by decide +kernel
abbrev cX1_legal : ByteArray := prog_3_method_8_code
def yX1_legal : MethodName := ⟨RX1, "legal", "()Z"⟩
theorem dX1_legal_0 : decode cX1_legal 0 = .ok (.iconst 1, 1) := by decide +kernel
theorem dX1_legal_1 : decode cX1_legal 1 = .ok (.istore_n 1, 1) := by decide +kernel
theorem dX1_legal_2 : decode cX1_legal 2 = .ok (.iconst 0, 1) := by decide +kernel
theorem dX1_legal_3 : decode cX1_legal 3 = .ok (.istore_n 2, 1) := by decide +kernel
theorem dX1_legal_4 : decode cX1_legal 4 = .ok (.iload_n 2, 1) := by decide +kernel
theorem dX1_legal_5 : decode cX1_legal 5 = .ok (.aload_n 0, 1) := by decide +kernel
theorem dX1_legal_6 : decode cX1_legal 6 = .ok (.getfield 28, 3) := by decide +kernel
theorem dX1_legal_9 : decode cX1_legal 9 = .ok (.if_icmp .ge 69, 3) := by decide +kernel
theorem dX1_legal_12 : decode cX1_legal 12 = .ok (.aload_n 0, 1) := by decide +kernel
theorem dX1_legal_13 : decode cX1_legal 13 = .ok (.getfield 16, 3) := by decide +kernel
theorem dX1_legal_16 : decode cX1_legal 16 = .ok (.iload_n 2, 1) := by decide +kernel
theorem dX1_legal_17 : decode cX1_legal 17 = .ok (.iaload, 1) := by decide +kernel
theorem dX1_legal_18 : decode cX1_legal 18 = .ok (.iconst 3, 1) := by decide +kernel
theorem dX1_legal_19 : decode cX1_legal 19 = .ok (.if_icmp .ne 53, 3) := by decide +kernel
theorem dX1_legal_22 : decode cX1_legal 22 = .ok (.aload_n 0, 1) := by decide +kernel
theorem dX1_legal_23 : decode cX1_legal 23 = .ok (.iload_n 2, 1) := by decide +kernel
theorem dX1_legal_24 : decode cX1_legal 24 = .ok (.aload_n 0, 1) := by decide +kernel
theorem dX1_legal_25 : decode cX1_legal 25 = .ok (.getfield 19, 3) := by decide +kernel
theorem dX1_legal_28 : decode cX1_legal 28 = .ok (.iload_n 2, 1) := by decide +kernel
theorem dX1_legal_29 : decode cX1_legal 29 = .ok (.iaload, 1) := by decide +kernel
theorem dX1_legal_30 : decode cX1_legal 30 = .ok (.invokevirtual 43, 3) := by decide +kernel
theorem dX1_legal_33 : decode cX1_legal 33 = .ok (.istore_n 3, 1) := by decide +kernel
theorem dX1_legal_34 : decode cX1_legal 34 = .ok (.iload_n 1, 1) := by decide +kernel
theorem dX1_legal_35 : decode cX1_legal 35 = .ok (.ifCond .eq 35, 3) := by decide +kernel
theorem dX1_legal_38 : decode cX1_legal 38 = .ok (.aload_n 0, 1) := by decide +kernel
theorem dX1_legal_39 : decode cX1_legal 39 = .ok (.getfield 25, 3) := by decide +kernel
theorem dX1_legal_42 : decode cX1_legal 42 = .ok (.aload_n 0, 1) := by decide +kernel
theorem dX1_legal_43 : decode cX1_legal 43 = .ok (.getfield 22, 3) := by decide +kernel
theorem dX1_legal_46 : decode cX1_legal 46 = .ok (.iload_n 2, 1) := by decide +kernel
theorem dX1_legal_47 : decode cX1_legal 47 = .ok (.iaload, 1) := by decide +kernel
theorem dX1_legal_48 : decode cX1_legal 48 = .ok (.iaload, 1) := by decide +kernel
theorem dX1_legal_49 : decode cX1_legal 49 = .ok (.iload_n 3, 1) := by decide +kernel
theorem dX1_legal_50 : decode cX1_legal 50 = .ok (.ifCond .ge 7, 3) := by decide +kernel
theorem dX1_legal_53 : decode cX1_legal 53 = .ok (.iconst (-1), 1) := by decide +kernel
theorem dX1_legal_54 : decode cX1_legal 54 = .ok (.goto 9, 3) := by decide +kernel
theorem dX1_legal_57 : decode cX1_legal 57 = .ok (.aload_n 0, 1) := by decide +kernel
theorem dX1_legal_58 : decode cX1_legal 58 = .ok (.getfield 22, 3) := by decide +kernel
theorem dX1_legal_61 : decode cX1_legal 61 = .ok (.iload_n 3, 1) := by decide +kernel
theorem dX1_legal_62 : decode cX1_legal 62 = .ok (.iaload, 1) := by decide +kernel
theorem dX1_legal_63 : decode cX1_legal 63 = .ok (.if_icmp .ne 7, 3) := by decide +kernel
theorem dX1_legal_66 : decode cX1_legal 66 = .ok (.iconst 1, 1) := by decide +kernel
theorem dX1_legal_67 : decode cX1_legal 67 = .ok (.goto 4, 3) := by decide +kernel
theorem dX1_legal_70 : decode cX1_legal 70 = .ok (.iconst 0, 1) := by decide +kernel
theorem dX1_legal_71 : decode cX1_legal 71 = .ok (.istore_n 1, 1) := by decide +kernel
theorem dX1_legal_72 : decode cX1_legal 72 = .ok (.iinc 2 1, 3) := by decide +kernel
theorem dX1_legal_75 : decode cX1_legal 75 = .ok (.goto (-71), 3) := by decide +kernel
theorem dX1_legal_78 : decode cX1_legal 78 = .ok (.iload_n 1, 1) := by decide +kernel
theorem dX1_legal_79 : decode cX1_legal 79 = .ok (.ireturn, 1) := by decide +kernel
abbrev cX1_rename : ByteArray := prog_3_method_22_code
def yX1_rename : MethodName := ⟨RX1, "rename", "(II)I"⟩
theorem dX1_rename_0 : decode cX1_rename 0 = .ok (.aload_n 0, 1) := by decide +kernel
theorem dX1_rename_1 : decode cX1_rename 1 = .ok (.iload_n 1, 1) := by decide +kernel
theorem dX1_rename_2 : decode cX1_rename 2 = .ok (.invokevirtual 65, 3) := by decide +kernel
theorem dX1_rename_5 : decode cX1_rename 5 = .ok (.ifCond .eq 13, 3) := by decide +kernel
theorem dX1_rename_8 : decode cX1_rename 8 = .ok (.iload_n 2, 1) := by decide +kernel
theorem dX1_rename_9 : decode cX1_rename 9 = .ok (.ifCond .lt 9, 3) := by decide +kernel
theorem dX1_rename_12 : decode cX1_rename 12 = .ok (.iload_n 2, 1) := by decide +kernel
theorem dX1_rename_13 : decode cX1_rename 13 = .ok (.bipush 7, 2) := by decide +kernel
theorem dX1_rename_15 : decode cX1_rename 15 = .ok (.if_icmp .le 5, 3) := by decide +kernel
theorem dX1_rename_18 : decode cX1_rename 18 = .ok (.iconst (-1), 1) := by decide +kernel
theorem dX1_rename_19 : decode cX1_rename 19 = .ok (.ireturn, 1) := by decide +kernel
theorem dX1_rename_20 : decode cX1_rename 20 = .ok (.aload_n 0, 1) := by decide +kernel
theorem dX1_rename_21 : decode cX1_rename 21 = .ok (.iload_n 1, 1) := by decide +kernel
theorem dX1_rename_22 : decode cX1_rename 22 = .ok (.iload_n 2, 1) := by decide +kernel
theorem dX1_rename_23 : decode cX1_rename 23 = .ok (.invokevirtual 68, 3) := by decide +kernel
theorem dX1_rename_26 : decode cX1_rename 26 = .ok (.ifCond .ne 6, 3) := by decide +kernel
theorem dX1_rename_29 : decode cX1_rename 29 = .ok (.bipush (-3), 2) := by decide +kernel
theorem dX1_rename_31 : decode cX1_rename 31 = .ok (.ireturn, 1) := by decide +kernel
theorem dX1_rename_32 : decode cX1_rename 32 = .ok (.iconst 0, 1) := by decide +kernel
theorem dX1_rename_33 : decode cX1_rename 33 = .ok (.istore_n 3, 1) := by decide +kernel
theorem dX1_rename_34 : decode cX1_rename 34 = .ok (.iconst 0, 1) := by decide +kernel
theorem dX1_rename_35 : decode cX1_rename 35 = .ok (.istore 4, 2) := by decide +kernel
theorem dX1_rename_37 : decode cX1_rename 37 = .ok (.iload 4, 2) := by decide +kernel
theorem dX1_rename_39 : decode cX1_rename 39 = .ok (.aload_n 0, 1) := by decide +kernel
theorem dX1_rename_40 : decode cX1_rename 40 = .ok (.getfield 28, 3) := by decide +kernel
theorem dX1_rename_43 : decode cX1_rename 43 = .ok (.if_icmp .ge 34, 3) := by decide +kernel
theorem dX1_rename_46 : decode cX1_rename 46 = .ok (.aload_n 0, 1) := by decide +kernel
theorem dX1_rename_47 : decode cX1_rename 47 = .ok (.getfield 19, 3) := by decide +kernel
theorem dX1_rename_50 : decode cX1_rename 50 = .ok (.iload 4, 2) := by decide +kernel
theorem dX1_rename_52 : decode cX1_rename 52 = .ok (.iaload, 1) := by decide +kernel
theorem dX1_rename_53 : decode cX1_rename 53 = .ok (.aload_n 0, 1) := by decide +kernel
theorem dX1_rename_54 : decode cX1_rename 54 = .ok (.getfield 13, 3) := by decide +kernel
theorem dX1_rename_57 : decode cX1_rename 57 = .ok (.iload 4, 2) := by decide +kernel
theorem dX1_rename_59 : decode cX1_rename 59 = .ok (.iaload, 1) := by decide +kernel
theorem dX1_rename_60 : decode cX1_rename 60 = .ok (.if_icmp .eq 9, 3) := by decide +kernel
theorem dX1_rename_63 : decode cX1_rename 63 = .ok (.iload_n 3, 1) := by decide +kernel
theorem dX1_rename_64 : decode cX1_rename 64 = .ok (.iconst 1, 1) := by decide +kernel
theorem dX1_rename_65 : decode cX1_rename 65 = .ok (.iadd, 1) := by decide +kernel
theorem dX1_rename_66 : decode cX1_rename 66 = .ok (.goto 4, 3) := by decide +kernel
theorem dX1_rename_69 : decode cX1_rename 69 = .ok (.iload_n 3, 1) := by decide +kernel
theorem dX1_rename_70 : decode cX1_rename 70 = .ok (.istore_n 3, 1) := by decide +kernel
theorem dX1_rename_71 : decode cX1_rename 71 = .ok (.iinc 4 1, 3) := by decide +kernel
theorem dX1_rename_74 : decode cX1_rename 74 = .ok (.goto (-37), 3) := by decide +kernel
theorem dX1_rename_77 : decode cX1_rename 77 = .ok (.aload_n 0, 1) := by decide +kernel
theorem dX1_rename_78 : decode cX1_rename 78 = .ok (.invokevirtual 72, 3) := by decide +kernel
theorem dX1_rename_81 : decode cX1_rename 81 = .ok (.iload_n 3, 1) := by decide +kernel
theorem dX1_rename_82 : decode cX1_rename 82 = .ok (.ireturn, 1) := by decide +kernel
abbrev cX1_accept : ByteArray := prog_3_method_9_code
def yX1_accept : MethodName := ⟨RX1, "accept", "()V"⟩
theorem dX1_accept_0 : decode cX1_accept 0 = .ok (.iconst 0, 1) := by decide +kernel
theorem dX1_accept_1 : decode cX1_accept 1 = .ok (.istore_n 1, 1) := by decide +kernel
theorem dX1_accept_2 : decode cX1_accept 2 = .ok (.iload_n 1, 1) := by decide +kernel
theorem dX1_accept_3 : decode cX1_accept 3 = .ok (.aload_n 0, 1) := by decide +kernel
theorem dX1_accept_4 : decode cX1_accept 4 = .ok (.getfield 28, 3) := by decide +kernel
theorem dX1_accept_7 : decode cX1_accept 7 = .ok (.if_icmp .ge 33, 3) := by decide +kernel
theorem dX1_accept_10 : decode cX1_accept 10 = .ok (.aload_n 0, 1) := by decide +kernel
theorem dX1_accept_11 : decode cX1_accept 11 = .ok (.getfield 7, 3) := by decide +kernel
theorem dX1_accept_14 : decode cX1_accept 14 = .ok (.iload_n 1, 1) := by decide +kernel
theorem dX1_accept_15 : decode cX1_accept 15 = .ok (.aload_n 0, 1) := by decide +kernel
theorem dX1_accept_16 : decode cX1_accept 16 = .ok (.getfield 16, 3) := by decide +kernel
theorem dX1_accept_19 : decode cX1_accept 19 = .ok (.iload_n 1, 1) := by decide +kernel
theorem dX1_accept_20 : decode cX1_accept 20 = .ok (.iaload, 1) := by decide +kernel
theorem dX1_accept_21 : decode cX1_accept 21 = .ok (.iastore, 1) := by decide +kernel
theorem dX1_accept_22 : decode cX1_accept 22 = .ok (.aload_n 0, 1) := by decide +kernel
theorem dX1_accept_23 : decode cX1_accept 23 = .ok (.getfield 13, 3) := by decide +kernel
theorem dX1_accept_26 : decode cX1_accept 26 = .ok (.iload_n 1, 1) := by decide +kernel
theorem dX1_accept_27 : decode cX1_accept 27 = .ok (.aload_n 0, 1) := by decide +kernel
theorem dX1_accept_28 : decode cX1_accept 28 = .ok (.getfield 19, 3) := by decide +kernel
theorem dX1_accept_31 : decode cX1_accept 31 = .ok (.iload_n 1, 1) := by decide +kernel
theorem dX1_accept_32 : decode cX1_accept 32 = .ok (.iaload, 1) := by decide +kernel
theorem dX1_accept_33 : decode cX1_accept 33 = .ok (.iastore, 1) := by decide +kernel
theorem dX1_accept_34 : decode cX1_accept 34 = .ok (.iinc 1 1, 3) := by decide +kernel
theorem dX1_accept_37 : decode cX1_accept 37 = .ok (.goto (-35), 3) := by decide +kernel
theorem dX1_accept_40 : decode cX1_accept 40 = .ok (.return_, 1) := by decide +kernel
abbrev cX1_swap : ByteArray := prog_3_method_24_code
def yX1_swap : MethodName := ⟨RX1, "swap", "(I)I"⟩
theorem dX1_swap_0 : decode cX1_swap 0 = .ok (.aload_n 0, 1) := by decide +kernel
theorem dX1_swap_1 : decode cX1_swap 1 = .ok (.iload_n 1, 1) := by decide +kernel
theorem dX1_swap_2 : decode cX1_swap 2 = .ok (.invokevirtual 51, 3) := by decide +kernel
theorem dX1_swap_5 : decode cX1_swap 5 = .ok (.ifCond .eq 35, 3) := by decide +kernel
theorem dX1_swap_8 : decode cX1_swap 8 = .ok (.aload_n 0, 1) := by decide +kernel
theorem dX1_swap_9 : decode cX1_swap 9 = .ok (.iload_n 1, 1) := by decide +kernel
theorem dX1_swap_10 : decode cX1_swap 10 = .ok (.iconst 1, 1) := by decide +kernel
theorem dX1_swap_11 : decode cX1_swap 11 = .ok (.iadd, 1) := by decide +kernel
theorem dX1_swap_12 : decode cX1_swap 12 = .ok (.invokevirtual 51, 3) := by decide +kernel
theorem dX1_swap_15 : decode cX1_swap 15 = .ok (.ifCond .eq 25, 3) := by decide +kernel
theorem dX1_swap_18 : decode cX1_swap 18 = .ok (.aload_n 0, 1) := by decide +kernel
theorem dX1_swap_19 : decode cX1_swap 19 = .ok (.getfield 7, 3) := by decide +kernel
theorem dX1_swap_22 : decode cX1_swap 22 = .ok (.iload_n 1, 1) := by decide +kernel
theorem dX1_swap_23 : decode cX1_swap 23 = .ok (.iaload, 1) := by decide +kernel
theorem dX1_swap_24 : decode cX1_swap 24 = .ok (.iconst 2, 1) := by decide +kernel
theorem dX1_swap_25 : decode cX1_swap 25 = .ok (.if_icmp .lt 15, 3) := by decide +kernel
theorem dX1_swap_28 : decode cX1_swap 28 = .ok (.aload_n 0, 1) := by decide +kernel
theorem dX1_swap_29 : decode cX1_swap 29 = .ok (.getfield 7, 3) := by decide +kernel
theorem dX1_swap_32 : decode cX1_swap 32 = .ok (.iload_n 1, 1) := by decide +kernel
theorem dX1_swap_33 : decode cX1_swap 33 = .ok (.iconst 1, 1) := by decide +kernel
theorem dX1_swap_34 : decode cX1_swap 34 = .ok (.iadd, 1) := by decide +kernel
theorem dX1_swap_35 : decode cX1_swap 35 = .ok (.iaload, 1) := by decide +kernel
theorem dX1_swap_36 : decode cX1_swap 36 = .ok (.iconst 2, 1) := by decide +kernel
theorem dX1_swap_37 : decode cX1_swap 37 = .ok (.if_icmp .ge 5, 3) := by decide +kernel
theorem dX1_swap_40 : decode cX1_swap 40 = .ok (.iconst (-1), 1) := by decide +kernel
theorem dX1_swap_41 : decode cX1_swap 41 = .ok (.ireturn, 1) := by decide +kernel
theorem dX1_swap_42 : decode cX1_swap 42 = .ok (.aload_n 0, 1) := by decide +kernel
theorem dX1_swap_43 : decode cX1_swap 43 = .ok (.invokevirtual 55, 3) := by decide +kernel
theorem dX1_swap_46 : decode cX1_swap 46 = .ok (.aload_n 0, 1) := by decide +kernel
theorem dX1_swap_47 : decode cX1_swap 47 = .ok (.iload_n 1, 1) := by decide +kernel
theorem dX1_swap_48 : decode cX1_swap 48 = .ok (.iload_n 1, 1) := by decide +kernel
theorem dX1_swap_49 : decode cX1_swap 49 = .ok (.iconst 1, 1) := by decide +kernel
theorem dX1_swap_50 : decode cX1_swap 50 = .ok (.iadd, 1) := by decide +kernel
theorem dX1_swap_51 : decode cX1_swap 51 = .ok (.invokevirtual 75, 3) := by decide +kernel
theorem dX1_swap_54 : decode cX1_swap 54 = .ok (.aload_n 0, 1) := by decide +kernel
theorem dX1_swap_55 : decode cX1_swap 55 = .ok (.iload_n 1, 1) := by decide +kernel
theorem dX1_swap_56 : decode cX1_swap 56 = .ok (.iconst 1, 1) := by decide +kernel
theorem dX1_swap_57 : decode cX1_swap 57 = .ok (.iadd, 1) := by decide +kernel
theorem dX1_swap_58 : decode cX1_swap 58 = .ok (.iload_n 1, 1) := by decide +kernel
theorem dX1_swap_59 : decode cX1_swap 59 = .ok (.invokevirtual 75, 3) := by decide +kernel
theorem dX1_swap_62 : decode cX1_swap 62 = .ok (.aload_n 0, 1) := by decide +kernel
theorem dX1_swap_63 : decode cX1_swap 63 = .ok (.invokevirtual 61, 3) := by decide +kernel
theorem dX1_swap_66 : decode cX1_swap 66 = .ok (.ifCond .ne 6, 3) := by decide +kernel
theorem dX1_swap_69 : decode cX1_swap 69 = .ok (.bipush (-3), 2) := by decide +kernel
theorem dX1_swap_71 : decode cX1_swap 71 = .ok (.ireturn, 1) := by decide +kernel
theorem dX1_swap_72 : decode cX1_swap 72 = .ok (.aload_n 0, 1) := by decide +kernel
theorem dX1_swap_73 : decode cX1_swap 73 = .ok (.invokevirtual 72, 3) := by decide +kernel
theorem dX1_swap_76 : decode cX1_swap 76 = .ok (.iload_n 1, 1) := by decide +kernel
theorem dX1_swap_77 : decode cX1_swap 77 = .ok (.ireturn, 1) := by decide +kernel
abbrev cX1_place : ByteArray := prog_3_method_23_code
def yX1_place : MethodName := ⟨RX1, "place", "(II)V"⟩
theorem dX1_place_0 : decode cX1_place 0 = .ok (.aload_n 0, 1) := by decide +kernel
theorem dX1_place_1 : decode cX1_place 1 = .ok (.getfield 16, 3) := by decide +kernel
theorem dX1_place_4 : decode cX1_place 4 = .ok (.iload_n 2, 1) := by decide +kernel
theorem dX1_place_5 : decode cX1_place 5 = .ok (.aload_n 0, 1) := by decide +kernel
theorem dX1_place_6 : decode cX1_place 6 = .ok (.getfield 7, 3) := by decide +kernel
theorem dX1_place_9 : decode cX1_place 9 = .ok (.iload_n 1, 1) := by decide +kernel
theorem dX1_place_10 : decode cX1_place 10 = .ok (.iaload, 1) := by decide +kernel
theorem dX1_place_11 : decode cX1_place 11 = .ok (.iastore, 1) := by decide +kernel
theorem dX1_place_12 : decode cX1_place 12 = .ok (.aload_n 0, 1) := by decide +kernel
theorem dX1_place_13 : decode cX1_place 13 = .ok (.getfield 19, 3) := by decide +kernel
theorem dX1_place_16 : decode cX1_place 16 = .ok (.iload_n 2, 1) := by decide +kernel
theorem dX1_place_17 : decode cX1_place 17 = .ok (.aload_n 0, 1) := by decide +kernel
theorem dX1_place_18 : decode cX1_place 18 = .ok (.getfield 13, 3) := by decide +kernel
theorem dX1_place_21 : decode cX1_place 21 = .ok (.iload_n 1, 1) := by decide +kernel
theorem dX1_place_22 : decode cX1_place 22 = .ok (.iaload, 1) := by decide +kernel
theorem dX1_place_23 : decode cX1_place 23 = .ok (.iastore, 1) := by decide +kernel
theorem dX1_place_24 : decode cX1_place 24 = .ok (.aload_n 0, 1) := by decide +kernel
theorem dX1_place_25 : decode cX1_place 25 = .ok (.getfield 22, 3) := by decide +kernel
theorem dX1_place_28 : decode cX1_place 28 = .ok (.iload_n 2, 1) := by decide +kernel
theorem dX1_place_29 : decode cX1_place 29 = .ok (.iload_n 1, 1) := by decide +kernel
theorem dX1_place_30 : decode cX1_place 30 = .ok (.iastore, 1) := by decide +kernel
theorem dX1_place_31 : decode cX1_place 31 = .ok (.return_, 1) := by decide +kernel
abbrev cX1_moveOut : ByteArray := prog_3_method_25_code
def yX1_moveOut : MethodName := ⟨RX1, "moveOut", "(I)I"⟩
theorem dX1_moveOut_0 : decode cX1_moveOut 0 = .ok (.aload_n 0, 1) := by decide +kernel
theorem dX1_moveOut_1 : decode cX1_moveOut 1 = .ok (.invokevirtual 55, 3) := by decide +kernel
theorem dX1_moveOut_4 : decode cX1_moveOut 4 = .ok (.aload_n 0, 1) := by decide +kernel
theorem dX1_moveOut_5 : decode cX1_moveOut 5 = .ok (.iload_n 1, 1) := by decide +kernel
theorem dX1_moveOut_6 : decode cX1_moveOut 6 = .ok (.invokevirtual 65, 3) := by decide +kernel
theorem dX1_moveOut_9 : decode cX1_moveOut 9 = .ok (.ifCond .eq 11, 3) := by decide +kernel
theorem dX1_moveOut_12 : decode cX1_moveOut 12 = .ok (.aload_n 0, 1) := by decide +kernel
theorem dX1_moveOut_13 : decode cX1_moveOut 13 = .ok (.iload_n 1, 1) := by decide +kernel
theorem dX1_moveOut_14 : decode cX1_moveOut 14 = .ok (.invokevirtual 32, 3) := by decide +kernel
theorem dX1_moveOut_17 : decode cX1_moveOut 17 = .ok (.goto 4, 3) := by decide +kernel
theorem dX1_moveOut_20 : decode cX1_moveOut 20 = .ok (.iconst (-1), 1) := by decide +kernel
theorem dX1_moveOut_21 : decode cX1_moveOut 21 = .ok (.istore_n 2, 1) := by decide +kernel
theorem dX1_moveOut_22 : decode cX1_moveOut 22 = .ok (.iload_n 2, 1) := by decide +kernel
theorem dX1_moveOut_23 : decode cX1_moveOut 23 = .ok (.ifCond .ge 5, 3) := by decide +kernel
theorem dX1_moveOut_26 : decode cX1_moveOut 26 = .ok (.iconst (-1), 1) := by decide +kernel
theorem dX1_moveOut_27 : decode cX1_moveOut 27 = .ok (.ireturn, 1) := by decide +kernel
theorem dX1_moveOut_28 : decode cX1_moveOut 28 = .ok (.aload_n 0, 1) := by decide +kernel
theorem dX1_moveOut_29 : decode cX1_moveOut 29 = .ok (.iload_n 1, 1) := by decide +kernel
theorem dX1_moveOut_30 : decode cX1_moveOut 30 = .ok (.iload_n 2, 1) := by decide +kernel
theorem dX1_moveOut_31 : decode cX1_moveOut 31 = .ok (.invokevirtual 75, 3) := by decide +kernel
theorem dX1_moveOut_34 : decode cX1_moveOut 34 = .ok (.iload_n 2, 1) := by decide +kernel
theorem dX1_moveOut_35 : decode cX1_moveOut 35 = .ok (.istore_n 3, 1) := by decide +kernel
theorem dX1_moveOut_36 : decode cX1_moveOut 36 = .ok (.iload_n 3, 1) := by decide +kernel
theorem dX1_moveOut_37 : decode cX1_moveOut 37 = .ok (.iload_n 1, 1) := by decide +kernel
theorem dX1_moveOut_38 : decode cX1_moveOut 38 = .ok (.if_icmp .ge 17, 3) := by decide +kernel
theorem dX1_moveOut_41 : decode cX1_moveOut 41 = .ok (.aload_n 0, 1) := by decide +kernel
theorem dX1_moveOut_42 : decode cX1_moveOut 42 = .ok (.iload_n 3, 1) := by decide +kernel
theorem dX1_moveOut_43 : decode cX1_moveOut 43 = .ok (.iload_n 3, 1) := by decide +kernel
theorem dX1_moveOut_44 : decode cX1_moveOut 44 = .ok (.iconst 1, 1) := by decide +kernel
theorem dX1_moveOut_45 : decode cX1_moveOut 45 = .ok (.iadd, 1) := by decide +kernel
theorem dX1_moveOut_46 : decode cX1_moveOut 46 = .ok (.invokevirtual 75, 3) := by decide +kernel
theorem dX1_moveOut_49 : decode cX1_moveOut 49 = .ok (.iinc 3 1, 3) := by decide +kernel
theorem dX1_moveOut_52 : decode cX1_moveOut 52 = .ok (.goto (-16), 3) := by decide +kernel
theorem dX1_moveOut_55 : decode cX1_moveOut 55 = .ok (.aload_n 0, 1) := by decide +kernel
theorem dX1_moveOut_56 : decode cX1_moveOut 56 = .ok (.invokevirtual 61, 3) := by decide +kernel
theorem dX1_moveOut_59 : decode cX1_moveOut 59 = .ok (.ifCond .ne 6, 3) := by decide +kernel
theorem dX1_moveOut_62 : decode cX1_moveOut 62 = .ok (.bipush (-3), 2) := by decide +kernel
theorem dX1_moveOut_64 : decode cX1_moveOut 64 = .ok (.ireturn, 1) := by decide +kernel
theorem dX1_moveOut_65 : decode cX1_moveOut 65 = .ok (.aload_n 0, 1) := by decide +kernel
theorem dX1_moveOut_66 : decode cX1_moveOut 66 = .ok (.invokevirtual 72, 3) := by decide +kernel
theorem dX1_moveOut_69 : decode cX1_moveOut 69 = .ok (.iload_n 2, 1) := by decide +kernel
theorem dX1_moveOut_70 : decode cX1_moveOut 70 = .ok (.ireturn, 1) := by decide +kernel
abbrev cX1_canMoveOut : ByteArray := prog_3_method_26_code
def yX1_canMoveOut : MethodName := ⟨RX1, "canMoveOut", "(I)Z"⟩
theorem dX1_canMoveOut_0 : decode cX1_canMoveOut 0 = .ok (.aload_n 0, 1) := by decide +kernel
theorem dX1_canMoveOut_1 : decode cX1_canMoveOut 1 = .ok (.invokevirtual 55, 3) := by decide +kernel
theorem dX1_canMoveOut_4 : decode cX1_canMoveOut 4 = .ok (.aload_n 0, 1) := by decide +kernel
theorem dX1_canMoveOut_5 : decode cX1_canMoveOut 5 = .ok (.iload_n 1, 1) := by decide +kernel
theorem dX1_canMoveOut_6 : decode cX1_canMoveOut 6 = .ok (.invokevirtual 65, 3) := by decide +kernel
theorem dX1_canMoveOut_9 : decode cX1_canMoveOut 9 = .ok (.ifCond .eq 11, 3) := by decide +kernel
theorem dX1_canMoveOut_12 : decode cX1_canMoveOut 12 = .ok (.aload_n 0, 1) := by decide +kernel
theorem dX1_canMoveOut_13 : decode cX1_canMoveOut 13 = .ok (.iload_n 1, 1) := by decide +kernel
theorem dX1_canMoveOut_14 : decode cX1_canMoveOut 14 = .ok (.invokevirtual 32, 3) := by decide +kernel
theorem dX1_canMoveOut_17 : decode cX1_canMoveOut 17 = .ok (.goto 4, 3) := by decide +kernel
theorem dX1_canMoveOut_20 : decode cX1_canMoveOut 20 = .ok (.iconst (-1), 1) := by decide +kernel
theorem dX1_canMoveOut_21 : decode cX1_canMoveOut 21 = .ok (.istore_n 2, 1) := by decide +kernel
theorem dX1_canMoveOut_22 : decode cX1_canMoveOut 22 = .ok (.iload_n 2, 1) := by decide +kernel
theorem dX1_canMoveOut_23 : decode cX1_canMoveOut 23 = .ok (.ifCond .ge 5, 3) := by decide +kernel
theorem dX1_canMoveOut_26 : decode cX1_canMoveOut 26 = .ok (.iconst 0, 1) := by decide +kernel
theorem dX1_canMoveOut_27 : decode cX1_canMoveOut 27 = .ok (.ireturn, 1) := by decide +kernel
theorem dX1_canMoveOut_28 : decode cX1_canMoveOut 28 = .ok (.aload_n 0, 1) := by decide +kernel
theorem dX1_canMoveOut_29 : decode cX1_canMoveOut 29 = .ok (.iload_n 1, 1) := by decide +kernel
theorem dX1_canMoveOut_30 : decode cX1_canMoveOut 30 = .ok (.iload_n 2, 1) := by decide +kernel
theorem dX1_canMoveOut_31 : decode cX1_canMoveOut 31 = .ok (.invokevirtual 75, 3) := by decide +kernel
theorem dX1_canMoveOut_34 : decode cX1_canMoveOut 34 = .ok (.iload_n 2, 1) := by decide +kernel
theorem dX1_canMoveOut_35 : decode cX1_canMoveOut 35 = .ok (.istore_n 3, 1) := by decide +kernel
theorem dX1_canMoveOut_36 : decode cX1_canMoveOut 36 = .ok (.iload_n 3, 1) := by decide +kernel
theorem dX1_canMoveOut_37 : decode cX1_canMoveOut 37 = .ok (.iload_n 1, 1) := by decide +kernel
theorem dX1_canMoveOut_38 : decode cX1_canMoveOut 38 = .ok (.if_icmp .ge 17, 3) := by decide +kernel
theorem dX1_canMoveOut_41 : decode cX1_canMoveOut 41 = .ok (.aload_n 0, 1) := by decide +kernel
theorem dX1_canMoveOut_42 : decode cX1_canMoveOut 42 = .ok (.iload_n 3, 1) := by decide +kernel
theorem dX1_canMoveOut_43 : decode cX1_canMoveOut 43 = .ok (.iload_n 3, 1) := by decide +kernel
theorem dX1_canMoveOut_44 : decode cX1_canMoveOut 44 = .ok (.iconst 1, 1) := by decide +kernel
theorem dX1_canMoveOut_45 : decode cX1_canMoveOut 45 = .ok (.iadd, 1) := by decide +kernel
theorem dX1_canMoveOut_46 : decode cX1_canMoveOut 46 = .ok (.invokevirtual 75, 3) := by decide +kernel
theorem dX1_canMoveOut_49 : decode cX1_canMoveOut 49 = .ok (.iinc 3 1, 3) := by decide +kernel
theorem dX1_canMoveOut_52 : decode cX1_canMoveOut 52 = .ok (.goto (-16), 3) := by decide +kernel
theorem dX1_canMoveOut_55 : decode cX1_canMoveOut 55 = .ok (.aload_n 0, 1) := by decide +kernel
theorem dX1_canMoveOut_56 : decode cX1_canMoveOut 56 = .ok (.invokevirtual 61, 3) := by decide +kernel
theorem dX1_canMoveOut_59 : decode cX1_canMoveOut 59 = .ok (.ireturn, 1) := by decide +kernel
abbrev cX1_depth : ByteArray := prog_3_method_27_code
def yX1_depth : MethodName := ⟨RX1, "depth", "(I)I"⟩
theorem dX1_depth_0 : decode cX1_depth 0 = .ok (.aload_n 0, 1) := by decide +kernel
theorem dX1_depth_1 : decode cX1_depth 1 = .ok (.iload_n 1, 1) := by decide +kernel
theorem dX1_depth_2 : decode cX1_depth 2 = .ok (.invokevirtual 51, 3) := by decide +kernel
theorem dX1_depth_5 : decode cX1_depth 5 = .ok (.ifCond .ne 5, 3) := by decide +kernel
theorem dX1_depth_8 : decode cX1_depth 8 = .ok (.iconst (-1), 1) := by decide +kernel
theorem dX1_depth_9 : decode cX1_depth 9 = .ok (.ireturn, 1) := by decide +kernel
theorem dX1_depth_10 : decode cX1_depth 10 = .ok (.aload_n 0, 1) := by decide +kernel
theorem dX1_depth_11 : decode cX1_depth 11 = .ok (.invokevirtual 40, 3) := by decide +kernel
theorem dX1_depth_14 : decode cX1_depth 14 = .ok (.iconst 0, 1) := by decide +kernel
theorem dX1_depth_15 : decode cX1_depth 15 = .ok (.istore_n 2, 1) := by decide +kernel
theorem dX1_depth_16 : decode cX1_depth 16 = .ok (.aload_n 0, 1) := by decide +kernel
theorem dX1_depth_17 : decode cX1_depth 17 = .ok (.iload_n 1, 1) := by decide +kernel
theorem dX1_depth_18 : decode cX1_depth 18 = .ok (.invokevirtual 32, 3) := by decide +kernel
theorem dX1_depth_21 : decode cX1_depth 21 = .ok (.istore_n 3, 1) := by decide +kernel
theorem dX1_depth_22 : decode cX1_depth 22 = .ok (.iload_n 3, 1) := by decide +kernel
theorem dX1_depth_23 : decode cX1_depth 23 = .ok (.ifCond .lt 21, 3) := by decide +kernel
theorem dX1_depth_26 : decode cX1_depth 26 = .ok (.iload_n 2, 1) := by decide +kernel
theorem dX1_depth_27 : decode cX1_depth 27 = .ok (.bipush 28, 2) := by decide +kernel
theorem dX1_depth_29 : decode cX1_depth 29 = .ok (.if_icmp .ge 15, 3) := by decide +kernel
theorem dX1_depth_32 : decode cX1_depth 32 = .ok (.iinc 2 1, 3) := by decide +kernel
theorem dX1_depth_35 : decode cX1_depth 35 = .ok (.aload_n 0, 1) := by decide +kernel
theorem dX1_depth_36 : decode cX1_depth 36 = .ok (.iload_n 3, 1) := by decide +kernel
theorem dX1_depth_37 : decode cX1_depth 37 = .ok (.invokevirtual 32, 3) := by decide +kernel
theorem dX1_depth_40 : decode cX1_depth 40 = .ok (.istore_n 3, 1) := by decide +kernel
theorem dX1_depth_41 : decode cX1_depth 41 = .ok (.goto (-19), 3) := by decide +kernel
theorem dX1_depth_44 : decode cX1_depth 44 = .ok (.iload_n 2, 1) := by decide +kernel
theorem dX1_depth_45 : decode cX1_depth 45 = .ok (.ireturn, 1) := by decide +kernel
end
section
set_option maxRecDepth 100000
abbrev cX1_visible : ByteArray := prog_3_method_28_code
def yX1_visible : MethodName := ⟨RX1, "visible", "(I)I"⟩
theorem dX1_visible_0 : decode cX1_visible 0 = .ok (.aload_n 0, 1) := by decide +kernel
theorem dX1_visible_1 : decode cX1_visible 1 = .ok (.invokevirtual 40, 3) := by decide +kernel
theorem dX1_visible_4 : decode cX1_visible 4 = .ok (.iconst 0, 1) := by decide +kernel
theorem dX1_visible_5 : decode cX1_visible 5 = .ok (.istore_n 2, 1) := by decide +kernel
theorem dX1_visible_6 : decode cX1_visible 6 = .ok (.iconst 0, 1) := by decide +kernel
theorem dX1_visible_7 : decode cX1_visible 7 = .ok (.istore_n 3, 1) := by decide +kernel
theorem dX1_visible_8 : decode cX1_visible 8 = .ok (.iload_n 3, 1) := by decide +kernel
theorem dX1_visible_9 : decode cX1_visible 9 = .ok (.bipush 8, 2) := by decide +kernel
theorem dX1_visible_11 : decode cX1_visible 11 = .ok (.if_icmp .ge 36, 3) := by decide +kernel
theorem dX1_visible_14 : decode cX1_visible 14 = .ok (.aload_n 0, 1) := by decide +kernel
theorem dX1_visible_15 : decode cX1_visible 15 = .ok (.iload_n 1, 1) := by decide +kernel
theorem dX1_visible_16 : decode cX1_visible 16 = .ok (.invokevirtual 51, 3) := by decide +kernel
theorem dX1_visible_19 : decode cX1_visible 19 = .ok (.ifCond .eq 28, 3) := by decide +kernel
theorem dX1_visible_22 : decode cX1_visible 22 = .ok (.aload_n 0, 1) := by decide +kernel
theorem dX1_visible_23 : decode cX1_visible 23 = .ok (.iload_n 1, 1) := by decide +kernel
theorem dX1_visible_24 : decode cX1_visible 24 = .ok (.iload_n 3, 1) := by decide +kernel
theorem dX1_visible_25 : decode cX1_visible 25 = .ok (.invokevirtual 43, 3) := by decide +kernel
theorem dX1_visible_28 : decode cX1_visible 28 = .ok (.ifCond .lt 11, 3) := by decide +kernel
theorem dX1_visible_31 : decode cX1_visible 31 = .ok (.iload_n 2, 1) := by decide +kernel
theorem dX1_visible_32 : decode cX1_visible 32 = .ok (.iconst 1, 1) := by decide +kernel
theorem dX1_visible_33 : decode cX1_visible 33 = .ok (.iload_n 3, 1) := by decide +kernel
theorem dX1_visible_34 : decode cX1_visible 34 = .ok (.ishl, 1) := by decide +kernel
theorem dX1_visible_35 : decode cX1_visible 35 = .ok (.ior, 1) := by decide +kernel
theorem dX1_visible_36 : decode cX1_visible 36 = .ok (.goto 4, 3) := by decide +kernel
theorem dX1_visible_39 : decode cX1_visible 39 = .ok (.iload_n 2, 1) := by decide +kernel
theorem dX1_visible_40 : decode cX1_visible 40 = .ok (.istore_n 2, 1) := by decide +kernel
theorem dX1_visible_41 : decode cX1_visible 41 = .ok (.iinc 3 1, 3) := by decide +kernel
theorem dX1_visible_44 : decode cX1_visible 44 = .ok (.goto (-36), 3) := by decide +kernel
theorem dX1_visible_47 : decode cX1_visible 47 = .ok (.iload_n 2, 1) := by decide +kernel
theorem dX1_visible_48 : decode cX1_visible 48 = .ok (.ireturn, 1) := by decide +kernel
theorem q25 : (Jvm.Cond.initialized "RenameDeskModel") ∈ lw_all := lw_g (lw_at lw_m1 2 rfl) rfl
theorem q169 : (Jvm.Cond.instantiable "RenameDeskModel" (7 : Nat)) ∈ lw_all := lw_g (lw_at lw_m1 146 rfl) rfl
theorem q171 : (Jvm.Cond.instanceMethod ({ cls := "RenameDeskModel", name := "<init>", desc := "()V" } : Jvm.MethodName)) ∈ lw_all := lw_g (lw_at lw_m1 148 rfl) rfl
theorem q172 : (Jvm.Cond.code ({ cls := "RenameDeskModel", name := "<init>", desc := "()V" } : Jvm.MethodName) prog_3_method_1_code (1 : Nat) (Option.none : Option Jvm.ClassFile.FieldType)) ∈ lw_all := lw_g (lw_at lw_m1 149 rfl) rfl
theorem q173 : (Jvm.Cond.methodLink "RenameDeskModel" (1 : Nat) ({ cls := "java/lang/Object", name := "<init>", desc := "()V" } : Jvm.MethodName)) ∈ lw_all := lw_g (lw_at lw_m1 150 rfl) rfl
theorem q174 : (Jvm.Cond.fieldLink "RenameDeskModel" (28 : Nat) "RenameDeskModel" "size" "I") ∈ lw_all := lw_g (lw_at lw_m1 151 rfl) rfl
theorem q175 : (Jvm.Cond.fieldLink "RenameDeskModel" (7 : Nat) "RenameDeskModel" "kinds" "[I") ∈ lw_all := lw_g (lw_at lw_m1 152 rfl) rfl
theorem q176 : (Jvm.Cond.fieldLink "RenameDeskModel" (13 : Nat) "RenameDeskModel" "names" "[I") ∈ lw_all := lw_g (lw_at lw_m1 153 rfl) rfl
theorem q177 : (Jvm.Cond.fieldLink "RenameDeskModel" (16 : Nat) "RenameDeskModel" "kind" "[I") ∈ lw_all := lw_g (lw_at lw_m1 154 rfl) rfl
theorem q178 : (Jvm.Cond.fieldLink "RenameDeskModel" (19 : Nat) "RenameDeskModel" "name" "[I") ∈ lw_all := lw_g (lw_at lw_m1 155 rfl) rfl
theorem q179 : (Jvm.Cond.fieldLink "RenameDeskModel" (22 : Nat) "RenameDeskModel" "origin" "[I") ∈ lw_all := lw_g (lw_at lw_m1 156 rfl) rfl
theorem q180 : (Jvm.Cond.fieldLink "RenameDeskModel" (25 : Nat) "RenameDeskModel" "was" "[I") ∈ lw_all := lw_g (lw_at lw_m1 157 rfl) rfl
theorem q181 : (Jvm.Cond.lays "RenameDeskModel" "RenameDeskModel" "size" "I") ∈ lw_all := lw_g (lw_at lw_m1 158 rfl) rfl
theorem q182 : (Jvm.Cond.soleField "RenameDeskModel" "size") ∈ lw_all := lw_g (lw_at lw_m1 159 rfl) rfl
theorem q183 : (Jvm.Cond.lays "RenameDeskModel" "RenameDeskModel" "kinds" "[I") ∈ lw_all := lw_g (lw_at lw_m1 160 rfl) rfl
theorem q184 : (Jvm.Cond.soleField "RenameDeskModel" "kinds") ∈ lw_all := lw_g (lw_at lw_m1 161 rfl) rfl
theorem q185 : (Jvm.Cond.lays "RenameDeskModel" "RenameDeskModel" "names" "[I") ∈ lw_all := lw_g (lw_at lw_m1 162 rfl) rfl
theorem q186 : (Jvm.Cond.soleField "RenameDeskModel" "names") ∈ lw_all := lw_g (lw_at lw_m1 163 rfl) rfl
theorem q187 : (Jvm.Cond.lays "RenameDeskModel" "RenameDeskModel" "kind" "[I") ∈ lw_all := lw_g (lw_at lw_m1 164 rfl) rfl
theorem q188 : (Jvm.Cond.soleField "RenameDeskModel" "kind") ∈ lw_all := lw_g (lw_at lw_m1 165 rfl) rfl
theorem q189 : (Jvm.Cond.lays "RenameDeskModel" "RenameDeskModel" "name" "[I") ∈ lw_all := lw_g (lw_at lw_m1 166 rfl) rfl
theorem q190 : (Jvm.Cond.soleField "RenameDeskModel" "name") ∈ lw_all := lw_g (lw_at lw_m1 167 rfl) rfl
theorem q191 : (Jvm.Cond.lays "RenameDeskModel" "RenameDeskModel" "origin" "[I") ∈ lw_all := lw_g (lw_at lw_m1 168 rfl) rfl
theorem q192 : (Jvm.Cond.soleField "RenameDeskModel" "origin") ∈ lw_all := lw_g (lw_at lw_m1 169 rfl) rfl
theorem q193 : (Jvm.Cond.lays "RenameDeskModel" "RenameDeskModel" "was" "[I") ∈ lw_all := lw_g (lw_at lw_m1 170 rfl) rfl
theorem q194 : (Jvm.Cond.soleField "RenameDeskModel" "was") ∈ lw_all := lw_g (lw_at lw_m1 171 rfl) rfl
theorem q195 : (Jvm.Cond.superclass "RenameDeskModel" "java/lang/Object") ∈ lw_all := lw_g (lw_at lw_m1 172 rfl) rfl
theorem q198 : (Jvm.Cond.instanceMethod ({ cls := "RenameDeskModel", name := "add", desc := "(II)I" } : Jvm.MethodName)) ∈ lw_all := lw_g (lw_at lw_m1 175 rfl) rfl
theorem q199 : (Jvm.Cond.selects "RenameDeskModel" ({ cls := "RenameDeskModel", name := "add", desc := "(II)I" } : Jvm.MethodName) ({ cls := "RenameDeskModel", name := "add", desc := "(II)I" } : Jvm.MethodName)) ∈ lw_all := lw_g (lw_at lw_m1 176 rfl) rfl
theorem q200 : (Jvm.Cond.code ({ cls := "RenameDeskModel", name := "add", desc := "(II)I" } : Jvm.MethodName) prog_3_method_10_code (4 : Nat) (Option.some Jvm.ClassFile.FieldType.int)) ∈ lw_all := lw_g (lw_at lw_m1 177 rfl) rfl
theorem q201 : (Jvm.Cond.methodLink "RenameDeskModel" (47 : Nat) ({ cls := "RenameDeskModel", name := "open", desc := "()I" } : Jvm.MethodName)) ∈ lw_all := lw_g (lw_at lw_m1 178 rfl) rfl
theorem q202 : (Jvm.Cond.privateMethod ({ cls := "RenameDeskModel", name := "open", desc := "()I" } : Jvm.MethodName)) ∈ lw_tbl := lw_at lw_m1 179 rfl
theorem q203 : (Jvm.Cond.instanceMethod ({ cls := "RenameDeskModel", name := "open", desc := "()I" } : Jvm.MethodName)) ∈ lw_all := lw_g (lw_at lw_m1 180 rfl) rfl
theorem q204 : (Jvm.Cond.code ({ cls := "RenameDeskModel", name := "open", desc := "()I" } : Jvm.MethodName) prog_3_method_11_code (3 : Nat) (Option.some Jvm.ClassFile.FieldType.int)) ∈ lw_all := lw_g (lw_at lw_m1 181 rfl) rfl
theorem q206 : (Jvm.Cond.instanceMethod ({ cls := "RenameDeskModel", name := "drop", desc := "()I" } : Jvm.MethodName)) ∈ lw_all := lw_g (lw_at lw_m1 183 rfl) rfl
theorem q207 : (Jvm.Cond.selects "RenameDeskModel" ({ cls := "RenameDeskModel", name := "drop", desc := "()I" } : Jvm.MethodName) ({ cls := "RenameDeskModel", name := "drop", desc := "()I" } : Jvm.MethodName)) ∈ lw_all := lw_g (lw_at lw_m1 184 rfl) rfl
theorem q208 : (Jvm.Cond.code ({ cls := "RenameDeskModel", name := "drop", desc := "()I" } : Jvm.MethodName) prog_3_method_12_code (1 : Nat) (Option.some Jvm.ClassFile.FieldType.int)) ∈ lw_all := lw_g (lw_at lw_m1 185 rfl) rfl
theorem q210 : (Jvm.Cond.instanceMethod ({ cls := "RenameDeskModel", name := "length", desc := "()I" } : Jvm.MethodName)) ∈ lw_all := lw_g (lw_at lw_m1 187 rfl) rfl
theorem q211 : (Jvm.Cond.selects "RenameDeskModel" ({ cls := "RenameDeskModel", name := "length", desc := "()I" } : Jvm.MethodName) ({ cls := "RenameDeskModel", name := "length", desc := "()I" } : Jvm.MethodName)) ∈ lw_all := lw_g (lw_at lw_m1 188 rfl) rfl
theorem q212 : (Jvm.Cond.code ({ cls := "RenameDeskModel", name := "length", desc := "()I" } : Jvm.MethodName) prog_3_method_13_code (1 : Nat) (Option.some Jvm.ClassFile.FieldType.int)) ∈ lw_all := lw_g (lw_at lw_m1 189 rfl) rfl
theorem q214 : (Jvm.Cond.instanceMethod ({ cls := "RenameDeskModel", name := "token", desc := "(I)I" } : Jvm.MethodName)) ∈ lw_all := lw_g (lw_at lw_m1 191 rfl) rfl
theorem q215 : (Jvm.Cond.selects "RenameDeskModel" ({ cls := "RenameDeskModel", name := "token", desc := "(I)I" } : Jvm.MethodName) ({ cls := "RenameDeskModel", name := "token", desc := "(I)I" } : Jvm.MethodName)) ∈ lw_all := lw_g (lw_at lw_m1 192 rfl) rfl
theorem q216 : (Jvm.Cond.code ({ cls := "RenameDeskModel", name := "token", desc := "(I)I" } : Jvm.MethodName) prog_3_method_14_code (2 : Nat) (Option.some Jvm.ClassFile.FieldType.int)) ∈ lw_all := lw_g (lw_at lw_m1 193 rfl) rfl
theorem q217 : (Jvm.Cond.methodLink "RenameDeskModel" (51 : Nat) ({ cls := "RenameDeskModel", name := "is", desc := "(I)Z" } : Jvm.MethodName)) ∈ lw_all := lw_g (lw_at lw_m1 194 rfl) rfl
theorem q218 : (Jvm.Cond.privateMethod ({ cls := "RenameDeskModel", name := "is", desc := "(I)Z" } : Jvm.MethodName)) ∈ lw_tbl := lw_at lw_m1 195 rfl
theorem q219 : (Jvm.Cond.instanceMethod ({ cls := "RenameDeskModel", name := "is", desc := "(I)Z" } : Jvm.MethodName)) ∈ lw_all := lw_g (lw_at lw_m1 196 rfl) rfl
theorem q220 : (Jvm.Cond.code ({ cls := "RenameDeskModel", name := "is", desc := "(I)Z" } : Jvm.MethodName) prog_3_method_2_code (2 : Nat) (Option.some Jvm.ClassFile.FieldType.boolean)) ∈ lw_all := lw_g (lw_at lw_m1 197 rfl) rfl
theorem q222 : (Jvm.Cond.instanceMethod ({ cls := "RenameDeskModel", name := "bound", desc := "(I)I" } : Jvm.MethodName)) ∈ lw_all := lw_g (lw_at lw_m1 199 rfl) rfl
theorem q223 : (Jvm.Cond.selects "RenameDeskModel" ({ cls := "RenameDeskModel", name := "bound", desc := "(I)I" } : Jvm.MethodName) ({ cls := "RenameDeskModel", name := "bound", desc := "(I)I" } : Jvm.MethodName)) ∈ lw_all := lw_g (lw_at lw_m1 200 rfl) rfl
theorem q224 : (Jvm.Cond.code ({ cls := "RenameDeskModel", name := "bound", desc := "(I)I" } : Jvm.MethodName) prog_3_method_15_code (2 : Nat) (Option.some Jvm.ClassFile.FieldType.int)) ∈ lw_all := lw_g (lw_at lw_m1 201 rfl) rfl
theorem q225 : (Jvm.Cond.methodLink "RenameDeskModel" (55 : Nat) ({ cls := "RenameDeskModel", name := "bindAll", desc := "()V" } : Jvm.MethodName)) ∈ lw_all := lw_g (lw_at lw_m1 202 rfl) rfl
theorem q226 : (Jvm.Cond.privateMethod ({ cls := "RenameDeskModel", name := "bindAll", desc := "()V" } : Jvm.MethodName)) ∈ lw_tbl := lw_at lw_m1 203 rfl
theorem q227 : (Jvm.Cond.instanceMethod ({ cls := "RenameDeskModel", name := "bindAll", desc := "()V" } : Jvm.MethodName)) ∈ lw_all := lw_g (lw_at lw_m1 204 rfl) rfl
theorem q228 : (Jvm.Cond.code ({ cls := "RenameDeskModel", name := "bindAll", desc := "()V" } : Jvm.MethodName) prog_3_method_7_code (2 : Nat) (Option.none : Option Jvm.ClassFile.FieldType)) ∈ lw_all := lw_g (lw_at lw_m1 205 rfl) rfl
theorem q229 : (Jvm.Cond.methodLink "RenameDeskModel" (40 : Nat) ({ cls := "RenameDeskModel", name := "copy", desc := "()V" } : Jvm.MethodName)) ∈ lw_all := lw_g (lw_at lw_m1 206 rfl) rfl
theorem q230 : (Jvm.Cond.privateMethod ({ cls := "RenameDeskModel", name := "copy", desc := "()V" } : Jvm.MethodName)) ∈ lw_tbl := lw_at lw_m1 207 rfl
theorem q231 : (Jvm.Cond.instanceMethod ({ cls := "RenameDeskModel", name := "copy", desc := "()V" } : Jvm.MethodName)) ∈ lw_all := lw_g (lw_at lw_m1 208 rfl) rfl
theorem q232 : (Jvm.Cond.code ({ cls := "RenameDeskModel", name := "copy", desc := "()V" } : Jvm.MethodName) prog_3_method_3_code (2 : Nat) (Option.none : Option Jvm.ClassFile.FieldType)) ∈ lw_all := lw_g (lw_at lw_m1 209 rfl) rfl
theorem q233 : (Jvm.Cond.methodLink "RenameDeskModel" (43 : Nat) ({ cls := "RenameDeskModel", name := "bind", desc := "(II)I" } : Jvm.MethodName)) ∈ lw_all := lw_g (lw_at lw_m1 210 rfl) rfl
theorem q234 : (Jvm.Cond.privateMethod ({ cls := "RenameDeskModel", name := "bind", desc := "(II)I" } : Jvm.MethodName)) ∈ lw_tbl := lw_at lw_m1 211 rfl
theorem q235 : (Jvm.Cond.instanceMethod ({ cls := "RenameDeskModel", name := "bind", desc := "(II)I" } : Jvm.MethodName)) ∈ lw_all := lw_g (lw_at lw_m1 212 rfl) rfl
theorem q236 : (Jvm.Cond.code ({ cls := "RenameDeskModel", name := "bind", desc := "(II)I" } : Jvm.MethodName) prog_3_method_6_code (6 : Nat) (Option.some Jvm.ClassFile.FieldType.int)) ∈ lw_all := lw_g (lw_at lw_m1 213 rfl) rfl
theorem q237 : (Jvm.Cond.methodLink "RenameDeskModel" (32 : Nat) ({ cls := "RenameDeskModel", name := "around", desc := "(I)I" } : Jvm.MethodName)) ∈ lw_all := lw_g (lw_at lw_m1 214 rfl) rfl
theorem q238 : (Jvm.Cond.privateMethod ({ cls := "RenameDeskModel", name := "around", desc := "(I)I" } : Jvm.MethodName)) ∈ lw_tbl := lw_at lw_m1 215 rfl
theorem q239 : (Jvm.Cond.instanceMethod ({ cls := "RenameDeskModel", name := "around", desc := "(I)I" } : Jvm.MethodName)) ∈ lw_all := lw_g (lw_at lw_m1 216 rfl) rfl
theorem q240 : (Jvm.Cond.code ({ cls := "RenameDeskModel", name := "around", desc := "(I)I" } : Jvm.MethodName) prog_3_method_4_code (4 : Nat) (Option.some Jvm.ClassFile.FieldType.int)) ∈ lw_all := lw_g (lw_at lw_m1 217 rfl) rfl
theorem q241 : (Jvm.Cond.methodLink "RenameDeskModel" (36 : Nat) ({ cls := "RenameDeskModel", name := "last", desc := "(III)I" } : Jvm.MethodName)) ∈ lw_all := lw_g (lw_at lw_m1 218 rfl) rfl
theorem q242 : (Jvm.Cond.privateMethod ({ cls := "RenameDeskModel", name := "last", desc := "(III)I" } : Jvm.MethodName)) ∈ lw_tbl := lw_at lw_m1 219 rfl
theorem q243 : (Jvm.Cond.instanceMethod ({ cls := "RenameDeskModel", name := "last", desc := "(III)I" } : Jvm.MethodName)) ∈ lw_all := lw_g (lw_at lw_m1 220 rfl) rfl
theorem q244 : (Jvm.Cond.code ({ cls := "RenameDeskModel", name := "last", desc := "(III)I" } : Jvm.MethodName) prog_3_method_5_code (5 : Nat) (Option.some Jvm.ClassFile.FieldType.int)) ∈ lw_all := lw_g (lw_at lw_m1 221 rfl) rfl
theorem q246 : (Jvm.Cond.instanceMethod ({ cls := "RenameDeskModel", name := "uses", desc := "(I)I" } : Jvm.MethodName)) ∈ lw_all := lw_g (lw_at lw_m1 223 rfl) rfl
theorem q247 : (Jvm.Cond.selects "RenameDeskModel" ({ cls := "RenameDeskModel", name := "uses", desc := "(I)I" } : Jvm.MethodName) ({ cls := "RenameDeskModel", name := "uses", desc := "(I)I" } : Jvm.MethodName)) ∈ lw_all := lw_g (lw_at lw_m1 224 rfl) rfl
theorem q248 : (Jvm.Cond.code ({ cls := "RenameDeskModel", name := "uses", desc := "(I)I" } : Jvm.MethodName) prog_3_method_16_code (4 : Nat) (Option.some Jvm.ClassFile.FieldType.int)) ∈ lw_all := lw_g (lw_at lw_m1 225 rfl) rfl
theorem q250 : (Jvm.Cond.instanceMethod ({ cls := "RenameDeskModel", name := "free", desc := "()I" } : Jvm.MethodName)) ∈ lw_all := lw_g (lw_at lw_m1 227 rfl) rfl
theorem q251 : (Jvm.Cond.selects "RenameDeskModel" ({ cls := "RenameDeskModel", name := "free", desc := "()I" } : Jvm.MethodName) ({ cls := "RenameDeskModel", name := "free", desc := "()I" } : Jvm.MethodName)) ∈ lw_all := lw_g (lw_at lw_m1 228 rfl) rfl
theorem q252 : (Jvm.Cond.code ({ cls := "RenameDeskModel", name := "free", desc := "()I" } : Jvm.MethodName) prog_3_method_17_code (3 : Nat) (Option.some Jvm.ClassFile.FieldType.int)) ∈ lw_all := lw_g (lw_at lw_m1 229 rfl) rfl
theorem q254 : (Jvm.Cond.instanceMethod ({ cls := "RenameDeskModel", name := "unused", desc := "()I" } : Jvm.MethodName)) ∈ lw_all := lw_g (lw_at lw_m1 231 rfl) rfl
theorem q255 : (Jvm.Cond.selects "RenameDeskModel" ({ cls := "RenameDeskModel", name := "unused", desc := "()I" } : Jvm.MethodName) ({ cls := "RenameDeskModel", name := "unused", desc := "()I" } : Jvm.MethodName)) ∈ lw_all := lw_g (lw_at lw_m1 232 rfl) rfl
theorem q256 : (Jvm.Cond.code ({ cls := "RenameDeskModel", name := "unused", desc := "()I" } : Jvm.MethodName) prog_3_method_18_code (3 : Nat) (Option.some Jvm.ClassFile.FieldType.int)) ∈ lw_all := lw_g (lw_at lw_m1 233 rfl) rfl
theorem q257 : (Jvm.Cond.methodLink "RenameDeskModel" (58 : Nat) ({ cls := "RenameDeskModel", name := "uses", desc := "(I)I" } : Jvm.MethodName)) ∈ lw_all := lw_g (lw_at lw_m1 234 rfl) rfl
theorem q259 : (Jvm.Cond.instanceMethod ({ cls := "RenameDeskModel", name := "names", desc := "(I)I" } : Jvm.MethodName)) ∈ lw_all := lw_g (lw_at lw_m1 236 rfl) rfl
theorem q260 : (Jvm.Cond.selects "RenameDeskModel" ({ cls := "RenameDeskModel", name := "names", desc := "(I)I" } : Jvm.MethodName) ({ cls := "RenameDeskModel", name := "names", desc := "(I)I" } : Jvm.MethodName)) ∈ lw_all := lw_g (lw_at lw_m1 237 rfl) rfl
theorem q261 : (Jvm.Cond.code ({ cls := "RenameDeskModel", name := "names", desc := "(I)I" } : Jvm.MethodName) prog_3_method_21_code (4 : Nat) (Option.some Jvm.ClassFile.FieldType.int)) ∈ lw_all := lw_g (lw_at lw_m1 238 rfl) rfl
theorem q262 : (Jvm.Cond.methodLink "RenameDeskModel" (65 : Nat) ({ cls := "RenameDeskModel", name := "declares", desc := "(I)Z" } : Jvm.MethodName)) ∈ lw_all := lw_g (lw_at lw_m1 239 rfl) rfl
theorem q263 : (Jvm.Cond.privateMethod ({ cls := "RenameDeskModel", name := "declares", desc := "(I)Z" } : Jvm.MethodName)) ∈ lw_tbl := lw_at lw_m2 0 rfl
theorem q264 : (Jvm.Cond.instanceMethod ({ cls := "RenameDeskModel", name := "declares", desc := "(I)Z" } : Jvm.MethodName)) ∈ lw_all := lw_g (lw_at lw_m2 1 rfl) rfl
theorem q265 : (Jvm.Cond.code ({ cls := "RenameDeskModel", name := "declares", desc := "(I)Z" } : Jvm.MethodName) prog_3_method_20_code (2 : Nat) (Option.some Jvm.ClassFile.FieldType.boolean)) ∈ lw_all := lw_g (lw_at lw_m2 2 rfl) rfl
theorem q266 : (Jvm.Cond.methodLink "RenameDeskModel" (68 : Nat) ({ cls := "RenameDeskModel", name := "renamed", desc := "(II)Z" } : Jvm.MethodName)) ∈ lw_all := lw_g (lw_at lw_m2 3 rfl) rfl
theorem q267 : (Jvm.Cond.privateMethod ({ cls := "RenameDeskModel", name := "renamed", desc := "(II)Z" } : Jvm.MethodName)) ∈ lw_tbl := lw_at lw_m2 4 rfl
theorem q268 : (Jvm.Cond.instanceMethod ({ cls := "RenameDeskModel", name := "renamed", desc := "(II)Z" } : Jvm.MethodName)) ∈ lw_all := lw_g (lw_at lw_m2 5 rfl) rfl
theorem q269 : (Jvm.Cond.code ({ cls := "RenameDeskModel", name := "renamed", desc := "(II)Z" } : Jvm.MethodName) prog_3_method_19_code (4 : Nat) (Option.some Jvm.ClassFile.FieldType.boolean)) ∈ lw_all := lw_g (lw_at lw_m2 6 rfl) rfl
theorem q270 : (Jvm.Cond.methodLink "RenameDeskModel" (61 : Nat) ({ cls := "RenameDeskModel", name := "legal", desc := "()Z" } : Jvm.MethodName)) ∈ lw_all := lw_g (lw_at lw_m2 7 rfl) rfl
theorem q271 : (Jvm.Cond.privateMethod ({ cls := "RenameDeskModel", name := "legal", desc := "()Z" } : Jvm.MethodName)) ∈ lw_tbl := lw_at lw_m2 8 rfl
theorem q272 : (Jvm.Cond.instanceMethod ({ cls := "RenameDeskModel", name := "legal", desc := "()Z" } : Jvm.MethodName)) ∈ lw_all := lw_g (lw_at lw_m2 9 rfl) rfl
theorem q273 : (Jvm.Cond.code ({ cls := "RenameDeskModel", name := "legal", desc := "()Z" } : Jvm.MethodName) prog_3_method_8_code (4 : Nat) (Option.some Jvm.ClassFile.FieldType.boolean)) ∈ lw_all := lw_g (lw_at lw_m2 10 rfl) rfl
theorem q275 : (Jvm.Cond.instanceMethod ({ cls := "RenameDeskModel", name := "rename", desc := "(II)I" } : Jvm.MethodName)) ∈ lw_all := lw_g (lw_at lw_m2 12 rfl) rfl
theorem q276 : (Jvm.Cond.selects "RenameDeskModel" ({ cls := "RenameDeskModel", name := "rename", desc := "(II)I" } : Jvm.MethodName) ({ cls := "RenameDeskModel", name := "rename", desc := "(II)I" } : Jvm.MethodName)) ∈ lw_all := lw_g (lw_at lw_m2 13 rfl) rfl
theorem q277 : (Jvm.Cond.code ({ cls := "RenameDeskModel", name := "rename", desc := "(II)I" } : Jvm.MethodName) prog_3_method_22_code (5 : Nat) (Option.some Jvm.ClassFile.FieldType.int)) ∈ lw_all := lw_g (lw_at lw_m2 14 rfl) rfl
theorem q278 : (Jvm.Cond.methodLink "RenameDeskModel" (72 : Nat) ({ cls := "RenameDeskModel", name := "accept", desc := "()V" } : Jvm.MethodName)) ∈ lw_all := lw_g (lw_at lw_m2 15 rfl) rfl
theorem q279 : (Jvm.Cond.privateMethod ({ cls := "RenameDeskModel", name := "accept", desc := "()V" } : Jvm.MethodName)) ∈ lw_tbl := lw_at lw_m2 16 rfl
theorem q280 : (Jvm.Cond.instanceMethod ({ cls := "RenameDeskModel", name := "accept", desc := "()V" } : Jvm.MethodName)) ∈ lw_all := lw_g (lw_at lw_m2 17 rfl) rfl
theorem q281 : (Jvm.Cond.code ({ cls := "RenameDeskModel", name := "accept", desc := "()V" } : Jvm.MethodName) prog_3_method_9_code (2 : Nat) (Option.none : Option Jvm.ClassFile.FieldType)) ∈ lw_all := lw_g (lw_at lw_m2 18 rfl) rfl
theorem q283 : (Jvm.Cond.instanceMethod ({ cls := "RenameDeskModel", name := "swap", desc := "(I)I" } : Jvm.MethodName)) ∈ lw_all := lw_g (lw_at lw_m2 20 rfl) rfl
theorem q284 : (Jvm.Cond.selects "RenameDeskModel" ({ cls := "RenameDeskModel", name := "swap", desc := "(I)I" } : Jvm.MethodName) ({ cls := "RenameDeskModel", name := "swap", desc := "(I)I" } : Jvm.MethodName)) ∈ lw_all := lw_g (lw_at lw_m2 21 rfl) rfl
theorem q285 : (Jvm.Cond.code ({ cls := "RenameDeskModel", name := "swap", desc := "(I)I" } : Jvm.MethodName) prog_3_method_24_code (2 : Nat) (Option.some Jvm.ClassFile.FieldType.int)) ∈ lw_all := lw_g (lw_at lw_m2 22 rfl) rfl
theorem q286 : (Jvm.Cond.methodLink "RenameDeskModel" (75 : Nat) ({ cls := "RenameDeskModel", name := "place", desc := "(II)V" } : Jvm.MethodName)) ∈ lw_all := lw_g (lw_at lw_m2 23 rfl) rfl
theorem q287 : (Jvm.Cond.privateMethod ({ cls := "RenameDeskModel", name := "place", desc := "(II)V" } : Jvm.MethodName)) ∈ lw_tbl := lw_at lw_m2 24 rfl
theorem q288 : (Jvm.Cond.instanceMethod ({ cls := "RenameDeskModel", name := "place", desc := "(II)V" } : Jvm.MethodName)) ∈ lw_all := lw_g (lw_at lw_m2 25 rfl) rfl
theorem q289 : (Jvm.Cond.code ({ cls := "RenameDeskModel", name := "place", desc := "(II)V" } : Jvm.MethodName) prog_3_method_23_code (3 : Nat) (Option.none : Option Jvm.ClassFile.FieldType)) ∈ lw_all := lw_g (lw_at lw_m2 26 rfl) rfl
theorem q291 : (Jvm.Cond.instanceMethod ({ cls := "RenameDeskModel", name := "moveOut", desc := "(I)I" } : Jvm.MethodName)) ∈ lw_all := lw_g (lw_at lw_m2 28 rfl) rfl
theorem q292 : (Jvm.Cond.selects "RenameDeskModel" ({ cls := "RenameDeskModel", name := "moveOut", desc := "(I)I" } : Jvm.MethodName) ({ cls := "RenameDeskModel", name := "moveOut", desc := "(I)I" } : Jvm.MethodName)) ∈ lw_all := lw_g (lw_at lw_m2 29 rfl) rfl
theorem q293 : (Jvm.Cond.code ({ cls := "RenameDeskModel", name := "moveOut", desc := "(I)I" } : Jvm.MethodName) prog_3_method_25_code (4 : Nat) (Option.some Jvm.ClassFile.FieldType.int)) ∈ lw_all := lw_g (lw_at lw_m2 30 rfl) rfl
theorem q295 : (Jvm.Cond.instanceMethod ({ cls := "RenameDeskModel", name := "canMoveOut", desc := "(I)Z" } : Jvm.MethodName)) ∈ lw_all := lw_g (lw_at lw_m2 32 rfl) rfl
theorem q296 : (Jvm.Cond.selects "RenameDeskModel" ({ cls := "RenameDeskModel", name := "canMoveOut", desc := "(I)Z" } : Jvm.MethodName) ({ cls := "RenameDeskModel", name := "canMoveOut", desc := "(I)Z" } : Jvm.MethodName)) ∈ lw_all := lw_g (lw_at lw_m2 33 rfl) rfl
theorem q297 : (Jvm.Cond.code ({ cls := "RenameDeskModel", name := "canMoveOut", desc := "(I)Z" } : Jvm.MethodName) prog_3_method_26_code (4 : Nat) (Option.some Jvm.ClassFile.FieldType.boolean)) ∈ lw_all := lw_g (lw_at lw_m2 34 rfl) rfl
theorem q299 : (Jvm.Cond.instanceMethod ({ cls := "RenameDeskModel", name := "depth", desc := "(I)I" } : Jvm.MethodName)) ∈ lw_all := lw_g (lw_at lw_m2 36 rfl) rfl
theorem q300 : (Jvm.Cond.selects "RenameDeskModel" ({ cls := "RenameDeskModel", name := "depth", desc := "(I)I" } : Jvm.MethodName) ({ cls := "RenameDeskModel", name := "depth", desc := "(I)I" } : Jvm.MethodName)) ∈ lw_all := lw_g (lw_at lw_m2 37 rfl) rfl
theorem q301 : (Jvm.Cond.code ({ cls := "RenameDeskModel", name := "depth", desc := "(I)I" } : Jvm.MethodName) prog_3_method_27_code (4 : Nat) (Option.some Jvm.ClassFile.FieldType.int)) ∈ lw_all := lw_g (lw_at lw_m2 38 rfl) rfl
theorem q303 : (Jvm.Cond.instanceMethod ({ cls := "RenameDeskModel", name := "visible", desc := "(I)I" } : Jvm.MethodName)) ∈ lw_all := lw_g (lw_at lw_m2 40 rfl) rfl
theorem q304 : (Jvm.Cond.selects "RenameDeskModel" ({ cls := "RenameDeskModel", name := "visible", desc := "(I)I" } : Jvm.MethodName) ({ cls := "RenameDeskModel", name := "visible", desc := "(I)I" } : Jvm.MethodName)) ∈ lw_all := lw_g (lw_at lw_m2 41 rfl) rfl
theorem q305 : (Jvm.Cond.code ({ cls := "RenameDeskModel", name := "visible", desc := "(I)I" } : Jvm.MethodName) prog_3_method_28_code (4 : Nat) (Option.some Jvm.ClassFile.FieldType.int)) ∈ lw_all := lw_g (lw_at lw_m2 42 rfl) rfl
theorem in_X1 : ∀ w ∈ wsX10, w ∈ lw_all := lw_in wsX10 [181, 183, 185, 187, 189, 191, 193] (by decide +kernel) (by decide +kernel)
end
section
/-! java/lang/Object -/
set_option maxRecDepth 100000
def RJ0 : String := "java/lang/Object"
abbrev cJ0_init : ByteArray := object_method_1_code
def yJ0_init : MethodName := ⟨RJ0, "<init>", "()V"⟩
theorem dJ0_init_0 : decode cJ0_init 0 = .ok (.return_, 1) := by decide +kernel
theorem q32 : (Jvm.Cond.instanceMethod ({ cls := "java/lang/Object", name := "<init>", desc := "()V" } : Jvm.MethodName)) ∈ lw_all := lw_g (lw_at lw_m1 9 rfl) rfl
theorem q33 : (Jvm.Cond.code ({ cls := "java/lang/Object", name := "<init>", desc := "()V" } : Jvm.MethodName) object_method_1_code (1 : Nat) (Option.none : Option Jvm.ClassFile.FieldType)) ∈ lw_all := lw_g (lw_at lw_m1 10 rfl) rfl

theorem q62 : (Jvm.Cond.arrayClass Jvm.ClassFile.FieldType.byte) ∈ lw_all := lw_g (lw_at lw_m1 39 rfl) rfl
set_option maxRecDepth 100000
theorem q196 : (Jvm.Cond.arrayClass Jvm.ClassFile.FieldType.int) ∈ lw_all := lw_g (lw_at lw_m1 173 rfl) rfl

theorem q23 : (Jvm.Cond.initialized "RenameDeskLaw") ∈ lw_all := lw_g (lw_at lw_m1 0 rfl) rfl
set_option maxRecDepth 100000
theorem q26 : (Jvm.Cond.classLink "RenameDeskLaw" (7 : Nat) "RenameDesk") ∈ lw_all := lw_g (lw_at lw_m1 3 rfl) rfl
theorem q28 : (Jvm.Cond.methodLink "RenameDeskLaw" (9 : Nat) ({ cls := "RenameDesk", name := "<init>", desc := "()V" } : Jvm.MethodName)) ∈ lw_all := lw_g (lw_at lw_m1 5 rfl) rfl
theorem q63 : (Jvm.Cond.methodLink "RenameDeskLaw" (13 : Nat) ({ cls := "RenameDesk", name := "add", desc := "(II)I" } : Jvm.MethodName)) ∈ lw_all := lw_g (lw_at lw_m1 40 rfl) rfl
theorem q71 : (Jvm.Cond.methodLink "RenameDeskLaw" (18 : Nat) ({ cls := "RenameDesk", name := "drop", desc := "()I" } : Jvm.MethodName)) ∈ lw_all := lw_g (lw_at lw_m1 48 rfl) rfl
theorem q75 : (Jvm.Cond.methodLink "RenameDeskLaw" (23 : Nat) ({ cls := "RenameDesk", name := "length", desc := "()I" } : Jvm.MethodName)) ∈ lw_all := lw_g (lw_at lw_m1 52 rfl) rfl
theorem q79 : (Jvm.Cond.methodLink "RenameDeskLaw" (27 : Nat) ({ cls := "RenameDesk", name := "token", desc := "(I)I" } : Jvm.MethodName)) ∈ lw_all := lw_g (lw_at lw_m1 56 rfl) rfl
theorem q87 : (Jvm.Cond.methodLink "RenameDeskLaw" (32 : Nat) ({ cls := "RenameDesk", name := "bound", desc := "(I)I" } : Jvm.MethodName)) ∈ lw_all := lw_g (lw_at lw_m1 64 rfl) rfl
theorem q115 : (Jvm.Cond.methodLink "RenameDeskLaw" (36 : Nat) ({ cls := "RenameDesk", name := "uses", desc := "(I)I" } : Jvm.MethodName)) ∈ lw_all := lw_g (lw_at lw_m1 92 rfl) rfl
theorem q119 : (Jvm.Cond.methodLink "RenameDeskLaw" (40 : Nat) ({ cls := "RenameDesk", name := "free", desc := "()I" } : Jvm.MethodName)) ∈ lw_all := lw_g (lw_at lw_m1 96 rfl) rfl
theorem q123 : (Jvm.Cond.methodLink "RenameDeskLaw" (44 : Nat) ({ cls := "RenameDesk", name := "unused", desc := "()I" } : Jvm.MethodName)) ∈ lw_all := lw_g (lw_at lw_m1 100 rfl) rfl
theorem q128 : (Jvm.Cond.methodLink "RenameDeskLaw" (48 : Nat) ({ cls := "RenameDesk", name := "names", desc := "(I)I" } : Jvm.MethodName)) ∈ lw_all := lw_g (lw_at lw_m1 105 rfl) rfl
theorem q136 : (Jvm.Cond.methodLink "RenameDeskLaw" (52 : Nat) ({ cls := "RenameDesk", name := "rename", desc := "(II)I" } : Jvm.MethodName)) ∈ lw_all := lw_g (lw_at lw_m1 113 rfl) rfl
theorem q140 : (Jvm.Cond.methodLink "RenameDeskLaw" (56 : Nat) ({ cls := "RenameDesk", name := "swap", desc := "(I)I" } : Jvm.MethodName)) ∈ lw_all := lw_g (lw_at lw_m1 117 rfl) rfl
theorem q148 : (Jvm.Cond.methodLink "RenameDeskLaw" (60 : Nat) ({ cls := "RenameDesk", name := "moveOut", desc := "(I)I" } : Jvm.MethodName)) ∈ lw_all := lw_g (lw_at lw_m1 125 rfl) rfl
theorem q156 : (Jvm.Cond.methodLink "RenameDeskLaw" (64 : Nat) ({ cls := "RenameDesk", name := "canMoveOut", desc := "(I)Z" } : Jvm.MethodName)) ∈ lw_all := lw_g (lw_at lw_m1 133 rfl) rfl
theorem q160 : (Jvm.Cond.methodLink "RenameDeskLaw" (69 : Nat) ({ cls := "RenameDesk", name := "depth", desc := "(I)I" } : Jvm.MethodName)) ∈ lw_all := lw_g (lw_at lw_m1 137 rfl) rfl
theorem q164 : (Jvm.Cond.methodLink "RenameDeskLaw" (73 : Nat) ({ cls := "RenameDesk", name := "visible", desc := "(I)I" } : Jvm.MethodName)) ∈ lw_all := lw_g (lw_at lw_m1 141 rfl) rfl
theorem q168 : (Jvm.Cond.classLink "RenameDeskLaw" (10 : Nat) "RenameDeskModel") ∈ lw_all := lw_g (lw_at lw_m1 145 rfl) rfl
theorem q170 : (Jvm.Cond.methodLink "RenameDeskLaw" (12 : Nat) ({ cls := "RenameDeskModel", name := "<init>", desc := "()V" } : Jvm.MethodName)) ∈ lw_all := lw_g (lw_at lw_m1 147 rfl) rfl
theorem q197 : (Jvm.Cond.methodLink "RenameDeskLaw" (17 : Nat) ({ cls := "RenameDeskModel", name := "add", desc := "(II)I" } : Jvm.MethodName)) ∈ lw_all := lw_g (lw_at lw_m1 174 rfl) rfl
theorem q205 : (Jvm.Cond.methodLink "RenameDeskLaw" (22 : Nat) ({ cls := "RenameDeskModel", name := "drop", desc := "()I" } : Jvm.MethodName)) ∈ lw_all := lw_g (lw_at lw_m1 182 rfl) rfl
theorem q209 : (Jvm.Cond.methodLink "RenameDeskLaw" (26 : Nat) ({ cls := "RenameDeskModel", name := "length", desc := "()I" } : Jvm.MethodName)) ∈ lw_all := lw_g (lw_at lw_m1 186 rfl) rfl
theorem q213 : (Jvm.Cond.methodLink "RenameDeskLaw" (31 : Nat) ({ cls := "RenameDeskModel", name := "token", desc := "(I)I" } : Jvm.MethodName)) ∈ lw_all := lw_g (lw_at lw_m1 190 rfl) rfl
theorem q221 : (Jvm.Cond.methodLink "RenameDeskLaw" (35 : Nat) ({ cls := "RenameDeskModel", name := "bound", desc := "(I)I" } : Jvm.MethodName)) ∈ lw_all := lw_g (lw_at lw_m1 198 rfl) rfl
theorem q245 : (Jvm.Cond.methodLink "RenameDeskLaw" (39 : Nat) ({ cls := "RenameDeskModel", name := "uses", desc := "(I)I" } : Jvm.MethodName)) ∈ lw_all := lw_g (lw_at lw_m1 222 rfl) rfl
theorem q249 : (Jvm.Cond.methodLink "RenameDeskLaw" (43 : Nat) ({ cls := "RenameDeskModel", name := "free", desc := "()I" } : Jvm.MethodName)) ∈ lw_all := lw_g (lw_at lw_m1 226 rfl) rfl
theorem q253 : (Jvm.Cond.methodLink "RenameDeskLaw" (47 : Nat) ({ cls := "RenameDeskModel", name := "unused", desc := "()I" } : Jvm.MethodName)) ∈ lw_all := lw_g (lw_at lw_m1 230 rfl) rfl
theorem q258 : (Jvm.Cond.methodLink "RenameDeskLaw" (51 : Nat) ({ cls := "RenameDeskModel", name := "names", desc := "(I)I" } : Jvm.MethodName)) ∈ lw_all := lw_g (lw_at lw_m1 235 rfl) rfl
theorem q274 : (Jvm.Cond.methodLink "RenameDeskLaw" (55 : Nat) ({ cls := "RenameDeskModel", name := "rename", desc := "(II)I" } : Jvm.MethodName)) ∈ lw_all := lw_g (lw_at lw_m2 11 rfl) rfl
theorem q282 : (Jvm.Cond.methodLink "RenameDeskLaw" (59 : Nat) ({ cls := "RenameDeskModel", name := "swap", desc := "(I)I" } : Jvm.MethodName)) ∈ lw_all := lw_g (lw_at lw_m2 19 rfl) rfl
theorem q290 : (Jvm.Cond.methodLink "RenameDeskLaw" (63 : Nat) ({ cls := "RenameDeskModel", name := "moveOut", desc := "(I)I" } : Jvm.MethodName)) ∈ lw_all := lw_g (lw_at lw_m2 27 rfl) rfl
theorem q294 : (Jvm.Cond.methodLink "RenameDeskLaw" (68 : Nat) ({ cls := "RenameDeskModel", name := "canMoveOut", desc := "(I)Z" } : Jvm.MethodName)) ∈ lw_all := lw_g (lw_at lw_m2 31 rfl) rfl
theorem q298 : (Jvm.Cond.methodLink "RenameDeskLaw" (72 : Nat) ({ cls := "RenameDeskModel", name := "depth", desc := "(I)I" } : Jvm.MethodName)) ∈ lw_all := lw_g (lw_at lw_m2 35 rfl) rfl
theorem q302 : (Jvm.Cond.methodLink "RenameDeskLaw" (76 : Nat) ({ cls := "RenameDeskModel", name := "visible", desc := "(I)I" } : Jvm.MethodName)) ∈ lw_all := lw_g (lw_at lw_m2 39 rfl) rfl
end
section
/-! THE PURE LAW, part 1: blocks, visibility, bindings; no program in sight -/
def iI (z : Int) : Int32 := Int32.ofInt z
/-- one place of an array written -/
def rd_up (K : Int → Int) (i v : Int) : Int → Int := fun j => if j = i then v else K j
theorem rd_up_s (K : Int → Int) (i v : Int) : rd_up K i v i = v := by simp [rd_up]
theorem rd_up_n {K : Int → Int} {i v j : Int} (h : j ≠ i) : rd_up K i v j = K j := by simp [rd_up, h]
def rd_stp (x : Int) : Int := if x = 0 then 1 else if x = 1 then -1 else 0
theorem rd_stp_b (x : Int) : -1 ≤ rd_stp x ∧ rd_stp x ≤ 1 := by
  unfold rd_stp
  split
  · omega
  · split <;> omega
theorem rd_stp_0 : rd_stp 0 = 1 := rfl
theorem rd_stp_1 : rd_stp 1 = -1 := rfl
theorem rd_stp_2 {x : Int} (h0 : x ≠ 0) (h1 : x ≠ 1) : rd_stp x = 0 := by simp [rd_stp, h0, h1]
theorem rd_stp_up {x : Int} (h : 1 ≤ rd_stp x) : x = 0 := by
  unfold rd_stp at h
  split at h
  · assumption
  · split at h <;> omega
/-- how many blocks are open ahead of a place -/
def rd_dpn (K : Int → Int) : Nat → Int
  | 0 => 0
  | n + 1 => rd_dpn K n + rd_stp (K n)
def rd_dep (K : Int → Int) (i : Int) : Int := rd_dpn K i.toNat
theorem rd_dep_0 (K : Int → Int) : rd_dep K 0 = 0 := rfl
theorem rd_dep_s {K : Int → Int} {i : Int} (h : 0 ≤ i) : rd_dep K (i + 1) = rd_dep K i + rd_stp (K i) := by
  unfold rd_dep
  have h1 : (i + 1).toNat = i.toNat + 1 := by omega
  rw [h1, rd_dpn, Int.toNat_of_nonneg h]
theorem rd_dpn_congr {K K' : Int → Int} : ∀ n : Nat, (∀ j : Int, 0 ≤ j → j < n → K j = K' j) → rd_dpn K n = rd_dpn K' n
  | 0, _ => rfl
  | n + 1, h => by
    rw [rd_dpn, rd_dpn, rd_dpn_congr n (fun j h1 h2 => h j h1 (by omega)), h n (by omega) (by omega)]
theorem rd_dep_congr {K K' : Int → Int} {i : Int} (h : ∀ j : Int, 0 ≤ j → j < i → K j = K' j) : rd_dep K i = rd_dep K' i :=
  rd_dpn_congr _ (fun j h1 h2 => h j h1 (by omega))
theorem rd_dpn_le (K : Int → Int) : ∀ n : Nat, rd_dpn K n ≤ n
  | 0 => by simp [rd_dpn]
  | n + 1 => by
    have h1 := rd_dpn_le K n
    have h2 := rd_stp_b (K n)
    rw [rd_dpn]
    omega
theorem rd_dep_le (K : Int → Int) {i : Int} (h : 0 ≤ i) : rd_dep K i ≤ i := by
  have h1 := rd_dpn_le K i.toNat
  unfold rd_dep
  omega
/-- the tokens are well formed -/
def rd_WF (sz : Int) (K N : Int → Int) : Prop := (0 ≤ sz ∧ sz ≤ 28) ∧ (∀ i, 0 ≤ i → i < sz → (0 ≤ K i ∧ K i ≤ 3) ∧ (0 ≤ N i ∧ N i ≤ 7)) ∧ ∀ i, 0 ≤ i → i ≤ sz → 0 ≤ rd_dep K i
/-- place u lies in the block of place d (d ahead of u) -/
def rd_Vis (K : Int → Int) (d u : Int) : Prop := ∀ q, d ≤ q → q ≤ u → rd_dep K d ≤ rd_dep K q
def rd_Cand (K N : Int → Int) (nm u d : Int) : Prop := 0 ≤ d ∧ d < u ∧ K d = 2 ∧ N d = nm ∧ rd_Vis K d u
def rd_WinU (K N : Int → Int) (nm u n w : Int) : Prop := (w = -1 ∧ ∀ d, d < n → ¬ rd_Cand K N nm u d) ∨ (rd_Cand K N nm u w ∧ w < n ∧ ∀ d, d < n → rd_Cand K N nm u d → d ≤ w)
/-- w is the last declaration of nm that is seen at u, or -1 -/
def rd_Win (K N : Int → Int) (nm u w : Int) : Prop := rd_WinU K N nm u u w
theorem rd_WinU_0 (K N : Int → Int) (nm u : Int) : rd_WinU K N nm u 0 (-1) := Or.inl ⟨rfl, fun d h c => by have := c.1; omega⟩
theorem rd_WinU_skip {K N : Int → Int} {nm u n w : Int} (h : rd_WinU K N nm u n w) (hn : ¬ rd_Cand K N nm u n) : rd_WinU K N nm u (n + 1) w := by
  rcases h with ⟨e, h⟩ | ⟨c, l, h⟩
  · refine Or.inl ⟨e, fun d hd c => ?_⟩
    by_cases e2 : d = n
    · exact hn (e2 ▸ c)
    · exact h d (by omega) c
  · refine Or.inr ⟨c, by omega, fun d hd c2 => ?_⟩
    by_cases e2 : d = n
    · exact absurd (e2 ▸ c2) hn
    · exact h d (by omega) c2
theorem rd_WinU_take {K N : Int → Int} {nm u n w : Int} (_h : rd_WinU K N nm u n w) (hn : rd_Cand K N nm u n) : rd_WinU K N nm u (n + 1) n :=
  Or.inr ⟨hn, by omega, fun d hd _ => by omega⟩
theorem rd_Win_uniq {K N : Int → Int} {nm u w w' : Int} (h : rd_Win K N nm u w) (h' : rd_Win K N nm u w') : w = w' := by
  rcases h with ⟨e, h⟩ | ⟨c, l, h⟩
  · rcases h' with ⟨e', h'⟩ | ⟨c', l', h'⟩
    · omega
    · exact absurd c' (h w' l')
  · rcases h' with ⟨e', h'⟩ | ⟨c', l', h'⟩
    · exact absurd c (h' w l)
    · have h1 := h w' l' c'
      have h2 := h' w l c
      omega
theorem rd_WinU_ex (K N : Int → Int) (nm u : Int) : ∀ n : Nat, ∃ w, rd_WinU K N nm u n w
  | 0 => ⟨-1, rd_WinU_0 K N nm u⟩
  | n + 1 => by
    obtain ⟨w, h⟩ := rd_WinU_ex K N nm u n
    by_cases c : rd_Cand K N nm u n
    · exact ⟨n, rd_WinU_take h c⟩
    · exact ⟨w, rd_WinU_skip h c⟩
theorem rd_Win_ex (K N : Int → Int) (nm : Int) {u : Int} (hu : 0 ≤ u) : ∃ w, rd_Win K N nm u w := by
  obtain ⟨w, h⟩ := rd_WinU_ex K N nm u u.toNat
  rw [Int.toNat_of_nonneg hu] at h
  exact ⟨w, h⟩
theorem rd_Win_rng {K N : Int → Int} {nm u w : Int} (h : rd_Win K N nm u w) (hu : 0 ≤ u) : -1 ≤ w ∧ w < u := by
  rcases h with ⟨e, h⟩ | ⟨c, l, h⟩
  · omega
  · have := c.1
    omega
theorem rd_Win_pos {K N : Int → Int} {nm u w : Int} (h : rd_Win K N nm u w) (hw : 0 ≤ w) : rd_Cand K N nm u w := by
  rcases h with ⟨e, h⟩ | ⟨c, l, h⟩
  · omega
  · exact c
theorem rd_Win_max {K N : Int → Int} {nm u w d : Int} (h : rd_Win K N nm u w) (c : rd_Cand K N nm u d) : d ≤ w := by
  rcases h with ⟨e, h⟩ | ⟨c2, l, h⟩
  · exact absurd c (h d c.2.1)
  · exact h d c.2.1 c
theorem rd_Win_neg {K N : Int → Int} {nm u w d : Int} (h : rd_Win K N nm u w) (hw : w < 0) : ¬ rd_Cand K N nm u d := by
  intro c
  have := rd_Win_max h c
  have := c.1
  omega
/-- how a value is shown to be the last one seen -/
theorem rd_Win_of {K N : Int → Int} {nm u w : Int} (c : rd_Cand K N nm u w) (h : ∀ d, rd_Cand K N nm u d → d ≤ w) : rd_Win K N nm u w :=
  Or.inr ⟨c, c.2.1, fun d _ c2 => h d c2⟩
theorem rd_Win_of0 {K N : Int → Int} {nm u : Int} (h : ∀ d, ¬ rd_Cand K N nm u d) : rd_Win K N nm u (-1) :=
  Or.inl ⟨rfl, fun d _ => h d⟩
theorem rd_Win_iff {K N K' N' : Int → Int} {nm u w : Int} (h : ∀ d, rd_Cand K N nm u d ↔ rd_Cand K' N' nm u d) : rd_Win K N nm u w ↔ rd_Win K' N' nm u w := by
  unfold rd_Win rd_WinU
  simp only [h]
theorem rd_Vis_congr {K K' : Int → Int} {d u : Int} (h : ∀ j : Int, 0 ≤ j → j < u → K j = K' j) (hd : 0 ≤ d) : rd_Vis K d u ↔ rd_Vis K' d u := by
  have e : ∀ q, q ≤ u → rd_dep K q = rd_dep K' q := fun q hq => rd_dep_congr (fun j h1 h2 => h j h1 (by omega))
  constructor
  · intro v q h1 h2
    have := v q h1 h2
    rw [← e q h2, ← e d (by omega)]
    exact this
  · intro v q h1 h2
    have := v q h1 h2
    rw [e q h2, e d (by omega)]
    exact this
theorem rd_Cand_congr {K K' N N' : Int → Int} {nm u : Int} (h : ∀ j : Int, 0 ≤ j → j < u → K j = K' j) (hN : ∀ j : Int, 0 ≤ j → j < u → N j = N' j) (d : Int) : rd_Cand K N nm u d ↔ rd_Cand K' N' nm u d := by
  unfold rd_Cand
  constructor
  · rintro ⟨h1, h2, h3, h4, h5⟩
    exact ⟨h1, h2, by rw [← h d h1 h2]; exact h3, by rw [← hN d h1 h2]; exact h4, (rd_Vis_congr h h1).mp h5⟩
  · rintro ⟨h1, h2, h3, h4, h5⟩
    exact ⟨h1, h2, by rw [h d h1 h2]; exact h3, by rw [hN d h1 h2]; exact h4, (rd_Vis_congr h h1).mpr h5⟩
theorem rd_Win_congr {K K' N N' : Int → Int} {nm u w : Int} (h : ∀ j : Int, 0 ≤ j → j < u → K j = K' j) (hN : ∀ j : Int, 0 ≤ j → j < u → N j = N' j) : rd_Win K N nm u w ↔ rd_Win K' N' nm u w :=
  rd_Win_iff (rd_Cand_congr h hN)
theorem rd_WF_congr {sz : Int} {K K' N N' : Int → Int} (h : ∀ j : Int, 0 ≤ j → j < sz → K j = K' j) (hN : ∀ j : Int, 0 ≤ j → j < sz → N j = N' j) (w : rd_WF sz K N) : rd_WF sz K' N' := by
  refine ⟨w.1, fun i h1 h2 => ?_, fun i h1 h2 => ?_⟩
  · rw [← h i h1 h2, ← hN i h1 h2]
    exact w.2.1 i h1 h2
  · rw [← rd_dep_congr (fun j h3 h4 => h j h3 (by omega))]
    exact w.2.2 i h1 h2
/-- of two declarations seen at one place, d hides e -/
def rd_hid (K : Int → Int) (d e : Int) : Prop := rd_dep K e < rd_dep K d ∨ (rd_dep K d = rd_dep K e ∧ e < d)
theorem rd_hid_iff {K : Int → Int} {d e u : Int} (hd : rd_Vis K d u) (he : rd_Vis K e u) (h1 : d < u) (h2 : e < u) : rd_hid K d e ↔ e < d := by
  unfold rd_hid
  constructor
  · intro h
    rcases Int.lt_or_le e d with h3 | h3
    · exact h3
    · have := hd e h3 (by omega)
      omega
  · intro h
    have := he d (by omega) (by omega)
    omega
/-- the OPEN of the innermost block around k -/
def rd_Blk (K : Int → Int) (k r : Int) : Prop := -1 ≤ r ∧ r < k ∧ (∀ q, r < q → q ≤ k → rd_dep K k ≤ rd_dep K q) ∧ (0 ≤ r → rd_dep K r < rd_dep K k)
theorem rd_Blk_uniq {K : Int → Int} {k r r' : Int} (h : rd_Blk K k r) (h' : rd_Blk K k r') : r = r' := by
  rcases Int.lt_trichotomy r r' with q | q | q
  · have h1 := h.2.2.1 r' q (by have := h'.2.1; omega)
    have h2 := h'.2.2.2 (by have := h.1; omega)
    omega
  · exact q
  · have h1 := h'.2.2.1 r q (by have := h.2.1; omega)
    have h2 := h.2.2.2 (by have := h'.1; omega)
    omega
theorem rd_Blk_open {K : Int → Int} {k r : Int} (h : rd_Blk K k r) (hr : 0 ≤ r) : K r = 0 ∧ rd_dep K k = rd_dep K r + 1 := by
  obtain ⟨h1, h2, h3, h4⟩ := h
  have h5 := h4 hr
  have h6 := h3 (r + 1) (by omega) (by omega)
  have h7 := rd_dep_s (K := K) hr
  have h8 := rd_stp_b (K r)
  exact ⟨rd_stp_up (by omega), by omega⟩
def rd_dpb (K : Int → Int) (b : Int) : Int := if b < 0 then -1 else rd_dep K b
theorem rd_dpb_n {K : Int → Int} {b : Int} (h : b < 0) : rd_dpb K b = -1 := by simp [rd_dpb, h]
theorem rd_dpb_p {K : Int → Int} {b : Int} (h : 0 ≤ b) : rd_dpb K b = rd_dep K b := by
  have : ¬ b < 0 := by omega
  simp [rd_dpb, this]
/-- with no depth below zero the block around k is one step up -/
theorem rd_Blk_dpb {K : Int → Int} {k r : Int} (h : rd_Blk K k r) (hk : 0 ≤ k) (hw : 0 ≤ rd_dep K k) : rd_dpb K r = rd_dep K k - 1 := by
  rcases Int.lt_or_le r 0 with q | q
  · rw [rd_dpb_n q]
    have h1 := h.2.2.1 0 (by omega) hk
    rw [rd_dep_0] at h1
    omega
  · rw [rd_dpb_p q, (rd_Blk_open h q).2]
    omega
theorem rd_Blk_gt {K : Int → Int} {k r : Int} (h : rd_Blk K k r) (hk : 0 ≤ k) (hw : 0 ≤ rd_dep K k) : ∀ q, r < q → q ≤ k → rd_dpb K r < rd_dep K q := by
  intro q h1 h2
  have h3 := rd_Blk_dpb h hk hw
  have h4 := h.2.2.1 q h1 h2
  omega
/-! the reference's search -/
def rd_Lst (K N : Int → Int) (b u nm r : Int) : Prop := (r = -1 ∧ ∀ p, b < p → p < u → ¬ (K p = 2 ∧ N p = nm ∧ rd_Blk K p b)) ∨ (b < r ∧ r < u ∧ (K r = 2 ∧ N r = nm ∧ rd_Blk K r b) ∧ ∀ p, r < p → p < u → ¬ (K p = 2 ∧ N p = nm ∧ rd_Blk K p b))
def rd_Chn (K N : Int → Int) (nm u b : Int) : Prop := -1 ≤ b ∧ b < u ∧ (∀ q, b < q → q ≤ u → rd_dpb K b < rd_dep K q) ∧ ∀ d, rd_Cand K N nm u d → rd_dep K d ≤ rd_dpb K b + 1
theorem rd_Chn_init {K N : Int → Int} {nm u b : Int} (hu : 0 ≤ u) (hw : 0 ≤ rd_dep K u) (h : rd_Blk K u b) : rd_Chn K N nm u b ∧ rd_dpb K b = rd_dep K u - 1 := by
  have h1 := rd_Blk_dpb h hu hw
  refine ⟨⟨h.1, h.2.1, rd_Blk_gt h hu hw, fun d c => ?_⟩, h1⟩
  have h2 := c.2.2.2.2 u (by have := c.2.1; omega) (by omega)
  omega
/-- in the chain: a declaration one step deeper than b, behind b, lies directly in b and is seen -/
theorem rd_Chn_dir {K N : Int → Int} {nm u b p : Int} (h : rd_Chn K N nm u b) (h1 : b < p) (h2 : p < u) (h3 : rd_dep K p = rd_dpb K b + 1) : rd_Blk K p b ∧ rd_Vis K p u := by
  obtain ⟨g1, g2, g3, g4⟩ := h
  refine ⟨⟨g1, h1, fun q q1 q2 => ?_, fun hb => ?_⟩, fun q q1 q2 => ?_⟩
  · have := g3 q q1 (by omega)
    omega
  · rw [rd_dpb_p hb] at h3
    omega
  · have := g3 q (by omega) q2
    omega
theorem rd_Chn_blk {K N : Int → Int} {nm u b p : Int} (h : rd_Chn K N nm u b) (hw : ∀ i, 0 ≤ i → i ≤ u → 0 ≤ rd_dep K i) (h2 : p < u) (hb : rd_Blk K p b) : rd_dep K p = rd_dpb K b + 1 := by
  have h0 : 0 ≤ p := by have := hb.2.1; have := h.1; omega
  have := rd_Blk_dpb hb h0 (hw p h0 (by omega))
  omega
theorem rd_Chn_found {K N : Int → Int} {nm u b r : Int} (h : rd_Chn K N nm u b) (hw : ∀ i, 0 ≤ i → i ≤ u → 0 ≤ rd_dep K i) (hl : rd_Lst K N b u nm r) (hr : 0 ≤ r) : rd_Win K N nm u r := by
  rcases hl with ⟨e, -⟩ | ⟨h1, h2, ⟨h3, h4, h5⟩, h6⟩
  · omega
  · have e := rd_Chn_blk h hw h2 h5
    refine rd_Win_of ⟨hr, h2, h3, h4, (rd_Chn_dir h h1 h2 e).2⟩ fun d c => ?_
    rcases Int.lt_or_le r d with q | q
    · have g1 := h.2.2.2 d c
      have g2 := h.2.2.1 d (by omega) (by have := c.2.1; omega)
      exact absurd ⟨c.2.2.1, c.2.2.2.1, (rd_Chn_dir h (by omega) c.2.1 (by omega)).1⟩ (h6 d q c.2.1)
    · exact q
theorem rd_Chn_last {K N : Int → Int} {nm u b : Int} (h : rd_Chn K N nm u b) (hl : rd_Lst K N b u nm (-1)) : ∀ d, rd_Cand K N nm u d → d ≤ b ∨ rd_dep K d ≤ rd_dpb K b := by
  intro d c
  rcases Int.lt_or_le b d with q | q
  · have g1 := h.2.2.2 d c
    refine Or.inr ?_
    rcases Int.lt_or_le (rd_dpb K b) (rd_dep K d) with g2 | g2
    · have e : ∀ p, b < p → p < u → ¬ (K p = 2 ∧ N p = nm ∧ rd_Blk K p b) := by
        rcases hl with ⟨-, e⟩ | ⟨e1, -⟩
        · exact e
        · have := h.1
          omega
      exact absurd ⟨c.2.2.1, c.2.2.2.1, (rd_Chn_dir h q c.2.1 (by omega)).1⟩ (e d q c.2.1)
    · exact g2
  · exact Or.inl q
theorem rd_Chn_none {K N : Int → Int} {nm u b : Int} (h : rd_Chn K N nm u b) (hl : rd_Lst K N b u nm (-1)) (hb : b < 0) : rd_Win K N nm u (-1) := by
  refine rd_Win_of0 fun d c => ?_
  have g3 := h.2.2.1 d (by have := c.1; omega) (by have := c.2.1; omega)
  rcases rd_Chn_last h hl d c with g | g
  · have := c.1
    omega
  · omega
theorem rd_Chn_next {K N : Int → Int} {nm u b b' : Int} (h : rd_Chn K N nm u b) (hw : ∀ i, 0 ≤ i → i ≤ u → 0 ≤ rd_dep K i) (hl : rd_Lst K N b u nm (-1)) (hb : 0 ≤ b) (hk : K b ≠ 2) (hb' : rd_Blk K b b') : rd_Chn K N nm u b' ∧ rd_dpb K b' = rd_dpb K b - 1 := by
  have e0 := rd_Blk_dpb hb' hb (hw b hb (by have := h.2.1; omega))
  have e1 : rd_dpb K b = rd_dep K b := rd_dpb_p hb
  refine ⟨⟨hb'.1, by have := hb'.2.1; have := h.2.1; omega, fun q q1 q2 => ?_, fun d c => ?_⟩, by omega⟩
  · rcases Int.lt_or_le b q with g | g
    · have := h.2.2.1 q g q2
      omega
    · have := hb'.2.2.1 q q1 g
      omega
  · rcases rd_Chn_last h hl d c with g | g
    · have g1 := c.2.2.2.2 b g (by have := h.2.1; omega)
      omega
    · omega
theorem rd_Chn_bot {K N : Int → Int} {nm u b : Int} (h : rd_Chn K N nm u b) (hb : rd_dpb K b = -1) (hw : ∀ i, 0 ≤ i → i ≤ u → 0 ≤ rd_dep K i) : b < 0 := by
  rcases Int.lt_or_le b 0 with g | g
  · exact g
  · rw [rd_dpb_p g] at hb
    have := hw b g (by have := h.2.1; omega)
    omega
/-! what the desk learns -/
def rd_End (sz : Int) (K : Int → Int) (p e : Int) : Prop := p < e ∧ e ≤ sz ∧ (∀ q, p < q → q ≤ e → rd_dep K p < rd_dep K q) ∧ (e < sz → rd_dep K (e + 1) ≤ rd_dep K p)
def rd_L1 (sz : Int) (K B D E : Int → Int) : Prop := ∀ i, 0 ≤ i → i < sz → rd_Blk K i (B i) ∧ D i = rd_dep K i ∧ (K i = 0 → rd_End sz K i (E i))
theorem rd_inB {sz : Int} {K N B D E : Int → Int} (hw : rd_WF sz K N) (h : rd_L1 sz K B D E) {d u : Int} (hd : 0 ≤ d) (hdu : d < u) (hu : u < sz) : (B d < 0 ∨ (B d < u ∧ u ≤ E (B d))) ↔ rd_Vis K d u := by
  obtain ⟨hb, -, -⟩ := h d hd (by omega)
  have hw0 := hw.2.2
  constructor
  · rintro (g | ⟨g1, g2⟩)
    · intro q q1 q2
      have h1 := hb.2.2.1 0 (by omega) hd
      rw [rd_dep_0] at h1
      have := hw0 q (by omega) (by omega)
      omega
    · rcases Int.lt_or_le (B d) 0 with g | g
      · intro q q1 q2
        have h1 := hb.2.2.1 0 (by omega) hd
        rw [rd_dep_0] at h1
        have := hw0 q (by omega) (by omega)
        omega
      · obtain ⟨e1, e2⟩ := rd_Blk_open hb g
        have hE := (h (B d) g (by omega)).2.2 e1
        intro q q1 q2
        have := hE.2.2.1 q (by have := hb.2.1; omega) (by omega)
        omega
  · intro v
    rcases Int.lt_or_le (B d) 0 with g | g
    · exact Or.inl g
    · refine Or.inr ⟨by have := hb.2.1; omega, ?_⟩
      obtain ⟨e1, e2⟩ := rd_Blk_open hb g
      obtain ⟨c1, c2, c3, c4⟩ := (h (B d) g (by have := hb.2.1; omega)).2.2 e1
      rcases Int.lt_or_le (E (B d)) u with f | f
      · have f1 := c4 (by omega)
        rcases Int.lt_or_le (E (B d) + 1) d with f2 | f2
        · have := hb.2.2.1 (E (B d) + 1) (by omega) (by omega)
          omega
        · have := v (E (B d) + 1) f2 (by omega)
          omega
      · exact f
/-- the walk through the tokens, up to place k -/
def rd_Opn (K : Int → Int) (k j p : Int) : Prop := 0 ≤ p ∧ p < k ∧ K p = 0 ∧ rd_dep K p = j ∧ ∀ q, p < q → q ≤ k → j < rd_dep K q
def rd_EndU (sz : Int) (K : Int → Int) (k p e : Int) : Prop := (e = sz ∧ ∀ q, p < q → q ≤ k → rd_dep K p < rd_dep K q) ∨ (p < e ∧ e < k ∧ (∀ q, p < q → q ≤ e → rd_dep K p < rd_dep K q) ∧ rd_dep K (e + 1) ≤ rd_dep K p)
def rd_LU (sz : Int) (K B D E O : Int → Int) (k : Int) : Prop := (∀ i, 0 ≤ i → i < k → rd_Blk K i (B i) ∧ D i = rd_dep K i) ∧ (∀ j, 0 ≤ j → j < rd_dep K k → rd_Opn K k j (O j)) ∧ ∀ p, 0 ≤ p → p < k → K p = 0 → rd_EndU sz K k p (E p)
theorem rd_LU_0 (sz : Int) (K B D E O : Int → Int) : rd_LU sz K B D E O 0 :=
  ⟨fun i h1 h2 => by omega, fun j h1 h2 => by rw [rd_dep_0] at h2; omega, fun p h1 h2 => by omega⟩
theorem rd_LU_end {sz : Int} {K B D E O : Int → Int} (h : rd_LU sz K B D E O sz) : rd_L1 sz K B D E := by
  intro i h1 h2
  refine ⟨(h.1 i h1 h2).1, (h.1 i h1 h2).2, fun h3 => ?_⟩
  rcases h.2.2 i h1 h2 h3 with ⟨e, g⟩ | ⟨g1, g2, g3, g4⟩
  · exact ⟨by omega, by omega, fun q q1 q2 => g q q1 (by omega), fun q => by omega⟩
  · exact ⟨g1, by omega, g3, fun _ => g4⟩
/-- the block of place k, out of the stack of open blocks -/
theorem rd_LU_blk {sz : Int} {K N B D E O : Int → Int} {k : Int} (hw : rd_WF sz K N) (h : rd_LU sz K B D E O k) (h0 : 0 ≤ k) (hk : k < sz) : (0 < rd_dep K k → rd_Blk K k (O (rd_dep K k - 1))) ∧ (rd_dep K k ≤ 0 → rd_Blk K k (-1)) := by
  constructor
  · intro g
    obtain ⟨g1, g2, g3, g4, g5⟩ := h.2.1 (rd_dep K k - 1) (by omega) (by omega)
    exact ⟨by omega, g2, fun q q1 q2 => by have := g5 q q1 q2; omega, fun _ => by omega⟩
  · intro g
    refine ⟨by omega, by omega, fun q q1 q2 => ?_, fun q => by omega⟩
    have := hw.2.2 q (by omega) (by omega)
    omega
theorem rd_LU_s1 {K B D : Int → Int} {k b : Int} (h : ∀ i, 0 ≤ i → i < k → rd_Blk K i (B i) ∧ D i = rd_dep K i) (hb : rd_Blk K k b) : ∀ i, 0 ≤ i → i < k + 1 → rd_Blk K i (rd_up B k b i) ∧ rd_up D k (rd_dep K k) i = rd_dep K i := by
  intro i h1 h2
  by_cases e : i = k
  · subst e
    rw [rd_up_s, rd_up_s]
    exact ⟨hb, rfl⟩
  · rw [rd_up_n e, rd_up_n e]
    exact h i h1 (by omega)
theorem rd_LU_open {sz : Int} {K B D E O : Int → Int} {k b : Int} (h : rd_LU sz K B D E O k) (h0 : 0 ≤ k) (hb : rd_Blk K k b) (hk : K k = 0) (hw : 0 ≤ rd_dep K k) :
    rd_LU sz K (rd_up B k b) (rd_up D k (rd_dep K k)) (rd_up E k sz) (rd_up O (rd_dep K k) k) (k + 1) ∧ rd_dep K (k + 1) = rd_dep K k + 1 := by
  have e : rd_dep K (k + 1) = rd_dep K k + 1 := by rw [rd_dep_s h0, hk]; rfl
  refine ⟨⟨rd_LU_s1 h.1 hb, fun j h1 h2 => ?_, fun p h1 h2 h3 => ?_⟩, e⟩
  · by_cases c : j = rd_dep K k
    · rw [c, rd_up_s]
      exact ⟨h0, by omega, hk, rfl, fun q q1 q2 => by have : q = k + 1 := by omega
                                                      subst this; omega⟩
    · rw [rd_up_n c]
      obtain ⟨g1, g2, g3, g4, g5⟩ := h.2.1 j h1 (by omega)
      refine ⟨g1, by omega, g3, g4, fun q q1 q2 => ?_⟩
      by_cases c2 : q = k + 1
      · subst c2; omega
      · exact g5 q q1 (by omega)
  · by_cases c : p = k
    · subst c
      rw [rd_up_s]
      exact Or.inl ⟨rfl, fun q q1 q2 => by have : q = p + 1 := by omega
                                           subst this; omega⟩
    · rw [rd_up_n c]
      rcases h.2.2 p h1 (by omega) h3 with ⟨e1, g⟩ | ⟨g1, g2, g3, g4⟩
      · refine Or.inl ⟨e1, fun q q1 q2 => ?_⟩
        by_cases c2 : q = k + 1
        · subst c2
          have := g k (by omega) (by omega)
          omega
        · exact g q q1 (by omega)
      · exact Or.inr ⟨g1, by omega, g3, g4⟩
theorem rd_LU_close {sz : Int} {K B D E O : Int → Int} {k b : Int} (h : rd_LU sz K B D E O k) (h0 : 0 ≤ k) (hb : rd_Blk K k b) (hk : K k = 1) (hw : 0 ≤ rd_dep K (k + 1)) :
    rd_LU sz K (rd_up B k b) (rd_up D k (rd_dep K k)) (rd_up E (O (rd_dep K k - 1)) k) O (k + 1) ∧ rd_dep K (k + 1) = rd_dep K k - 1 ∧ 0 ≤ O (rd_dep K k - 1) ∧ O (rd_dep K k - 1) < k := by
  have e : rd_dep K (k + 1) = rd_dep K k - 1 := by rw [rd_dep_s h0, hk]; rfl
  obtain ⟨o1, o2, o3, o4, o5⟩ := h.2.1 (rd_dep K k - 1) (by omega) (by omega)
  refine ⟨⟨rd_LU_s1 h.1 hb, fun j h1 h2 => ?_, fun p h1 h2 h3 => ?_⟩, e, o1, o2⟩
  · obtain ⟨g1, g2, g3, g4, g5⟩ := h.2.1 j h1 (by omega)
    refine ⟨g1, by omega, g3, g4, fun q q1 q2 => ?_⟩
    by_cases c2 : q = k + 1
    · subst c2; omega
    · exact g5 q q1 (by omega)
  · by_cases c : p = O (rd_dep K k - 1)
    · rw [c, rd_up_s]
      exact Or.inr ⟨o2, by omega, fun q q1 q2 => by have := o5 q q1 q2; omega, by omega⟩
    · rw [rd_up_n c]
      have c3 : p ≠ k := fun q => by rw [q, hk] at h3; omega
      rcases h.2.2 p h1 (by omega) h3 with ⟨e1, g⟩ | ⟨g1, g2, g3, g4⟩
      · refine Or.inl ⟨e1, fun q q1 q2 => ?_⟩
        by_cases c2 : q = k + 1
        · subst c2
          have a1 := g k (by omega) (by omega)
          rcases Int.lt_trichotomy p (O (rd_dep K k - 1)) with f | f | f
          · have := g _ f (by omega)
            omega
          · exact absurd f c
          · have := o5 p f (by omega)
            omega
        · exact g q q1 (by omega)
      · exact Or.inr ⟨g1, by omega, g3, g4⟩
theorem rd_LU_other {sz : Int} {K B D E O : Int → Int} {k b : Int} (h : rd_LU sz K B D E O k) (h0 : 0 ≤ k) (hb : rd_Blk K k b) (hk0 : K k ≠ 0) (hk1 : K k ≠ 1) :
    rd_LU sz K (rd_up B k b) (rd_up D k (rd_dep K k)) E O (k + 1) ∧ rd_dep K (k + 1) = rd_dep K k := by
  have e : rd_dep K (k + 1) = rd_dep K k := by rw [rd_dep_s h0, rd_stp_2 hk0 hk1]; omega
  refine ⟨⟨rd_LU_s1 h.1 hb, fun j h1 h2 => ?_, fun p h1 h2 h3 => ?_⟩, e⟩
  · obtain ⟨g1, g2, g3, g4, g5⟩ := h.2.1 j h1 (by omega)
    refine ⟨g1, by omega, g3, g4, fun q q1 q2 => ?_⟩
    by_cases c2 : q = k + 1
    · subst c2; omega
    · exact g5 q q1 (by omega)
  · have c3 : p ≠ k := fun q => hk0 (q ▸ h3)
    rcases h.2.2 p h1 (by omega) h3 with ⟨e1, g⟩ | ⟨g1, g2, g3, g4⟩
    · refine Or.inl ⟨e1, fun q q1 q2 => ?_⟩
      by_cases c2 : q = k + 1
      · subst c2
        have := g k (by omega) (by omega)
        omega
      · exact g q q1 (by omega)
    · exact Or.inr ⟨g1, by omega, g3, g4⟩
/-- what the use at place u is bound to; -1 for what is no use -/
def rd_Bd (K N : Int → Int) (u w : Int) : Prop := (K u = 3 ∧ rd_Win K N (N u) u w) ∨ (K u ≠ 3 ∧ w = -1)
def rd_Bds (sz : Int) (K N T : Int → Int) : Prop := ∀ u, 0 ≤ u → u < sz → rd_Bd K N u (T u)
theorem rd_Bd_uniq {K N : Int → Int} {u w w' : Int} (h : rd_Bd K N u w) (h' : rd_Bd K N u w') : w = w' := by
  rcases h with ⟨e, h⟩ | ⟨e, h⟩
  · rcases h' with ⟨e', h'⟩ | ⟨e', h'⟩
    · exact rd_Win_uniq h h'
    · exact absurd e e'
  · rcases h' with ⟨e', h'⟩ | ⟨e', h'⟩
    · exact absurd e' e
    · omega
theorem rd_Bd_rng {K N : Int → Int} {u w : Int} (h : rd_Bd K N u w) (hu : 0 ≤ u) : -1 ≤ w ∧ w < u := by
  rcases h with ⟨-, h⟩ | ⟨-, h⟩
  · exact rd_Win_rng h hu
  · omega
def rd_Ln (sz : Int) (K N B D E T : Int → Int) : Prop := rd_L1 sz K B D E ∧ rd_Bds sz K N T
/-- what holds of a desk between two calls -/
def rd_DI (sz kn : Int) (K N B D E T : Int → Int) : Prop := rd_WF sz K N ∧ (kn = 0 ∨ (kn = 1 ∧ rd_Ln sz K N B D E T))
end
section
/-! THE PURE LAW, part 2: the desk's conditions against 'every use is bound as it was' -/
def rd_Legal (sz : Int) (K N o T : Int → Int) : Prop := ∀ u, 0 ≤ u → u < sz → K u = 3 → ∃ p, rd_Win K N (N u) u p ∧ T (o u) = (if p < 0 then -1 else o p)
def rd_id : Int → Int := fun i => i
/-! A: renaming -/
def rd_rn (sz : Int) (N T : Int → Int) (k m : Int) : Int → Int := fun i => if 0 ≤ i ∧ i < sz ∧ (i = k ∨ T i = k) then m else N i
/-- the desk's condition at place u -/
def rd_LNu (K N T : Int → Int) (k m u : Int) : Prop := (T u = k → ∀ o, rd_Win K N m u o → ¬ (0 ≤ o ∧ rd_hid K o k)) ∧ (T u ≠ k → K u = 3 → N u = m → rd_Vis K k u → ¬ (T u < 0 ∨ rd_hid K k (T u)))
def rd_LN (sz : Int) (K N T : Int → Int) (k m : Int) : Prop := m = N k ∨ ∀ u, k < u → u < sz → rd_LNu K N T k m u
theorem rd_rn_decl {sz : Int} {K N T : Int → Int} {k m d : Int} (hT : rd_Bds sz K N T) (hk : 0 ≤ k) (h0 : 0 ≤ d) (h1 : d < sz) (h2 : K d = 2) (h3 : d ≠ k) : rd_rn sz N T k m d = N d := by
  have h4 : T d = -1 := by
    rcases hT d h0 h1 with ⟨e, -⟩ | ⟨-, e⟩
    · omega
    · exact e
  have h5 : ¬ (0 ≤ d ∧ d < sz ∧ (d = k ∨ T d = k)) := by omega
  simp [rd_rn, h5]
theorem rd_rn_k {sz : Int} {N T : Int → Int} {k m : Int} (h0 : 0 ≤ k) (h1 : k < sz) : rd_rn sz N T k m k = m := by
  have h5 : 0 ≤ k ∧ k < sz ∧ (k = k ∨ T k = k) := by omega
  simp [rd_rn, h5]
theorem rd_rn_use {sz : Int} {N T : Int → Int} {k m u : Int} (h0 : 0 ≤ u) (h1 : u < sz) (h2 : T u = k) : rd_rn sz N T k m u = m := by
  have h5 : 0 ≤ u ∧ u < sz ∧ (u = k ∨ T u = k) := by omega
  simp [rd_rn, h5]
theorem rd_rn_no {sz : Int} {N T : Int → Int} {k m u : Int} (h2 : T u ≠ k) (h3 : u ≠ k) : rd_rn sz N T k m u = N u := by
  have h5 : ¬ (0 ≤ u ∧ u < sz ∧ (u = k ∨ T u = k)) := by omega
  simp [rd_rn, h5]
theorem rd_rn_cand {sz : Int} {K N T : Int → Int} {k m u nm d : Int} (hT : rd_Bds sz K N T) (hk : 0 ≤ k) (hu : u < sz) (hd : d ≠ k) : rd_Cand K (rd_rn sz N T k m) nm u d ↔ rd_Cand K N nm u d := by
  unfold rd_Cand
  constructor
  · rintro ⟨h1, h2, h3, h4, h5⟩
    rw [rd_rn_decl hT hk h1 (by omega) h3 hd] at h4
    exact ⟨h1, h2, h3, h4, h5⟩
  · rintro ⟨h1, h2, h3, h4, h5⟩
    refine ⟨h1, h2, h3, ?_, h5⟩
    rw [rd_rn_decl hT hk h1 (by omega) h3 hd]
    exact h4
theorem rd_rn_candk {sz : Int} {K N T : Int → Int} {k m u nm : Int} (hk : 0 ≤ k) (hks : k < sz) (hK : K k = 2) : rd_Cand K (rd_rn sz N T k m) nm u k ↔ (k < u ∧ nm = m ∧ rd_Vis K k u) := by
  unfold rd_Cand
  rw [rd_rn_k hk hks]
  constructor
  · rintro ⟨h1, h2, h3, h4, h5⟩
    exact ⟨h2, h4.symm, h5⟩
  · rintro ⟨h2, h4, h5⟩
    exact ⟨hk, h2, hK, h4.symm, h5⟩
/-- at one use: legal there, and the desk's condition -/
theorem rd_lawA_u {sz : Int} {K N T : Int → Int} {k m u : Int} (hT : rd_Bds sz K N T) (hk : 0 ≤ k) (hks : k < sz) (hK : K k = 2) (hm : m ≠ N k) (h0 : 0 ≤ u) (h1 : u < sz) (hu : K u = 3) :
    rd_Win K (rd_rn sz N T k m) (rd_rn sz N T k m u) u (T u) ↔ (k < u → rd_LNu K N T k m u) := by
  have hTu : rd_Win K N (N u) u (T u) := by
    rcases hT u h0 h1 with ⟨-, e⟩ | ⟨e, -⟩
    · exact e
    · exact absurd hu e
  have huk : u ≠ k := fun e => by rw [e, hK] at hu; omega
  by_cases ht : T u = k
  · have hc := rd_Win_pos hTu (by omega)
    rw [ht] at hc
    rw [rd_rn_use h0 h1 ht, ht]
    have hku : k < u := hc.2.1
    have hvk : rd_Vis K k u := hc.2.2.2.2
    constructor
    · intro w _
      refine ⟨fun _ o ho hh => ?_, fun g => absurd ht g⟩
      have co := rd_Win_pos ho hh.1
      have h5 : k < o := (rd_hid_iff co.2.2.2.2 hvk co.2.1 hku).mp hh.2
      have := rd_Win_max w ((rd_rn_cand hT hk h1 (by omega)).mpr co)
      omega
    · intro h
      have h6 := (h hku).1 ht
      refine rd_Win_of ((rd_rn_candk hk hks hK).mpr ⟨hku, rfl, hvk⟩) fun d c => ?_
      by_cases e : d = k
      · omega
      · have c2 := (rd_rn_cand hT hk h1 e).mp c
        obtain ⟨o, ho⟩ := rd_Win_ex K N m h0
        have h7 := rd_Win_max ho c2
        have h8 : 0 ≤ o := by have := c2.1; omega
        have h9 := h6 o ho
        have co := rd_Win_pos ho h8
        have h10 := rd_hid_iff co.2.2.2.2 hvk co.2.1 hku
        rcases Int.lt_or_le k o with g | g
        · exact absurd ⟨h8, h10.mpr g⟩ h9
        · omega
  · rw [rd_rn_no ht huk]
    constructor
    · intro w hku
      refine ⟨fun g => absurd g ht, fun _ _ hn hv hh => ?_⟩
      have c := (rd_rn_candk (m := m) (N := N) (T := T) (nm := N u) hk hks hK).mpr ⟨hku, hn, hv⟩
      have h5 := rd_Win_max w c
      rcases hh with g | g
      · omega
      · have ct := rd_Win_pos hTu (by omega)
        have := (rd_hid_iff hv ct.2.2.2.2 hku ct.2.1).mp g
        omega
    · intro h
      have key : rd_Cand K (rd_rn sz N T k m) (N u) u k → k < T u := by
        intro c
        obtain ⟨c1, c2, c3⟩ := (rd_rn_candk hk hks hK).mp c
        have h6 := (h c1).2 ht hu c2 c3
        rcases Int.lt_or_le (T u) 0 with g | g
        · exact absurd (Or.inl g) h6
        · have ct := rd_Win_pos hTu g
          have h7 := rd_hid_iff c3 ct.2.2.2.2 c1 ct.2.1
          rcases Int.lt_or_le (T u) k with g2 | g2
          · exact absurd (Or.inr (h7.mpr g2)) h6
          · omega
      rcases Int.lt_or_le (T u) 0 with g | g
      · have e : T u = -1 := by have := rd_Win_rng hTu h0; omega
        rw [e]
        refine rd_Win_of0 fun d c => ?_
        by_cases e2 : d = k
        · have := key (e2 ▸ c)
          omega
        · exact rd_Win_neg hTu g ((rd_rn_cand hT hk h1 e2).mp c)
      · refine rd_Win_of ((rd_rn_cand hT hk h1 ht).mpr (rd_Win_pos hTu g)) fun d c => ?_
        by_cases e2 : d = k
        · have := key (e2 ▸ c)
          omega
        · exact rd_Win_max hTu ((rd_rn_cand hT hk h1 e2).mp c)
theorem rd_rn_same {sz : Int} {K N T : Int → Int} {k : Int} (hT : rd_Bds sz K N T) (hk : 0 ≤ k) : ∀ i, rd_rn sz N T k (N k) i = N i := by
  intro i
  by_cases h : 0 ≤ i ∧ i < sz ∧ (i = k ∨ T i = k)
  · have e : rd_rn sz N T k (N k) i = N k := by simp [rd_rn, h]
    rw [e]
    rcases h.2.2 with g | g
    · rw [g]
    · rcases hT i h.1 h.2.1 with ⟨-, w⟩ | ⟨-, w⟩
      · have := rd_Win_pos w (by omega)
        rw [g] at this
        exact this.2.2.2.1
      · omega
  · simp [rd_rn, h]
theorem rd_lawA {sz : Int} {K N T : Int → Int} {k m : Int} (hT : rd_Bds sz K N T) (hk : 0 ≤ k) (hks : k < sz) (hK : K k = 2) : rd_LN sz K N T k m ↔ rd_Legal sz K (rd_rn sz N T k m) rd_id T := by
  have hif : ∀ u p, rd_Win K (rd_rn sz N T k m) (rd_rn sz N T k m u) u p → 0 ≤ u → (if p < 0 then (-1 : Int) else p) = p := by
    intro u p w h
    have := rd_Win_rng w h
    split <;> omega
  by_cases hm : m = N k
  · refine ⟨fun _ => ?_, fun _ => Or.inl hm⟩
    intro u h0 h1 hu
    have e : rd_rn sz N T k m = N := by rw [hm]; exact funext (rd_rn_same hT hk)
    rcases hT u h0 h1 with ⟨-, w⟩ | ⟨g, -⟩
    · rw [e] at hif ⊢
      refine ⟨T u, w, ?_⟩
      show T u = _
      exact (hif u (T u) w h0).symm
    · exact absurd hu g
  · constructor
    · intro h u h0 h1 hu
      have h2 : ∀ u, k < u → u < sz → rd_LNu K N T k m u := by
        rcases h with g | g
        · exact absurd g hm
        · exact g
      have w := (rd_lawA_u hT hk hks hK hm h0 h1 hu).mpr (fun g => h2 u g h1)
      refine ⟨T u, w, ?_⟩
      show T u = _
      exact (hif u (T u) w h0).symm
    · intro h
      refine Or.inr fun u h2 h1 => ?_
      by_cases hu : K u = 3
      · obtain ⟨p, w, e⟩ := h u (by omega) h1 hu
        have e2 : T u = p := by
          have e3 : T u = if p < 0 then (-1 : Int) else p := e
          rw [e3]
          exact hif u p w (by omega)
        rw [← e2] at w
        exact (rd_lawA_u hT hk hks hK hm (by omega) h1 hu).mp w h2
      · have ht : T u = -1 := by
          rcases hT u (by omega) h1 with ⟨e, -⟩ | ⟨-, e⟩
          · exact absurd e hu
          · exact e
        exact ⟨fun g => by omega, fun _ g => absurd g hu⟩
/-- behind a legal renaming the bindings are what they were -/
theorem rd_Bds_rn {sz : Int} {K N T : Int → Int} {k m : Int} (hT : rd_Bds sz K N T) (h : rd_Legal sz K (rd_rn sz N T k m) rd_id T) : rd_Bds sz K (rd_rn sz N T k m) T := by
  intro u h0 h1
  by_cases hu : K u = 3
  · obtain ⟨p, w, e⟩ := h u h0 h1 hu
    have e2 : T u = p := by
      have e3 : T u = if p < 0 then (-1 : Int) else p := e
      have := rd_Win_rng w h0
      rw [e3]
      split <;> omega
    rw [e2]
    exact Or.inl ⟨hu, w⟩
  · rcases hT u h0 h1 with ⟨e, -⟩ | ⟨-, e⟩
    · exact absurd e hu
    · exact Or.inr ⟨hu, e⟩
theorem rd_WF_rn {sz : Int} {K N T : Int → Int} {k m : Int} (hw : rd_WF sz K N) (hm : 0 ≤ m ∧ m ≤ 7) : rd_WF sz K (rd_rn sz N T k m) := by
  refine ⟨hw.1, fun i h0 h1 => ⟨(hw.2.1 i h0 h1).1, ?_⟩, hw.2.2⟩
  unfold rd_rn
  split
  · exact hm
  · exact (hw.2.1 i h0 h1).2
/-! B: swapping neighbours -/
def rd_sw (K : Int → Int) (k : Int) : Int → Int := fun i => if i = k then K (k + 1) else if i = k + 1 then K k else K i
theorem rd_sw_a (K : Int → Int) (k : Int) : rd_sw K k k = K (k + 1) := by simp [rd_sw]
theorem rd_sw_b (K : Int → Int) (k : Int) : rd_sw K k (k + 1) = K k := by
  have : ¬ k + 1 = k := by omega
  simp [rd_sw, this]
theorem rd_sw_o {K : Int → Int} {k i : Int} (h1 : i ≠ k) (h2 : i ≠ k + 1) : rd_sw K k i = K i := by simp [rd_sw, h1, h2]
theorem rd_sw_dep {K : Int → Int} {k : Int} (h0 : 0 ≤ k) (ha : K k ≠ 0 ∧ K k ≠ 1) (hb : K (k + 1) ≠ 0 ∧ K (k + 1) ≠ 1) (i : Int) : rd_dep (rd_sw K k) i = rd_dep K i := by
  rcases Int.lt_or_le i (k + 1) with g | g
  · exact rd_dep_congr fun j h1 h2 => rd_sw_o (by omega) (by omega)
  · have base : rd_dep (rd_sw K k) k = rd_dep K k := rd_dep_congr fun j h1 h2 => rd_sw_o (by omega) (by omega)
    have s1 : rd_dep (rd_sw K k) (k + 1) = rd_dep K (k + 1) := by
      rw [rd_dep_s h0, rd_dep_s h0, rd_sw_a, base, rd_stp_2 ha.1 ha.2, rd_stp_2 hb.1 hb.2]
    have s2 : ∀ n : Nat, rd_dep (rd_sw K k) (k + 2 + n) = rd_dep K (k + 2 + n) := by
      intro n
      induction n with
      | zero =>
        have e : k + 2 + ((0 : Nat) : Int) = (k + 1) + 1 := by omega
        rw [e, rd_dep_s (K := rd_sw K k) (i := k + 1) (by omega), rd_dep_s (K := K) (i := k + 1) (by omega), rd_sw_b, s1, rd_stp_2 ha.1 ha.2, rd_stp_2 hb.1 hb.2]
      | succ n ih =>
        have e : k + 2 + ((n + 1 : Nat) : Int) = (k + 2 + n) + 1 := by omega
        rw [e, rd_dep_s (K := rd_sw K k) (i := k + 2 + n) (by omega), rd_dep_s (K := K) (i := k + 2 + n) (by omega), ih, rd_sw_o (by omega) (by omega)]
    by_cases g2 : i = k + 1
    · rw [g2]; exact s1
    · have e : i = k + 2 + ((i - (k + 2)).toNat : Int) := by omega
      rw [e]
      exact s2 _
theorem rd_sw_vis {K : Int → Int} {k : Int} (h0 : 0 ≤ k) (ha : K k ≠ 0 ∧ K k ≠ 1) (hb : K (k + 1) ≠ 0 ∧ K (k + 1) ≠ 1) (d u : Int) : rd_Vis (rd_sw K k) d u ↔ rd_Vis K d u := by
  unfold rd_Vis
  simp only [rd_sw_dep h0 ha hb]
/-- the two neighbours see alike -/
theorem rd_sw_vk {K : Int → Int} {k u : Int} (h0 : 0 ≤ k) (ha : K k ≠ 0 ∧ K k ≠ 1) (hu : k + 1 ≤ u) : rd_Vis K k u ↔ rd_Vis K (k + 1) u := by
  have e : rd_dep K (k + 1) = rd_dep K k := by rw [rd_dep_s h0, rd_stp_2 ha.1 ha.2]; omega
  constructor
  · intro v q h1 h2
    have := v q (by omega) h2
    omega
  · intro v q h1 h2
    by_cases c : q = k
    · subst c; omega
    · have := v q (by omega) h2
      omega
theorem rd_sw_vu {K : Int → Int} {k d : Int} (h0 : 0 ≤ k) (ha : K k ≠ 0 ∧ K k ≠ 1) (hd : d ≤ k) : rd_Vis K d k ↔ rd_Vis K d (k + 1) := by
  have e : rd_dep K (k + 1) = rd_dep K k := by rw [rd_dep_s h0, rd_stp_2 ha.1 ha.2]; omega
  constructor
  · intro v q h1 h2
    by_cases c : q = k + 1
    · subst c
      have := v k hd (by omega)
      omega
    · exact v q h1 (by omega)
  · intro v q h1 h2
    exact v q h1 (by omega)
theorem rd_sw_cand {K N : Int → Int} {k nm u d : Int} (h0 : 0 ≤ k) (ha : K k ≠ 0 ∧ K k ≠ 1) (hb : K (k + 1) ≠ 0 ∧ K (k + 1) ≠ 1) (h1 : d ≠ k) (h2 : d ≠ k + 1) : rd_Cand (rd_sw K k) (rd_sw N k) nm u d ↔ rd_Cand K N nm u d := by
  unfold rd_Cand
  rw [rd_sw_o h1 h2, rd_sw_o h1 h2, rd_sw_vis h0 ha hb]
theorem rd_sw_candA {K N : Int → Int} {k nm u : Int} (h0 : 0 ≤ k) (ha : K k ≠ 0 ∧ K k ≠ 1) (hb : K (k + 1) ≠ 0 ∧ K (k + 1) ≠ 1) (hu : k + 1 < u) : rd_Cand (rd_sw K k) (rd_sw N k) nm u k ↔ rd_Cand K N nm u (k + 1) := by
  unfold rd_Cand
  rw [rd_sw_a, rd_sw_a, rd_sw_vis h0 ha hb, rd_sw_vk h0 ha (by omega)]
  constructor
  · rintro ⟨_, _, c, d, e⟩; exact ⟨by omega, hu, c, d, e⟩
  · rintro ⟨_, _, c, d, e⟩; exact ⟨h0, by omega, c, d, e⟩
theorem rd_sw_candB {K N : Int → Int} {k nm u : Int} (h0 : 0 ≤ k) (ha : K k ≠ 0 ∧ K k ≠ 1) (hb : K (k + 1) ≠ 0 ∧ K (k + 1) ≠ 1) (hu : k + 1 < u) : rd_Cand (rd_sw K k) (rd_sw N k) nm u (k + 1) ↔ rd_Cand K N nm u k := by
  unfold rd_Cand
  rw [rd_sw_b, rd_sw_b, rd_sw_vis h0 ha hb, rd_sw_vk h0 ha (by omega)]
  constructor
  · rintro ⟨_, _, c, d, e⟩; exact ⟨h0, by omega, c, d, e⟩
  · rintro ⟨_, _, c, d, e⟩; exact ⟨by omega, hu, c, d, e⟩
def rd_LS (sz : Int) (K N T : Int → Int) (k : Int) : Prop := (N k ≠ N (k + 1) ∨ (K k = 3 ∧ K (k + 1) = 3)) ∨ (¬ (K k = 3 ∨ K (k + 1) = 3) ∧ ∀ u, 0 ≤ u → u < sz → T u ≠ k + 1)
/-- at one use behind the two -/
theorem rd_lawB_u {K N : Int → Int} {k nm u w : Int} (h0 : 0 ≤ k) (ha : K k ≠ 0 ∧ K k ≠ 1) (hb : K (k + 1) ≠ 0 ∧ K (k + 1) ≠ 1) (hu : k + 1 < u) (hw : rd_Win K N nm u w) :
    (∃ p, rd_Win (rd_sw K k) (rd_sw N k) nm u p ∧ w = (if p < 0 then -1 else rd_sw rd_id k p)) ↔ ¬ (w = k + 1 ∧ K k = 2 ∧ N k = nm) := by
  have hrw := rd_Win_rng hw (by omega)
  have cA := rd_sw_candA (N := N) (nm := nm) h0 ha hb hu
  have cB := rd_sw_candB (N := N) (nm := nm) h0 ha hb hu
  constructor
  · rintro ⟨p, hp, e⟩ ⟨e1, e2, e3⟩
    have c1 := rd_Win_pos hw (by omega)
    rw [e1] at c1
    have c2 : rd_Cand K N nm u k := ⟨h0, by omega, e2, e3, (rd_sw_vk h0 ha (by omega)).mpr c1.2.2.2.2⟩
    have g1 := rd_Win_max hp (cB.mpr c2)
    have g2 := rd_Win_pos hp (by omega)
    have g3 : ¬ p < 0 := by omega
    rw [if_neg g3, e1] at e
    by_cases g4 : p = k + 1
    · rw [g4, rd_sw_b] at e
      have : k + 1 = k := e
      omega
    · rw [rd_sw_o (by omega) g4] at e
      have : k + 1 = p := e
      omega
  · intro h
    rcases Int.lt_or_le w 0 with g | g
    · refine ⟨-1, rd_Win_of0 fun d c => ?_, by simp; omega⟩
      by_cases g1 : d = k
      · exact rd_Win_neg hw g (cA.mp (g1 ▸ c))
      · by_cases g2 : d = k + 1
        · exact rd_Win_neg hw g (cB.mp (g2 ▸ c))
        · exact rd_Win_neg hw g ((rd_sw_cand h0 ha hb g1 g2).mp c)
    · have cw := rd_Win_pos hw g
      by_cases w1 : w = k + 1
      · refine ⟨k, rd_Win_of (cA.mpr (w1 ▸ cw)) fun d c => ?_, ?_⟩
        · by_cases g1 : d = k
          · omega
          · by_cases g2 : d = k + 1
            · have c2 := cB.mp (g2 ▸ c)
              exact absurd ⟨w1, c2.2.2.1, c2.2.2.2.1⟩ h
            · have := rd_Win_max hw ((rd_sw_cand h0 ha hb g1 g2).mp c)
              omega
        · rw [if_neg (by omega), rd_sw_a]
          exact w1
      · by_cases w2 : w = k
        · refine ⟨k + 1, rd_Win_of (cB.mpr (w2 ▸ cw)) fun d c => ?_, ?_⟩
          · by_cases g1 : d = k
            · omega
            · by_cases g2 : d = k + 1
              · omega
              · have := rd_Win_max hw ((rd_sw_cand h0 ha hb g1 g2).mp c)
                omega
          · rw [if_neg (by omega), rd_sw_b]
            exact w2
        · refine ⟨w, rd_Win_of ((rd_sw_cand h0 ha hb w2 w1).mpr cw) fun d c => ?_, ?_⟩
          · by_cases g1 : d = k
            · have := rd_Win_max hw (cA.mp (g1 ▸ c))
              omega
            · by_cases g2 : d = k + 1
              · have := rd_Win_max hw (cB.mp (g2 ▸ c))
                omega
              · exact rd_Win_max hw ((rd_sw_cand h0 ha hb g1 g2).mp c)
          · rw [if_neg (by omega), rd_sw_o w2 w1]
            rfl
theorem rd_lawB {sz : Int} {K N T : Int → Int} {k : Int} (hT : rd_Bds sz K N T) (h0 : 0 ≤ k) (hks : k + 1 < sz) (ha : K k = 2 ∨ K k = 3) (hb : K (k + 1) = 2 ∨ K (k + 1) = 3) :
    rd_LS sz K N T k ↔ rd_Legal sz (rd_sw K k) (rd_sw N k) (rd_sw rd_id k) T := by
  have ha' : K k ≠ 0 ∧ K k ≠ 1 := by omega
  have hb' : K (k + 1) ≠ 0 ∧ K (k + 1) ≠ 1 := by omega
  -- the places ahead of the two
  have low : ∀ u nm w, u ≤ k → (rd_Win (rd_sw K k) (rd_sw N k) nm u w ↔ rd_Win K N nm u w) := fun u nm w hu =>
    rd_Win_congr (fun j h1 h2 => rd_sw_o (by omega) (by omega)) (fun j h1 h2 => rd_sw_o (by omega) (by omega))
  have win : ∀ u, 0 ≤ u → u < sz → K u = 3 → rd_Win K N (N u) u (T u) := by
    intro u h1 h2 h3
    rcases hT u h1 h2 with ⟨-, e⟩ | ⟨e, -⟩
    · exact e
    · exact absurd h3 e
  -- candidates at k and at k + 1 that lie ahead of k are the same
  have ck : ∀ nm d, d < k → (rd_Cand K N nm k d ↔ rd_Cand K N nm (k + 1) d) := by
    intro nm d hd
    unfold rd_Cand
    constructor
    · rintro ⟨a, b, c, e, v⟩; exact ⟨a, by omega, c, e, (rd_sw_vu h0 ha' (by omega)).mp v⟩
    · rintro ⟨a, b, c, e, v⟩; exact ⟨a, by omega, c, e, (rd_sw_vu h0 ha' (by omega)).mpr v⟩
  have vkk : rd_Vis K k (k + 1) := (rd_sw_vk h0 ha' (by omega)).mpr (fun q h1 h2 => by
    have h3 : q = k + 1 := by omega
    rw [h3]
    exact Int.le_refl _)
  constructor
  · intro h u h1 h2 h3
    by_cases uk : u = k
    · -- the token of k + 1 stands at k now
      subst uk
      rw [rd_sw_a] at h3
      have w := win (u + 1) (by omega) hks h3
      have hn : ¬ (K u = 2 ∧ N u = N (u + 1)) := by
        rintro ⟨g1, g2⟩
        rcases h with (g | g) | g
        · exact g g2
        · omega
        · exact g.1 (Or.inr h3)
      have hr := rd_Win_rng w (by omega)
      rw [rd_sw_a, rd_sw_a]
      refine ⟨T (u + 1), (low u _ _ (by omega)).mpr ?_, ?_⟩
      · rcases Int.lt_or_le (T (u + 1)) 0 with g | g
        · have e : T (u + 1) = -1 := by omega
          rw [e]
          exact rd_Win_of0 fun d c => rd_Win_neg w g ((ck _ d c.2.1).mp c)
        · have c := rd_Win_pos w g
          have e : T (u + 1) ≠ u := fun e => hn ⟨e ▸ c.2.2.1, by rw [e] at c; exact c.2.2.2.1⟩
          exact rd_Win_of ((ck _ _ (by omega)).mpr c) fun d c2 => rd_Win_max w ((ck _ d c2.2.1).mp c2)
      · show T (u + 1) = _
        split
        · omega
        · have e : T (u + 1) ≠ u := by
            intro e
            have c := rd_Win_pos w (by omega)
            exact hn ⟨e ▸ c.2.2.1, by rw [e] at c; exact c.2.2.2.1⟩
          rw [rd_sw_o e (by omega)]
          rfl
    · by_cases uk1 : u = k + 1
      · -- the token of k stands at k + 1 now
        subst uk1
        rw [rd_sw_b] at h3
        have w := win k h0 (by omega) h3
        have hn : ¬ (K (k + 1) = 2 ∧ N (k + 1) = N k) := by
          rintro ⟨g1, g2⟩
          rcases h with (g | g) | g
          · exact g g2.symm
          · omega
          · exact g.1 (Or.inl h3)
        have hr := rd_Win_rng w h0
        rw [rd_sw_b, rd_sw_b]
        have nk : ¬ rd_Cand (rd_sw K k) (rd_sw N k) (N k) (k + 1) k := by
          intro c
          have c1 := c.2.2.1
          have c2 := c.2.2.2.1
          rw [rd_sw_a] at c1 c2
          exact hn ⟨c1, c2⟩
        have cc : ∀ d, d < k → (rd_Cand (rd_sw K k) (rd_sw N k) (N k) (k + 1) d ↔ rd_Cand K N (N k) k d) := fun d hd =>
          (rd_sw_cand h0 ha' hb' (by omega) (by omega)).trans (ck _ d hd).symm
        refine ⟨T k, ?_, ?_⟩
        · rcases Int.lt_or_le (T k) 0 with g | g
          · have e : T k = -1 := by omega
            rw [e]
            refine rd_Win_of0 fun d c => ?_
            by_cases g2 : d = k
            · exact nk (g2 ▸ c)
            · exact rd_Win_neg w g ((cc d (by have := c.2.1; omega)).mp c)
          · refine rd_Win_of ((cc _ (by omega)).mpr (rd_Win_pos w g)) fun d c => ?_
            by_cases g2 : d = k
            · exact absurd (g2 ▸ c) nk
            · exact rd_Win_max w ((cc d (by have := c.2.1; omega)).mp c)
        · show T k = _
          split
          · omega
          · rw [rd_sw_o (by omega) (by omega)]
            rfl
      · have e1 : rd_sw K k u = K u := rd_sw_o uk uk1
        have e2 : rd_sw N k u = N u := rd_sw_o uk uk1
        have e3 : rd_sw rd_id k u = u := rd_sw_o uk uk1
        rw [e1] at h3
        rw [e2, e3]
        have w := win u h1 h2 h3
        rcases Int.lt_or_le u k with g | g
        · refine ⟨T u, (low u _ _ (by omega)).mpr w, ?_⟩
          have hr := rd_Win_rng w h1
          split
          · omega
          · rw [rd_sw_o (by omega) (by omega)]
            rfl
        · refine (rd_lawB_u h0 ha' hb' (by omega) w).mpr ?_
          rintro ⟨g1, g2, g3⟩
          have c := rd_Win_pos w (by omega)
          rw [g1] at c
          have g4 := c.2.2.1
          have g5 := c.2.2.2.1
          rcases h with (q | q) | q
          · exact q (by rw [g3, g5])
          · omega
          · exact q.2 u h1 h2 g1
  · intro h
    by_cases hn : N k = N (k + 1)
    · by_cases k3 : K k = 3
      · by_cases k4 : K (k + 1) = 3
        · exact Or.inl (Or.inr ⟨k3, k4⟩)
        · -- a use of the name ahead of its declaration
          exfalso
          have k5 : K (k + 1) = 2 := by omega
          obtain ⟨p, w, e⟩ := h (k + 1) (by omega) hks (by rw [rd_sw_b]; exact k3)
          rw [rd_sw_b] at w e
          have c : rd_Cand (rd_sw K k) (rd_sw N k) (N k) (k + 1) k := ⟨h0, by omega, by rw [rd_sw_a]; exact k5, by rw [rd_sw_a]; exact hn.symm, (rd_sw_vis h0 ha' hb' _ _).mpr vkk⟩
          have g1 := rd_Win_max w c
          have g2 := rd_Win_rng w (by omega)
          have g3 : p = k := by omega
          rw [if_neg (by omega), g3, rd_sw_a] at e
          have e' : T k = k + 1 := e
          have := rd_Win_rng (win k h0 (by omega) k3) h0
          omega
      · by_cases k4 : K (k + 1) = 3
        · exfalso
          have k5 : K k = 2 := by omega
          obtain ⟨p, w, e⟩ := h k h0 (by omega) (by rw [rd_sw_a]; exact k4)
          rw [rd_sw_a] at e
          have g2 := rd_Win_rng w h0
          have e' : T (k + 1) = if p < 0 then (-1 : Int) else rd_sw rd_id k p := e
          have w2 := win (k + 1) (by omega) hks k4
          have c : rd_Cand K N (N (k + 1)) (k + 1) k := ⟨h0, by omega, k5, hn, vkk⟩
          have g3 := rd_Win_max w2 c
          split at e'
          · omega
          · rw [rd_sw_o (by omega) (by omega)] at e'
            have e3 : T (k + 1) = p := e'
            omega
        · refine Or.inr ⟨by omega, fun u h1 h2 h3 => ?_⟩
          have hu : K u = 3 := by
            rcases hT u h1 h2 with ⟨e, -⟩ | ⟨-, e⟩
            · exact e
            · omega
          have w := win u h1 h2 hu
          have c := rd_Win_pos w (by omega)
          rw [h3] at c
          have hu2 : k + 1 < u := c.2.1
          obtain ⟨p, w2, e⟩ := h u h1 h2 (by rw [rd_sw_o (by omega) (by omega)]; exact hu)
          rw [rd_sw_o (by omega) (by omega)] at w2
          have e3 : rd_sw rd_id k u = u := rd_sw_o (by omega) (by omega)
          rw [e3] at e
          exact (rd_lawB_u h0 ha' hb' hu2 w).mp ⟨p, w2, e⟩ ⟨h3, by omega, by rw [hn]; exact c.2.2.2.1⟩
    · exact Or.inl (Or.inl hn)
theorem rd_WF_sw {sz : Int} {K N : Int → Int} {k : Int} (hw : rd_WF sz K N) (h0 : 0 ≤ k) (hks : k + 1 < sz) (ha : K k = 2 ∨ K k = 3) (hb : K (k + 1) = 2 ∨ K (k + 1) = 3) : rd_WF sz (rd_sw K k) (rd_sw N k) := by
  refine ⟨hw.1, fun i h1 h2 => ?_, fun i h1 h2 => ?_⟩
  · by_cases g1 : i = k
    · rw [g1, rd_sw_a, rd_sw_a]
      exact hw.2.1 _ (by omega) hks
    · by_cases g2 : i = k + 1
      · rw [g2, rd_sw_b, rd_sw_b]
        exact hw.2.1 _ h0 (by omega)
      · rw [rd_sw_o g1 g2, rd_sw_o g1 g2]
        exact hw.2.1 i h1 h2
  · rw [rd_sw_dep h0 (by omega) (by omega)]
    exact hw.2.2 i h1 h2
end
section
/-! THE PURE LAW, part 3: C: moving a declaration out of its block -/
def rd_mv (K : Int → Int) (b k : Int) : Int → Int := fun i => if i = b then K k else if b < i ∧ i ≤ k then K (i - 1) else K i
/-- where the token of place j goes -/
def rd_ph (b k j : Int) : Int := if j = k then b else if b ≤ j ∧ j < k then j + 1 else j
theorem rd_mv_b (K : Int → Int) (b k : Int) : rd_mv K b k b = K k := by simp [rd_mv]
theorem rd_mv_m {K : Int → Int} {b k i : Int} (h1 : b < i) (h2 : i ≤ k) : rd_mv K b k i = K (i - 1) := by
  have h3 : ¬ i = b := by omega
  simp [rd_mv, h1, h2, h3]
theorem rd_mv_lo {K : Int → Int} {b k i : Int} (h1 : i < b) : rd_mv K b k i = K i := by
  have h3 : ¬ i = b := by omega
  have h4 : ¬ (b < i ∧ i ≤ k) := by omega
  simp [rd_mv, h3, h4]
theorem rd_mv_hi {K : Int → Int} {b k i : Int} (hb : b < k) (h1 : k < i) : rd_mv K b k i = K i := by
  have h3 : ¬ i = b := by omega
  have h4 : ¬ (b < i ∧ i ≤ k) := by omega
  simp [rd_mv, h3, h4]
theorem rd_ph_k (b k : Int) : rd_ph b k k = b := by simp [rd_ph]
theorem rd_ph_m {b k j : Int} (h1 : b ≤ j) (h2 : j < k) : rd_ph b k j = j + 1 := by
  have h3 : ¬ j = k := by omega
  simp [rd_ph, h1, h2, h3]
theorem rd_ph_o {b k j : Int} (h1 : j < b ∨ k < j) (hb : b < k) : rd_ph b k j = j := by
  have h3 : ¬ j = k := by omega
  have h4 : ¬ (b ≤ j ∧ j < k) := by omega
  simp [rd_ph, h3, h4]
/-- three cases of a token other than k -/
theorem rd_ph_c {b k j : Int} (hb : b < k) (hj : j ≠ k) : (j < b ∧ rd_ph b k j = j) ∨ (b ≤ j ∧ j < k ∧ rd_ph b k j = j + 1) ∨ (k < j ∧ rd_ph b k j = j) := by
  rcases Int.lt_or_le j b with g | g
  · exact Or.inl ⟨g, rd_ph_o (Or.inl g) hb⟩
  · rcases Int.lt_or_le j k with g2 | g2
    · exact Or.inr (Or.inl ⟨g, g2, rd_ph_m g g2⟩)
    · exact Or.inr (Or.inr ⟨by omega, rd_ph_o (Or.inr (by omega)) hb⟩)
theorem rd_mv_ph {F : Int → Int} {b k j : Int} (hb : b < k) (hj : j ≠ k) : rd_mv F b k (rd_ph b k j) = F j := by
  rcases rd_ph_c hb hj with ⟨g, e⟩ | ⟨g1, g2, e⟩ | ⟨g, e⟩
  · rw [e, rd_mv_lo g]
  · rw [e, rd_mv_m (by omega) (by omega)]
    congr 1
    omega
  · rw [e, rd_mv_hi hb g]
/-- every place but b holds a token other than k -/
theorem rd_ph_of {b k x : Int} (hb : b < k) (hx : x ≠ b) : ∃ j, j ≠ k ∧ rd_ph b k j = x := by
  rcases Int.lt_or_le x b with g | g
  · exact ⟨x, by omega, rd_ph_o (Or.inl g) hb⟩
  · rcases Int.lt_or_le k x with g2 | g2
    · exact ⟨x, by omega, rd_ph_o (Or.inr g2) hb⟩
    · exact ⟨x - 1, by omega, by rw [rd_ph_m (by omega) (by omega)]; omega⟩
theorem rd_ph_lt {b k i j : Int} (hb : b < k) (hi : i ≠ k) (hj : j ≠ k) : rd_ph b k i < rd_ph b k j ↔ i < j := by
  have := rd_ph_c hb hi
  have := rd_ph_c hb hj
  omega
theorem rd_ph_nb {b k j : Int} (hb : b < k) (hj : j ≠ k) : (rd_ph b k j < b ↔ j < b) ∧ (b < rd_ph b k j ↔ b ≤ j) := by
  have := rd_ph_c hb hj
  omega
section MV
variable {K : Int → Int} {b k : Int}
theorem rd_mv_dlo {i : Int} (h : i ≤ b) : rd_dep (rd_mv K b k) i = rd_dep K i := rd_dep_congr fun j h1 h2 => rd_mv_lo (by omega)
theorem rd_mv_dm (h0 : 0 ≤ b) (hb : b < k) (hk : K k = 2) : ∀ n : Nat, b + 1 + n ≤ k + 1 → rd_dep (rd_mv K b k) (b + 1 + n) = rd_dep K (b + n) := by
  intro n
  induction n with
  | zero =>
    intro _
    have e : b + 1 + ((0 : Nat) : Int) = b + 1 := by omega
    have e2 : b + ((0 : Nat) : Int) = b := by omega
    rw [e, e2, rd_dep_s h0, rd_mv_b, rd_mv_dlo (by omega), hk]
    show rd_dep K b + 0 = _
    omega
  | succ n ih =>
    intro h
    have e : b + 1 + ((n + 1 : Nat) : Int) = (b + 1 + n) + 1 := by omega
    have e2 : b + ((n + 1 : Nat) : Int) = (b + n) + 1 := by omega
    have e3 : b + 1 + (n : Int) - 1 = b + n := by omega
    rw [e, e2, rd_dep_s (i := b + 1 + n) (by omega), rd_dep_s (i := b + n) (by omega), ih (by omega), rd_mv_m (by omega) (by omega), e3]
theorem rd_mv_dmid (h0 : 0 ≤ b) (hb : b < k) (hk : K k = 2) {i : Int} (h1 : b < i) (h2 : i ≤ k + 1) : rd_dep (rd_mv K b k) i = rd_dep K (i - 1) := by
  have h := rd_mv_dm h0 hb hk (i - (b + 1)).toNat (by omega)
  have e1 : b + 1 + ((i - (b + 1)).toNat : Int) = i := by omega
  have e2 : b + ((i - (b + 1)).toNat : Int) = i - 1 := by omega
  rw [e1, e2] at h
  exact h
theorem rd_mv_dk (h0 : 0 ≤ k) (hk : K k = 2) : rd_dep K (k + 1) = rd_dep K k := by
  rw [rd_dep_s h0, hk]
  show _ + 0 = _
  omega
theorem rd_mv_dhi (h0 : 0 ≤ b) (hb : b < k) (hk : K k = 2) {i : Int} (h1 : k < i) : rd_dep (rd_mv K b k) i = rd_dep K i := by
  have base : rd_dep (rd_mv K b k) (k + 1) = rd_dep K (k + 1) := by
    rw [rd_mv_dmid h0 hb hk (by omega) (by omega), rd_mv_dk (by omega) hk]
    congr 1
    omega
  have s2 : ∀ n : Nat, rd_dep (rd_mv K b k) (k + 1 + n) = rd_dep K (k + 1 + n) := by
    intro n
    induction n with
    | zero =>
      have e : k + 1 + ((0 : Nat) : Int) = k + 1 := by omega
      rw [e]; exact base
    | succ n ih =>
      have e : k + 1 + ((n + 1 : Nat) : Int) = (k + 1 + n) + 1 := by omega
      rw [e, rd_dep_s (i := k + 1 + n) (by omega), rd_dep_s (i := k + 1 + n) (by omega), ih, rd_mv_hi hb (by omega)]
  have e : i = k + 1 + ((i - (k + 1)).toNat : Int) := by omega
  rw [e]
  exact s2 _
theorem rd_mv_dph (h0 : 0 ≤ b) (hb : b < k) (hk : K k = 2) {j : Int} (hj : j ≠ k) : rd_dep (rd_mv K b k) (rd_ph b k j) = rd_dep K j := by
  rcases rd_ph_c hb hj with ⟨g, e⟩ | ⟨g1, g2, e⟩ | ⟨g, e⟩
  · rw [e, rd_mv_dlo (by omega)]
  · rw [e, rd_mv_dmid h0 hb hk (by omega) (by omega)]
    congr 1
    omega
  · rw [e, rd_mv_dhi h0 hb hk g]
/-- what every depth behind the move is: one of before, at a place between -/
theorem rd_mv_dof (h0 : 0 ≤ b) (hb : b < k) (hk : K k = 2) (x : Int) : (x ≤ b ∧ rd_dep (rd_mv K b k) x = rd_dep K x) ∨ (b < x ∧ x ≤ k ∧ rd_dep (rd_mv K b k) x = rd_dep K (x - 1)) ∨ (k < x ∧ rd_dep (rd_mv K b k) x = rd_dep K x) := by
  rcases Int.lt_or_le b x with g | g
  · rcases Int.lt_or_le k x with g2 | g2
    · exact Or.inr (Or.inr ⟨g2, rd_mv_dhi h0 hb hk g2⟩)
    · exact Or.inr (Or.inl ⟨g, g2, rd_mv_dmid h0 hb hk g (by omega)⟩)
  · exact Or.inl ⟨g, rd_mv_dlo g⟩
theorem rd_mv_vis (h0 : 0 ≤ b) (hb : b < k) (hk : K k = 2) {d u : Int} (hd : d ≠ k) (hu : u ≠ k) (hdu : d < u) : rd_Vis (rd_mv K b k) (rd_ph b k d) (rd_ph b k u) ↔ rd_Vis K d u := by
  have cd := rd_ph_c hb hd
  have cu := rd_ph_c hb hu
  unfold rd_Vis
  rw [rd_mv_dph h0 hb hk hd]
  constructor
  · intro v q h1 h2
    by_cases c : q = k
    · subst c
      have h3 := v (q + 1) (by omega) (by omega)
      rw [rd_mv_dhi h0 hb hk (by omega), rd_mv_dk (by omega) hk] at h3
      exact h3
    · have cq := rd_ph_c hb c
      have h3 := v (rd_ph b k q) (by omega) (by omega)
      rw [rd_mv_dph h0 hb hk c] at h3
      exact h3
  · intro v x h1 h2
    rcases rd_mv_dof h0 hb hk x with ⟨g, e⟩ | ⟨g1, g2, e⟩ | ⟨g, e⟩
    · rw [e]; exact v x (by omega) (by omega)
    · rw [e]; exact v (x - 1) (by omega) (by omega)
    · rw [e]; exact v x (by omega) (by omega)
theorem rd_mv_visb (h0 : 0 ≤ b) (hb : b < k) (hk : K k = 2) {u : Int} (hu : u ≠ k) (hbu : b < u) : rd_Vis (rd_mv K b k) b (rd_ph b k u) ↔ rd_Vis K b u := by
  have cu := rd_ph_c hb hu
  unfold rd_Vis
  rw [rd_mv_dlo (K := K) (k := k) (Int.le_refl b)]
  constructor
  · intro v q h1 h2
    by_cases c : q = k
    · subst c
      have h3 := v (q + 1) (by omega) (by omega)
      rw [rd_mv_dhi h0 hb hk (by omega), rd_mv_dk (by omega) hk] at h3
      exact h3
    · have cq := rd_ph_c hb c
      have h3 := v (rd_ph b k q) (by omega) (by omega)
      rw [rd_mv_dph h0 hb hk c] at h3
      exact h3
  · intro v x h1 h2
    rcases rd_mv_dof h0 hb hk x with ⟨g, e⟩ | ⟨g1, g2, e⟩ | ⟨g, e⟩
    · rw [e]; exact v x (by omega) (by omega)
    · rw [e]; exact v (x - 1) (by omega) (by omega)
    · rw [e]; exact v x (by omega) (by omega)
theorem rd_mv_cand {N : Int → Int} {nm d u : Int} (h0 : 0 ≤ b) (hb : b < k) (hk : K k = 2) (hd : d ≠ k) (hu : u ≠ k) : rd_Cand (rd_mv K b k) (rd_mv N b k) nm (rd_ph b k u) (rd_ph b k d) ↔ rd_Cand K N nm u d := by
  unfold rd_Cand
  rw [rd_mv_ph hb hd, rd_mv_ph hb hd, rd_ph_lt hb hd hu]
  have cd := rd_ph_c hb hd
  constructor
  · rintro ⟨a1, a2, a3, a4, a5⟩
    exact ⟨by omega, a2, a3, a4, (rd_mv_vis h0 hb hk hd hu a2).mp a5⟩
  · rintro ⟨a1, a2, a3, a4, a5⟩
    exact ⟨by omega, a2, a3, a4, (rd_mv_vis h0 hb hk hd hu a2).mpr a5⟩
theorem rd_mv_candb {N : Int → Int} {nm u : Int} (h0 : 0 ≤ b) (hb : b < k) (hk : K k = 2) (hu : u ≠ k) (hub : u ≠ b) : rd_Cand (rd_mv K b k) (rd_mv N b k) nm (rd_ph b k u) b ↔ (b < u ∧ N k = nm ∧ rd_Vis K b u) := by
  unfold rd_Cand
  rw [rd_mv_b, rd_mv_b]
  have cu := rd_ph_nb hb hu
  constructor
  · rintro ⟨a1, a2, a3, a4, a5⟩
    have : b < u := by omega
    exact ⟨this, a4, (rd_mv_visb h0 hb hk hu this).mp a5⟩
  · rintro ⟨a2, a4, a5⟩
    exact ⟨h0, by omega, hk, a4, (rd_mv_visb h0 hb hk hu a2).mpr a5⟩
/-- at one use: it stays bound as it was, unless .. -/
theorem rd_lawC_u {N : Int → Int} {u w : Int} (h0 : 0 ≤ b) (hk : K k = 2) (hB : rd_Blk K k b) (hu0 : 0 ≤ u) (hu : K u = 3) (hw : rd_Win K N (N u) u w) :
    (∃ p, rd_Win (rd_mv K b k) (rd_mv N b k) (N u) (rd_ph b k u) p ∧ w = (if p < 0 then -1 else rd_mv rd_id b k p)) ↔
      ¬ ((b < u ∧ N k = N u ∧ rd_Vis K b u) ∧ ((w = k ∧ ∃ d, b < d ∧ d < k ∧ K d = 2 ∧ N d = N k ∧ rd_Blk K d b) ∨ (w ≠ k ∧ w < b))) := by
  have hb : b < k := hB.2.1
  obtain ⟨hKb, hdk⟩ := rd_Blk_open hB h0
  have huk : u ≠ k := fun e => by rw [e, hk] at hu; omega
  have hub : u ≠ b := fun e => by rw [e, hKb] at hu; omega
  have cb := rd_mv_candb (N := N) (nm := N u) h0 hb hk huk hub
  have hrw := rd_Win_rng hw hu0
  have cd : ∀ d, d ≠ k → (rd_Cand (rd_mv K b k) (rd_mv N b k) (N u) (rd_ph b k u) (rd_ph b k d) ↔ rd_Cand K N (N u) u d) := fun d hd => rd_mv_cand h0 hb hk hd huk
  have nb : ∀ d, rd_Cand K N (N u) u d → d ≠ b := fun d c e => by have := c.2.2.1; rw [e, hKb] at this; omega
  -- if it is bound to k, then b's own block holds it
  have vk : w = k → b < u ∧ N k = N u ∧ rd_Vis K b u := by
    intro e
    have c := rd_Win_pos hw (by omega)
    rw [e] at c
    refine ⟨by have := c.2.1; omega, c.2.2.2.1, fun q h1 h2 => ?_⟩
    rcases Int.lt_or_le q k with g | g
    · by_cases g2 : q = b
      · rw [g2]; exact Int.le_refl _
      · have := hB.2.2.1 q (by omega) (by omega)
        omega
    · have := c.2.2.2.2 q g h2
      omega
  constructor
  · rintro ⟨p, hp, e⟩ ⟨hcb, hbad⟩
    have g1 := rd_Win_max hp (cb.mpr hcb)
    have g2 : ¬ p < 0 := by omega
    rw [if_neg g2] at e
    rcases hbad with ⟨e1, d, d1, d2, d3, d4, d5⟩ | ⟨e1, e2⟩
    · have c := rd_Win_pos hw (by omega)
      rw [e1] at c
      have hdd := (rd_Blk_open d5 h0).2
      have cdd : rd_Cand K N (N u) u d := by
        refine ⟨by omega, by have := c.2.1; omega, d3, by rw [d4]; exact c.2.2.2.1, fun q h1 h2 => ?_⟩
        rcases Int.lt_or_le q k with g | g
        · have := hB.2.2.1 q (by omega) (by omega)
          omega
        · have := c.2.2.2.2 q g h2
          omega
      have g3 := rd_Win_max hp ((cd d (by omega)).mpr cdd)
      rw [rd_ph_m (by omega) d2] at g3
      rcases Int.lt_or_le k p with g4 | g4
      · rw [rd_mv_hi hb g4] at e
        have : w = p := e
        omega
      · rw [rd_mv_m (by omega) g4] at e
        have : w = p - 1 := e
        omega
    · by_cases g5 : p = b
      · rw [g5, rd_mv_b] at e
        exact e1 e
      · rcases Int.lt_or_le k p with g4 | g4
        · rw [rd_mv_hi hb g4] at e
          have : w = p := e
          omega
        · rw [rd_mv_m (by omega) g4] at e
          have : w = p - 1 := e
          omega
  · intro h
    by_cases hc : b < u ∧ N k = N u ∧ rd_Vis K b u
    · by_cases e1 : w = k
      · -- bound to k: it stays with it
        refine ⟨b, rd_Win_of (cb.mpr hc) fun x c => ?_, ?_⟩
        · by_cases xb : x = b
          · omega
          · obtain ⟨d, hd, e⟩ := rd_ph_of hb xb
            rw [← e] at c
            have c2 := (cd d hd).mp c
            have g1 := rd_Win_max hw c2
            have g2 := nb d c2
            have g3 := rd_ph_c hb hd
            rcases Int.lt_or_le d b with g | g
            · omega
            · exfalso
              have ck := rd_Win_pos hw (by omega)
              have g4 := c2.2.2.2.2 k (by omega) (by have := ck.2.1; omega)
              have g5 := hB.2.2.1 d (by omega) (by omega)
              refine h ⟨hc, Or.inl ⟨e1, d, by omega, by omega, c2.2.2.1, by rw [c2.2.2.2.1]; exact hc.2.1.symm, ⟨by omega, by omega, fun q q1 q2 => ?_, fun _ => by omega⟩⟩⟩
              have := hB.2.2.1 q q1 (by omega)
              omega
        · rw [if_neg (by omega), rd_mv_b]
          exact e1
      · have g0 : ¬ w < b := fun g => h ⟨hc, Or.inr ⟨e1, g⟩⟩
        have cw := rd_Win_pos hw (by omega)
        have g1 := nb w cw
        have g2 := rd_ph_c hb e1
        refine ⟨rd_ph b k w, rd_Win_of ((cd w e1).mpr cw) fun x c => ?_, ?_⟩
        · by_cases xb : x = b
          · omega
          · obtain ⟨d, hd, e⟩ := rd_ph_of hb xb
            rw [← e] at c
            have g3 := rd_Win_max hw ((cd d hd).mp c)
            have g4 := rd_ph_lt hb e1 hd
            rw [← e]
            omega
        · rw [if_neg (by omega), rd_mv_ph hb e1]
          rfl
    · have e1 : w ≠ k := fun e => hc (vk e)
      have xb : ∀ x, rd_Cand (rd_mv K b k) (rd_mv N b k) (N u) (rd_ph b k u) x → x ≠ b := fun x c e => hc (cb.mp (e ▸ c))
      rcases Int.lt_or_le w 0 with g | g
      · refine ⟨-1, rd_Win_of0 fun x c => ?_, by simp; omega⟩
        obtain ⟨d, hd, e⟩ := rd_ph_of hb (xb x c)
        rw [← e] at c
        exact rd_Win_neg hw g ((cd d hd).mp c)
      · have cw := rd_Win_pos hw g
        have g2 := rd_ph_c hb e1
        refine ⟨rd_ph b k w, rd_Win_of ((cd w e1).mpr cw) fun x c => ?_, ?_⟩
        · obtain ⟨d, hd, e⟩ := rd_ph_of hb (xb x c)
          rw [← e] at c
          have g3 := rd_Win_max hw ((cd d hd).mp c)
          have g4 := rd_ph_lt hb e1 hd
          rw [← e]
          omega
        · rw [if_neg (by omega), rd_mv_ph hb e1]
          rfl
end MV
def rd_LO (sz : Int) (K N B T : Int → Int) (k : Int) : Prop :=
  (∀ d, B k < d → d < k → ¬ ((∃ u, 0 ≤ u ∧ u < sz ∧ T u = k) ∧ K d = 2 ∧ N d = N k ∧ B d = B k)) ∧
  ∀ u, B k < u → u < sz → ¬ ((K u = 3 ∧ N u = N k ∧ T u ≠ k) ∧ rd_Vis K (B k) u ∧ (T u < 0 ∨ (T u < B k ∧ ¬ rd_hid K (T u) (B k))))
theorem rd_lawC {sz : Int} {K N B D E T : Int → Int} {k : Int} (hL : rd_L1 sz K B D E) (hT : rd_Bds sz K N T) (h0 : 0 ≤ B k) (hks : k < sz) (hk : K k = 2) (hk0 : 0 ≤ k) :
    rd_LO sz K N B T k ↔ rd_Legal sz (rd_mv K (B k) k) (rd_mv N (B k) k) (rd_mv rd_id (B k) k) T := by
  have hB := (hL k hk0 hks).1
  have hb : B k < k := hB.2.1
  obtain ⟨hKb, hdk⟩ := rd_Blk_open hB h0
  have win : ∀ u, 0 ≤ u → u < sz → K u = 3 → rd_Win K N (N u) u (T u) := by
    intro u h1 h2 h3
    rcases hT u h1 h2 with ⟨-, e⟩ | ⟨e, -⟩
    · exact e
    · exact absurd h3 e
  have use : ∀ u, 0 ≤ u → u < sz → T u = k → K u = 3 := by
    intro u h1 h2 h3
    rcases hT u h1 h2 with ⟨e, -⟩ | ⟨-, e⟩
    · exact e
    · omega
  have leg : rd_Legal sz (rd_mv K (B k) k) (rd_mv N (B k) k) (rd_mv rd_id (B k) k) T ↔ ∀ u, 0 ≤ u → u < sz → K u = 3 → ¬ ((B k < u ∧ N k = N u ∧ rd_Vis K (B k) u) ∧ ((T u = k ∧ ∃ d, B k < d ∧ d < k ∧ K d = 2 ∧ N d = N k ∧ rd_Blk K d (B k)) ∨ (T u ≠ k ∧ T u < B k))) := by
    constructor
    · intro h u h1 h2 h3
      have huk : u ≠ k := fun e => by rw [e, hk] at h3; omega
      have c := rd_ph_c hb huk
      obtain ⟨p, hp, e⟩ := h (rd_ph (B k) k u) (by omega) (by omega) (by rw [rd_mv_ph hb huk]; exact h3)
      rw [rd_mv_ph hb huk] at hp e
      exact (rd_lawC_u h0 hk hB h1 h3 (win u h1 h2 h3)).mp ⟨p, hp, e⟩
    · intro h x h1 h2 h3
      have xb : x ≠ B k := fun e => by rw [e, rd_mv_b, hk] at h3; omega
      obtain ⟨u, huk, e⟩ := rd_ph_of hb xb
      have c := rd_ph_c hb huk
      rw [← e, rd_mv_ph hb huk] at h3
      obtain ⟨p, hp, e2⟩ := (rd_lawC_u h0 hk hB (by omega) h3 (win u (by omega) (by omega) h3)).mpr (h u (by omega) (by omega) h3)
      rw [← e, rd_mv_ph hb huk, rd_mv_ph hb huk]
      exact ⟨p, hp, e2⟩
  rw [leg]
  constructor
  · rintro ⟨hA, hC⟩ u h1 h2 h3 ⟨⟨g1, g2, g3⟩, g4⟩
    rcases g4 with ⟨e, d, d1, d2, d3, d4, d5⟩ | ⟨e, g5⟩
    · exact hA d d1 d2 ⟨⟨u, h1, h2, e⟩, d3, d4, rd_Blk_uniq (hL d (by omega) (by omega)).1 d5⟩
    · refine hC u g1 h2 ⟨⟨h3, g2.symm, e⟩, g3, ?_⟩
      rcases Int.lt_or_le (T u) 0 with q | q
      · exact Or.inl q
      · refine Or.inr ⟨g5, fun hh => ?_⟩
        have c := rd_Win_pos (win u h1 h2 h3) q
        have := c.2.2.2.2 (B k) (by omega) (by omega)
        unfold rd_hid at hh
        omega
  · intro h
    constructor
    · rintro d d1 d2 ⟨⟨u, u1, u2, u3⟩, d3, d4, d5⟩
      have hu3 := use u u1 u2 u3
      have c := rd_Win_pos (win u u1 u2 hu3) (by omega)
      rw [u3] at c
      refine h u u1 u2 hu3 ⟨⟨by have := c.2.1; omega, c.2.2.2.1, fun q q1 q2 => ?_⟩, Or.inl ⟨u3, d, d1, d2, d3, d4, by rw [← d5]; exact (hL d (by omega) (by omega)).1⟩⟩
      rcases Int.lt_or_le q k with g | g
      · by_cases g2 : q = B k
        · rw [g2]; exact Int.le_refl _
        · have := hB.2.2.1 q (by omega) (by omega)
          omega
      · have := c.2.2.2.2 q g q2
        omega
    · rintro u u1 u2 ⟨⟨u3, u4, u5⟩, u6, u7⟩
      refine h u (by omega) u2 u3 ⟨⟨u1, u4.symm, u6⟩, Or.inr ⟨u5, ?_⟩⟩
      rcases u7 with q | q
      · omega
      · exact q.1
theorem rd_WF_mv {sz : Int} {K N : Int → Int} {b k : Int} (hw : rd_WF sz K N) (h0 : 0 ≤ b) (hb : b < k) (hks : k < sz) (hk : K k = 2) : rd_WF sz (rd_mv K b k) (rd_mv N b k) := by
  refine ⟨hw.1, fun i h1 h2 => ?_, fun i h1 h2 => ?_⟩
  · by_cases g1 : i = b
    · rw [g1, rd_mv_b, rd_mv_b]
      exact hw.2.1 _ (by omega) hks
    · rcases Int.lt_or_le i b with g | g
      · rw [rd_mv_lo g, rd_mv_lo g]
        exact hw.2.1 i h1 h2
      · rcases Int.lt_or_le k i with g2 | g2
        · rw [rd_mv_hi hb g2, rd_mv_hi hb g2]
          exact hw.2.1 i h1 h2
        · rw [rd_mv_m (by omega) g2, rd_mv_m (by omega) g2]
          exact hw.2.1 _ (by omega) (by omega)
  · rcases rd_mv_dof h0 hb hk i with ⟨g, e⟩ | ⟨g1, g2, e⟩ | ⟨g, e⟩
    · rw [e]; exact hw.2.2 i h1 h2
    · rw [e]; exact hw.2.2 _ (by omega) (by omega)
    · rw [e]; exact hw.2.2 i h1 h2
end
section
/-! THE PURE LAW, part 4: small steps, sets of places as bits, counts -/
set_option maxRecDepth 100000
theorem rd_dep_open {K : Int → Int} {i : Int} (h : 0 ≤ i) (e : K i = 0) : rd_dep K (i + 1) = rd_dep K i + 1 := by rw [rd_dep_s h, e]; rfl
theorem rd_dep_close {K : Int → Int} {i : Int} (h : 0 ≤ i) (e : K i = 1) : rd_dep K (i + 1) = rd_dep K i - 1 := by rw [rd_dep_s h, e]; rfl
theorem rd_dep_oth {K : Int → Int} {i : Int} (h : 0 ≤ i) (e : K i ≠ 0) (e2 : K i ≠ 1) : rd_dep K (i + 1) = rd_dep K i := by rw [rd_dep_s h, rd_stp_2 e e2]; omega
/-- the answer of add, and the tokens behind it -/
def rd_bad (sz : Int) (K : Int → Int) (kind n : Int) : Prop := kind < 0 ∨ 3 < kind ∨ ((kind = 2 ∨ kind = 3) ∧ (n < 0 ∨ 8 ≤ n)) ∨ (kind = 1 ∧ rd_dep K sz = 0)
def rd_Add (sz : Int) (K N : Int → Int) (kind n : Int) (r : Int32) (sz1 : Int) (K1 N1 : Int → Int) : Prop :=
  (rd_bad sz K kind n ∧ r = iI (-1) ∧ sz1 = sz ∧ K1 = K ∧ N1 = N) ∨
  (¬ rd_bad sz K kind n ∧ 28 ≤ sz ∧ r = iI (-2) ∧ sz1 = sz ∧ K1 = K ∧ N1 = N) ∨
  (¬ rd_bad sz K kind n ∧ sz < 28 ∧ r = iI sz ∧ sz1 = sz + 1 ∧ K1 = rd_up K sz kind ∧ N1 = rd_up N sz (if kind = 2 ∨ kind = 3 then n else 0))
theorem rd_Add_uniq {sz : Int} {K N : Int → Int} {kind n : Int} {r r' : Int32} {sz1 sz2 : Int} {K1 N1 K2 N2 : Int → Int} (h : rd_Add sz K N kind n r sz1 K1 N1) (h' : rd_Add sz K N kind n r' sz2 K2 N2) : r = r' ∧ sz1 = sz2 ∧ K1 = K2 ∧ N1 = N2 := by
  rcases h with ⟨a, b, c, d, e⟩ | ⟨a, a', b, c, d, e⟩ | ⟨a, a', b, c, d, e⟩ <;> rcases h' with ⟨f, g, i, j, k⟩ | ⟨f, f', g, i, j, k⟩ | ⟨f, f', g, i, j, k⟩
  · exact ⟨by rw [b, g], by omega, by rw [d, j], by rw [e, k]⟩
  · exact absurd a f
  · exact absurd a f
  · exact absurd f a
  · exact ⟨by rw [b, g], by omega, by rw [d, j], by rw [e, k]⟩
  · omega
  · exact absurd f a
  · omega
  · exact ⟨by rw [b, g], by omega, by rw [d, j], by rw [e, k]⟩
theorem rd_up_dep {K : Int → Int} {sz v i : Int} (h : i ≤ sz) : rd_dep (rd_up K sz v) i = rd_dep K i := rd_dep_congr fun j h1 h2 => rd_up_n (by omega)
theorem rd_WF_add {sz : Int} {K N : Int → Int} {kind n : Int} (hw : rd_WF sz K N) (hs : sz < 28) (hk : 0 ≤ kind ∧ kind ≤ 3) (hn : 0 ≤ n ∧ n ≤ 7) (hc : kind = 1 → rd_dep K sz ≠ 0) : rd_WF (sz + 1) (rd_up K sz kind) (rd_up N sz n) := by
  have h0 := hw.1
  refine ⟨by omega, fun i h1 h2 => ?_, fun i h1 h2 => ?_⟩
  · by_cases e : i = sz
    · rw [e, rd_up_s, rd_up_s]
      exact ⟨hk, hn⟩
    · rw [rd_up_n e, rd_up_n e]
      exact hw.2.1 i h1 (by omega)
  · by_cases e : i = sz + 1
    · rw [e, rd_dep_s h0.1, rd_up_s, rd_up_dep (by omega)]
      have h3 := hw.2.2 sz (by omega) (by omega)
      have h4 := rd_stp_b kind
      by_cases e1 : kind = 1
      · have := hc e1
        omega
      · have : 0 ≤ rd_stp kind := by
          unfold rd_stp
          split
          · omega
          · first | omega | (split <;> omega)
        omega
    · rw [rd_up_dep (by omega)]
      exact hw.2.2 i h1 (by omega)
theorem rd_WF_drop {sz : Int} {K N : Int → Int} (hw : rd_WF sz K N) (h : 0 < sz) : rd_WF (sz - 1) K N := by
  have h0 := hw.1
  exact ⟨by omega, fun i h1 h2 => hw.2.1 i h1 (by omega), fun i h1 h2 => hw.2.2 i h1 (by omega)⟩
/-! sets of places -/
def rd_bit (u : Int) : Int32 := iI 1 <<< (iI u &&& 31)
noncomputable def rd_bs (f : Int → Prop) : Nat → Int32
  | 0 => iI 0
  | n + 1 => @ite _ (f n) (Classical.propDecidable _) (rd_bs f n ||| rd_bit n) (rd_bs f n)
noncomputable def rd_set (f : Int → Prop) (i : Int) : Int32 := rd_bs f i.toNat
theorem rd_set_0 (f : Int → Prop) : rd_set f 0 = iI 0 := rfl
theorem rd_set_t {f : Int → Prop} {i : Int} (h : 0 ≤ i) (hf : f i) : rd_set f (i + 1) = rd_set f i ||| rd_bit i := by
  unfold rd_set
  have h1 : (i + 1).toNat = i.toNat + 1 := by omega
  rw [h1, rd_bs, Int.toNat_of_nonneg h, if_pos hf]
theorem rd_set_f {f : Int → Prop} {i : Int} (h : 0 ≤ i) (hf : ¬ f i) : rd_set f (i + 1) = rd_set f i := by
  unfold rd_set
  have h1 : (i + 1).toNat = i.toNat + 1 := by omega
  rw [h1, rd_bs, Int.toNat_of_nonneg h, if_neg hf]
theorem rd_or0 (x : Int32) : x ||| iI 0 = x := by
  show x ||| 0 = x
  exact Int32.or_zero
theorem rd_bs_congr {f g : Int → Prop} : ∀ n : Nat, (∀ j : Int, 0 ≤ j → j < n → (f j ↔ g j)) → rd_bs f n = rd_bs g n
  | 0, _ => rfl
  | n + 1, h => by
    rw [rd_bs, rd_bs, rd_bs_congr n (fun j h1 h2 => h j h1 (by omega))]
    have h1 := h n (by omega) (by omega)
    by_cases c : f n
    · rw [if_pos c, if_pos (h1.mp c)]
    · rw [if_neg c, if_neg (fun q => c (h1.mpr q))]
theorem rd_set_congr {f g : Int → Prop} {i : Int} (h : ∀ j : Int, 0 ≤ j → j < i → (f j ↔ g j)) : rd_set f i = rd_set g i := rd_bs_congr _ (fun j h1 h2 => h j h1 (by omega))
theorem rd_bs_none {f : Int → Prop} : ∀ n : Nat, (∀ j : Int, 0 ≤ j → j < n → ¬ f j) → rd_bs f n = iI 0
  | 0, _ => rfl
  | n + 1, h => by
    rw [rd_bs, if_neg (h n (by omega) (by omega))]
    exact rd_bs_none n (fun j h1 h2 => h j h1 (by omega))
theorem rd_or_ne {x y : Int32} (h : x ≠ 0) : x ||| y ≠ 0 := by
  intro e
  apply h
  have h1 : (x ||| y).toBitVec = 0#32 := by rw [e]; rfl
  rw [Int32.toBitVec_or] at h1
  have h2 : x.toBitVec = 0#32 := by
    apply BitVec.eq_of_getLsbD_eq
    intro i hi
    have h3 := congrArg (fun b => b.getLsbD i) h1
    simp at h3
    simp [h3]
  exact Int32.toBitVec_inj.mp h2
theorem rd_or_ne2 {x y : Int32} (h : y ≠ 0) : x ||| y ≠ 0 := by
  rw [Int32.or_comm]
  exact rd_or_ne h
theorem rd_bit_ne : ∀ n : Fin 28, rd_bit (n.val : Int) ≠ 0 := by decide +kernel
theorem rd_bs_some {f : Int → Prop} : ∀ n : Nat, n ≤ 28 → (∃ j : Int, 0 ≤ j ∧ j < n ∧ f j) → rd_bs f n ≠ iI 0
  | 0, _, h => by obtain ⟨j, h1, h2, -⟩ := h; omega
  | n + 1, hn, h => by
    obtain ⟨j, h1, h2, h3⟩ := h
    rw [rd_bs]
    by_cases c : f n
    · rw [if_pos c]
      exact rd_or_ne2 (rd_bit_ne ⟨n, by omega⟩)
    · rw [if_neg c]
      refine rd_bs_some n (by omega) ⟨j, h1, ?_, h3⟩
      by_cases e : j = n
      · exact absurd (e ▸ h3) c
      · omega
/-- the set is empty just when no place is in it -/
theorem rd_set_zero {f : Int → Prop} {i : Int} (hi : i ≤ 28) : rd_set f i = 0 ↔ ∀ j : Int, 0 ≤ j → j < i → ¬ f j := by
  constructor
  · intro h j h1 h2 h3
    exact rd_bs_some i.toNat (by omega) ⟨j, h1, by omega, h3⟩ h
  · intro h
    exact rd_bs_none _ (fun j h1 h2 => h j h1 (by omega))
/-! counts -/
noncomputable def rd_cn (f : Int → Prop) : Nat → Int
  | 0 => 0
  | n + 1 => @ite _ (f n) (Classical.propDecidable _) (rd_cn f n + 1) (rd_cn f n)
noncomputable def rd_cnt (f : Int → Prop) (i : Int) : Int := rd_cn f i.toNat
theorem rd_cnt_0 (f : Int → Prop) : rd_cnt f 0 = 0 := rfl
theorem rd_cnt_t {f : Int → Prop} {i : Int} (h : 0 ≤ i) (hf : f i) : rd_cnt f (i + 1) = rd_cnt f i + 1 := by
  unfold rd_cnt
  have h1 : (i + 1).toNat = i.toNat + 1 := by omega
  rw [h1, rd_cn, Int.toNat_of_nonneg h, if_pos hf]
theorem rd_cnt_f {f : Int → Prop} {i : Int} (h : 0 ≤ i) (hf : ¬ f i) : rd_cnt f (i + 1) = rd_cnt f i := by
  unfold rd_cnt
  have h1 : (i + 1).toNat = i.toNat + 1 := by omega
  rw [h1, rd_cn, Int.toNat_of_nonneg h, if_neg hf]
theorem rd_cn_congr {f g : Int → Prop} : ∀ n : Nat, (∀ j : Int, 0 ≤ j → j < n → (f j ↔ g j)) → rd_cn f n = rd_cn g n
  | 0, _ => rfl
  | n + 1, h => by
    rw [rd_cn, rd_cn, rd_cn_congr n (fun j h1 h2 => h j h1 (by omega))]
    have h1 := h n (by omega) (by omega)
    by_cases c : f n
    · rw [if_pos c, if_pos (h1.mp c)]
    · rw [if_neg c, if_neg (fun q => c (h1.mpr q))]
theorem rd_cnt_congr {f g : Int → Prop} {i : Int} (h : ∀ j : Int, 0 ≤ j → j < i → (f j ↔ g j)) : rd_cnt f i = rd_cnt g i := rd_cn_congr _ (fun j h1 h2 => h j h1 (by omega))
theorem rd_cn_b (f : Int → Prop) : ∀ n : Nat, 0 ≤ rd_cn f n ∧ rd_cn f n ≤ n
  | 0 => by simp [rd_cn]
  | n + 1 => by
    have h := rd_cn_b f n
    rw [rd_cn]
    by_cases c : f n
    · rw [if_pos c]; omega
    · rw [if_neg c]; omega
theorem rd_cnt_b (f : Int → Prop) {i : Int} (h : 0 ≤ i) : 0 ≤ rd_cnt f i ∧ rd_cnt f i ≤ i := by
  have := rd_cn_b f i.toNat
  unfold rd_cnt
  omega
end
section
/-! THE PURE LAW, part 5: what each public call answers -/
def rd_A2 (sz : Int) (K : Int → Int) (k : Int) : Prop := (0 ≤ k ∧ k < sz) ∧ K k = 2
def rd_Uses (sz : Int) (K N : Int → Int) (k : Int) (r : Int32) : Prop := (rd_A2 sz K k ∧ r = rd_set (fun u => rd_Bd K N u k) sz) ∨ (¬ rd_A2 sz K k ∧ r = iI 0)
theorem rd_Uses_0 {sz : Int} {K N : Int → Int} {k : Int} {r : Int32} (h : rd_Uses sz K N k r) (ha : rd_A2 sz K k) (hs : sz ≤ 28) : r = 0 ↔ ∀ u, 0 ≤ u → u < sz → ¬ rd_Bd K N u k := by
  rcases h with ⟨-, e⟩ | ⟨q, -⟩
  · rw [e]; exact rd_set_zero hs
  · exact absurd ha q
theorem rd_Uses_uniq {sz : Int} {K N : Int → Int} {k : Int} {r r' : Int32} (h : rd_Uses sz K N k r) (h' : rd_Uses sz K N k r') : r = r' := by
  rcases h with ⟨a, e⟩ | ⟨a, e⟩ <;> rcases h' with ⟨a', e'⟩ | ⟨a', e'⟩
  · rw [e, e']
  · exact absurd a a'
  · exact absurd a' a
  · rw [e, e']
theorem rd_Bds_iff {sz : Int} {K N T : Int → Int} (hT : rd_Bds sz K N T) {u w : Int} (h0 : 0 ≤ u) (h1 : u < sz) : rd_Bd K N u w ↔ T u = w := ⟨fun h => rd_Bd_uniq (hT u h0 h1) h, fun h => h ▸ hT u h0 h1⟩
theorem rd_Bds_eq {sz : Int} {K N T T' : Int → Int} (hT : rd_Bds sz K N T) (hT' : rd_Bds sz K N T') {u : Int} (h0 : 0 ≤ u) (h1 : u < sz) : T u = T' u := rd_Bd_uniq (hT u h0 h1) (hT' u h0 h1)
theorem rd_Legal_T {sz : Int} {K N o T T' : Int → Int} (ho : ∀ u, 0 ≤ u → u < sz → 0 ≤ o u ∧ o u < sz) (he : ∀ u, 0 ≤ u → u < sz → T u = T' u) (h : rd_Legal sz K N o T) : rd_Legal sz K N o T' := by
  intro u h0 h1 h2
  obtain ⟨p, w, e⟩ := h u h0 h1 h2
  have := ho u h0 h1
  exact ⟨p, w, by rw [← he (o u) this.1 this.2]; exact e⟩
theorem rd_rn_T {sz : Int} {K N T T' : Int → Int} {k m : Int} (hT : rd_Bds sz K N T) (hT' : rd_Bds sz K N T') : rd_rn sz N T k m = rd_rn sz N T' k m := by
  funext i
  unfold rd_rn
  by_cases h : 0 ≤ i ∧ i < sz
  · rw [rd_Bds_eq hT hT' h.1 h.2]
  · rw [if_neg (by omega), if_neg (by omega)]
def rd_okN (sz : Int) (K N : Int → Int) (k m : Int) : Prop := ∃ T, rd_Bds sz K N T ∧ rd_Legal sz K (rd_rn sz N T k m) rd_id T
theorem rd_okN_iff {sz : Int} {K N T : Int → Int} {k m : Int} (hT : rd_Bds sz K N T) : rd_okN sz K N k m ↔ rd_Legal sz K (rd_rn sz N T k m) rd_id T := by
  constructor
  · rintro ⟨T', hT', h⟩
    rw [rd_rn_T hT hT']
    exact rd_Legal_T (fun u h0 h1 => ⟨h0, h1⟩) (fun u h0 h1 => rd_Bds_eq hT' hT h0 h1) h
  · exact fun h => ⟨T, hT, h⟩
def rd_okS (sz : Int) (K N : Int → Int) (k : Int) : Prop := ∃ T, rd_Bds sz K N T ∧ rd_Legal sz (rd_sw K k) (rd_sw N k) (rd_sw rd_id k) T
theorem rd_sw_rng {sz k u : Int} (h0 : 0 ≤ k) (h1 : k + 1 < sz) (hu : 0 ≤ u) (hu1 : u < sz) : 0 ≤ rd_sw rd_id k u ∧ rd_sw rd_id k u < sz := by
  unfold rd_sw rd_id
  split
  · omega
  · split <;> omega
theorem rd_okS_iff {sz : Int} {K N T : Int → Int} {k : Int} (hT : rd_Bds sz K N T) (h0 : 0 ≤ k) (h1 : k + 1 < sz) : rd_okS sz K N k ↔ rd_Legal sz (rd_sw K k) (rd_sw N k) (rd_sw rd_id k) T := by
  constructor
  · rintro ⟨T', hT', h⟩
    exact rd_Legal_T (fun u g0 g1 => rd_sw_rng h0 h1 g0 g1) (fun u h0 h1 => rd_Bds_eq hT' hT h0 h1) h
  · exact fun h => ⟨T, hT, h⟩
def rd_okO (sz : Int) (K N : Int → Int) (b k : Int) : Prop := ∃ T, rd_Bds sz K N T ∧ rd_Legal sz (rd_mv K b k) (rd_mv N b k) (rd_mv rd_id b k) T
theorem rd_mv_rng {sz b k u : Int} (h0 : 0 ≤ b) (hb : b < k) (h1 : k < sz) (hu : 0 ≤ u) (hu1 : u < sz) : 0 ≤ rd_mv rd_id b k u ∧ rd_mv rd_id b k u < sz := by
  unfold rd_mv rd_id
  split
  · omega
  · split <;> omega
theorem rd_okO_iff {sz : Int} {K N T : Int → Int} {b k : Int} (hT : rd_Bds sz K N T) (h0 : 0 ≤ b) (hb : b < k) (h1 : k < sz) : rd_okO sz K N b k ↔ rd_Legal sz (rd_mv K b k) (rd_mv N b k) (rd_mv rd_id b k) T := by
  constructor
  · rintro ⟨T', hT', h⟩
    exact rd_Legal_T (fun u g0 g1 => rd_mv_rng h0 hb h1 g0 g1) (fun u h0 h1 => rd_Bds_eq hT' hT h0 h1) h
  · exact fun h => ⟨T, hT, h⟩
def rd_Names (sz : Int) (K N : Int → Int) (k : Int) (r : Int32) : Prop := (rd_A2 sz K k ∧ r = rd_set (rd_okN sz K N k) 8) ∨ (¬ rd_A2 sz K k ∧ r = iI 0)
theorem rd_Names_uniq {sz : Int} {K N : Int → Int} {k : Int} {r r' : Int32} (h : rd_Names sz K N k r) (h' : rd_Names sz K N k r') : r = r' := by
  rcases h with ⟨a, e⟩ | ⟨a, e⟩ <;> rcases h' with ⟨a', e'⟩ | ⟨a', e'⟩
  · rw [e, e']
  · exact absurd a a'
  · exact absurd a' a
  · rw [e, e']
def rd_Ren (sz : Int) (K N : Int → Int) (k m : Int) (r : Int32) (N1 : Int → Int) : Prop :=
  (¬ (rd_A2 sz K k ∧ 0 ≤ m ∧ m < 8) ∧ r = iI (-1) ∧ N1 = N) ∨
  ((rd_A2 sz K k ∧ 0 ≤ m ∧ m < 8) ∧ ¬ rd_okN sz K N k m ∧ r = iI (-3) ∧ N1 = N) ∨
  ((rd_A2 sz K k ∧ 0 ≤ m ∧ m < 8) ∧ rd_okN sz K N k m ∧ r = iI (rd_cnt (fun u => N1 u ≠ N u) sz) ∧ ∃ T, rd_Bds sz K N T ∧ N1 = rd_rn sz N T k m)
theorem rd_Ren_uniq {sz : Int} {K N : Int → Int} {k m : Int} {r r' : Int32} {N1 N2 : Int → Int} (h : rd_Ren sz K N k m r N1) (h' : rd_Ren sz K N k m r' N2) : r = r' ∧ N1 = N2 := by
  rcases h with ⟨a, b, c⟩ | ⟨a, o, b, c⟩ | ⟨a, o, b, T, hT, c⟩ <;> rcases h' with ⟨a', b', c'⟩ | ⟨a', o', b', c'⟩ | ⟨a', o', b', T', hT', c'⟩
  · exact ⟨by rw [b, b'], by rw [c, c']⟩
  · exact absurd a' a
  · exact absurd a' a
  · exact absurd a a'
  · exact ⟨by rw [b, b'], by rw [c, c']⟩
  · exact absurd o' o
  · exact absurd a a'
  · exact absurd o o'
  · have e : N1 = N2 := by rw [c, c', rd_rn_T hT hT']
    exact ⟨by rw [b, b', e], e⟩
def rd_Mb (sz : Int) (K : Int → Int) (k : Int) : Prop := (0 ≤ k ∧ k < sz) ∧ (0 ≤ k + 1 ∧ k + 1 < sz) ∧ 2 ≤ K k ∧ 2 ≤ K (k + 1)
def rd_Swp (sz : Int) (K N : Int → Int) (k : Int) (r : Int32) (K1 N1 : Int → Int) : Prop :=
  (¬ rd_Mb sz K k ∧ r = iI (-1) ∧ K1 = K ∧ N1 = N) ∨ (rd_Mb sz K k ∧ ¬ rd_okS sz K N k ∧ r = iI (-3) ∧ K1 = K ∧ N1 = N) ∨ (rd_Mb sz K k ∧ rd_okS sz K N k ∧ r = iI k ∧ K1 = rd_sw K k ∧ N1 = rd_sw N k)
theorem rd_Swp_uniq {sz : Int} {K N : Int → Int} {k : Int} {r r' : Int32} {K1 K2 N1 N2 : Int → Int} (h : rd_Swp sz K N k r K1 N1) (h' : rd_Swp sz K N k r' K2 N2) : r = r' ∧ K1 = K2 ∧ N1 = N2 := by
  rcases h with ⟨a, b, c, d⟩ | ⟨a, o, b, c, d⟩ | ⟨a, o, b, c, d⟩ <;> rcases h' with ⟨a', b', c', d'⟩ | ⟨a', o', b', c', d'⟩ | ⟨a', o', b', c', d'⟩
  · exact ⟨by rw [b, b'], by rw [c, c'], by rw [d, d']⟩
  · exact absurd a' a
  · exact absurd a' a
  · exact absurd a a'
  · exact ⟨by rw [b, b'], by rw [c, c'], by rw [d, d']⟩
  · exact absurd o' o
  · exact absurd a a'
  · exact absurd o o'
  · exact ⟨by rw [b, b'], by rw [c, c'], by rw [d, d']⟩
def rd_Mo (sz : Int) (K : Int → Int) (k b : Int) : Prop := rd_A2 sz K k ∧ 0 ≤ b ∧ rd_Blk K k b
def rd_Mov (sz : Int) (K N : Int → Int) (k : Int) (r : Int32) (K1 N1 : Int → Int) : Prop :=
  ((¬ ∃ b, rd_Mo sz K k b) ∧ r = iI (-1) ∧ K1 = K ∧ N1 = N) ∨ (∃ b, rd_Mo sz K k b ∧ ¬ rd_okO sz K N b k ∧ r = iI (-3) ∧ K1 = K ∧ N1 = N) ∨ (∃ b, rd_Mo sz K k b ∧ rd_okO sz K N b k ∧ r = iI b ∧ K1 = rd_mv K b k ∧ N1 = rd_mv N b k)
theorem rd_Mov_uniq {sz : Int} {K N : Int → Int} {k : Int} {r r' : Int32} {K1 K2 N1 N2 : Int → Int} (h : rd_Mov sz K N k r K1 N1) (h' : rd_Mov sz K N k r' K2 N2) : r = r' ∧ K1 = K2 ∧ N1 = N2 := by
  rcases h with ⟨a, b, c, d⟩ | ⟨x, a, o, b, c, d⟩ | ⟨x, a, o, b, c, d⟩ <;> rcases h' with ⟨a', b', c', d'⟩ | ⟨x', a', o', b', c', d'⟩ | ⟨x', a', o', b', c', d'⟩
  · exact ⟨by rw [b, b'], by rw [c, c'], by rw [d, d']⟩
  · exact absurd ⟨x', a'⟩ a
  · exact absurd ⟨x', a'⟩ a
  · exact absurd ⟨x, a⟩ a'
  · exact ⟨by rw [b, b'], by rw [c, c'], by rw [d, d']⟩
  · have e := rd_Blk_uniq a.2.2 a'.2.2
    subst e
    exact absurd o' o
  · exact absurd ⟨x, a⟩ a'
  · have e := rd_Blk_uniq a.2.2 a'.2.2
    subst e
    exact absurd o o'
  · have e := rd_Blk_uniq a.2.2 a'.2.2
    subst e
    exact ⟨by rw [b, b'], by rw [c, c'], by rw [d, d']⟩
/-- may the declaration be moved out -/
def rd_Can (sz : Int) (K N : Int → Int) (k : Int) : Prop := ∃ b, rd_Mo sz K k b ∧ rd_okO sz K N b k
def rd_Tok (sz : Int) (K N : Int → Int) (k : Int) (r : Int32) : Prop := ((0 ≤ k ∧ k < sz) ∧ r = iI (K k + 4 * N k)) ∨ (¬ (0 ≤ k ∧ k < sz) ∧ r = iI (-1))
def rd_Bou (sz : Int) (K N : Int → Int) (k : Int) (r : Int32) : Prop := ((0 ≤ k ∧ k < sz) ∧ ∃ w, rd_Bd K N k w ∧ r = iI w) ∨ (¬ (0 ≤ k ∧ k < sz) ∧ r = iI (-1))
def rd_Fre (sz : Int) (K N : Int → Int) (r : Int32) : Prop := r = rd_set (fun u => K u = 3 ∧ rd_Bd K N u (-1)) sz
def rd_Unu (sz : Int) (K N : Int → Int) (r : Int32) : Prop := r = rd_set (fun k => K k = 2 ∧ ∀ u, 0 ≤ u → u < sz → ¬ rd_Bd K N u k) sz
def rd_Dpt (sz : Int) (K : Int → Int) (k : Int) (r : Int32) : Prop := ((0 ≤ k ∧ k < sz) ∧ r = iI (rd_dep K k)) ∨ (¬ (0 ≤ k ∧ k < sz) ∧ r = iI (-1))
def rd_Vib (sz : Int) (K N : Int → Int) (k : Int) (r : Int32) : Prop := ((0 ≤ k ∧ k < sz) ∧ r = rd_set (fun n => ∃ d, rd_Cand K N n k d) 8) ∨ (¬ (0 ≤ k ∧ k < sz) ∧ r = iI 0)
def rd_Drp (sz : Int) (r : Int32) (sz1 : Int) : Prop := (sz = 0 ∧ r = iI (-1) ∧ sz1 = sz) ∨ (0 < sz ∧ r = iI (sz - 1) ∧ sz1 = sz - 1)
theorem rd_or_uniq {P : Prop} {f g : Int32} {r r' : Int32} (h : (P ∧ r = f) ∨ (¬ P ∧ r = g)) (h' : (P ∧ r' = f) ∨ (¬ P ∧ r' = g)) : r = r' := by
  rcases h with ⟨a, e⟩ | ⟨a, e⟩ <;> rcases h' with ⟨a', e'⟩ | ⟨a', e'⟩
  · rw [e, e']
  · exact absurd a a'
  · exact absurd a' a
  · rw [e, e']
theorem rd_Bou_uniq {sz : Int} {K N : Int → Int} {k : Int} {r r' : Int32} (h : rd_Bou sz K N k r) (h' : rd_Bou sz K N k r') : r = r' := by
  rcases h with ⟨a, w, b, e⟩ | ⟨a, e⟩ <;> rcases h' with ⟨a', w', b', e'⟩ | ⟨a', e'⟩
  · rw [e, e', rd_Bd_uniq b b']
  · exact absurd a a'
  · exact absurd a' a
  · rw [e, e']
theorem rd_Drp_uniq {sz : Int} {r r' : Int32} {sz1 sz2 : Int} (h : rd_Drp sz r sz1) (h' : rd_Drp sz r' sz2) : r = r' ∧ sz1 = sz2 := by
  rcases h with ⟨a, b, c⟩ | ⟨a, b, c⟩ <;> rcases h' with ⟨a', b', c'⟩ | ⟨a', b', c'⟩
  · exact ⟨by rw [b, b'], by omega⟩
  · omega
  · omega
  · exact ⟨by rw [b, b'], by omega⟩
theorem rd_all_s {P : Int → Prop} {a x : Int} (h : ∀ u, a < u → u < x → P u) (hx : P x) : ∀ u, a < u → u < x + 1 → P u := by
  intro u h1 h2
  by_cases e : u = x
  · rw [e]; exact hx
  · exact h u h1 (by omega)
end
section
/-! THE LAYER, part 1: ints as iI z; rows over the kit's -/
set_option maxRecDepth 100000
theorem ii_T {z : Int} (h : -2147483648 ≤ z ∧ z ≤ 2147483647) : (iI z).toInt = z := Int32.toInt_ofInt_of_le (by omega) (by omega)
theorem ii_lt {a b : Int} (ha : -2147483648 ≤ a ∧ a ≤ 2147483647) (hb : -2147483648 ≤ b ∧ b ≤ 2147483647) : iI a < iI b ↔ a < b := by rw [Int32.lt_iff_toInt_lt, ii_T ha, ii_T hb]
theorem ii_le {a b : Int} (ha : -2147483648 ≤ a ∧ a ≤ 2147483647) (hb : -2147483648 ≤ b ∧ b ≤ 2147483647) : iI a ≤ iI b ↔ a ≤ b := by rw [Int32.le_iff_toInt_le, ii_T ha, ii_T hb]
theorem ii_eq {a b : Int} (ha : -2147483648 ≤ a ∧ a ≤ 2147483647) (hb : -2147483648 ≤ b ∧ b ≤ 2147483647) : iI a = iI b ↔ a = b := ⟨fun h => by rw [← ii_T ha, h, ii_T hb], fun h => by rw [h]⟩
theorem ii_0 : (0 : Int32) = iI 0 := rfl
theorem ii_add (a b : Int) : iI a + iI b = iI (a + b) := (Int32.ofInt_add a b).symm
theorem ii_sub (a b : Int) : iI a - iI b = iI (a - b) := (Int32.ofInt_sub a b).symm
theorem ii_mul (a b : Int) : iI a * iI b = iI (a * b) := (Int32.ofInt_mul a b).symm
theorem ii_of (x : Int32) : ∃ z : Int, (-2147483648 ≤ z ∧ z ≤ 2147483647) ∧ x = iI z := ⟨x.toInt, ⟨by have := x.le_toInt; omega, by have := x.toInt_lt; omega⟩, (Int32.ofInt_toInt x).symm⟩
theorem ii_in {i : Int} {n : Nat} (h : 0 ≤ i ∧ i < n) (hn : n < 2 ^ 31) : vp_in (iI i) n := vp_in_iff.mpr (by rw [ii_T (by omega)]; exact h)
theorem ii_cl {i : Int} (h : 0 ≤ i ∧ i ≤ 2147483647) : (iI i).toNatClampNeg = i.toNat := Int32.toNatClampNeg_ofInt_of_le (by omega) (by omega)
theorem ii_i8 {x : Int} (h : -128 ≤ x ∧ x ≤ 127) : (iI x).toInt8.toInt32 = iI x := by
  show (Int32.ofInt x).toInt8.toInt32 = _
  rw [Int32.toInt8_ofInt, Int8.toInt32_ofInt h.1 h.2]
  rfl
theorem ii_b {x : Int} (h : -128 ≤ x ∧ x ≤ 127) : vp_nar .byte (iI x) = iI x := by rw [vp_nar_byte, ii_i8 h]
/-- an array's content -/
def cI (K : Int → Int) : Nat → Int32 := fun j => iI (K j)
theorem cI_rd {K : Int → Int} {i : Int} (h : 0 ≤ i ∧ i ≤ 2147483647) : cI K (iI i).toNatClampNeg = iI (K i) := by
  rw [ii_cl h]
  show iI (K (i.toNat : Int)) = _
  rw [Int.toNat_of_nonneg h.1]
theorem cI_wr {K : Int → Int} {i v : Int} (h : 0 ≤ i ∧ i ≤ 2147483647) : upd (cI K) (iI i).toNatClampNeg (iI v) = cI (rd_up K i v) := by
  rw [ii_cl h]
  funext j
  show (if j = i.toNat then iI v else iI (K j)) = iI (if (j : Int) = i then v else K j)
  by_cases c : j = i.toNat
  · rw [if_pos c, if_pos (by omega)]
  · rw [if_neg c, if_neg (by omega)]
theorem cI_congr {cA : ClassId} {n : Nat} {K K' : Int → Int} (h : ∀ j : Int, 0 ≤ j → j < n → K j = K' j) : vp_cell cA (n, .inl (cI K)) = vp_cell cA (n, .inl (cI K')) := by
  rw [vp_cell_i, vp_cell_i]
  unfold arrV
  congr 2
  funext j
  show Value.int (iI (K _)) = Value.int (iI (K' _))
  rw [h j.val (by omega) (by have := j.isLt; omega)]
/-- a method that answers yes or no -/
def rd_BP (P : Prop) (r : Int32) : Prop := (P ∧ r = iI 1) ∨ (¬ P ∧ r = iI 0)
theorem rd_BP_iff {P P' : Prop} (h : P ↔ P') {r : Int32} (hr : rd_BP P r) : rd_BP P' r := by
  rcases hr with ⟨a, b⟩ | ⟨a, b⟩
  · exact Or.inl ⟨h.mp a, b⟩
  · exact Or.inr ⟨fun q => a (h.mpr q), b⟩
theorem rd_BP_uniq {P : Prop} {r r' : Int32} (h : rd_BP P r) (h' : rd_BP P r') : r = r' := by
  rcases h with ⟨a, b⟩ | ⟨a, b⟩
  · rcases h' with ⟨a', b'⟩ | ⟨a', b'⟩
    · rw [b, b']
    · exact absurd a a'
  · rcases h' with ⟨a', b'⟩ | ⟨a', b'⟩
    · exact absurd a' a
    · rw [b, b']
def rmL (k : Nat) : Room := { frames := k, cells := 0, slots := 0, locals := 32 * k }
section RI
variable {p : Program} {l : Launch} {e : Env} {R : Room} {s : State} {m : MethodId} {args : Array Value} {below : List Frame} {meth : Method} {c : Code} {H : Heap} {locs : List Loc} {cells slots : Nat} {Q : State → Prop}
variable {cc : ByteArray} {pc : Nat} {ls : Array Slot} {rest : List Value}
theorem ri_const (hx : p.tables.exec = Jvm.exec) (hb : c.code = cc) {n : Int} (hdg : decode cc pc = .ok (.iconst n, 1)) (k : W p l e R s m args below meth c H locs cells slots Q (F0 m (pc + 1) ls (.int (iI n) :: rest))) : W p l e R s m args below meth c H locs cells slots Q (F0 m pc ls rest) := lv_iconst hx hb hdg rfl k
theorem ri_push (hx : p.tables.exec = Jvm.exec) (hb : c.code = cc) {n : Int} (hdg : decode cc pc = .ok (.bipush n, 2)) (hn : -128 ≤ n ∧ n ≤ 127) (k : W p l e R s m args below meth c H locs cells slots Q (F0 m (pc + 2) ls (.int (iI n) :: rest))) : W p l e R s m args below meth c H locs cells slots Q (F0 m pc ls rest) := lv_bipush hx hb hdg (Int8.toInt32_ofInt hn.1 hn.2) k
theorem ri_add (hx : p.tables.exec = Jvm.exec) (hb : c.code = cc) {x y : Int} (hdg : decode cc pc = .ok (.iadd, 1)) (k : W p l e R s m args below meth c H locs cells slots Q (F0 m (pc + 1) ls (.int (iI (x + y)) :: rest))) : W p l e R s m args below meth c H locs cells slots Q (F0 m pc ls (.int (iI y) :: .int (iI x) :: rest)) := lv_iadd hx hb hdg (by rw [ii_add]; exact k)
theorem ri_sub (hx : p.tables.exec = Jvm.exec) (hb : c.code = cc) {x y : Int} (hdg : decode cc pc = .ok (.isub, 1)) (k : W p l e R s m args below meth c H locs cells slots Q (F0 m (pc + 1) ls (.int (iI (x - y)) :: rest))) : W p l e R s m args below meth c H locs cells slots Q (F0 m pc ls (.int (iI y) :: .int (iI x) :: rest)) := lv_isub hx hb hdg (by rw [ii_sub]; exact k)
theorem ri_mul (hx : p.tables.exec = Jvm.exec) (hb : c.code = cc) {x y : Int} (hdg : decode cc pc = .ok (.imul, 1)) (k : W p l e R s m args below meth c H locs cells slots Q (F0 m (pc + 1) ls (.int (iI (x * y)) :: rest))) : W p l e R s m args below meth c H locs cells slots Q (F0 m pc ls (.int (iI y) :: .int (iI x) :: rest)) := lv_imul hx hb hdg (by rw [ii_mul]; exact k)
theorem ri_i2b (hx : p.tables.exec = Jvm.exec) (hb : c.code = cc) {x : Int} (hx8 : -128 ≤ x ∧ x ≤ 127) (hdg : decode cc pc = .ok (.i2b, 1)) (k : W p l e R s m args below meth c H locs cells slots Q (F0 m (pc + 1) ls (.int (iI x) :: rest))) : W p l e R s m args below meth c H locs cells slots Q (F0 m pc ls (.int (iI x) :: rest)) := lv_i2b hx hb hdg (ii_i8 hx8) k
theorem ri_inc (hx : p.tables.exec = Jvm.exec) (hb : c.code = cc) {i nL k : Nat} {n x : Int} {lv lv1 : List (Nat × Value)} (hdg : decode cc pc = .ok (.iinc i n, 3)) (h : lv_has ls nL lv) (hk : lv[k]? = some (i, .int (iI x))) (hn : i < nL) (hl : (i, Value.int (iI (x + n))) :: lv.filter (fun q => !(q.1 == i) && !(q.1 + 1 == i && q.2.category == 2)) = lv1) (kk : ∀ ls1 : Array Slot, lv_has ls1 nL lv1 → W p l e R s m args below meth c H locs cells slots Q (F0 m (pc + 3) ls1 rest)) : W p l e R s m args below meth c H locs cells slots Q (F0 m pc ls rest) := lv_iinc hx hb hdg h hk (ii_add x n) hn hl kk
theorem ri_cmp_eq (hx : p.tables.exec = Jvm.exec) (hb : c.code = cc) {x y : Int} {off : Int} {tgt : Nat} (hdg : decode cc pc = .ok (.if_icmp .eq off, 3)) (ht : (pc : Int) + off = (tgt : Int)) (hr : (-2147483648 ≤ x ∧ x ≤ 2147483647) ∧ (-2147483648 ≤ y ∧ y ≤ 2147483647)) (kt : x = y → W p l e R s m args below meth c H locs cells slots Q (F0 m tgt ls rest)) (kf : x ≠ y → W p l e R s m args below meth c H locs cells slots Q (F0 m (pc + 3) ls rest)) : W p l e R s m args below meth c H locs cells slots Q (F0 m pc ls (.int (iI y) :: .int (iI x) :: rest)) := lv_icmp_eq hx hb hdg ht (fun h => kt ((ii_eq hr.1 hr.2).mp h)) (fun h => kf (fun q => h ((ii_eq hr.1 hr.2).mpr q)))
theorem ri_if_eq (hx : p.tables.exec = Jvm.exec) (hb : c.code = cc) {x : Int} {off : Int} {tgt : Nat} (hdg : decode cc pc = .ok (.ifCond .eq off, 3)) (ht : (pc : Int) + off = (tgt : Int)) (hr : -2147483648 ≤ x ∧ x ≤ 2147483647) (kt : x = 0 → W p l e R s m args below meth c H locs cells slots Q (F0 m tgt ls rest)) (kf : x ≠ 0 → W p l e R s m args below meth c H locs cells slots Q (F0 m (pc + 3) ls rest)) : W p l e R s m args below meth c H locs cells slots Q (F0 m pc ls (.int (iI x) :: rest)) := by
  have hr : (-2147483648 ≤ x ∧ x ≤ 2147483647) ∧ (-2147483648 ≤ (0 : Int) ∧ (0 : Int) ≤ 2147483647) := ⟨hr, by omega⟩
  exact lv_if_eq hx hb hdg ht (fun h => kt ((ii_eq hr.1 hr.2).mp h)) (fun h => kf (fun q => h ((ii_eq hr.1 hr.2).mpr q)))
theorem ri_cmp_ne (hx : p.tables.exec = Jvm.exec) (hb : c.code = cc) {x y : Int} {off : Int} {tgt : Nat} (hdg : decode cc pc = .ok (.if_icmp .ne off, 3)) (ht : (pc : Int) + off = (tgt : Int)) (hr : (-2147483648 ≤ x ∧ x ≤ 2147483647) ∧ (-2147483648 ≤ y ∧ y ≤ 2147483647)) (kt : x ≠ y → W p l e R s m args below meth c H locs cells slots Q (F0 m tgt ls rest)) (kf : x = y → W p l e R s m args below meth c H locs cells slots Q (F0 m (pc + 3) ls rest)) : W p l e R s m args below meth c H locs cells slots Q (F0 m pc ls (.int (iI y) :: .int (iI x) :: rest)) := lv_icmp_ne hx hb hdg ht (fun h => kt (fun q => h ((ii_eq hr.1 hr.2).mpr q))) (fun h => kf ((ii_eq hr.1 hr.2).mp h))
theorem ri_if_ne (hx : p.tables.exec = Jvm.exec) (hb : c.code = cc) {x : Int} {off : Int} {tgt : Nat} (hdg : decode cc pc = .ok (.ifCond .ne off, 3)) (ht : (pc : Int) + off = (tgt : Int)) (hr : -2147483648 ≤ x ∧ x ≤ 2147483647) (kt : x ≠ 0 → W p l e R s m args below meth c H locs cells slots Q (F0 m tgt ls rest)) (kf : x = 0 → W p l e R s m args below meth c H locs cells slots Q (F0 m (pc + 3) ls rest)) : W p l e R s m args below meth c H locs cells slots Q (F0 m pc ls (.int (iI x) :: rest)) := by
  have hr : (-2147483648 ≤ x ∧ x ≤ 2147483647) ∧ (-2147483648 ≤ (0 : Int) ∧ (0 : Int) ≤ 2147483647) := ⟨hr, by omega⟩
  exact lv_if_ne hx hb hdg ht (fun h => kt (fun q => h ((ii_eq hr.1 hr.2).mpr q))) (fun h => kf ((ii_eq hr.1 hr.2).mp h))
theorem ri_cmp_lt (hx : p.tables.exec = Jvm.exec) (hb : c.code = cc) {x y : Int} {off : Int} {tgt : Nat} (hdg : decode cc pc = .ok (.if_icmp .lt off, 3)) (ht : (pc : Int) + off = (tgt : Int)) (hr : (-2147483648 ≤ x ∧ x ≤ 2147483647) ∧ (-2147483648 ≤ y ∧ y ≤ 2147483647)) (kt : x < y → W p l e R s m args below meth c H locs cells slots Q (F0 m tgt ls rest)) (kf : y ≤ x → W p l e R s m args below meth c H locs cells slots Q (F0 m (pc + 3) ls rest)) : W p l e R s m args below meth c H locs cells slots Q (F0 m pc ls (.int (iI y) :: .int (iI x) :: rest)) := lv_icmp_lt hx hb hdg ht (fun h => kt ((ii_lt hr.1 hr.2).mp h)) (fun h => kf (Int.not_lt.mp (fun q => h ((ii_lt hr.1 hr.2).mpr q))))
theorem ri_if_lt (hx : p.tables.exec = Jvm.exec) (hb : c.code = cc) {x : Int} {off : Int} {tgt : Nat} (hdg : decode cc pc = .ok (.ifCond .lt off, 3)) (ht : (pc : Int) + off = (tgt : Int)) (hr : -2147483648 ≤ x ∧ x ≤ 2147483647) (kt : x < 0 → W p l e R s m args below meth c H locs cells slots Q (F0 m tgt ls rest)) (kf : 0 ≤ x → W p l e R s m args below meth c H locs cells slots Q (F0 m (pc + 3) ls rest)) : W p l e R s m args below meth c H locs cells slots Q (F0 m pc ls (.int (iI x) :: rest)) := by
  have hr : (-2147483648 ≤ x ∧ x ≤ 2147483647) ∧ (-2147483648 ≤ (0 : Int) ∧ (0 : Int) ≤ 2147483647) := ⟨hr, by omega⟩
  exact lv_if_lt hx hb hdg ht (fun h => kt ((ii_lt hr.1 hr.2).mp h)) (fun h => kf (Int.not_lt.mp (fun q => h ((ii_lt hr.1 hr.2).mpr q))))
theorem ri_cmp_ge (hx : p.tables.exec = Jvm.exec) (hb : c.code = cc) {x y : Int} {off : Int} {tgt : Nat} (hdg : decode cc pc = .ok (.if_icmp .ge off, 3)) (ht : (pc : Int) + off = (tgt : Int)) (hr : (-2147483648 ≤ x ∧ x ≤ 2147483647) ∧ (-2147483648 ≤ y ∧ y ≤ 2147483647)) (kt : y ≤ x → W p l e R s m args below meth c H locs cells slots Q (F0 m tgt ls rest)) (kf : x < y → W p l e R s m args below meth c H locs cells slots Q (F0 m (pc + 3) ls rest)) : W p l e R s m args below meth c H locs cells slots Q (F0 m pc ls (.int (iI y) :: .int (iI x) :: rest)) := lv_icmp_ge hx hb hdg ht (fun h => kt ((ii_le hr.2 hr.1).mp h)) (fun h => kf (Int.not_le.mp (fun q => h ((ii_le hr.2 hr.1).mpr q))))
theorem ri_if_ge (hx : p.tables.exec = Jvm.exec) (hb : c.code = cc) {x : Int} {off : Int} {tgt : Nat} (hdg : decode cc pc = .ok (.ifCond .ge off, 3)) (ht : (pc : Int) + off = (tgt : Int)) (hr : -2147483648 ≤ x ∧ x ≤ 2147483647) (kt : 0 ≤ x → W p l e R s m args below meth c H locs cells slots Q (F0 m tgt ls rest)) (kf : x < 0 → W p l e R s m args below meth c H locs cells slots Q (F0 m (pc + 3) ls rest)) : W p l e R s m args below meth c H locs cells slots Q (F0 m pc ls (.int (iI x) :: rest)) := by
  have hr : (-2147483648 ≤ x ∧ x ≤ 2147483647) ∧ (-2147483648 ≤ (0 : Int) ∧ (0 : Int) ≤ 2147483647) := ⟨hr, by omega⟩
  exact lv_if_ge hx hb hdg ht (fun h => kt ((ii_le hr.2 hr.1).mp h)) (fun h => kf (Int.not_le.mp (fun q => h ((ii_le hr.2 hr.1).mpr q))))
theorem ri_cmp_gt (hx : p.tables.exec = Jvm.exec) (hb : c.code = cc) {x y : Int} {off : Int} {tgt : Nat} (hdg : decode cc pc = .ok (.if_icmp .gt off, 3)) (ht : (pc : Int) + off = (tgt : Int)) (hr : (-2147483648 ≤ x ∧ x ≤ 2147483647) ∧ (-2147483648 ≤ y ∧ y ≤ 2147483647)) (kt : y < x → W p l e R s m args below meth c H locs cells slots Q (F0 m tgt ls rest)) (kf : x ≤ y → W p l e R s m args below meth c H locs cells slots Q (F0 m (pc + 3) ls rest)) : W p l e R s m args below meth c H locs cells slots Q (F0 m pc ls (.int (iI y) :: .int (iI x) :: rest)) := lv_icmp_gt hx hb hdg ht (fun h => kt ((ii_lt hr.2 hr.1).mp h)) (fun h => kf (Int.not_lt.mp (fun q => h ((ii_lt hr.2 hr.1).mpr q))))
theorem ri_if_gt (hx : p.tables.exec = Jvm.exec) (hb : c.code = cc) {x : Int} {off : Int} {tgt : Nat} (hdg : decode cc pc = .ok (.ifCond .gt off, 3)) (ht : (pc : Int) + off = (tgt : Int)) (hr : -2147483648 ≤ x ∧ x ≤ 2147483647) (kt : 0 < x → W p l e R s m args below meth c H locs cells slots Q (F0 m tgt ls rest)) (kf : x ≤ 0 → W p l e R s m args below meth c H locs cells slots Q (F0 m (pc + 3) ls rest)) : W p l e R s m args below meth c H locs cells slots Q (F0 m pc ls (.int (iI x) :: rest)) := by
  have hr : (-2147483648 ≤ x ∧ x ≤ 2147483647) ∧ (-2147483648 ≤ (0 : Int) ∧ (0 : Int) ≤ 2147483647) := ⟨hr, by omega⟩
  exact lv_if_gt hx hb hdg ht (fun h => kt ((ii_lt hr.2 hr.1).mp h)) (fun h => kf (Int.not_lt.mp (fun q => h ((ii_lt hr.2 hr.1).mpr q))))
theorem ri_cmp_le (hx : p.tables.exec = Jvm.exec) (hb : c.code = cc) {x y : Int} {off : Int} {tgt : Nat} (hdg : decode cc pc = .ok (.if_icmp .le off, 3)) (ht : (pc : Int) + off = (tgt : Int)) (hr : (-2147483648 ≤ x ∧ x ≤ 2147483647) ∧ (-2147483648 ≤ y ∧ y ≤ 2147483647)) (kt : x ≤ y → W p l e R s m args below meth c H locs cells slots Q (F0 m tgt ls rest)) (kf : y < x → W p l e R s m args below meth c H locs cells slots Q (F0 m (pc + 3) ls rest)) : W p l e R s m args below meth c H locs cells slots Q (F0 m pc ls (.int (iI y) :: .int (iI x) :: rest)) := lv_icmp_le hx hb hdg ht (fun h => kt ((ii_le hr.1 hr.2).mp h)) (fun h => kf (Int.not_le.mp (fun q => h ((ii_le hr.1 hr.2).mpr q))))
theorem ri_if_le (hx : p.tables.exec = Jvm.exec) (hb : c.code = cc) {x : Int} {off : Int} {tgt : Nat} (hdg : decode cc pc = .ok (.ifCond .le off, 3)) (ht : (pc : Int) + off = (tgt : Int)) (hr : -2147483648 ≤ x ∧ x ≤ 2147483647) (kt : x ≤ 0 → W p l e R s m args below meth c H locs cells slots Q (F0 m tgt ls rest)) (kf : 0 < x → W p l e R s m args below meth c H locs cells slots Q (F0 m (pc + 3) ls rest)) : W p l e R s m args below meth c H locs cells slots Q (F0 m pc ls (.int (iI x) :: rest)) := by
  have hr : (-2147483648 ≤ x ∧ x ≤ 2147483647) ∧ (-2147483648 ≤ (0 : Int) ∧ (0 : Int) ≤ 2147483647) := ⟨hr, by omega⟩
  exact lv_if_le hx hb hdg ht (fun h => kt ((ii_le hr.1 hr.2).mp h)) (fun h => kf (Int.not_le.mp (fun q => h ((ii_le hr.1 hr.2).mpr q))))
end RI
/-! contracts: gMR reads only; gMM writes, answers an int; gMV writes, answers nothing -/
abbrev vwCl : List vw_C := [(RX0, TX0, 9), (RX1, TX1, 7)]
def gMR (l : Launch) (y : MethodName) (ws : List Cond) (rm : Room) (G : va_G) (tys : List (ClassId × FieldType)) (Pre : Heap → Prop) (a0 : Nat) (As : List Value) (post : Int32 → Prop) : Prop := Met l y ws rm (va_Pc (.ref a0 :: As) (fun U => Pre U.heap ∧ va_K G vwCl tys U)) (vp_Si post) 0 0 (fun _ => False)
def gMM (l : Launch) (y : MethodName) (ws : List Cond) (rm : Room) (G : va_G) (tys : List (ClassId × FieldType)) (Pre : Heap → Prop) (a0 : Nat) (As : List Value) (A : Nat → Prop) (P : Int32 → Heap → Prop) : Prop := Met l y ws rm (va_Pc (.ref a0 :: As) (fun U => Pre U.heap ∧ va_K G vwCl tys U)) (va_Qi (fun r u => u = r) (fun u t => P u t.heap) A) 0 0 A
def gMV (l : Launch) (y : MethodName) (ws : List Cond) (rm : Room) (G : va_G) (tys : List (ClassId × FieldType)) (Pre : Heap → Prop) (a0 : Nat) (As : List Value) (A : Nat → Prop) (P : Heap → Prop) : Prop := Met l y ws rm (va_Pc (.ref a0 :: As) (fun U => Pre U.heap ∧ va_K G vwCl tys U)) (va_Qv (fun _ : Unit => True) (fun _ t => P t.heap) A) 0 0 A
abbrev qR (post : Int32 → Prop) : Array Value → State → Outcome → State → Prop := vp_Si post
abbrev qM (A : Nat → Prop) (P : Int32 → Heap → Prop) : Array Value → State → Outcome → State → Prop := va_Qi (fun r u => u = r) (fun u t => P u t.heap) A
abbrev qV (A : Nat → Prop) (P : Heap → Prop) : Array Value → State → Outcome → State → Prop := va_Qv (fun _ : Unit => True) (fun _ t => P t.heap) A
section GOF
variable {l : Launch} {y : MethodName} {cc : ByteArray} {maxL : Nat} {ret : Option FieldType} {rm : Room} {G : va_G} {tys : List (ClassId × FieldType)} {Pre : Heap → Prop} {a0 : Nat} {As : List Value} {A : Nat → Prop}
theorem gMR_of {post : Int32 → Prop} (hy : plainName y.cls = true) (hlen : (lg_sl (Value.ref a0 :: As)).length ≤ maxL)
    (body : ∀ (p : Program) (e : Env) (s : State) (m : MethodId) (below : List Frame) (meth : Method) (c : Code) (ls : Array Slot), p.tables.exec = Jvm.exec → c.code = cc → meth.sig.returnType = ret → c.maxLocals = maxL → s.vm.findClass y.cls = some m.cls → meth.locks = false → (∀ w ∈ lw_all, w.before (Value.ref a0 :: As).toArray s = true) → Pre s.heap → va_K G vwCl tys s → lv_has ls maxL (lv_args 0 (Value.ref a0 :: As)) →
      W p l e rm s m (Value.ref a0 :: As).toArray below meth c s.heap [] 0 0 (MQ below (qR post) (Value.ref a0 :: As).toArray s 0 0 (fun _ => False)) (F0 m 0 ls [])) : gMR l y (ws_ y cc maxL ret) rm G tys Pre a0 As post := by
  refine Met.ofW (cc := cc) (maxL := maxL) (ret := ret) hy rfl ?_
  intro p e s m args below meth c s₁ B hml hv
  obtain ⟨rfl, hP, hK⟩ := hv
  have hts := atoms_spec (ws := ws_ y cc maxL ret) B.pre
  rw [lg_entry_eq]
  exact body p e s m below meth c _ B.exec B.bytes B.returns hml (findClass_of_methodNamed B.named) B.notSynchronized (fun w h => hts w (List.mem_cons_of_mem _ h)) hP hK (lv_entry _ hlen)
theorem gMM_of {P : Int32 → Heap → Prop} (hy : plainName y.cls = true) (hlen : (lg_sl (Value.ref a0 :: As)).length ≤ maxL)
    (body : ∀ (p : Program) (e : Env) (s : State) (m : MethodId) (below : List Frame) (meth : Method) (c : Code) (ls : Array Slot), p.tables.exec = Jvm.exec → c.code = cc → meth.sig.returnType = ret → c.maxLocals = maxL → s.vm.findClass y.cls = some m.cls → meth.locks = false → (∀ w ∈ lw_all, w.before (Value.ref a0 :: As).toArray s = true) → Pre s.heap → va_K G vwCl tys s → lv_has ls maxL (lv_args 0 (Value.ref a0 :: As)) →
      W p l e rm s m (Value.ref a0 :: As).toArray below meth c s.heap [] 0 0 (MQ below (qM A P) (Value.ref a0 :: As).toArray s 0 0 A) (F0 m 0 ls [])) : gMM l y (ws_ y cc maxL ret) rm G tys Pre a0 As A P := by
  refine Met.ofW (cc := cc) (maxL := maxL) (ret := ret) hy rfl ?_
  intro p e s m args below meth c s₁ B hml hv
  obtain ⟨rfl, hP, hK⟩ := hv
  have hts := atoms_spec (ws := ws_ y cc maxL ret) B.pre
  rw [lg_entry_eq]
  exact body p e s m below meth c _ B.exec B.bytes B.returns hml (findClass_of_methodNamed B.named) B.notSynchronized (fun w h => hts w (List.mem_cons_of_mem _ h)) hP hK (lv_entry _ hlen)
theorem gMV_of {P : Heap → Prop} (hy : plainName y.cls = true) (hlen : (lg_sl (Value.ref a0 :: As)).length ≤ maxL)
    (body : ∀ (p : Program) (e : Env) (s : State) (m : MethodId) (below : List Frame) (meth : Method) (c : Code) (ls : Array Slot), p.tables.exec = Jvm.exec → c.code = cc → meth.sig.returnType = ret → c.maxLocals = maxL → s.vm.findClass y.cls = some m.cls → meth.locks = false → (∀ w ∈ lw_all, w.before (Value.ref a0 :: As).toArray s = true) → Pre s.heap → va_K G vwCl tys s → lv_has ls maxL (lv_args 0 (Value.ref a0 :: As)) →
      W p l e rm s m (Value.ref a0 :: As).toArray below meth c s.heap [] 0 0 (MQ below (qV A P) (Value.ref a0 :: As).toArray s 0 0 A) (F0 m 0 ls [])) : gMV l y (ws_ y cc maxL ret) rm G tys Pre a0 As A P := by
  refine Met.ofW (cc := cc) (maxL := maxL) (ret := ret) hy rfl ?_
  intro p e s m args below meth c s₁ B hml hv
  obtain ⟨rfl, hP, hK⟩ := hv
  have hts := atoms_spec (ws := ws_ y cc maxL ret) B.pre
  rw [lg_entry_eq]
  exact body p e s m below meth c _ B.exec B.bytes B.returns hml (findClass_of_methodNamed B.named) B.notSynchronized (fun w h => hts w (List.mem_cons_of_mem _ h)) hP hK (lv_entry _ hlen)
end GOF
section GRET
variable {p : Program} {l : Launch} {e : Env} {R : Room} {s : State} {m : MethodId} {args : Array Value} {below : List Frame} {meth : Method} {c : Code} {H : Heap} {locs : List Loc} 
variable {cc : ByteArray} {pc : Nat} {ls : Array Slot} {rest : List Value} {A : Nat → Prop}
theorem gR_iret (hx : p.tables.exec = Jvm.exec) (hb : c.code = cc) (hr : meth.sig.returnType = some .int) (hlocks : meth.locks = false) {post : Int32 → Prop} {v : Int32} (hdg : decode cc pc = .ok (.ireturn, 1)) (hpost : post v) : W p l e R s m args below meth c s.heap [] 0 0 (MQ below (qR post) args s 0 0 (fun _ => False)) (F0 m pc ls [.int v]) := W.iret hx hb hr (fun t ht hW => ⟨v, rfl, hpost, ht⟩) (fun q h => by cases h) hdg hlocks
theorem ii_z {v : Int} (h : v = 0 ∨ v = 1) : narrow .boolean (.int (iI v)) = .int (iI v) := by rcases h with rfl | rfl <;> rfl
theorem gR_zret (hx : p.tables.exec = Jvm.exec) (hb : c.code = cc) (hr : meth.sig.returnType = some .boolean) (hlocks : meth.locks = false) {post : Int32 → Prop} {v : Int} (hdg : decode cc pc = .ok (.ireturn, 1)) (hv : v = 0 ∨ v = 1) (hpost : post (iI v)) : W p l e R s m args below meth c s.heap [] 0 0 (MQ below (qR post) args s 0 0 (fun _ => False)) (F0 m pc ls [.int (iI v)]) := W.zret hx hb hr (ii_z hv) (fun t ht hW => ⟨iI v, rfl, hpost, ht⟩) (fun q h => by cases h) hdg hlocks
theorem gM_iret (hx : p.tables.exec = Jvm.exec) (hb : c.code = cc) (hr : meth.sig.returnType = some .int) (hlocks : meth.locks = false) {P : Int32 → Heap → Prop} {v : Int32} (hdg : decode cc pc = .ok (.ireturn, 1)) (hS : va_S A s.heap H locs) (hP : P v H) : W p l e R s m args below meth c H locs 0 0 (MQ below (qM A P) args s 0 0 A) (F0 m pc ls [.int v]) := W.iret hx hb hr (fun t ht hW => ⟨⟨v, v, rfl, rfl, show P v t.heap by rw [ht]; exact hP⟩, hS.F ht⟩) hS.2.2 hdg hlocks
theorem gM_zret (hx : p.tables.exec = Jvm.exec) (hb : c.code = cc) (hr : meth.sig.returnType = some .boolean) (hlocks : meth.locks = false) {P : Int32 → Heap → Prop} {v : Int} (hdg : decode cc pc = .ok (.ireturn, 1)) (hS : va_S A s.heap H locs) (hv : v = 0 ∨ v = 1) (hP : P (iI v) H) : W p l e R s m args below meth c H locs 0 0 (MQ below (qM A P) args s 0 0 A) (F0 m pc ls [.int (iI v)]) := W.zret hx hb hr (ii_z hv) (fun t ht hW => ⟨⟨iI v, iI v, rfl, rfl, show P (iI v) t.heap by rw [ht]; exact hP⟩, hS.F ht⟩) hS.2.2 hdg hlocks
theorem gV_vret (hx : p.tables.exec = Jvm.exec) (hb : c.code = cc) (hr : meth.sig.returnType = none) (hlocks : meth.locks = false) {P : Heap → Prop} (hdg : decode cc pc = .ok (.return_, 1)) (hS : va_S A s.heap H locs) (hP : P H) : W p l e R s m args below meth c H locs 0 0 (MQ below (qV A P) args s 0 0 A) (F0 m pc ls []) := W.vret hx hb hr (fun t ht hW => ⟨⟨(), rfl, trivial, show P t.heap by rw [ht]; exact hP⟩, hS.F ht⟩) hS.2.2 hdg hlocks
end GRET
section GCALL
variable {p : Program} {l : Launch} {e : Env} {R : Room} {s : State} {m : MethodId} {args : Array Value} {below : List Frame} {meth : Method} {c : Code} {H : Heap} {locs : List Loc} {cells slots : Nat} {Q : State → Prop}
variable {cc : ByteArray} {pc : Nat} {ls : Array Slot} {rest : List Value} {st0 : List Value} {y : MethodName} {bytes : ByteArray} {maxL nL n index : Nat} {ret : Option FieldType} {rm : Room} {G : va_G} {tys : List (ClassId × FieldType)} {Pre : Heap → Prop} {a0 : Nat} {As : List Value} {own C : String} {A A0 : Nat → Prop} {H0 : Heap}
theorem gR_call {post : Int32 → Prop} (hx : p.tables.exec = Jvm.exec) (hb : c.code = cc) (hml : c.maxLocals = nL) (hown : s.vm.findClass own = some m.cls) (hts : ∀ w ∈ lw_all, w.before args s = true) (hM : gMR l y (ws_ y bytes maxL ret) rm G tys Pre a0 As post) (cw : CallW R s args own C index y bytes maxL ret (ws_ y bytes maxL ret) rm 0 0 n) (hrec : ∃ cell : Cell, H[a0]? = some cell ∧ cell.vm.isStatics = false ∧ s.vm.findClass C = some cell.cls) (hPre : Pre H) (hK : va_K G vwCl tys s) (hn : As.length = n) (hsz : ls.size = nL) (hst : st0 = As.reverse ++ .ref a0 :: rest) (hW : (rest.map fun v => v.category).sum ≤ 8) (hdg : decode cc pc = .ok (.invokevirtual index, 3)) (hf : cells ≤ R.cells ∧ slots ≤ R.slots) (kk : ∀ r : Int32, post r → W p l e R s m args below meth c H locs cells slots Q (F0 m (pc + 3) ls (.int r :: rest))) : W p l e R s m args below meth c H locs cells slots Q (F0 m pc ls st0) :=
  vp_callSi (W.runV (g := F0 m pc ls st0) ⟨hx, hb, hml, hown, hts⟩ hM cw ⟨fun a U g mk q => ⟨q.1, q.2.1, va_K.moved (u := U) (U := U.calling g mk a) (Vm.Alike.refl U.vm) q.2.2⟩, hrec, fun U hU hW => ⟨rfl, by rw [hU]; exact hPre, va_K.moved hW.alike hK⟩⟩ rfl hn hsz hst (lv_room hW) hdg hf) kk
theorem gM_call {P : Int32 → Heap → Prop} (hx : p.tables.exec = Jvm.exec) (hb : c.code = cc) (hml : c.maxLocals = nL) (hown : s.vm.findClass own = some m.cls) (hts : ∀ w ∈ lw_all, w.before args s = true) (hM : gMM l y (ws_ y bytes maxL ret) rm G tys Pre a0 As A P) (cw : CallW R s args own C index y bytes maxL ret (ws_ y bytes maxL ret) rm 0 0 n) (hrec : ∃ cell : Cell, H[a0]? = some cell ∧ cell.vm.isStatics = false ∧ s.vm.findClass C = some cell.cls) (hPre : Pre H) (hK : va_K G vwCl tys s) (hn : As.length = n) (hsz : ls.size = nL) (hst : st0 = As.reverse ++ .ref a0 :: rest) (hW : (rest.map fun v => v.category).sum ≤ 8) (hdg : decode cc pc = .ok (.invokevirtual index, 3)) (hf : cells ≤ R.cells ∧ slots ≤ R.slots) (hA : ∀ q, A q → A0 q) (hS : va_S A0 H0 H locs) (kk : ∀ (r : Int32) (H1 : Heap) (locs1 : List Loc), P r H1 → (∀ q : Nat, q < H.size → ¬ A q → H1[q]? = H[q]?) → va_S A0 H0 H1 locs1 → W p l e R s m args below meth c H1 locs1 cells slots Q (F0 m (pc + 3) ls (.int r :: rest))) : W p l e R s m args below meth c H locs cells slots Q (F0 m pc ls st0) :=
  va_calli (va_runV (g := F0 m pc ls st0) ⟨hx, hb, hml, hown, hts⟩ hM cw ⟨fun a U g mk q => ⟨q.1, q.2.1, va_K.moved (u := U) (U := U.calling g mk a) (Vm.Alike.refl U.vm) q.2.2⟩, hrec, fun U hU hW => ⟨rfl, by rw [hU]; exact hPre, va_K.moved hW.alike hK⟩⟩ rfl hn hsz hst (lv_room hW) hdg hf) hS (fun q _ h => hA q h) hA (fun r u t H1 locs1 ht _ hw hB _ hk hS1 => kk r H1 locs1 (by rw [← ht, ← hw]; exact hB) hk hS1)
theorem gV_call {P : Heap → Prop} (hx : p.tables.exec = Jvm.exec) (hb : c.code = cc) (hml : c.maxLocals = nL) (hown : s.vm.findClass own = some m.cls) (hts : ∀ w ∈ lw_all, w.before args s = true) (hM : gMV l y (ws_ y bytes maxL ret) rm G tys Pre a0 As A P) (cw : CallW R s args own C index y bytes maxL ret (ws_ y bytes maxL ret) rm 0 0 n) (hrec : ∃ cell : Cell, H[a0]? = some cell ∧ cell.vm.isStatics = false ∧ s.vm.findClass C = some cell.cls) (hPre : Pre H) (hK : va_K G vwCl tys s) (hn : As.length = n) (hsz : ls.size = nL) (hst : st0 = As.reverse ++ .ref a0 :: rest) (hW : (rest.map fun v => v.category).sum ≤ 8) (hdg : decode cc pc = .ok (.invokevirtual index, 3)) (hf : cells ≤ R.cells ∧ slots ≤ R.slots) (hA : ∀ q, A q → A0 q) (hS : va_S A0 H0 H locs) (kk : ∀ (H1 : Heap) (locs1 : List Loc), P H1 → (∀ q : Nat, q < H.size → ¬ A q → H1[q]? = H[q]?) → va_S A0 H0 H1 locs1 → W p l e R s m args below meth c H1 locs1 cells slots Q (F0 m (pc + 3) ls rest)) : W p l e R s m args below meth c H locs cells slots Q (F0 m pc ls st0) :=
  va_callv (va_runV (g := F0 m pc ls st0) ⟨hx, hb, hml, hown, hts⟩ hM cw ⟨fun a U g mk q => ⟨q.1, q.2.1, va_K.moved (u := U) (U := U.calling g mk a) (Vm.Alike.refl U.vm) q.2.2⟩, hrec, fun U hU hW => ⟨rfl, by rw [hU]; exact hPre, va_K.moved hW.alike hK⟩⟩ rfl hn hsz hst (lv_room hW) hdg hf) hS (fun q _ h => hA q h) hA (fun u t H1 locs1 ht _ _ hB _ hk hS1 => kk H1 locs1 (by rw [← ht]; exact hB) hk hS1)
end GCALL
end
section
/-! THE LAYER: the cells of a RenameDesk -/
set_option maxRecDepth 100000
def dW (ad : Nat → Nat) (cA : ClassId) (sz kn : Int) (K N B D E T O : Int → Int) : va_W := [(ad 0, .inr (0, [.ref (ad 1), .ref (ad 2), .int (iI sz), .int (iI kn), .ref (ad 3), .ref (ad 4), .ref (ad 5), .ref (ad 6), .ref (ad 7)])), (ad 1, .inl (cA, 28, .inl (cI K))), (ad 2, .inl (cA, 28, .inl (cI N))), (ad 3, .inl (cA, 28, .inl (cI B))), (ad 4, .inl (cA, 28, .inl (cI D))), (ad 5, .inl (cA, 28, .inl (cI E))), (ad 6, .inl (cA, 28, .inl (cI T))), (ad 7, .inl (cA, 30, .inl (cI O)))]
def dP (G : va_G) (ad : Nat → Nat) (cA : ClassId) (sz kn : Int) (K N B D E T O : Int → Int) (H : Heap) : Prop := va_P G vwCl (dW ad cA sz kn K N B D E T O) H
/-- its cells' addresses -/
def dA (ad : Nat → Nat) : Nat → Prop := fun q => ∃ i, i < 8 ∧ q = ad i
def dD (ad : Nat → Nat) : Prop := ∀ i j, i < 8 → j < 8 → ad i = ad j → i = j
theorem dW_at {ad : Nat → Nat} {cA : ClassId} {sz kn : Int} {K N B D E T O : Int → Int} : ∀ (k : Nat) (q : Nat × va_E), (dW ad cA sz kn K N B D E T O)[k]? = some q → k < 8 ∧ q.1 = ad k := by
  intro k q h
  match k, h with
  | 0, h => cases h; exact ⟨by decide, rfl⟩
  | 1, h => cases h; exact ⟨by decide, rfl⟩
  | 2, h => cases h; exact ⟨by decide, rfl⟩
  | 3, h => cases h; exact ⟨by decide, rfl⟩
  | 4, h => cases h; exact ⟨by decide, rfl⟩
  | 5, h => cases h; exact ⟨by decide, rfl⟩
  | 6, h => cases h; exact ⟨by decide, rfl⟩
  | 7, h => cases h; exact ⟨by decide, rfl⟩
  | k + 8, h => cases h
theorem dD.va {ad : Nat → Nat} {cA : ClassId} {sz kn : Int} {K N B D E T O : Int → Int} (h : dD ad) : va_D (dA ad) (dW ad cA sz kn K N B D E T O) := by
  refine ⟨fun i j p q hi hj e => ?_, fun k q hk => ?_⟩
  · obtain ⟨i1, i2⟩ := dW_at i p hi
    obtain ⟨j1, j2⟩ := dW_at j q hj
    exact h i j i1 j1 (by rw [← i2, ← j2]; exact e)
  · obtain ⟨i1, i2⟩ := dW_at k q hk
    exact ⟨k, i1, i2⟩
theorem dP.kept {G : va_G} {ad : Nat → Nat} {cA : ClassId} {sz kn : Int} {K N B D E T O : Int → Int} {H H1 : Heap} (h : dP G ad cA sz kn K N B D E T O H) (hq : ∀ q, q < H.size → dA ad q → H1[q]? = H[q]?) : dP G ad cA sz kn K N B D E T O H1 := fun k q hk => (h k q hk).kept (by obtain ⟨k1, k2⟩ := dW_at k q hk; exact hq q.1 (h k q hk).lt ⟨k, k1, k2⟩)
theorem dP.recv {G : va_G} {ad : Nat → Nat} {cA : ClassId} {sz kn : Int} {K N B D E T O : Int → Int} {tys : List (ClassId × FieldType)} {s : State} {H : Heap} (h : dP G ad cA sz kn K N B D E T O H) (hK : va_K G vwCl tys s) : ∃ cell : Cell, H[ad 0]? = some cell ∧ cell.vm.isStatics = false ∧ s.vm.findClass RX0 = some cell.cls := va_recv (ci := 0) (q0 := 0) (q := (RX0, TX0, 9)) hK h rfl rfl
theorem dP.c_K {G : va_G} {ad : Nat → Nat} {cA : ClassId} {sz kn : Int} {K N B D E T O : Int → Int} {K1 : Int → Int} {H : Heap} (h : dP G ad cA sz kn K N B D E T O H) (e : ∀ j : Int, 0 ≤ j → j < 28 → K j = K1 j) : dP G ad cA sz kn K1 N B D E T O H := by
  intro k q hk
  match k, hk with
  | 0, hk => cases hk; exact h 0 _ rfl
  | 1, hk =>
    cases hk
    have h1 : H[ad 1]? = some (vp_cell cA (28, .inl (cI K))) := h 1 _ rfl
    show H[ad 1]? = some (vp_cell cA (28, .inl (cI K1)))
    rw [h1, cI_congr e]
  | 2, hk => cases hk; exact h 2 _ rfl
  | 3, hk => cases hk; exact h 3 _ rfl
  | 4, hk => cases hk; exact h 4 _ rfl
  | 5, hk => cases hk; exact h 5 _ rfl
  | 6, hk => cases hk; exact h 6 _ rfl
  | 7, hk => cases hk; exact h 7 _ rfl
  | k + 8, hk => cases hk
theorem dP.c_N {G : va_G} {ad : Nat → Nat} {cA : ClassId} {sz kn : Int} {K N B D E T O : Int → Int} {N1 : Int → Int} {H : Heap} (h : dP G ad cA sz kn K N B D E T O H) (e : ∀ j : Int, 0 ≤ j → j < 28 → N j = N1 j) : dP G ad cA sz kn K N1 B D E T O H := by
  intro k q hk
  match k, hk with
  | 0, hk => cases hk; exact h 0 _ rfl
  | 1, hk => cases hk; exact h 1 _ rfl
  | 2, hk =>
    cases hk
    have h1 : H[ad 2]? = some (vp_cell cA (28, .inl (cI N))) := h 2 _ rfl
    show H[ad 2]? = some (vp_cell cA (28, .inl (cI N1)))
    rw [h1, cI_congr e]
  | 3, hk => cases hk; exact h 3 _ rfl
  | 4, hk => cases hk; exact h 4 _ rfl
  | 5, hk => cases hk; exact h 5 _ rfl
  | 6, hk => cases hk; exact h 6 _ rfl
  | 7, hk => cases hk; exact h 7 _ rfl
  | k + 8, hk => cases hk
theorem dP.c_B {G : va_G} {ad : Nat → Nat} {cA : ClassId} {sz kn : Int} {K N B D E T O : Int → Int} {B1 : Int → Int} {H : Heap} (h : dP G ad cA sz kn K N B D E T O H) (e : ∀ j : Int, 0 ≤ j → j < 28 → B j = B1 j) : dP G ad cA sz kn K N B1 D E T O H := by
  intro k q hk
  match k, hk with
  | 0, hk => cases hk; exact h 0 _ rfl
  | 1, hk => cases hk; exact h 1 _ rfl
  | 2, hk => cases hk; exact h 2 _ rfl
  | 3, hk =>
    cases hk
    have h1 : H[ad 3]? = some (vp_cell cA (28, .inl (cI B))) := h 3 _ rfl
    show H[ad 3]? = some (vp_cell cA (28, .inl (cI B1)))
    rw [h1, cI_congr e]
  | 4, hk => cases hk; exact h 4 _ rfl
  | 5, hk => cases hk; exact h 5 _ rfl
  | 6, hk => cases hk; exact h 6 _ rfl
  | 7, hk => cases hk; exact h 7 _ rfl
  | k + 8, hk => cases hk
theorem dP.c_D {G : va_G} {ad : Nat → Nat} {cA : ClassId} {sz kn : Int} {K N B D E T O : Int → Int} {D1 : Int → Int} {H : Heap} (h : dP G ad cA sz kn K N B D E T O H) (e : ∀ j : Int, 0 ≤ j → j < 28 → D j = D1 j) : dP G ad cA sz kn K N B D1 E T O H := by
  intro k q hk
  match k, hk with
  | 0, hk => cases hk; exact h 0 _ rfl
  | 1, hk => cases hk; exact h 1 _ rfl
  | 2, hk => cases hk; exact h 2 _ rfl
  | 3, hk => cases hk; exact h 3 _ rfl
  | 4, hk =>
    cases hk
    have h1 : H[ad 4]? = some (vp_cell cA (28, .inl (cI D))) := h 4 _ rfl
    show H[ad 4]? = some (vp_cell cA (28, .inl (cI D1)))
    rw [h1, cI_congr e]
  | 5, hk => cases hk; exact h 5 _ rfl
  | 6, hk => cases hk; exact h 6 _ rfl
  | 7, hk => cases hk; exact h 7 _ rfl
  | k + 8, hk => cases hk
theorem dP.c_E {G : va_G} {ad : Nat → Nat} {cA : ClassId} {sz kn : Int} {K N B D E T O : Int → Int} {E1 : Int → Int} {H : Heap} (h : dP G ad cA sz kn K N B D E T O H) (e : ∀ j : Int, 0 ≤ j → j < 28 → E j = E1 j) : dP G ad cA sz kn K N B D E1 T O H := by
  intro k q hk
  match k, hk with
  | 0, hk => cases hk; exact h 0 _ rfl
  | 1, hk => cases hk; exact h 1 _ rfl
  | 2, hk => cases hk; exact h 2 _ rfl
  | 3, hk => cases hk; exact h 3 _ rfl
  | 4, hk => cases hk; exact h 4 _ rfl
  | 5, hk =>
    cases hk
    have h1 : H[ad 5]? = some (vp_cell cA (28, .inl (cI E))) := h 5 _ rfl
    show H[ad 5]? = some (vp_cell cA (28, .inl (cI E1)))
    rw [h1, cI_congr e]
  | 6, hk => cases hk; exact h 6 _ rfl
  | 7, hk => cases hk; exact h 7 _ rfl
  | k + 8, hk => cases hk
theorem dP.c_T {G : va_G} {ad : Nat → Nat} {cA : ClassId} {sz kn : Int} {K N B D E T O : Int → Int} {T1 : Int → Int} {H : Heap} (h : dP G ad cA sz kn K N B D E T O H) (e : ∀ j : Int, 0 ≤ j → j < 28 → T j = T1 j) : dP G ad cA sz kn K N B D E T1 O H := by
  intro k q hk
  match k, hk with
  | 0, hk => cases hk; exact h 0 _ rfl
  | 1, hk => cases hk; exact h 1 _ rfl
  | 2, hk => cases hk; exact h 2 _ rfl
  | 3, hk => cases hk; exact h 3 _ rfl
  | 4, hk => cases hk; exact h 4 _ rfl
  | 5, hk => cases hk; exact h 5 _ rfl
  | 6, hk =>
    cases hk
    have h1 : H[ad 6]? = some (vp_cell cA (28, .inl (cI T))) := h 6 _ rfl
    show H[ad 6]? = some (vp_cell cA (28, .inl (cI T1)))
    rw [h1, cI_congr e]
  | 7, hk => cases hk; exact h 7 _ rfl
  | k + 8, hk => cases hk
theorem dP.c_O {G : va_G} {ad : Nat → Nat} {cA : ClassId} {sz kn : Int} {K N B D E T O : Int → Int} {O1 : Int → Int} {H : Heap} (h : dP G ad cA sz kn K N B D E T O H) (e : ∀ j : Int, 0 ≤ j → j < 30 → O j = O1 j) : dP G ad cA sz kn K N B D E T O1 H := by
  intro k q hk
  match k, hk with
  | 0, hk => cases hk; exact h 0 _ rfl
  | 1, hk => cases hk; exact h 1 _ rfl
  | 2, hk => cases hk; exact h 2 _ rfl
  | 3, hk => cases hk; exact h 3 _ rfl
  | 4, hk => cases hk; exact h 4 _ rfl
  | 5, hk => cases hk; exact h 5 _ rfl
  | 6, hk => cases hk; exact h 6 _ rfl
  | 7, hk =>
    cases hk
    have h1 : H[ad 7]? = some (vp_cell cA (30, .inl (cI O))) := h 7 _ rfl
    show H[ad 7]? = some (vp_cell cA (30, .inl (cI O1)))
    rw [h1, cI_congr e]
  | k + 8, hk => cases hk
section DROWS
variable {p : Program} {l : Launch} {e : Env} {R : Room} {s : State} {m : MethodId} {args : Array Value} {below : List Frame} {meth : Method} {c : Code} {H : Heap} {locs : List Loc} {cells slots : Nat} {Q : State → Prop}
variable {cc : ByteArray} {pc : Nat} {ls : Array Slot} {rest : List Value}
variable {G : va_G} {ad : Nat → Nat} {cA : ClassId} {sz kn : Int} {K N B D E T O : Int → Int} {H0 : Heap} {A0 : Nat → Prop}
theorem dg_kinds (hx : p.tables.exec = Jvm.exec) (hb : c.code = cc) (hts : ∀ w ∈ lw_all, w.before args s = true) (hown : s.vm.findClass RX0 = some m.cls) (hK : va_K G vwCl [(cA, .byte)] s) (hP : dP G ad cA sz kn K N B D E T O H) (hdg : decode cc pc = .ok (.getfield 7, 3)) (kk : W p l e R s m args below meth c H locs cells slots Q (F0 m (pc + 3) ls (.ref (ad 1) :: rest))) : W p l e R s m args below meth c H locs cells slots Q (F0 m pc ls (.ref (ad 0) :: rest)) :=
  va_get (D := G) (ci := 0) (v := .ref (ad 1)) (C := RX0) (T := TX0) (N := 9) hx hb hts in_X0 hown hK hP 0 rfl rfl 0 (by decide) (hts _ q34) (fun _ h9 => h9) rfl hdg kk
theorem dg_names (hx : p.tables.exec = Jvm.exec) (hb : c.code = cc) (hts : ∀ w ∈ lw_all, w.before args s = true) (hown : s.vm.findClass RX0 = some m.cls) (hK : va_K G vwCl [(cA, .byte)] s) (hP : dP G ad cA sz kn K N B D E T O H) (hdg : decode cc pc = .ok (.getfield 13, 3)) (kk : W p l e R s m args below meth c H locs cells slots Q (F0 m (pc + 3) ls (.ref (ad 2) :: rest))) : W p l e R s m args below meth c H locs cells slots Q (F0 m pc ls (.ref (ad 0) :: rest)) :=
  va_get (D := G) (ci := 0) (v := .ref (ad 2)) (C := RX0) (T := TX0) (N := 9) hx hb hts in_X0 hown hK hP 0 rfl rfl 1 (by decide) (hts _ q35) (fun _ h9 => h9) rfl hdg kk
theorem dg_size (hx : p.tables.exec = Jvm.exec) (hb : c.code = cc) (hts : ∀ w ∈ lw_all, w.before args s = true) (hown : s.vm.findClass RX0 = some m.cls) (hK : va_K G vwCl [(cA, .byte)] s) (hP : dP G ad cA sz kn K N B D E T O H) (hdg : decode cc pc = .ok (.getfield 31, 3)) (kk : W p l e R s m args below meth c H locs cells slots Q (F0 m (pc + 3) ls (.int (iI sz) :: rest))) : W p l e R s m args below meth c H locs cells slots Q (F0 m pc ls (.ref (ad 0) :: rest)) :=
  va_get (D := G) (ci := 0) (v := .int (iI sz)) (C := RX0) (T := TX0) (N := 9) hx hb hts in_X0 hown hK hP 0 rfl rfl 2 (by decide) (hts _ q36) (fun _ h9 => h9) rfl hdg kk
theorem dp_size (hx : p.tables.exec = Jvm.exec) (hb : c.code = cc) (hts : ∀ w ∈ lw_all, w.before args s = true) (hown : s.vm.findClass RX0 = some m.cls) (hK : va_K G vwCl [(cA, .byte)] s) (hP : dP G ad cA sz kn K N B D E T O H) (hD : dD ad) (hS : va_S (dA ad) H0 H locs) {v : Int} (hdg : decode cc pc = .ok (.putfield 31, 3)) (kk : ∀ (H1 : Heap) (locs1 : List Loc), dP G ad cA v kn K N B D E T O H1 → va_S (dA ad) H0 H1 locs1 → W p l e R s m args below meth c H1 locs1 cells slots Q (F0 m (pc + 3) ls rest)) : W p l e R s m args below meth c H locs cells slots Q (F0 m pc ls (.int (iI v) :: .ref (ad 0) :: rest)) :=
  va_put (D := G) (ci := 0) (v := .int (iI v)) (ty := .int) (C := RX0) (T := TX0) (N := 9) hx hb hts in_X0 tyX0 tyX0_ok nmX0 hown hK hP hD.va hS 0 rfl rfl 2 (by decide) (hts _ q36) (fun _ h9 => h9) rfl (by decide +kernel) rfl rfl (Nat.le_of_ble_eq_true rfl) hdg (fun H1 locs1 hP1 _ hS1 => kk H1 locs1 hP1 hS1)
theorem dg_known (hx : p.tables.exec = Jvm.exec) (hb : c.code = cc) (hts : ∀ w ∈ lw_all, w.before args s = true) (hown : s.vm.findClass RX0 = some m.cls) (hK : va_K G vwCl [(cA, .byte)] s) (hP : dP G ad cA sz kn K N B D E T O H) (hdg : decode cc pc = .ok (.getfield 43, 3)) (kk : W p l e R s m args below meth c H locs cells slots Q (F0 m (pc + 3) ls (.int (iI kn) :: rest))) : W p l e R s m args below meth c H locs cells slots Q (F0 m pc ls (.ref (ad 0) :: rest)) :=
  va_get (D := G) (ci := 0) (v := .int (iI kn)) (C := RX0) (T := TX0) (N := 9) hx hb hts in_X0 hown hK hP 0 rfl rfl 3 (by decide) (hts _ q37) (fun _ h9 => h9) rfl hdg kk
theorem dp_known (hx : p.tables.exec = Jvm.exec) (hb : c.code = cc) (hts : ∀ w ∈ lw_all, w.before args s = true) (hown : s.vm.findClass RX0 = some m.cls) (hK : va_K G vwCl [(cA, .byte)] s) (hP : dP G ad cA sz kn K N B D E T O H) (hD : dD ad) (hS : va_S (dA ad) H0 H locs) {v : Int} (hdg : decode cc pc = .ok (.putfield 43, 3)) (hv : v = 0 ∨ v = 1) (kk : ∀ (H1 : Heap) (locs1 : List Loc), dP G ad cA sz v K N B D E T O H1 → va_S (dA ad) H0 H1 locs1 → W p l e R s m args below meth c H1 locs1 cells slots Q (F0 m (pc + 3) ls rest)) : W p l e R s m args below meth c H locs cells slots Q (F0 m pc ls (.int (iI v) :: .ref (ad 0) :: rest)) :=
  va_put (D := G) (ci := 0) (v := .int (iI v)) (ty := .boolean) (C := RX0) (T := TX0) (N := 9) hx hb hts in_X0 tyX0 tyX0_ok nmX0 hown hK hP hD.va hS 0 rfl rfl 3 (by decide) (hts _ q37) (fun _ h9 => h9) rfl (by decide +kernel) (ii_z hv) (by rcases hv with rfl | rfl <;> rfl) (Nat.le_of_ble_eq_true rfl) hdg (fun H1 locs1 hP1 _ hS1 => kk H1 locs1 hP1 hS1)
theorem dg_block (hx : p.tables.exec = Jvm.exec) (hb : c.code = cc) (hts : ∀ w ∈ lw_all, w.before args s = true) (hown : s.vm.findClass RX0 = some m.cls) (hK : va_K G vwCl [(cA, .byte)] s) (hP : dP G ad cA sz kn K N B D E T O H) (hdg : decode cc pc = .ok (.getfield 16, 3)) (kk : W p l e R s m args below meth c H locs cells slots Q (F0 m (pc + 3) ls (.ref (ad 3) :: rest))) : W p l e R s m args below meth c H locs cells slots Q (F0 m pc ls (.ref (ad 0) :: rest)) :=
  va_get (D := G) (ci := 0) (v := .ref (ad 3)) (C := RX0) (T := TX0) (N := 9) hx hb hts in_X0 hown hK hP 0 rfl rfl 4 (by decide) (hts _ q38) (fun _ h9 => h9) rfl hdg kk
theorem dg_deep (hx : p.tables.exec = Jvm.exec) (hb : c.code = cc) (hts : ∀ w ∈ lw_all, w.before args s = true) (hown : s.vm.findClass RX0 = some m.cls) (hK : va_K G vwCl [(cA, .byte)] s) (hP : dP G ad cA sz kn K N B D E T O H) (hdg : decode cc pc = .ok (.getfield 19, 3)) (kk : W p l e R s m args below meth c H locs cells slots Q (F0 m (pc + 3) ls (.ref (ad 4) :: rest))) : W p l e R s m args below meth c H locs cells slots Q (F0 m pc ls (.ref (ad 0) :: rest)) :=
  va_get (D := G) (ci := 0) (v := .ref (ad 4)) (C := RX0) (T := TX0) (N := 9) hx hb hts in_X0 hown hK hP 0 rfl rfl 5 (by decide) (hts _ q39) (fun _ h9 => h9) rfl hdg kk
theorem dg_ends (hx : p.tables.exec = Jvm.exec) (hb : c.code = cc) (hts : ∀ w ∈ lw_all, w.before args s = true) (hown : s.vm.findClass RX0 = some m.cls) (hK : va_K G vwCl [(cA, .byte)] s) (hP : dP G ad cA sz kn K N B D E T O H) (hdg : decode cc pc = .ok (.getfield 22, 3)) (kk : W p l e R s m args below meth c H locs cells slots Q (F0 m (pc + 3) ls (.ref (ad 5) :: rest))) : W p l e R s m args below meth c H locs cells slots Q (F0 m pc ls (.ref (ad 0) :: rest)) :=
  va_get (D := G) (ci := 0) (v := .ref (ad 5)) (C := RX0) (T := TX0) (N := 9) hx hb hts in_X0 hown hK hP 0 rfl rfl 6 (by decide) (hts _ q40) (fun _ h9 => h9) rfl hdg kk
theorem dg_boundTo (hx : p.tables.exec = Jvm.exec) (hb : c.code = cc) (hts : ∀ w ∈ lw_all, w.before args s = true) (hown : s.vm.findClass RX0 = some m.cls) (hK : va_K G vwCl [(cA, .byte)] s) (hP : dP G ad cA sz kn K N B D E T O H) (hdg : decode cc pc = .ok (.getfield 25, 3)) (kk : W p l e R s m args below meth c H locs cells slots Q (F0 m (pc + 3) ls (.ref (ad 6) :: rest))) : W p l e R s m args below meth c H locs cells slots Q (F0 m pc ls (.ref (ad 0) :: rest)) :=
  va_get (D := G) (ci := 0) (v := .ref (ad 6)) (C := RX0) (T := TX0) (N := 9) hx hb hts in_X0 hown hK hP 0 rfl rfl 7 (by decide) (hts _ q41) (fun _ h9 => h9) rfl hdg kk
theorem dg_openBlocks (hx : p.tables.exec = Jvm.exec) (hb : c.code = cc) (hts : ∀ w ∈ lw_all, w.before args s = true) (hown : s.vm.findClass RX0 = some m.cls) (hK : va_K G vwCl [(cA, .byte)] s) (hP : dP G ad cA sz kn K N B D E T O H) (hdg : decode cc pc = .ok (.getfield 28, 3)) (kk : W p l e R s m args below meth c H locs cells slots Q (F0 m (pc + 3) ls (.ref (ad 7) :: rest))) : W p l e R s m args below meth c H locs cells slots Q (F0 m pc ls (.ref (ad 0) :: rest)) :=
  va_get (D := G) (ci := 0) (v := .ref (ad 7)) (C := RX0) (T := TX0) (N := 9) hx hb hts in_X0 hown hK hP 0 rfl rfl 8 (by decide) (hts _ q42) (fun _ h9 => h9) rfl hdg kk
theorem dl_kinds (hx : p.tables.exec = Jvm.exec) (hb : c.code = cc) (hK : va_K G vwCl [(cA, .byte)] s) (hP : dP G ad cA sz kn K N B D E T O H) {i : Int} (hi : 0 ≤ i ∧ i < 28) (hdg : decode cc pc = .ok (.baload, 1)) (kk : W p l e R s m args below meth c H locs cells slots Q (F0 m (pc + 1) ls (.int (iI (K i)) :: rest))) : W p l e R s m args below meth c H locs cells slots Q (F0 m pc ls (.int (iI i) :: .ref (ad 1) :: rest)) := by
  refine va_bald (cA := cA) (n := 28) (f := cI K) hx hb hK hP 1 0 rfl rfl (ii_in hi (by decide)) hdg ?_
  rw [cI_rd (by omega)]
  exact kk
theorem ds_kinds (hx : p.tables.exec = Jvm.exec) (hb : c.code = cc) (hK : va_K G vwCl [(cA, .byte)] s) (hP : dP G ad cA sz kn K N B D E T O H) (hD : dD ad) (hS : va_S (dA ad) H0 H locs) {i v : Int} (hi : 0 ≤ i ∧ i < 28) (hv : -128 ≤ v ∧ v ≤ 127) (hdg : decode cc pc = .ok (.bastore, 1)) (kk : ∀ (H1 : Heap) (locs1 : List Loc), dP G ad cA sz kn (rd_up K i v) N B D E T O H1 → va_S (dA ad) H0 H1 locs1 → W p l e R s m args below meth c H1 locs1 cells slots Q (F0 m (pc + 1) ls rest)) : W p l e R s m args below meth c H locs cells slots Q (F0 m pc ls (.int (iI v) :: .int (iI i) :: .ref (ad 1) :: rest)) := by
  refine va_bast (cA := cA) (n := 28) (f := cI K) hx hb hK hP hD.va hS 1 0 rfl rfl (ii_in hi (by decide)) hdg (fun H1 locs1 hP1 _ hS1 => kk H1 locs1 ?_ hS1)
  rw [ii_b hv, cI_wr (by omega)] at hP1
  exact hP1
theorem dl_names (hx : p.tables.exec = Jvm.exec) (hb : c.code = cc) (hK : va_K G vwCl [(cA, .byte)] s) (hP : dP G ad cA sz kn K N B D E T O H) {i : Int} (hi : 0 ≤ i ∧ i < 28) (hdg : decode cc pc = .ok (.baload, 1)) (kk : W p l e R s m args below meth c H locs cells slots Q (F0 m (pc + 1) ls (.int (iI (N i)) :: rest))) : W p l e R s m args below meth c H locs cells slots Q (F0 m pc ls (.int (iI i) :: .ref (ad 2) :: rest)) := by
  refine va_bald (cA := cA) (n := 28) (f := cI N) hx hb hK hP 2 0 rfl rfl (ii_in hi (by decide)) hdg ?_
  rw [cI_rd (by omega)]
  exact kk
theorem ds_names (hx : p.tables.exec = Jvm.exec) (hb : c.code = cc) (hK : va_K G vwCl [(cA, .byte)] s) (hP : dP G ad cA sz kn K N B D E T O H) (hD : dD ad) (hS : va_S (dA ad) H0 H locs) {i v : Int} (hi : 0 ≤ i ∧ i < 28) (hv : -128 ≤ v ∧ v ≤ 127) (hdg : decode cc pc = .ok (.bastore, 1)) (kk : ∀ (H1 : Heap) (locs1 : List Loc), dP G ad cA sz kn K (rd_up N i v) B D E T O H1 → va_S (dA ad) H0 H1 locs1 → W p l e R s m args below meth c H1 locs1 cells slots Q (F0 m (pc + 1) ls rest)) : W p l e R s m args below meth c H locs cells slots Q (F0 m pc ls (.int (iI v) :: .int (iI i) :: .ref (ad 2) :: rest)) := by
  refine va_bast (cA := cA) (n := 28) (f := cI N) hx hb hK hP hD.va hS 2 0 rfl rfl (ii_in hi (by decide)) hdg (fun H1 locs1 hP1 _ hS1 => kk H1 locs1 ?_ hS1)
  rw [ii_b hv, cI_wr (by omega)] at hP1
  exact hP1
theorem dl_block (hx : p.tables.exec = Jvm.exec) (hb : c.code = cc) (hK : va_K G vwCl [(cA, .byte)] s) (hP : dP G ad cA sz kn K N B D E T O H) {i : Int} (hi : 0 ≤ i ∧ i < 28) (hdg : decode cc pc = .ok (.baload, 1)) (kk : W p l e R s m args below meth c H locs cells slots Q (F0 m (pc + 1) ls (.int (iI (B i)) :: rest))) : W p l e R s m args below meth c H locs cells slots Q (F0 m pc ls (.int (iI i) :: .ref (ad 3) :: rest)) := by
  refine va_bald (cA := cA) (n := 28) (f := cI B) hx hb hK hP 3 0 rfl rfl (ii_in hi (by decide)) hdg ?_
  rw [cI_rd (by omega)]
  exact kk
theorem ds_block (hx : p.tables.exec = Jvm.exec) (hb : c.code = cc) (hK : va_K G vwCl [(cA, .byte)] s) (hP : dP G ad cA sz kn K N B D E T O H) (hD : dD ad) (hS : va_S (dA ad) H0 H locs) {i v : Int} (hi : 0 ≤ i ∧ i < 28) (hv : -128 ≤ v ∧ v ≤ 127) (hdg : decode cc pc = .ok (.bastore, 1)) (kk : ∀ (H1 : Heap) (locs1 : List Loc), dP G ad cA sz kn K N (rd_up B i v) D E T O H1 → va_S (dA ad) H0 H1 locs1 → W p l e R s m args below meth c H1 locs1 cells slots Q (F0 m (pc + 1) ls rest)) : W p l e R s m args below meth c H locs cells slots Q (F0 m pc ls (.int (iI v) :: .int (iI i) :: .ref (ad 3) :: rest)) := by
  refine va_bast (cA := cA) (n := 28) (f := cI B) hx hb hK hP hD.va hS 3 0 rfl rfl (ii_in hi (by decide)) hdg (fun H1 locs1 hP1 _ hS1 => kk H1 locs1 ?_ hS1)
  rw [ii_b hv, cI_wr (by omega)] at hP1
  exact hP1
theorem dl_deep (hx : p.tables.exec = Jvm.exec) (hb : c.code = cc) (hK : va_K G vwCl [(cA, .byte)] s) (hP : dP G ad cA sz kn K N B D E T O H) {i : Int} (hi : 0 ≤ i ∧ i < 28) (hdg : decode cc pc = .ok (.baload, 1)) (kk : W p l e R s m args below meth c H locs cells slots Q (F0 m (pc + 1) ls (.int (iI (D i)) :: rest))) : W p l e R s m args below meth c H locs cells slots Q (F0 m pc ls (.int (iI i) :: .ref (ad 4) :: rest)) := by
  refine va_bald (cA := cA) (n := 28) (f := cI D) hx hb hK hP 4 0 rfl rfl (ii_in hi (by decide)) hdg ?_
  rw [cI_rd (by omega)]
  exact kk
theorem ds_deep (hx : p.tables.exec = Jvm.exec) (hb : c.code = cc) (hK : va_K G vwCl [(cA, .byte)] s) (hP : dP G ad cA sz kn K N B D E T O H) (hD : dD ad) (hS : va_S (dA ad) H0 H locs) {i v : Int} (hi : 0 ≤ i ∧ i < 28) (hv : -128 ≤ v ∧ v ≤ 127) (hdg : decode cc pc = .ok (.bastore, 1)) (kk : ∀ (H1 : Heap) (locs1 : List Loc), dP G ad cA sz kn K N B (rd_up D i v) E T O H1 → va_S (dA ad) H0 H1 locs1 → W p l e R s m args below meth c H1 locs1 cells slots Q (F0 m (pc + 1) ls rest)) : W p l e R s m args below meth c H locs cells slots Q (F0 m pc ls (.int (iI v) :: .int (iI i) :: .ref (ad 4) :: rest)) := by
  refine va_bast (cA := cA) (n := 28) (f := cI D) hx hb hK hP hD.va hS 4 0 rfl rfl (ii_in hi (by decide)) hdg (fun H1 locs1 hP1 _ hS1 => kk H1 locs1 ?_ hS1)
  rw [ii_b hv, cI_wr (by omega)] at hP1
  exact hP1
theorem dl_ends (hx : p.tables.exec = Jvm.exec) (hb : c.code = cc) (hK : va_K G vwCl [(cA, .byte)] s) (hP : dP G ad cA sz kn K N B D E T O H) {i : Int} (hi : 0 ≤ i ∧ i < 28) (hdg : decode cc pc = .ok (.baload, 1)) (kk : W p l e R s m args below meth c H locs cells slots Q (F0 m (pc + 1) ls (.int (iI (E i)) :: rest))) : W p l e R s m args below meth c H locs cells slots Q (F0 m pc ls (.int (iI i) :: .ref (ad 5) :: rest)) := by
  refine va_bald (cA := cA) (n := 28) (f := cI E) hx hb hK hP 5 0 rfl rfl (ii_in hi (by decide)) hdg ?_
  rw [cI_rd (by omega)]
  exact kk
theorem ds_ends (hx : p.tables.exec = Jvm.exec) (hb : c.code = cc) (hK : va_K G vwCl [(cA, .byte)] s) (hP : dP G ad cA sz kn K N B D E T O H) (hD : dD ad) (hS : va_S (dA ad) H0 H locs) {i v : Int} (hi : 0 ≤ i ∧ i < 28) (hv : -128 ≤ v ∧ v ≤ 127) (hdg : decode cc pc = .ok (.bastore, 1)) (kk : ∀ (H1 : Heap) (locs1 : List Loc), dP G ad cA sz kn K N B D (rd_up E i v) T O H1 → va_S (dA ad) H0 H1 locs1 → W p l e R s m args below meth c H1 locs1 cells slots Q (F0 m (pc + 1) ls rest)) : W p l e R s m args below meth c H locs cells slots Q (F0 m pc ls (.int (iI v) :: .int (iI i) :: .ref (ad 5) :: rest)) := by
  refine va_bast (cA := cA) (n := 28) (f := cI E) hx hb hK hP hD.va hS 5 0 rfl rfl (ii_in hi (by decide)) hdg (fun H1 locs1 hP1 _ hS1 => kk H1 locs1 ?_ hS1)
  rw [ii_b hv, cI_wr (by omega)] at hP1
  exact hP1
theorem dl_boundTo (hx : p.tables.exec = Jvm.exec) (hb : c.code = cc) (hK : va_K G vwCl [(cA, .byte)] s) (hP : dP G ad cA sz kn K N B D E T O H) {i : Int} (hi : 0 ≤ i ∧ i < 28) (hdg : decode cc pc = .ok (.baload, 1)) (kk : W p l e R s m args below meth c H locs cells slots Q (F0 m (pc + 1) ls (.int (iI (T i)) :: rest))) : W p l e R s m args below meth c H locs cells slots Q (F0 m pc ls (.int (iI i) :: .ref (ad 6) :: rest)) := by
  refine va_bald (cA := cA) (n := 28) (f := cI T) hx hb hK hP 6 0 rfl rfl (ii_in hi (by decide)) hdg ?_
  rw [cI_rd (by omega)]
  exact kk
theorem ds_boundTo (hx : p.tables.exec = Jvm.exec) (hb : c.code = cc) (hK : va_K G vwCl [(cA, .byte)] s) (hP : dP G ad cA sz kn K N B D E T O H) (hD : dD ad) (hS : va_S (dA ad) H0 H locs) {i v : Int} (hi : 0 ≤ i ∧ i < 28) (hv : -128 ≤ v ∧ v ≤ 127) (hdg : decode cc pc = .ok (.bastore, 1)) (kk : ∀ (H1 : Heap) (locs1 : List Loc), dP G ad cA sz kn K N B D E (rd_up T i v) O H1 → va_S (dA ad) H0 H1 locs1 → W p l e R s m args below meth c H1 locs1 cells slots Q (F0 m (pc + 1) ls rest)) : W p l e R s m args below meth c H locs cells slots Q (F0 m pc ls (.int (iI v) :: .int (iI i) :: .ref (ad 6) :: rest)) := by
  refine va_bast (cA := cA) (n := 28) (f := cI T) hx hb hK hP hD.va hS 6 0 rfl rfl (ii_in hi (by decide)) hdg (fun H1 locs1 hP1 _ hS1 => kk H1 locs1 ?_ hS1)
  rw [ii_b hv, cI_wr (by omega)] at hP1
  exact hP1
theorem dl_openBlocks (hx : p.tables.exec = Jvm.exec) (hb : c.code = cc) (hK : va_K G vwCl [(cA, .byte)] s) (hP : dP G ad cA sz kn K N B D E T O H) {i : Int} (hi : 0 ≤ i ∧ i < 30) (hdg : decode cc pc = .ok (.baload, 1)) (kk : W p l e R s m args below meth c H locs cells slots Q (F0 m (pc + 1) ls (.int (iI (O i)) :: rest))) : W p l e R s m args below meth c H locs cells slots Q (F0 m pc ls (.int (iI i) :: .ref (ad 7) :: rest)) := by
  refine va_bald (cA := cA) (n := 30) (f := cI O) hx hb hK hP 7 0 rfl rfl (ii_in hi (by decide)) hdg ?_
  rw [cI_rd (by omega)]
  exact kk
theorem ds_openBlocks (hx : p.tables.exec = Jvm.exec) (hb : c.code = cc) (hK : va_K G vwCl [(cA, .byte)] s) (hP : dP G ad cA sz kn K N B D E T O H) (hD : dD ad) (hS : va_S (dA ad) H0 H locs) {i v : Int} (hi : 0 ≤ i ∧ i < 30) (hv : -128 ≤ v ∧ v ≤ 127) (hdg : decode cc pc = .ok (.bastore, 1)) (kk : ∀ (H1 : Heap) (locs1 : List Loc), dP G ad cA sz kn K N B D E T (rd_up O i v) H1 → va_S (dA ad) H0 H1 locs1 → W p l e R s m args below meth c H1 locs1 cells slots Q (F0 m (pc + 1) ls rest)) : W p l e R s m args below meth c H locs cells slots Q (F0 m pc ls (.int (iI v) :: .int (iI i) :: .ref (ad 7) :: rest)) := by
  refine va_bast (cA := cA) (n := 30) (f := cI O) hx hb hK hP hD.va hS 7 0 rfl rfl (ii_in hi (by decide)) hdg (fun H1 locs1 hP1 _ hS1 => kk H1 locs1 ?_ hS1)
  rw [ii_b hv, cI_wr (by omega)] at hP1
  exact hP1
end DROWS
end
section
/-! THE LAYER: the cells of a RenameDeskModel -/
set_option maxRecDepth 100000
def mW (ad : Nat → Nat) (cA : ClassId) (sz : Int) (Ka Na Ca Ma Ra Va : Int → Int) : va_W := [(ad 0, .inr (1, [.int (iI sz), .ref (ad 1), .ref (ad 2), .ref (ad 3), .ref (ad 4), .ref (ad 5), .ref (ad 6)])), (ad 1, .inl (cA, 28, .inl (cI Ka))), (ad 2, .inl (cA, 28, .inl (cI Na))), (ad 3, .inl (cA, 28, .inl (cI Ca))), (ad 4, .inl (cA, 28, .inl (cI Ma))), (ad 5, .inl (cA, 28, .inl (cI Ra))), (ad 6, .inl (cA, 28, .inl (cI Va)))]
def mP (G : va_G) (ad : Nat → Nat) (cA : ClassId) (sz : Int) (Ka Na Ca Ma Ra Va : Int → Int) (H : Heap) : Prop := va_P G vwCl (mW ad cA sz Ka Na Ca Ma Ra Va) H
/-- its cells' addresses -/
def mA (ad : Nat → Nat) : Nat → Prop := fun q => ∃ i, i < 7 ∧ q = ad i
def mD (ad : Nat → Nat) : Prop := ∀ i j, i < 7 → j < 7 → ad i = ad j → i = j
theorem mW_at {ad : Nat → Nat} {cA : ClassId} {sz : Int} {Ka Na Ca Ma Ra Va : Int → Int} : ∀ (k : Nat) (q : Nat × va_E), (mW ad cA sz Ka Na Ca Ma Ra Va)[k]? = some q → k < 7 ∧ q.1 = ad k := by
  intro k q h
  match k, h with
  | 0, h => cases h; exact ⟨by decide, rfl⟩
  | 1, h => cases h; exact ⟨by decide, rfl⟩
  | 2, h => cases h; exact ⟨by decide, rfl⟩
  | 3, h => cases h; exact ⟨by decide, rfl⟩
  | 4, h => cases h; exact ⟨by decide, rfl⟩
  | 5, h => cases h; exact ⟨by decide, rfl⟩
  | 6, h => cases h; exact ⟨by decide, rfl⟩
  | k + 7, h => cases h
theorem mD.va {ad : Nat → Nat} {cA : ClassId} {sz : Int} {Ka Na Ca Ma Ra Va : Int → Int} (h : mD ad) : va_D (mA ad) (mW ad cA sz Ka Na Ca Ma Ra Va) := by
  refine ⟨fun i j p q hi hj e => ?_, fun k q hk => ?_⟩
  · obtain ⟨i1, i2⟩ := mW_at i p hi
    obtain ⟨j1, j2⟩ := mW_at j q hj
    exact h i j i1 j1 (by rw [← i2, ← j2]; exact e)
  · obtain ⟨i1, i2⟩ := mW_at k q hk
    exact ⟨k, i1, i2⟩
theorem mP.kept {G : va_G} {ad : Nat → Nat} {cA : ClassId} {sz : Int} {Ka Na Ca Ma Ra Va : Int → Int} {H H1 : Heap} (h : mP G ad cA sz Ka Na Ca Ma Ra Va H) (hq : ∀ q, q < H.size → mA ad q → H1[q]? = H[q]?) : mP G ad cA sz Ka Na Ca Ma Ra Va H1 := fun k q hk => (h k q hk).kept (by obtain ⟨k1, k2⟩ := mW_at k q hk; exact hq q.1 (h k q hk).lt ⟨k, k1, k2⟩)
theorem mP.recv {G : va_G} {ad : Nat → Nat} {cA : ClassId} {sz : Int} {Ka Na Ca Ma Ra Va : Int → Int} {tys : List (ClassId × FieldType)} {s : State} {H : Heap} (h : mP G ad cA sz Ka Na Ca Ma Ra Va H) (hK : va_K G vwCl tys s) : ∃ cell : Cell, H[ad 0]? = some cell ∧ cell.vm.isStatics = false ∧ s.vm.findClass RX1 = some cell.cls := va_recv (ci := 1) (q0 := 0) (q := (RX1, TX1, 7)) hK h rfl rfl
theorem mP.c_Ka {G : va_G} {ad : Nat → Nat} {cA : ClassId} {sz : Int} {Ka Na Ca Ma Ra Va : Int → Int} {Ka1 : Int → Int} {H : Heap} (h : mP G ad cA sz Ka Na Ca Ma Ra Va H) (e : ∀ j : Int, 0 ≤ j → j < 28 → Ka j = Ka1 j) : mP G ad cA sz Ka1 Na Ca Ma Ra Va H := by
  intro k q hk
  match k, hk with
  | 0, hk => cases hk; exact h 0 _ rfl
  | 1, hk =>
    cases hk
    have h1 : H[ad 1]? = some (vp_cell cA (28, .inl (cI Ka))) := h 1 _ rfl
    show H[ad 1]? = some (vp_cell cA (28, .inl (cI Ka1)))
    rw [h1, cI_congr e]
  | 2, hk => cases hk; exact h 2 _ rfl
  | 3, hk => cases hk; exact h 3 _ rfl
  | 4, hk => cases hk; exact h 4 _ rfl
  | 5, hk => cases hk; exact h 5 _ rfl
  | 6, hk => cases hk; exact h 6 _ rfl
  | k + 7, hk => cases hk
theorem mP.c_Na {G : va_G} {ad : Nat → Nat} {cA : ClassId} {sz : Int} {Ka Na Ca Ma Ra Va : Int → Int} {Na1 : Int → Int} {H : Heap} (h : mP G ad cA sz Ka Na Ca Ma Ra Va H) (e : ∀ j : Int, 0 ≤ j → j < 28 → Na j = Na1 j) : mP G ad cA sz Ka Na1 Ca Ma Ra Va H := by
  intro k q hk
  match k, hk with
  | 0, hk => cases hk; exact h 0 _ rfl
  | 1, hk => cases hk; exact h 1 _ rfl
  | 2, hk =>
    cases hk
    have h1 : H[ad 2]? = some (vp_cell cA (28, .inl (cI Na))) := h 2 _ rfl
    show H[ad 2]? = some (vp_cell cA (28, .inl (cI Na1)))
    rw [h1, cI_congr e]
  | 3, hk => cases hk; exact h 3 _ rfl
  | 4, hk => cases hk; exact h 4 _ rfl
  | 5, hk => cases hk; exact h 5 _ rfl
  | 6, hk => cases hk; exact h 6 _ rfl
  | k + 7, hk => cases hk
theorem mP.c_Ca {G : va_G} {ad : Nat → Nat} {cA : ClassId} {sz : Int} {Ka Na Ca Ma Ra Va : Int → Int} {Ca1 : Int → Int} {H : Heap} (h : mP G ad cA sz Ka Na Ca Ma Ra Va H) (e : ∀ j : Int, 0 ≤ j → j < 28 → Ca j = Ca1 j) : mP G ad cA sz Ka Na Ca1 Ma Ra Va H := by
  intro k q hk
  match k, hk with
  | 0, hk => cases hk; exact h 0 _ rfl
  | 1, hk => cases hk; exact h 1 _ rfl
  | 2, hk => cases hk; exact h 2 _ rfl
  | 3, hk =>
    cases hk
    have h1 : H[ad 3]? = some (vp_cell cA (28, .inl (cI Ca))) := h 3 _ rfl
    show H[ad 3]? = some (vp_cell cA (28, .inl (cI Ca1)))
    rw [h1, cI_congr e]
  | 4, hk => cases hk; exact h 4 _ rfl
  | 5, hk => cases hk; exact h 5 _ rfl
  | 6, hk => cases hk; exact h 6 _ rfl
  | k + 7, hk => cases hk
theorem mP.c_Ma {G : va_G} {ad : Nat → Nat} {cA : ClassId} {sz : Int} {Ka Na Ca Ma Ra Va : Int → Int} {Ma1 : Int → Int} {H : Heap} (h : mP G ad cA sz Ka Na Ca Ma Ra Va H) (e : ∀ j : Int, 0 ≤ j → j < 28 → Ma j = Ma1 j) : mP G ad cA sz Ka Na Ca Ma1 Ra Va H := by
  intro k q hk
  match k, hk with
  | 0, hk => cases hk; exact h 0 _ rfl
  | 1, hk => cases hk; exact h 1 _ rfl
  | 2, hk => cases hk; exact h 2 _ rfl
  | 3, hk => cases hk; exact h 3 _ rfl
  | 4, hk =>
    cases hk
    have h1 : H[ad 4]? = some (vp_cell cA (28, .inl (cI Ma))) := h 4 _ rfl
    show H[ad 4]? = some (vp_cell cA (28, .inl (cI Ma1)))
    rw [h1, cI_congr e]
  | 5, hk => cases hk; exact h 5 _ rfl
  | 6, hk => cases hk; exact h 6 _ rfl
  | k + 7, hk => cases hk
theorem mP.c_Ra {G : va_G} {ad : Nat → Nat} {cA : ClassId} {sz : Int} {Ka Na Ca Ma Ra Va : Int → Int} {Ra1 : Int → Int} {H : Heap} (h : mP G ad cA sz Ka Na Ca Ma Ra Va H) (e : ∀ j : Int, 0 ≤ j → j < 28 → Ra j = Ra1 j) : mP G ad cA sz Ka Na Ca Ma Ra1 Va H := by
  intro k q hk
  match k, hk with
  | 0, hk => cases hk; exact h 0 _ rfl
  | 1, hk => cases hk; exact h 1 _ rfl
  | 2, hk => cases hk; exact h 2 _ rfl
  | 3, hk => cases hk; exact h 3 _ rfl
  | 4, hk => cases hk; exact h 4 _ rfl
  | 5, hk =>
    cases hk
    have h1 : H[ad 5]? = some (vp_cell cA (28, .inl (cI Ra))) := h 5 _ rfl
    show H[ad 5]? = some (vp_cell cA (28, .inl (cI Ra1)))
    rw [h1, cI_congr e]
  | 6, hk => cases hk; exact h 6 _ rfl
  | k + 7, hk => cases hk
theorem mP.c_Va {G : va_G} {ad : Nat → Nat} {cA : ClassId} {sz : Int} {Ka Na Ca Ma Ra Va : Int → Int} {Va1 : Int → Int} {H : Heap} (h : mP G ad cA sz Ka Na Ca Ma Ra Va H) (e : ∀ j : Int, 0 ≤ j → j < 28 → Va j = Va1 j) : mP G ad cA sz Ka Na Ca Ma Ra Va1 H := by
  intro k q hk
  match k, hk with
  | 0, hk => cases hk; exact h 0 _ rfl
  | 1, hk => cases hk; exact h 1 _ rfl
  | 2, hk => cases hk; exact h 2 _ rfl
  | 3, hk => cases hk; exact h 3 _ rfl
  | 4, hk => cases hk; exact h 4 _ rfl
  | 5, hk => cases hk; exact h 5 _ rfl
  | 6, hk =>
    cases hk
    have h1 : H[ad 6]? = some (vp_cell cA (28, .inl (cI Va))) := h 6 _ rfl
    show H[ad 6]? = some (vp_cell cA (28, .inl (cI Va1)))
    rw [h1, cI_congr e]
  | k + 7, hk => cases hk
section MROWS
variable {p : Program} {l : Launch} {e : Env} {R : Room} {s : State} {m : MethodId} {args : Array Value} {below : List Frame} {meth : Method} {c : Code} {H : Heap} {locs : List Loc} {cells slots : Nat} {Q : State → Prop}
variable {cc : ByteArray} {pc : Nat} {ls : Array Slot} {rest : List Value}
variable {G : va_G} {ad : Nat → Nat} {cA : ClassId} {sz : Int} {Ka Na Ca Ma Ra Va : Int → Int} {H0 : Heap} {A0 : Nat → Prop}
theorem mg_size (hx : p.tables.exec = Jvm.exec) (hb : c.code = cc) (hts : ∀ w ∈ lw_all, w.before args s = true) (hown : s.vm.findClass RX1 = some m.cls) (hK : va_K G vwCl [(cA, .int)] s) (hP : mP G ad cA sz Ka Na Ca Ma Ra Va H) (hdg : decode cc pc = .ok (.getfield 28, 3)) (kk : W p l e R s m args below meth c H locs cells slots Q (F0 m (pc + 3) ls (.int (iI sz) :: rest))) : W p l e R s m args below meth c H locs cells slots Q (F0 m pc ls (.ref (ad 0) :: rest)) :=
  va_get (D := G) (ci := 1) (v := .int (iI sz)) (C := RX1) (T := TX1) (N := 7) hx hb hts in_X1 hown hK hP 0 rfl rfl 0 (by decide) (hts _ q174) (fun _ h9 => h9) rfl hdg kk
theorem mp_size (hx : p.tables.exec = Jvm.exec) (hb : c.code = cc) (hts : ∀ w ∈ lw_all, w.before args s = true) (hown : s.vm.findClass RX1 = some m.cls) (hK : va_K G vwCl [(cA, .int)] s) (hP : mP G ad cA sz Ka Na Ca Ma Ra Va H) (hD : mD ad) (hS : va_S (mA ad) H0 H locs) {v : Int} (hdg : decode cc pc = .ok (.putfield 28, 3)) (kk : ∀ (H1 : Heap) (locs1 : List Loc), mP G ad cA v Ka Na Ca Ma Ra Va H1 → va_S (mA ad) H0 H1 locs1 → W p l e R s m args below meth c H1 locs1 cells slots Q (F0 m (pc + 3) ls rest)) : W p l e R s m args below meth c H locs cells slots Q (F0 m pc ls (.int (iI v) :: .ref (ad 0) :: rest)) :=
  va_put (D := G) (ci := 1) (v := .int (iI v)) (ty := .int) (C := RX1) (T := TX1) (N := 7) hx hb hts in_X1 tyX1 tyX1_ok nmX1 hown hK hP hD.va hS 0 rfl rfl 0 (by decide) (hts _ q174) (fun _ h9 => h9) rfl (by decide +kernel) rfl rfl (Nat.le_of_ble_eq_true rfl) hdg (fun H1 locs1 hP1 _ hS1 => kk H1 locs1 hP1 hS1)
theorem mg_kinds (hx : p.tables.exec = Jvm.exec) (hb : c.code = cc) (hts : ∀ w ∈ lw_all, w.before args s = true) (hown : s.vm.findClass RX1 = some m.cls) (hK : va_K G vwCl [(cA, .int)] s) (hP : mP G ad cA sz Ka Na Ca Ma Ra Va H) (hdg : decode cc pc = .ok (.getfield 7, 3)) (kk : W p l e R s m args below meth c H locs cells slots Q (F0 m (pc + 3) ls (.ref (ad 1) :: rest))) : W p l e R s m args below meth c H locs cells slots Q (F0 m pc ls (.ref (ad 0) :: rest)) :=
  va_get (D := G) (ci := 1) (v := .ref (ad 1)) (C := RX1) (T := TX1) (N := 7) hx hb hts in_X1 hown hK hP 0 rfl rfl 1 (by decide) (hts _ q175) (fun _ h9 => h9) rfl hdg kk
theorem mg_names (hx : p.tables.exec = Jvm.exec) (hb : c.code = cc) (hts : ∀ w ∈ lw_all, w.before args s = true) (hown : s.vm.findClass RX1 = some m.cls) (hK : va_K G vwCl [(cA, .int)] s) (hP : mP G ad cA sz Ka Na Ca Ma Ra Va H) (hdg : decode cc pc = .ok (.getfield 13, 3)) (kk : W p l e R s m args below meth c H locs cells slots Q (F0 m (pc + 3) ls (.ref (ad 2) :: rest))) : W p l e R s m args below meth c H locs cells slots Q (F0 m pc ls (.ref (ad 0) :: rest)) :=
  va_get (D := G) (ci := 1) (v := .ref (ad 2)) (C := RX1) (T := TX1) (N := 7) hx hb hts in_X1 hown hK hP 0 rfl rfl 2 (by decide) (hts _ q176) (fun _ h9 => h9) rfl hdg kk
theorem mg_kind (hx : p.tables.exec = Jvm.exec) (hb : c.code = cc) (hts : ∀ w ∈ lw_all, w.before args s = true) (hown : s.vm.findClass RX1 = some m.cls) (hK : va_K G vwCl [(cA, .int)] s) (hP : mP G ad cA sz Ka Na Ca Ma Ra Va H) (hdg : decode cc pc = .ok (.getfield 16, 3)) (kk : W p l e R s m args below meth c H locs cells slots Q (F0 m (pc + 3) ls (.ref (ad 3) :: rest))) : W p l e R s m args below meth c H locs cells slots Q (F0 m pc ls (.ref (ad 0) :: rest)) :=
  va_get (D := G) (ci := 1) (v := .ref (ad 3)) (C := RX1) (T := TX1) (N := 7) hx hb hts in_X1 hown hK hP 0 rfl rfl 3 (by decide) (hts _ q177) (fun _ h9 => h9) rfl hdg kk
theorem mg_name (hx : p.tables.exec = Jvm.exec) (hb : c.code = cc) (hts : ∀ w ∈ lw_all, w.before args s = true) (hown : s.vm.findClass RX1 = some m.cls) (hK : va_K G vwCl [(cA, .int)] s) (hP : mP G ad cA sz Ka Na Ca Ma Ra Va H) (hdg : decode cc pc = .ok (.getfield 19, 3)) (kk : W p l e R s m args below meth c H locs cells slots Q (F0 m (pc + 3) ls (.ref (ad 4) :: rest))) : W p l e R s m args below meth c H locs cells slots Q (F0 m pc ls (.ref (ad 0) :: rest)) :=
  va_get (D := G) (ci := 1) (v := .ref (ad 4)) (C := RX1) (T := TX1) (N := 7) hx hb hts in_X1 hown hK hP 0 rfl rfl 4 (by decide) (hts _ q178) (fun _ h9 => h9) rfl hdg kk
theorem mg_origin (hx : p.tables.exec = Jvm.exec) (hb : c.code = cc) (hts : ∀ w ∈ lw_all, w.before args s = true) (hown : s.vm.findClass RX1 = some m.cls) (hK : va_K G vwCl [(cA, .int)] s) (hP : mP G ad cA sz Ka Na Ca Ma Ra Va H) (hdg : decode cc pc = .ok (.getfield 22, 3)) (kk : W p l e R s m args below meth c H locs cells slots Q (F0 m (pc + 3) ls (.ref (ad 5) :: rest))) : W p l e R s m args below meth c H locs cells slots Q (F0 m pc ls (.ref (ad 0) :: rest)) :=
  va_get (D := G) (ci := 1) (v := .ref (ad 5)) (C := RX1) (T := TX1) (N := 7) hx hb hts in_X1 hown hK hP 0 rfl rfl 5 (by decide) (hts _ q179) (fun _ h9 => h9) rfl hdg kk
theorem mg_was (hx : p.tables.exec = Jvm.exec) (hb : c.code = cc) (hts : ∀ w ∈ lw_all, w.before args s = true) (hown : s.vm.findClass RX1 = some m.cls) (hK : va_K G vwCl [(cA, .int)] s) (hP : mP G ad cA sz Ka Na Ca Ma Ra Va H) (hdg : decode cc pc = .ok (.getfield 25, 3)) (kk : W p l e R s m args below meth c H locs cells slots Q (F0 m (pc + 3) ls (.ref (ad 6) :: rest))) : W p l e R s m args below meth c H locs cells slots Q (F0 m pc ls (.ref (ad 0) :: rest)) :=
  va_get (D := G) (ci := 1) (v := .ref (ad 6)) (C := RX1) (T := TX1) (N := 7) hx hb hts in_X1 hown hK hP 0 rfl rfl 6 (by decide) (hts _ q180) (fun _ h9 => h9) rfl hdg kk
theorem ml_kinds (hx : p.tables.exec = Jvm.exec) (hb : c.code = cc) (hK : va_K G vwCl [(cA, .int)] s) (hP : mP G ad cA sz Ka Na Ca Ma Ra Va H) {i : Int} (hi : 0 ≤ i ∧ i < 28) (hdg : decode cc pc = .ok (.iaload, 1)) (kk : W p l e R s m args below meth c H locs cells slots Q (F0 m (pc + 1) ls (.int (iI (Ka i)) :: rest))) : W p l e R s m args below meth c H locs cells slots Q (F0 m pc ls (.int (iI i) :: .ref (ad 1) :: rest)) := by
  refine va_iald (cA := cA) (n := 28) (f := cI Ka) hx hb hK hP 1 0 rfl rfl (ii_in hi (by decide)) hdg ?_
  rw [cI_rd (by omega)]
  exact kk
theorem ms_kinds (hx : p.tables.exec = Jvm.exec) (hb : c.code = cc) (hK : va_K G vwCl [(cA, .int)] s) (hP : mP G ad cA sz Ka Na Ca Ma Ra Va H) (hD : mD ad) (hS : va_S (mA ad) H0 H locs) {i v : Int} (hi : 0 ≤ i ∧ i < 28) (hdg : decode cc pc = .ok (.iastore, 1)) (kk : ∀ (H1 : Heap) (locs1 : List Loc), mP G ad cA sz (rd_up Ka i v) Na Ca Ma Ra Va H1 → va_S (mA ad) H0 H1 locs1 → W p l e R s m args below meth c H1 locs1 cells slots Q (F0 m (pc + 1) ls rest)) : W p l e R s m args below meth c H locs cells slots Q (F0 m pc ls (.int (iI v) :: .int (iI i) :: .ref (ad 1) :: rest)) := by
  refine va_iast (cA := cA) (n := 28) (f := cI Ka) hx hb hK hP hD.va hS 1 0 rfl rfl (ii_in hi (by decide)) hdg (fun H1 locs1 hP1 _ hS1 => kk H1 locs1 ?_ hS1)
  rw [cI_wr (by omega)] at hP1
  exact hP1
theorem ml_names (hx : p.tables.exec = Jvm.exec) (hb : c.code = cc) (hK : va_K G vwCl [(cA, .int)] s) (hP : mP G ad cA sz Ka Na Ca Ma Ra Va H) {i : Int} (hi : 0 ≤ i ∧ i < 28) (hdg : decode cc pc = .ok (.iaload, 1)) (kk : W p l e R s m args below meth c H locs cells slots Q (F0 m (pc + 1) ls (.int (iI (Na i)) :: rest))) : W p l e R s m args below meth c H locs cells slots Q (F0 m pc ls (.int (iI i) :: .ref (ad 2) :: rest)) := by
  refine va_iald (cA := cA) (n := 28) (f := cI Na) hx hb hK hP 2 0 rfl rfl (ii_in hi (by decide)) hdg ?_
  rw [cI_rd (by omega)]
  exact kk
theorem ms_names (hx : p.tables.exec = Jvm.exec) (hb : c.code = cc) (hK : va_K G vwCl [(cA, .int)] s) (hP : mP G ad cA sz Ka Na Ca Ma Ra Va H) (hD : mD ad) (hS : va_S (mA ad) H0 H locs) {i v : Int} (hi : 0 ≤ i ∧ i < 28) (hdg : decode cc pc = .ok (.iastore, 1)) (kk : ∀ (H1 : Heap) (locs1 : List Loc), mP G ad cA sz Ka (rd_up Na i v) Ca Ma Ra Va H1 → va_S (mA ad) H0 H1 locs1 → W p l e R s m args below meth c H1 locs1 cells slots Q (F0 m (pc + 1) ls rest)) : W p l e R s m args below meth c H locs cells slots Q (F0 m pc ls (.int (iI v) :: .int (iI i) :: .ref (ad 2) :: rest)) := by
  refine va_iast (cA := cA) (n := 28) (f := cI Na) hx hb hK hP hD.va hS 2 0 rfl rfl (ii_in hi (by decide)) hdg (fun H1 locs1 hP1 _ hS1 => kk H1 locs1 ?_ hS1)
  rw [cI_wr (by omega)] at hP1
  exact hP1
theorem ml_kind (hx : p.tables.exec = Jvm.exec) (hb : c.code = cc) (hK : va_K G vwCl [(cA, .int)] s) (hP : mP G ad cA sz Ka Na Ca Ma Ra Va H) {i : Int} (hi : 0 ≤ i ∧ i < 28) (hdg : decode cc pc = .ok (.iaload, 1)) (kk : W p l e R s m args below meth c H locs cells slots Q (F0 m (pc + 1) ls (.int (iI (Ca i)) :: rest))) : W p l e R s m args below meth c H locs cells slots Q (F0 m pc ls (.int (iI i) :: .ref (ad 3) :: rest)) := by
  refine va_iald (cA := cA) (n := 28) (f := cI Ca) hx hb hK hP 3 0 rfl rfl (ii_in hi (by decide)) hdg ?_
  rw [cI_rd (by omega)]
  exact kk
theorem ms_kind (hx : p.tables.exec = Jvm.exec) (hb : c.code = cc) (hK : va_K G vwCl [(cA, .int)] s) (hP : mP G ad cA sz Ka Na Ca Ma Ra Va H) (hD : mD ad) (hS : va_S (mA ad) H0 H locs) {i v : Int} (hi : 0 ≤ i ∧ i < 28) (hdg : decode cc pc = .ok (.iastore, 1)) (kk : ∀ (H1 : Heap) (locs1 : List Loc), mP G ad cA sz Ka Na (rd_up Ca i v) Ma Ra Va H1 → va_S (mA ad) H0 H1 locs1 → W p l e R s m args below meth c H1 locs1 cells slots Q (F0 m (pc + 1) ls rest)) : W p l e R s m args below meth c H locs cells slots Q (F0 m pc ls (.int (iI v) :: .int (iI i) :: .ref (ad 3) :: rest)) := by
  refine va_iast (cA := cA) (n := 28) (f := cI Ca) hx hb hK hP hD.va hS 3 0 rfl rfl (ii_in hi (by decide)) hdg (fun H1 locs1 hP1 _ hS1 => kk H1 locs1 ?_ hS1)
  rw [cI_wr (by omega)] at hP1
  exact hP1
theorem ml_name (hx : p.tables.exec = Jvm.exec) (hb : c.code = cc) (hK : va_K G vwCl [(cA, .int)] s) (hP : mP G ad cA sz Ka Na Ca Ma Ra Va H) {i : Int} (hi : 0 ≤ i ∧ i < 28) (hdg : decode cc pc = .ok (.iaload, 1)) (kk : W p l e R s m args below meth c H locs cells slots Q (F0 m (pc + 1) ls (.int (iI (Ma i)) :: rest))) : W p l e R s m args below meth c H locs cells slots Q (F0 m pc ls (.int (iI i) :: .ref (ad 4) :: rest)) := by
  refine va_iald (cA := cA) (n := 28) (f := cI Ma) hx hb hK hP 4 0 rfl rfl (ii_in hi (by decide)) hdg ?_
  rw [cI_rd (by omega)]
  exact kk
theorem ms_name (hx : p.tables.exec = Jvm.exec) (hb : c.code = cc) (hK : va_K G vwCl [(cA, .int)] s) (hP : mP G ad cA sz Ka Na Ca Ma Ra Va H) (hD : mD ad) (hS : va_S (mA ad) H0 H locs) {i v : Int} (hi : 0 ≤ i ∧ i < 28) (hdg : decode cc pc = .ok (.iastore, 1)) (kk : ∀ (H1 : Heap) (locs1 : List Loc), mP G ad cA sz Ka Na Ca (rd_up Ma i v) Ra Va H1 → va_S (mA ad) H0 H1 locs1 → W p l e R s m args below meth c H1 locs1 cells slots Q (F0 m (pc + 1) ls rest)) : W p l e R s m args below meth c H locs cells slots Q (F0 m pc ls (.int (iI v) :: .int (iI i) :: .ref (ad 4) :: rest)) := by
  refine va_iast (cA := cA) (n := 28) (f := cI Ma) hx hb hK hP hD.va hS 4 0 rfl rfl (ii_in hi (by decide)) hdg (fun H1 locs1 hP1 _ hS1 => kk H1 locs1 ?_ hS1)
  rw [cI_wr (by omega)] at hP1
  exact hP1
theorem ml_origin (hx : p.tables.exec = Jvm.exec) (hb : c.code = cc) (hK : va_K G vwCl [(cA, .int)] s) (hP : mP G ad cA sz Ka Na Ca Ma Ra Va H) {i : Int} (hi : 0 ≤ i ∧ i < 28) (hdg : decode cc pc = .ok (.iaload, 1)) (kk : W p l e R s m args below meth c H locs cells slots Q (F0 m (pc + 1) ls (.int (iI (Ra i)) :: rest))) : W p l e R s m args below meth c H locs cells slots Q (F0 m pc ls (.int (iI i) :: .ref (ad 5) :: rest)) := by
  refine va_iald (cA := cA) (n := 28) (f := cI Ra) hx hb hK hP 5 0 rfl rfl (ii_in hi (by decide)) hdg ?_
  rw [cI_rd (by omega)]
  exact kk
theorem ms_origin (hx : p.tables.exec = Jvm.exec) (hb : c.code = cc) (hK : va_K G vwCl [(cA, .int)] s) (hP : mP G ad cA sz Ka Na Ca Ma Ra Va H) (hD : mD ad) (hS : va_S (mA ad) H0 H locs) {i v : Int} (hi : 0 ≤ i ∧ i < 28) (hdg : decode cc pc = .ok (.iastore, 1)) (kk : ∀ (H1 : Heap) (locs1 : List Loc), mP G ad cA sz Ka Na Ca Ma (rd_up Ra i v) Va H1 → va_S (mA ad) H0 H1 locs1 → W p l e R s m args below meth c H1 locs1 cells slots Q (F0 m (pc + 1) ls rest)) : W p l e R s m args below meth c H locs cells slots Q (F0 m pc ls (.int (iI v) :: .int (iI i) :: .ref (ad 5) :: rest)) := by
  refine va_iast (cA := cA) (n := 28) (f := cI Ra) hx hb hK hP hD.va hS 5 0 rfl rfl (ii_in hi (by decide)) hdg (fun H1 locs1 hP1 _ hS1 => kk H1 locs1 ?_ hS1)
  rw [cI_wr (by omega)] at hP1
  exact hP1
theorem ml_was (hx : p.tables.exec = Jvm.exec) (hb : c.code = cc) (hK : va_K G vwCl [(cA, .int)] s) (hP : mP G ad cA sz Ka Na Ca Ma Ra Va H) {i : Int} (hi : 0 ≤ i ∧ i < 28) (hdg : decode cc pc = .ok (.iaload, 1)) (kk : W p l e R s m args below meth c H locs cells slots Q (F0 m (pc + 1) ls (.int (iI (Va i)) :: rest))) : W p l e R s m args below meth c H locs cells slots Q (F0 m pc ls (.int (iI i) :: .ref (ad 6) :: rest)) := by
  refine va_iald (cA := cA) (n := 28) (f := cI Va) hx hb hK hP 6 0 rfl rfl (ii_in hi (by decide)) hdg ?_
  rw [cI_rd (by omega)]
  exact kk
theorem ms_was (hx : p.tables.exec = Jvm.exec) (hb : c.code = cc) (hK : va_K G vwCl [(cA, .int)] s) (hP : mP G ad cA sz Ka Na Ca Ma Ra Va H) (hD : mD ad) (hS : va_S (mA ad) H0 H locs) {i v : Int} (hi : 0 ≤ i ∧ i < 28) (hdg : decode cc pc = .ok (.iastore, 1)) (kk : ∀ (H1 : Heap) (locs1 : List Loc), mP G ad cA sz Ka Na Ca Ma Ra (rd_up Va i v) H1 → va_S (mA ad) H0 H1 locs1 → W p l e R s m args below meth c H1 locs1 cells slots Q (F0 m (pc + 1) ls rest)) : W p l e R s m args below meth c H locs cells slots Q (F0 m pc ls (.int (iI v) :: .int (iI i) :: .ref (ad 6) :: rest)) := by
  refine va_iast (cA := cA) (n := 28) (f := cI Va) hx hb hK hP hD.va hS 6 0 rfl rfl (ii_in hi (by decide)) hdg (fun H1 locs1 hP1 _ hS1 => kk H1 locs1 ?_ hS1)
  rw [cI_wr (by omega)] at hP1
  exact hP1
end MROWS
end
section
/-! what each call asks -/
set_option maxRecDepth 100000
theorem cwX0_add_L {R : Room} {s : State} {args : Array Value} (hts : ∀ w ∈ lw_all, w.before args s = true) (k : Nat) (hR : k + 1 ≤ R.frames ∧ 8 + (4 + 11) + 32 * k ≤ R.locals) : CallW R s args "RenameDeskLaw" RX0 13 yX0_add cX0_add 4 (some .int) (ws_ yX0_add cX0_add 4 (some .int)) (rmL k) 0 0 2 := cwV 2 hts (lw_V q63 q64 q65 q24 q66) rfl rfl rfl (by decide +kernel) hR
theorem cwX0_openCount {R : Room} {s : State} {args : Array Value} (hts : ∀ w ∈ lw_all, w.before args s = true) (k : Nat) (hR : k + 1 ≤ R.frames ∧ 8 + (3 + 11) + 32 * k ≤ R.locals) : CallW R s args RX0 RX0 39 yX0_openCount cX0_openCount 3 (some .int) (ws_ yX0_openCount cX0_openCount 3 (some .int)) (rmL k) 0 0 0 := cwV 0 hts (lw_V q67 q69 qs0 q24 q70) rfl rfl rfl (by decide +kernel) hR
theorem cwX0_drop_L {R : Room} {s : State} {args : Array Value} (hts : ∀ w ∈ lw_all, w.before args s = true) (k : Nat) (hR : k + 1 ≤ R.frames ∧ 8 + (1 + 11) + 32 * k ≤ R.locals) : CallW R s args "RenameDeskLaw" RX0 18 yX0_drop cX0_drop 1 (some .int) (ws_ yX0_drop cX0_drop 1 (some .int)) (rmL k) 0 0 0 := cwV 0 hts (lw_V q71 q72 q73 q24 q74) rfl rfl rfl (by decide +kernel) hR
theorem cwX0_length_L {R : Room} {s : State} {args : Array Value} (hts : ∀ w ∈ lw_all, w.before args s = true) (k : Nat) (hR : k + 1 ≤ R.frames ∧ 8 + (1 + 11) + 32 * k ≤ R.locals) : CallW R s args "RenameDeskLaw" RX0 23 yX0_length cX0_length 1 (some .int) (ws_ yX0_length cX0_length 1 (some .int)) (rmL k) 0 0 0 := cwV 0 hts (lw_V q75 q76 q77 q24 q78) rfl rfl rfl (by decide +kernel) hR
theorem cwX0_token_L {R : Room} {s : State} {args : Array Value} (hts : ∀ w ∈ lw_all, w.before args s = true) (k : Nat) (hR : k + 1 ≤ R.frames ∧ 8 + (2 + 11) + 32 * k ≤ R.locals) : CallW R s args "RenameDeskLaw" RX0 27 yX0_token cX0_token 2 (some .int) (ws_ yX0_token cX0_token 2 (some .int)) (rmL k) 0 0 1 := cwV 1 hts (lw_V q79 q80 q81 q24 q82) rfl rfl rfl (by decide +kernel) hR
theorem cwX0_isPlace {R : Room} {s : State} {args : Array Value} (hts : ∀ w ∈ lw_all, w.before args s = true) (k : Nat) (hR : k + 1 ≤ R.frames ∧ 8 + (2 + 11) + 32 * k ≤ R.locals) : CallW R s args RX0 RX0 35 yX0_isPlace cX0_isPlace 2 (some .boolean) (ws_ yX0_isPlace cX0_isPlace 2 (some .boolean)) (rmL k) 0 0 1 := cwV 1 hts (lw_V q83 q85 qs1 q24 q86) rfl rfl rfl (by decide +kernel) hR
theorem cwX0_bound_L {R : Room} {s : State} {args : Array Value} (hts : ∀ w ∈ lw_all, w.before args s = true) (k : Nat) (hR : k + 1 ≤ R.frames ∧ 8 + (2 + 11) + 32 * k ≤ R.locals) : CallW R s args "RenameDeskLaw" RX0 32 yX0_bound cX0_bound 2 (some .int) (ws_ yX0_bound cX0_bound 2 (some .int)) (rmL k) 0 0 1 := cwV 1 hts (lw_V q87 q88 q89 q24 q90) rfl rfl rfl (by decide +kernel) hR
theorem cwX0_isA {R : Room} {s : State} {args : Array Value} (hts : ∀ w ∈ lw_all, w.before args s = true) (k : Nat) (hR : k + 1 ≤ R.frames ∧ 8 + (3 + 11) + 32 * k ≤ R.locals) : CallW R s args RX0 RX0 61 yX0_isA cX0_isA 3 (some .boolean) (ws_ yX0_isA cX0_isA 3 (some .boolean)) (rmL k) 0 0 2 := cwV 2 hts (lw_V q91 q93 qs2 q24 q94) rfl rfl rfl (by decide +kernel) hR
theorem cwX0_learn {R : Room} {s : State} {args : Array Value} (hts : ∀ w ∈ lw_all, w.before args s = true) (k : Nat) (hR : k + 1 ≤ R.frames ∧ 8 + (3 + 11) + 32 * k ≤ R.locals) : CallW R s args RX0 RX0 64 yX0_learn cX0_learn 3 none (ws_ yX0_learn cX0_learn 3 none) (rmL k) 0 0 0 := cwV 0 hts (lw_V q95 q97 qs3 q24 q98) rfl rfl rfl (by decide +kernel) hR
theorem cwX0_winner {R : Room} {s : State} {args : Array Value} (hts : ∀ w ∈ lw_all, w.before args s = true) (k : Nat) (hR : k + 1 ≤ R.frames ∧ 8 + (6 + 11) + 32 * k ≤ R.locals) : CallW R s args RX0 RX0 47 yX0_winner cX0_winner 6 (some .int) (ws_ yX0_winner cX0_winner 6 (some .int)) (rmL k) 0 0 2 := cwV 2 hts (lw_V q99 q101 qs4 q24 q102) rfl rfl rfl (by decide +kernel) hR
theorem cwX0_sees {R : Room} {s : State} {args : Array Value} (hts : ∀ w ∈ lw_all, w.before args s = true) (k : Nat) (hR : k + 1 ≤ R.frames ∧ 8 + (3 + 11) + 32 * k ≤ R.locals) : CallW R s args RX0 RX0 55 yX0_sees cX0_sees 3 (some .boolean) (ws_ yX0_sees cX0_sees 3 (some .boolean)) (rmL k) 0 0 2 := cwV 2 hts (lw_V q103 q105 qs5 q24 q106) rfl rfl rfl (by decide +kernel) hR
theorem cwX0_inBlockOf {R : Room} {s : State} {args : Array Value} (hts : ∀ w ∈ lw_all, w.before args s = true) (k : Nat) (hR : k + 1 ≤ R.frames ∧ 8 + (4 + 11) + 32 * k ≤ R.locals) : CallW R s args RX0 RX0 51 yX0_inBlockOf cX0_inBlockOf 4 (some .boolean) (ws_ yX0_inBlockOf cX0_inBlockOf 4 (some .boolean)) (rmL k) 0 0 2 := cwV 2 hts (lw_V q107 q109 qs6 q24 q110) rfl rfl rfl (by decide +kernel) hR
theorem cwX0_hides {R : Room} {s : State} {args : Array Value} (hts : ∀ w ∈ lw_all, w.before args s = true) (k : Nat) (hR : k + 1 ≤ R.frames ∧ 8 + (3 + 11) + 32 * k ≤ R.locals) : CallW R s args RX0 RX0 58 yX0_hides cX0_hides 3 (some .boolean) (ws_ yX0_hides cX0_hides 3 (some .boolean)) (rmL k) 0 0 2 := cwV 2 hts (lw_V q111 q113 qs7 q24 q114) rfl rfl rfl (by decide +kernel) hR
theorem cwX0_uses_L {R : Room} {s : State} {args : Array Value} (hts : ∀ w ∈ lw_all, w.before args s = true) (k : Nat) (hR : k + 1 ≤ R.frames ∧ 8 + (4 + 11) + 32 * k ≤ R.locals) : CallW R s args "RenameDeskLaw" RX0 36 yX0_uses cX0_uses 4 (some .int) (ws_ yX0_uses cX0_uses 4 (some .int)) (rmL k) 0 0 1 := cwV 1 hts (lw_V q115 q116 q117 q24 q118) rfl rfl rfl (by decide +kernel) hR
theorem cwX0_free_L {R : Room} {s : State} {args : Array Value} (hts : ∀ w ∈ lw_all, w.before args s = true) (k : Nat) (hR : k + 1 ≤ R.frames ∧ 8 + (3 + 11) + 32 * k ≤ R.locals) : CallW R s args "RenameDeskLaw" RX0 40 yX0_free cX0_free 3 (some .int) (ws_ yX0_free cX0_free 3 (some .int)) (rmL k) 0 0 0 := cwV 0 hts (lw_V q119 q120 q121 q24 q122) rfl rfl rfl (by decide +kernel) hR
theorem cwX0_unused_L {R : Room} {s : State} {args : Array Value} (hts : ∀ w ∈ lw_all, w.before args s = true) (k : Nat) (hR : k + 1 ≤ R.frames ∧ 8 + (3 + 11) + 32 * k ≤ R.locals) : CallW R s args "RenameDeskLaw" RX0 44 yX0_unused cX0_unused 3 (some .int) (ws_ yX0_unused cX0_unused 3 (some .int)) (rmL k) 0 0 0 := cwV 0 hts (lw_V q123 q124 q125 q24 q126) rfl rfl rfl (by decide +kernel) hR
theorem cwX0_uses {R : Room} {s : State} {args : Array Value} (hts : ∀ w ∈ lw_all, w.before args s = true) (k : Nat) (hR : k + 1 ≤ R.frames ∧ 8 + (4 + 11) + 32 * k ≤ R.locals) : CallW R s args RX0 RX0 67 yX0_uses cX0_uses 4 (some .int) (ws_ yX0_uses cX0_uses 4 (some .int)) (rmL k) 0 0 1 := cwV 1 hts (lw_V q127 q116 q117 q24 q118) rfl rfl rfl (by decide +kernel) hR
theorem cwX0_names_L {R : Room} {s : State} {args : Array Value} (hts : ∀ w ∈ lw_all, w.before args s = true) (k : Nat) (hR : k + 1 ≤ R.frames ∧ 8 + (4 + 11) + 32 * k ≤ R.locals) : CallW R s args "RenameDeskLaw" RX0 48 yX0_names cX0_names 4 (some .int) (ws_ yX0_names cX0_names 4 (some .int)) (rmL k) 0 0 1 := cwV 1 hts (lw_V q128 q129 q130 q24 q131) rfl rfl rfl (by decide +kernel) hR
theorem cwX0_legalName {R : Room} {s : State} {args : Array Value} (hts : ∀ w ∈ lw_all, w.before args s = true) (k : Nat) (hR : k + 1 ≤ R.frames ∧ 8 + (5 + 11) + 32 * k ≤ R.locals) : CallW R s args RX0 RX0 71 yX0_legalName cX0_legalName 5 (some .boolean) (ws_ yX0_legalName cX0_legalName 5 (some .boolean)) (rmL k) 0 0 2 := cwV 2 hts (lw_V q132 q134 qs8 q24 q135) rfl rfl rfl (by decide +kernel) hR
theorem cwX0_rename_L {R : Room} {s : State} {args : Array Value} (hts : ∀ w ∈ lw_all, w.before args s = true) (k : Nat) (hR : k + 1 ≤ R.frames ∧ 8 + (5 + 11) + 32 * k ≤ R.locals) : CallW R s args "RenameDeskLaw" RX0 52 yX0_rename cX0_rename 5 (some .int) (ws_ yX0_rename cX0_rename 5 (some .int)) (rmL k) 0 0 2 := cwV 2 hts (lw_V q136 q137 q138 q24 q139) rfl rfl rfl (by decide +kernel) hR
theorem cwX0_swap_L {R : Room} {s : State} {args : Array Value} (hts : ∀ w ∈ lw_all, w.before args s = true) (k : Nat) (hR : k + 1 ≤ R.frames ∧ 8 + (5 + 11) + 32 * k ≤ R.locals) : CallW R s args "RenameDeskLaw" RX0 56 yX0_swap cX0_swap 5 (some .int) (ws_ yX0_swap cX0_swap 5 (some .int)) (rmL k) 0 0 1 := cwV 1 hts (lw_V q140 q141 q142 q24 q143) rfl rfl rfl (by decide +kernel) hR
theorem cwX0_legalSwap {R : Room} {s : State} {args : Array Value} (hts : ∀ w ∈ lw_all, w.before args s = true) (k : Nat) (hR : k + 1 ≤ R.frames ∧ 8 + (2 + 11) + 32 * k ≤ R.locals) : CallW R s args RX0 RX0 74 yX0_legalSwap cX0_legalSwap 2 (some .boolean) (ws_ yX0_legalSwap cX0_legalSwap 2 (some .boolean)) (rmL k) 0 0 1 := cwV 1 hts (lw_V q144 q146 qs9 q24 q147) rfl rfl rfl (by decide +kernel) hR
theorem cwX0_moveOut_L {R : Room} {s : State} {args : Array Value} (hts : ∀ w ∈ lw_all, w.before args s = true) (k : Nat) (hR : k + 1 ≤ R.frames ∧ 8 + (5 + 11) + 32 * k ≤ R.locals) : CallW R s args "RenameDeskLaw" RX0 60 yX0_moveOut cX0_moveOut 5 (some .int) (ws_ yX0_moveOut cX0_moveOut 5 (some .int)) (rmL k) 0 0 1 := cwV 1 hts (lw_V q148 q149 q150 q24 q151) rfl rfl rfl (by decide +kernel) hR
theorem cwX0_legalOut {R : Room} {s : State} {args : Array Value} (hts : ∀ w ∈ lw_all, w.before args s = true) (k : Nat) (hR : k + 1 ≤ R.frames ∧ 8 + (6 + 11) + 32 * k ≤ R.locals) : CallW R s args RX0 RX0 77 yX0_legalOut cX0_legalOut 6 (some .boolean) (ws_ yX0_legalOut cX0_legalOut 6 (some .boolean)) (rmL k) 0 0 1 := cwV 1 hts (lw_V q152 q154 qs10 q24 q155) rfl rfl rfl (by decide +kernel) hR
theorem cwX0_canMoveOut_L {R : Room} {s : State} {args : Array Value} (hts : ∀ w ∈ lw_all, w.before args s = true) (k : Nat) (hR : k + 1 ≤ R.frames ∧ 8 + (2 + 11) + 32 * k ≤ R.locals) : CallW R s args "RenameDeskLaw" RX0 64 yX0_canMoveOut cX0_canMoveOut 2 (some .boolean) (ws_ yX0_canMoveOut cX0_canMoveOut 2 (some .boolean)) (rmL k) 0 0 1 := cwV 1 hts (lw_V q156 q157 q158 q24 q159) rfl rfl rfl (by decide +kernel) hR
theorem cwX0_depth_L {R : Room} {s : State} {args : Array Value} (hts : ∀ w ∈ lw_all, w.before args s = true) (k : Nat) (hR : k + 1 ≤ R.frames ∧ 8 + (2 + 11) + 32 * k ≤ R.locals) : CallW R s args "RenameDeskLaw" RX0 69 yX0_depth cX0_depth 2 (some .int) (ws_ yX0_depth cX0_depth 2 (some .int)) (rmL k) 0 0 1 := cwV 1 hts (lw_V q160 q161 q162 q24 q163) rfl rfl rfl (by decide +kernel) hR
theorem cwX0_visible_L {R : Room} {s : State} {args : Array Value} (hts : ∀ w ∈ lw_all, w.before args s = true) (k : Nat) (hR : k + 1 ≤ R.frames ∧ 8 + (4 + 11) + 32 * k ≤ R.locals) : CallW R s args "RenameDeskLaw" RX0 73 yX0_visible cX0_visible 4 (some .int) (ws_ yX0_visible cX0_visible 4 (some .int)) (rmL k) 0 0 1 := cwV 1 hts (lw_V q164 q165 q166 q24 q167) rfl rfl rfl (by decide +kernel) hR
theorem cwX1_add_L {R : Room} {s : State} {args : Array Value} (hts : ∀ w ∈ lw_all, w.before args s = true) (k : Nat) (hR : k + 1 ≤ R.frames ∧ 8 + (4 + 11) + 32 * k ≤ R.locals) : CallW R s args "RenameDeskLaw" RX1 17 yX1_add cX1_add 4 (some .int) (ws_ yX1_add cX1_add 4 (some .int)) (rmL k) 0 0 2 := cwV 2 hts (lw_V q197 q198 q199 q25 q200) rfl rfl rfl (by decide +kernel) hR
theorem cwX1_open {R : Room} {s : State} {args : Array Value} (hts : ∀ w ∈ lw_all, w.before args s = true) (k : Nat) (hR : k + 1 ≤ R.frames ∧ 8 + (3 + 11) + 32 * k ≤ R.locals) : CallW R s args RX1 RX1 47 yX1_open cX1_open 3 (some .int) (ws_ yX1_open cX1_open 3 (some .int)) (rmL k) 0 0 0 := cwV 0 hts (lw_V q201 q203 qs11 q25 q204) rfl rfl rfl (by decide +kernel) hR
theorem cwX1_drop_L {R : Room} {s : State} {args : Array Value} (hts : ∀ w ∈ lw_all, w.before args s = true) (k : Nat) (hR : k + 1 ≤ R.frames ∧ 8 + (1 + 11) + 32 * k ≤ R.locals) : CallW R s args "RenameDeskLaw" RX1 22 yX1_drop cX1_drop 1 (some .int) (ws_ yX1_drop cX1_drop 1 (some .int)) (rmL k) 0 0 0 := cwV 0 hts (lw_V q205 q206 q207 q25 q208) rfl rfl rfl (by decide +kernel) hR
theorem cwX1_length_L {R : Room} {s : State} {args : Array Value} (hts : ∀ w ∈ lw_all, w.before args s = true) (k : Nat) (hR : k + 1 ≤ R.frames ∧ 8 + (1 + 11) + 32 * k ≤ R.locals) : CallW R s args "RenameDeskLaw" RX1 26 yX1_length cX1_length 1 (some .int) (ws_ yX1_length cX1_length 1 (some .int)) (rmL k) 0 0 0 := cwV 0 hts (lw_V q209 q210 q211 q25 q212) rfl rfl rfl (by decide +kernel) hR
theorem cwX1_token_L {R : Room} {s : State} {args : Array Value} (hts : ∀ w ∈ lw_all, w.before args s = true) (k : Nat) (hR : k + 1 ≤ R.frames ∧ 8 + (2 + 11) + 32 * k ≤ R.locals) : CallW R s args "RenameDeskLaw" RX1 31 yX1_token cX1_token 2 (some .int) (ws_ yX1_token cX1_token 2 (some .int)) (rmL k) 0 0 1 := cwV 1 hts (lw_V q213 q214 q215 q25 q216) rfl rfl rfl (by decide +kernel) hR
theorem cwX1_is {R : Room} {s : State} {args : Array Value} (hts : ∀ w ∈ lw_all, w.before args s = true) (k : Nat) (hR : k + 1 ≤ R.frames ∧ 8 + (2 + 11) + 32 * k ≤ R.locals) : CallW R s args RX1 RX1 51 yX1_is cX1_is 2 (some .boolean) (ws_ yX1_is cX1_is 2 (some .boolean)) (rmL k) 0 0 1 := cwV 1 hts (lw_V q217 q219 qs12 q25 q220) rfl rfl rfl (by decide +kernel) hR
theorem cwX1_bound_L {R : Room} {s : State} {args : Array Value} (hts : ∀ w ∈ lw_all, w.before args s = true) (k : Nat) (hR : k + 1 ≤ R.frames ∧ 8 + (2 + 11) + 32 * k ≤ R.locals) : CallW R s args "RenameDeskLaw" RX1 35 yX1_bound cX1_bound 2 (some .int) (ws_ yX1_bound cX1_bound 2 (some .int)) (rmL k) 0 0 1 := cwV 1 hts (lw_V q221 q222 q223 q25 q224) rfl rfl rfl (by decide +kernel) hR
theorem cwX1_bindAll {R : Room} {s : State} {args : Array Value} (hts : ∀ w ∈ lw_all, w.before args s = true) (k : Nat) (hR : k + 1 ≤ R.frames ∧ 8 + (2 + 11) + 32 * k ≤ R.locals) : CallW R s args RX1 RX1 55 yX1_bindAll cX1_bindAll 2 none (ws_ yX1_bindAll cX1_bindAll 2 none) (rmL k) 0 0 0 := cwV 0 hts (lw_V q225 q227 qs13 q25 q228) rfl rfl rfl (by decide +kernel) hR
theorem cwX1_copy {R : Room} {s : State} {args : Array Value} (hts : ∀ w ∈ lw_all, w.before args s = true) (k : Nat) (hR : k + 1 ≤ R.frames ∧ 8 + (2 + 11) + 32 * k ≤ R.locals) : CallW R s args RX1 RX1 40 yX1_copy cX1_copy 2 none (ws_ yX1_copy cX1_copy 2 none) (rmL k) 0 0 0 := cwV 0 hts (lw_V q229 q231 qs14 q25 q232) rfl rfl rfl (by decide +kernel) hR
theorem cwX1_bind {R : Room} {s : State} {args : Array Value} (hts : ∀ w ∈ lw_all, w.before args s = true) (k : Nat) (hR : k + 1 ≤ R.frames ∧ 8 + (6 + 11) + 32 * k ≤ R.locals) : CallW R s args RX1 RX1 43 yX1_bind cX1_bind 6 (some .int) (ws_ yX1_bind cX1_bind 6 (some .int)) (rmL k) 0 0 2 := cwV 2 hts (lw_V q233 q235 qs15 q25 q236) rfl rfl rfl (by decide +kernel) hR
theorem cwX1_around {R : Room} {s : State} {args : Array Value} (hts : ∀ w ∈ lw_all, w.before args s = true) (k : Nat) (hR : k + 1 ≤ R.frames ∧ 8 + (4 + 11) + 32 * k ≤ R.locals) : CallW R s args RX1 RX1 32 yX1_around cX1_around 4 (some .int) (ws_ yX1_around cX1_around 4 (some .int)) (rmL k) 0 0 1 := cwV 1 hts (lw_V q237 q239 qs16 q25 q240) rfl rfl rfl (by decide +kernel) hR
theorem cwX1_last {R : Room} {s : State} {args : Array Value} (hts : ∀ w ∈ lw_all, w.before args s = true) (k : Nat) (hR : k + 1 ≤ R.frames ∧ 8 + (5 + 11) + 32 * k ≤ R.locals) : CallW R s args RX1 RX1 36 yX1_last cX1_last 5 (some .int) (ws_ yX1_last cX1_last 5 (some .int)) (rmL k) 0 0 3 := cwV 3 hts (lw_V q241 q243 qs17 q25 q244) rfl rfl rfl (by decide +kernel) hR
theorem cwX1_uses_L {R : Room} {s : State} {args : Array Value} (hts : ∀ w ∈ lw_all, w.before args s = true) (k : Nat) (hR : k + 1 ≤ R.frames ∧ 8 + (4 + 11) + 32 * k ≤ R.locals) : CallW R s args "RenameDeskLaw" RX1 39 yX1_uses cX1_uses 4 (some .int) (ws_ yX1_uses cX1_uses 4 (some .int)) (rmL k) 0 0 1 := cwV 1 hts (lw_V q245 q246 q247 q25 q248) rfl rfl rfl (by decide +kernel) hR
theorem cwX1_free_L {R : Room} {s : State} {args : Array Value} (hts : ∀ w ∈ lw_all, w.before args s = true) (k : Nat) (hR : k + 1 ≤ R.frames ∧ 8 + (3 + 11) + 32 * k ≤ R.locals) : CallW R s args "RenameDeskLaw" RX1 43 yX1_free cX1_free 3 (some .int) (ws_ yX1_free cX1_free 3 (some .int)) (rmL k) 0 0 0 := cwV 0 hts (lw_V q249 q250 q251 q25 q252) rfl rfl rfl (by decide +kernel) hR
theorem cwX1_unused_L {R : Room} {s : State} {args : Array Value} (hts : ∀ w ∈ lw_all, w.before args s = true) (k : Nat) (hR : k + 1 ≤ R.frames ∧ 8 + (3 + 11) + 32 * k ≤ R.locals) : CallW R s args "RenameDeskLaw" RX1 47 yX1_unused cX1_unused 3 (some .int) (ws_ yX1_unused cX1_unused 3 (some .int)) (rmL k) 0 0 0 := cwV 0 hts (lw_V q253 q254 q255 q25 q256) rfl rfl rfl (by decide +kernel) hR
theorem cwX1_uses {R : Room} {s : State} {args : Array Value} (hts : ∀ w ∈ lw_all, w.before args s = true) (k : Nat) (hR : k + 1 ≤ R.frames ∧ 8 + (4 + 11) + 32 * k ≤ R.locals) : CallW R s args RX1 RX1 58 yX1_uses cX1_uses 4 (some .int) (ws_ yX1_uses cX1_uses 4 (some .int)) (rmL k) 0 0 1 := cwV 1 hts (lw_V q257 q246 q247 q25 q248) rfl rfl rfl (by decide +kernel) hR
theorem cwX1_names_L {R : Room} {s : State} {args : Array Value} (hts : ∀ w ∈ lw_all, w.before args s = true) (k : Nat) (hR : k + 1 ≤ R.frames ∧ 8 + (4 + 11) + 32 * k ≤ R.locals) : CallW R s args "RenameDeskLaw" RX1 51 yX1_names cX1_names 4 (some .int) (ws_ yX1_names cX1_names 4 (some .int)) (rmL k) 0 0 1 := cwV 1 hts (lw_V q258 q259 q260 q25 q261) rfl rfl rfl (by decide +kernel) hR
theorem cwX1_declares {R : Room} {s : State} {args : Array Value} (hts : ∀ w ∈ lw_all, w.before args s = true) (k : Nat) (hR : k + 1 ≤ R.frames ∧ 8 + (2 + 11) + 32 * k ≤ R.locals) : CallW R s args RX1 RX1 65 yX1_declares cX1_declares 2 (some .boolean) (ws_ yX1_declares cX1_declares 2 (some .boolean)) (rmL k) 0 0 1 := cwV 1 hts (lw_V q262 q264 qs18 q25 q265) rfl rfl rfl (by decide +kernel) hR
theorem cwX1_renamed {R : Room} {s : State} {args : Array Value} (hts : ∀ w ∈ lw_all, w.before args s = true) (k : Nat) (hR : k + 1 ≤ R.frames ∧ 8 + (4 + 11) + 32 * k ≤ R.locals) : CallW R s args RX1 RX1 68 yX1_renamed cX1_renamed 4 (some .boolean) (ws_ yX1_renamed cX1_renamed 4 (some .boolean)) (rmL k) 0 0 2 := cwV 2 hts (lw_V q266 q268 qs19 q25 q269) rfl rfl rfl (by decide +kernel) hR
theorem cwX1_legal {R : Room} {s : State} {args : Array Value} (hts : ∀ w ∈ lw_all, w.before args s = true) (k : Nat) (hR : k + 1 ≤ R.frames ∧ 8 + (4 + 11) + 32 * k ≤ R.locals) : CallW R s args RX1 RX1 61 yX1_legal cX1_legal 4 (some .boolean) (ws_ yX1_legal cX1_legal 4 (some .boolean)) (rmL k) 0 0 0 := cwV 0 hts (lw_V q270 q272 qs20 q25 q273) rfl rfl rfl (by decide +kernel) hR
theorem cwX1_rename_L {R : Room} {s : State} {args : Array Value} (hts : ∀ w ∈ lw_all, w.before args s = true) (k : Nat) (hR : k + 1 ≤ R.frames ∧ 8 + (5 + 11) + 32 * k ≤ R.locals) : CallW R s args "RenameDeskLaw" RX1 55 yX1_rename cX1_rename 5 (some .int) (ws_ yX1_rename cX1_rename 5 (some .int)) (rmL k) 0 0 2 := cwV 2 hts (lw_V q274 q275 q276 q25 q277) rfl rfl rfl (by decide +kernel) hR
theorem cwX1_accept {R : Room} {s : State} {args : Array Value} (hts : ∀ w ∈ lw_all, w.before args s = true) (k : Nat) (hR : k + 1 ≤ R.frames ∧ 8 + (2 + 11) + 32 * k ≤ R.locals) : CallW R s args RX1 RX1 72 yX1_accept cX1_accept 2 none (ws_ yX1_accept cX1_accept 2 none) (rmL k) 0 0 0 := cwV 0 hts (lw_V q278 q280 qs21 q25 q281) rfl rfl rfl (by decide +kernel) hR
theorem cwX1_swap_L {R : Room} {s : State} {args : Array Value} (hts : ∀ w ∈ lw_all, w.before args s = true) (k : Nat) (hR : k + 1 ≤ R.frames ∧ 8 + (2 + 11) + 32 * k ≤ R.locals) : CallW R s args "RenameDeskLaw" RX1 59 yX1_swap cX1_swap 2 (some .int) (ws_ yX1_swap cX1_swap 2 (some .int)) (rmL k) 0 0 1 := cwV 1 hts (lw_V q282 q283 q284 q25 q285) rfl rfl rfl (by decide +kernel) hR
theorem cwX1_place {R : Room} {s : State} {args : Array Value} (hts : ∀ w ∈ lw_all, w.before args s = true) (k : Nat) (hR : k + 1 ≤ R.frames ∧ 8 + (3 + 11) + 32 * k ≤ R.locals) : CallW R s args RX1 RX1 75 yX1_place cX1_place 3 none (ws_ yX1_place cX1_place 3 none) (rmL k) 0 0 2 := cwV 2 hts (lw_V q286 q288 qs22 q25 q289) rfl rfl rfl (by decide +kernel) hR
theorem cwX1_moveOut_L {R : Room} {s : State} {args : Array Value} (hts : ∀ w ∈ lw_all, w.before args s = true) (k : Nat) (hR : k + 1 ≤ R.frames ∧ 8 + (4 + 11) + 32 * k ≤ R.locals) : CallW R s args "RenameDeskLaw" RX1 63 yX1_moveOut cX1_moveOut 4 (some .int) (ws_ yX1_moveOut cX1_moveOut 4 (some .int)) (rmL k) 0 0 1 := cwV 1 hts (lw_V q290 q291 q292 q25 q293) rfl rfl rfl (by decide +kernel) hR
theorem cwX1_canMoveOut_L {R : Room} {s : State} {args : Array Value} (hts : ∀ w ∈ lw_all, w.before args s = true) (k : Nat) (hR : k + 1 ≤ R.frames ∧ 8 + (4 + 11) + 32 * k ≤ R.locals) : CallW R s args "RenameDeskLaw" RX1 68 yX1_canMoveOut cX1_canMoveOut 4 (some .boolean) (ws_ yX1_canMoveOut cX1_canMoveOut 4 (some .boolean)) (rmL k) 0 0 1 := cwV 1 hts (lw_V q294 q295 q296 q25 q297) rfl rfl rfl (by decide +kernel) hR
theorem cwX1_depth_L {R : Room} {s : State} {args : Array Value} (hts : ∀ w ∈ lw_all, w.before args s = true) (k : Nat) (hR : k + 1 ≤ R.frames ∧ 8 + (4 + 11) + 32 * k ≤ R.locals) : CallW R s args "RenameDeskLaw" RX1 72 yX1_depth cX1_depth 4 (some .int) (ws_ yX1_depth cX1_depth 4 (some .int)) (rmL k) 0 0 1 := cwV 1 hts (lw_V q298 q299 q300 q25 q301) rfl rfl rfl (by decide +kernel) hR
theorem cwX1_visible_L {R : Room} {s : State} {args : Array Value} (hts : ∀ w ∈ lw_all, w.before args s = true) (k : Nat) (hR : k + 1 ≤ R.frames ∧ 8 + (4 + 11) + 32 * k ≤ R.locals) : CallW R s args "RenameDeskLaw" RX1 76 yX1_visible cX1_visible 4 (some .int) (ws_ yX1_visible cX1_visible 4 (some .int)) (rmL k) 0 0 1 := cwV 1 hts (lw_V q302 q303 q304 q25 q305) rfl rfl rfl (by decide +kernel) hR
end
section
set_option maxHeartbeats 4000000 in
set_option maxRecDepth 100000 in
theorem dm_isPlace (l : Launch) (G : va_G) (ad : Nat → Nat) (cA : ClassId) (sz kn : Int) (K N B D E T O : Int → Int) (k : Int) (hk : -2147483648 ≤ k ∧ k ≤ 2147483647) (hW : rd_WF sz K N) : gMR l yX0_isPlace (ws_ yX0_isPlace cX0_isPlace 2 (some .boolean)) (rmL 0) G [(cA, .byte)] (dP G ad cA sz kn K N B D E T O) (ad 0) [.int (iI k)] (rd_BP (0 ≤ k ∧ k < sz)) := by
  refine gMR_of (by decide) (Nat.le_of_ble_eq_true rfl) ?_
  intro p e s m below meth c ls hx hb hr hml hown hlocks hts hP hK hl
  have hown : s.vm.findClass RX0 = some m.cls := hown
  have hl : lv_has ls 2 [(0, .ref (ad 0)), (1, .int (iI k))] := hl
  have hsz := hW.1
  refine lv_iload_n hx hb dX0_isPlace_0 rfl (lv_at hl 1 rfl) ?_
  refine ri_if_lt (tgt := 16) hx hb dX0_isPlace_1 (by decide) (by omega) (fun c1 => ?_) (fun c1 => ?_)
  · refine ri_const hx hb dX0_isPlace_16 ?_
    refine gR_zret hx hb hr hlocks dX0_isPlace_17 (by omega) ?_
    exact Or.inr ⟨by omega, rfl⟩
  · refine lv_iload_n hx hb dX0_isPlace_4 rfl (lv_at hl 1 rfl) ?_
    refine lv_aload_n hx hb dX0_isPlace_5 rfl (lv_at hl 0 rfl) ?_
    refine dg_size hx hb hts hown hK hP dX0_isPlace_6 ?_
    refine ri_cmp_ge (tgt := 16) hx hb dX0_isPlace_9 (by decide) (by omega) (fun c9 => ?_) (fun c9 => ?_)
    · refine ri_const hx hb dX0_isPlace_16 ?_
      refine gR_zret hx hb hr hlocks dX0_isPlace_17 (by omega) ?_
      exact Or.inr ⟨by omega, rfl⟩
    · refine ri_const hx hb dX0_isPlace_12 ?_
      refine lv_goto (tgt := 17) hx hb dX0_isPlace_13 (by decide) ?_
      refine gR_zret hx hb hr hlocks dX0_isPlace_17 (by omega) ?_
      exact Or.inl ⟨by omega, rfl⟩
set_option maxHeartbeats 4000000 in
set_option maxRecDepth 100000 in
theorem dm_isA (l : Launch) (G : va_G) (ad : Nat → Nat) (cA : ClassId) (sz kn : Int) (K N B D E T O : Int → Int) (k kd : Int) (hk : -2147483648 ≤ k ∧ k ≤ 2147483647) (hkd : -2147483648 ≤ kd ∧ kd ≤ 2147483647) (hW : rd_WF sz K N) : gMR l yX0_isA (ws_ yX0_isA cX0_isA 3 (some .boolean)) (rmL 1) G [(cA, .byte)] (dP G ad cA sz kn K N B D E T O) (ad 0) [.int (iI k), .int (iI kd)] (rd_BP ((0 ≤ k ∧ k < sz) ∧ K k = kd)) := by
  refine gMR_of (by decide) (Nat.le_of_ble_eq_true rfl) ?_
  intro p e s m below meth c ls hx hb hr hml hown hlocks hts hP hK hl
  have hown : s.vm.findClass RX0 = some m.cls := hown
  have hl : lv_has ls 3 [(0, .ref (ad 0)), (1, .int (iI k)), (2, .int (iI kd))] := hl
  have hsz := hW.1
  refine lv_aload_n hx hb dX0_isA_0 rfl (lv_at hl 0 rfl) ?_
  refine lv_iload_n hx hb dX0_isA_1 rfl (lv_at hl 1 rfl) ?_
  refine gR_call (As := [.int (iI k)]) (rest := []) hx hb hml hown hts (dm_isPlace l G ad cA sz kn K N B D E T O k (by omega) hW) (cwX0_isPlace hts 0 ⟨by decide, by decide⟩) (hP.recv hK) hP hK rfl hl.1 rfl (Nat.le_of_ble_eq_true rfl) dX0_isA_2 ⟨Nat.zero_le _, Nat.zero_le _⟩ (fun r2 hr2 => ?_)
  rcases hr2 with ⟨c2, rfl⟩ | ⟨c2, rfl⟩
  · refine ri_if_eq (tgt := 22) hx hb dX0_isA_5 (by decide) (by omega) (fun c5 => absurd c5 (by decide)) (fun c5 => ?_)
    refine lv_aload_n hx hb dX0_isA_8 rfl (lv_at hl 0 rfl) ?_
    refine dg_kinds hx hb hts hown hK hP dX0_isA_9 ?_
    refine lv_iload_n hx hb dX0_isA_12 rfl (lv_at hl 1 rfl) ?_
    refine dl_kinds hx hb hK hP (by omega) dX0_isA_13 ?_
    have hf1 := hW.2.1 k (by omega) (by omega)
    refine lv_iload_n hx hb dX0_isA_14 rfl (lv_at hl 2 rfl) ?_
    refine ri_cmp_ne (tgt := 22) hx hb dX0_isA_15 (by decide) (by omega) (fun c15 => ?_) (fun c15 => ?_)
    · refine ri_const hx hb dX0_isA_22 ?_
      refine gR_zret hx hb hr hlocks dX0_isA_23 (by omega) ?_
      exact Or.inr ⟨by omega, rfl⟩
    · refine ri_const hx hb dX0_isA_18 ?_
      refine lv_goto (tgt := 23) hx hb dX0_isA_19 (by decide) ?_
      refine gR_zret hx hb hr hlocks dX0_isA_23 (by omega) ?_
      exact Or.inl ⟨by omega, rfl⟩
  · refine ri_if_eq (tgt := 22) hx hb dX0_isA_5 (by decide) (by omega) (fun c5 => ?_) (fun c5 => absurd c5 (by decide))
    refine ri_const hx hb dX0_isA_22 ?_
    refine gR_zret hx hb hr hlocks dX0_isA_23 (by omega) ?_
    exact Or.inr ⟨by omega, rfl⟩
set_option maxHeartbeats 4000000 in
set_option maxRecDepth 100000 in
theorem dm_openCount (l : Launch) (G : va_G) (ad : Nat → Nat) (cA : ClassId) (sz kn : Int) (K N B D E T O : Int → Int) (hW : rd_WF sz K N) : gMR l yX0_openCount (ws_ yX0_openCount cX0_openCount 3 (some .int)) (rmL 0) G [(cA, .byte)] (dP G ad cA sz kn K N B D E T O) (ad 0) [] (fun r => r = iI (rd_dep K sz)) := by
  refine gMR_of (by decide) (Nat.le_of_ble_eq_true rfl) ?_
  intro p e s m below meth c ls hx hb hr hml hown hlocks hts hP hK hl
  have hown : s.vm.findClass RX0 = some m.cls := hown
  have hl : lv_has ls 3 [(0, .ref (ad 0))] := hl
  have hsz := hW.1
  refine ri_const hx hb dX0_openCount_0 ?_
  refine lv_istore_n (lv' := [(1, .int (iI 0)), (0, .ref (ad 0))]) hx hb dX0_openCount_1 rfl hl (by decide) rfl (fun ls hl => ?_)
  refine ri_const hx hb dX0_openCount_2 ?_
  refine lv_istore_n (lv' := [(2, .int (iI 0)), (1, .int (iI 0)), (0, .ref (ad 0))]) hx hb dX0_openCount_3 rfl hl (by decide) rfl (fun ls hl => ?_)
  have loop4 : ∀ (n : Nat) (x1 : Int) (x2 : Int) (ls : Array Slot), sz - x2 < (n : Int) → (0 ≤ x2 ∧ x2 ≤ sz) → (x1 = rd_dep K x2) → lv_has ls 3 [(0, .ref (ad 0)), (1, .int (iI x1)), (2, .int (iI x2))] → W p l e (rmL 0) s m (Value.ref (ad 0) :: []).toArray below meth c s.heap [] 0 0 (MQ below (qR (fun r => r = iI (rd_dep K sz))) (Value.ref (ad 0) :: []).toArray s 0 0 (fun _ => False)) (F0 m 4 ls []) := by
    intro n
    induction n with
    | zero =>
      intro x1 x2 ls hm h1 h2 hl
      exfalso
      omega
    | succ n ih =>
      intro x1 x2 ls hm h1 h2 hl
      refine lv_iload_n hx hb dX0_openCount_4 rfl (lv_at hl 2 rfl) ?_
      refine lv_aload_n hx hb dX0_openCount_5 rfl (lv_at hl 0 rfl) ?_
      refine dg_size hx hb hts hown hK hP dX0_openCount_6 ?_
      refine ri_cmp_ge (tgt := 49) hx hb dX0_openCount_9 (by decide) (by omega) (fun c9 => ?_) (fun c9 => ?_)
      · refine lv_iload_n hx hb dX0_openCount_49 rfl (lv_at hl 1 rfl) ?_
        refine gR_iret hx hb hr hlocks dX0_openCount_50 ?_
        have e : x2 = sz := by omega
        rw [h2, e]
      · refine lv_iload_n hx hb dX0_openCount_12 rfl (lv_at hl 1 rfl) ?_
        refine lv_aload_n hx hb dX0_openCount_13 rfl (lv_at hl 0 rfl) ?_
        refine dg_kinds hx hb hts hown hK hP dX0_openCount_14 ?_
        refine lv_iload_n hx hb dX0_openCount_17 rfl (lv_at hl 2 rfl) ?_
        refine dl_kinds hx hb hK hP (by omega) dX0_openCount_18 ?_
        have hf1 := hW.2.1 x2 (by omega) (by omega)
        refine ri_if_ne (tgt := 26) hx hb dX0_openCount_19 (by decide) (by omega) (fun c19 => ?_) (fun c19 => ?_)
        · refine lv_aload_n hx hb dX0_openCount_26 rfl (lv_at hl 0 rfl) ?_
          refine dg_kinds hx hb hts hown hK hP dX0_openCount_27 ?_
          refine lv_iload_n hx hb dX0_openCount_30 rfl (lv_at hl 2 rfl) ?_
          refine dl_kinds hx hb hK hP (by omega) dX0_openCount_31 ?_
          have hf2 := hW.2.1 x2 (by omega) (by omega)
          refine ri_const hx hb dX0_openCount_32 ?_
          refine ri_cmp_ne (tgt := 40) hx hb dX0_openCount_33 (by decide) (by omega) (fun c33 => ?_) (fun c33 => ?_)
          · refine ri_const hx hb dX0_openCount_40 ?_
            refine ri_add hx hb dX0_openCount_41 ?_
            refine lv_istore_n (lv' := [(1, .int (iI (x1 + 0))), (0, .ref (ad 0)), (2, .int (iI x2))]) hx hb dX0_openCount_42 rfl hl (by decide) rfl (fun ls hl => ?_)
            refine ri_inc (k := 2) (lv1 := [(2, .int (iI (x2 + 1))), (1, .int (iI (x1 + 0))), (0, .ref (ad 0))]) hx hb dX0_openCount_43 hl rfl (by decide) rfl (fun ls hl => ?_)
            refine lv_goto (tgt := 4) hx hb dX0_openCount_46 (by decide) ?_
            exact ih (x1 + 0) (x2 + 1) ls (by omega) (by omega) (by have := rd_dep_oth (K := K) (i := x2) (by omega) c19 c33; omega) (lv_sub hl [2, 1, 0] rfl)
          · refine ri_const hx hb dX0_openCount_36 ?_
            refine lv_goto (tgt := 41) hx hb dX0_openCount_37 (by decide) ?_
            refine ri_add hx hb dX0_openCount_41 ?_
            refine lv_istore_n (lv' := [(1, .int (iI (x1 + (-1)))), (0, .ref (ad 0)), (2, .int (iI x2))]) hx hb dX0_openCount_42 rfl hl (by decide) rfl (fun ls hl => ?_)
            refine ri_inc (k := 2) (lv1 := [(2, .int (iI (x2 + 1))), (1, .int (iI (x1 + (-1)))), (0, .ref (ad 0))]) hx hb dX0_openCount_43 hl rfl (by decide) rfl (fun ls hl => ?_)
            refine lv_goto (tgt := 4) hx hb dX0_openCount_46 (by decide) ?_
            exact ih (x1 + (-1)) (x2 + 1) ls (by omega) (by omega) (by have := rd_dep_close (K := K) (i := x2) (by omega) c33; omega) (lv_sub hl [2, 1, 0] rfl)
        · refine ri_const hx hb dX0_openCount_22 ?_
          refine lv_goto (tgt := 41) hx hb dX0_openCount_23 (by decide) ?_
          refine ri_add hx hb dX0_openCount_41 ?_
          refine lv_istore_n (lv' := [(1, .int (iI (x1 + 1))), (0, .ref (ad 0)), (2, .int (iI x2))]) hx hb dX0_openCount_42 rfl hl (by decide) rfl (fun ls hl => ?_)
          refine ri_inc (k := 2) (lv1 := [(2, .int (iI (x2 + 1))), (1, .int (iI (x1 + 1))), (0, .ref (ad 0))]) hx hb dX0_openCount_43 hl rfl (by decide) rfl (fun ls hl => ?_)
          refine lv_goto (tgt := 4) hx hb dX0_openCount_46 (by decide) ?_
          exact ih (x1 + 1) (x2 + 1) ls (by omega) (by omega) (by have := rd_dep_open (K := K) (i := x2) (by omega) c19; omega) (lv_sub hl [2, 1, 0] rfl)
  exact loop4 (((sz - 0) + 1).toNat) 0 0 ls (by omega) (by omega) (by exact (rd_dep_0 K).symm) (lv_sub hl [2, 1, 0] rfl)
set_option maxHeartbeats 4000000 in
set_option maxRecDepth 100000 in
theorem dm_drop (l : Launch) (G : va_G) (ad : Nat → Nat) (cA : ClassId) (sz kn : Int) (K N B D E T O : Int → Int) (hD : dD ad) (hW : rd_WF sz K N) : gMM l yX0_drop (ws_ yX0_drop cX0_drop 1 (some .int)) (rmL 0) G [(cA, .byte)] (dP G ad cA sz kn K N B D E T O) (ad 0) [] (dA ad) (fun r H => (sz = 0 ∧ r = iI (-1) ∧ dP G ad cA sz kn K N B D E T O H) ∨ (0 < sz ∧ r = iI (sz - 1) ∧ dP G ad cA (sz - 1) 0 K N B D E T O H)) := by
  refine gMM_of (by decide) (Nat.le_of_ble_eq_true rfl) ?_
  intro p e s m below meth c ls hx hb hr hml hown hlocks hts hP hK hl
  have hown : s.vm.findClass RX0 = some m.cls := hown
  have hl : lv_has ls 1 [(0, .ref (ad 0))] := hl
  have hS : va_S (dA ad) s.heap s.heap [] := va_S.rf
  have hsz := hW.1
  refine lv_aload_n hx hb dX0_drop_0 rfl (lv_at hl 0 rfl) ?_
  refine dg_size hx hb hts hown hK hP dX0_drop_1 ?_
  refine ri_if_ne (tgt := 9) hx hb dX0_drop_4 (by decide) (by omega) (fun c4 => ?_) (fun c4 => ?_)
  · refine lv_aload_n hx hb dX0_drop_9 rfl (lv_at hl 0 rfl) ?_
    refine lv_dup hx hb dX0_drop_10 rfl ?_
    refine dg_size hx hb hts hown hK hP dX0_drop_11 ?_
    refine ri_const hx hb dX0_drop_14 ?_
    refine ri_sub hx hb dX0_drop_15 ?_
    refine dp_size hx hb hts hown hK hP hD hS dX0_drop_16 (fun H locs hP hS => ?_)
    refine lv_aload_n hx hb dX0_drop_19 rfl (lv_at hl 0 rfl) ?_
    refine ri_const hx hb dX0_drop_20 ?_
    refine dp_known hx hb hts hown hK hP hD hS dX0_drop_21 (by omega) (fun H locs hP hS => ?_)
    refine lv_aload_n hx hb dX0_drop_24 rfl (lv_at hl 0 rfl) ?_
    refine dg_size hx hb hts hown hK hP dX0_drop_25 ?_
    refine gM_iret hx hb hr hlocks dX0_drop_28 hS ?_
    exact Or.inr ⟨by omega, rfl, hP⟩
  · refine ri_const hx hb dX0_drop_7 ?_
    refine gM_iret hx hb hr hlocks dX0_drop_8 hS ?_
    exact Or.inl ⟨by omega, rfl, hP⟩
set_option maxHeartbeats 4000000 in
set_option maxRecDepth 100000 in
theorem dm_length (l : Launch) (G : va_G) (ad : Nat → Nat) (cA : ClassId) (sz kn : Int) (K N B D E T O : Int → Int)  : gMR l yX0_length (ws_ yX0_length cX0_length 1 (some .int)) (rmL 0) G [(cA, .byte)] (dP G ad cA sz kn K N B D E T O) (ad 0) [] (fun r => r = iI sz) := by
  refine gMR_of (by decide) (Nat.le_of_ble_eq_true rfl) ?_
  intro p e s m below meth c ls hx hb hr hml hown hlocks hts hP hK hl
  have hown : s.vm.findClass RX0 = some m.cls := hown
  have hl : lv_has ls 1 [(0, .ref (ad 0))] := hl
  refine lv_aload_n hx hb dX0_length_0 rfl (lv_at hl 0 rfl) ?_
  refine dg_size hx hb hts hown hK hP dX0_length_1 ?_
  refine gR_iret hx hb hr hlocks dX0_length_4 ?_
  rfl
set_option maxHeartbeats 4000000 in
set_option maxRecDepth 100000 in
theorem dm_token (l : Launch) (G : va_G) (ad : Nat → Nat) (cA : ClassId) (sz kn : Int) (K N B D E T O : Int → Int) (k : Int) (hk : -2147483648 ≤ k ∧ k ≤ 2147483647) (hW : rd_WF sz K N) : gMR l yX0_token (ws_ yX0_token cX0_token 2 (some .int)) (rmL 1) G [(cA, .byte)] (dP G ad cA sz kn K N B D E T O) (ad 0) [.int (iI k)] (fun r => ((0 ≤ k ∧ k < sz) ∧ r = iI (K k + 4 * N k)) ∨ (¬ (0 ≤ k ∧ k < sz) ∧ r = iI (-1))) := by
  refine gMR_of (by decide) (Nat.le_of_ble_eq_true rfl) ?_
  intro p e s m below meth c ls hx hb hr hml hown hlocks hts hP hK hl
  have hown : s.vm.findClass RX0 = some m.cls := hown
  have hl : lv_has ls 2 [(0, .ref (ad 0)), (1, .int (iI k))] := hl
  have hsz := hW.1
  refine lv_aload_n hx hb dX0_token_0 rfl (lv_at hl 0 rfl) ?_
  refine lv_iload_n hx hb dX0_token_1 rfl (lv_at hl 1 rfl) ?_
  refine gR_call (As := [.int (iI k)]) (rest := []) hx hb hml hown hts (dm_isPlace l G ad cA sz kn K N B D E T O k (by omega) hW) (cwX0_isPlace hts 0 ⟨by decide, by decide⟩) (hP.recv hK) hP hK rfl hl.1 rfl (Nat.le_of_ble_eq_true rfl) dX0_token_2 ⟨Nat.zero_le _, Nat.zero_le _⟩ (fun r2 hr2 => ?_)
  rcases hr2 with ⟨c2, rfl⟩ | ⟨c2, rfl⟩
  · refine ri_if_eq (tgt := 26) hx hb dX0_token_5 (by decide) (by omega) (fun c5 => absurd c5 (by decide)) (fun c5 => ?_)
    refine lv_aload_n hx hb dX0_token_8 rfl (lv_at hl 0 rfl) ?_
    refine dg_kinds hx hb hts hown hK hP dX0_token_9 ?_
    refine lv_iload_n hx hb dX0_token_12 rfl (lv_at hl 1 rfl) ?_
    refine dl_kinds hx hb hK hP (by omega) dX0_token_13 ?_
    have hf1 := hW.2.1 k (by omega) (by omega)
    refine ri_const hx hb dX0_token_14 ?_
    refine lv_aload_n hx hb dX0_token_15 rfl (lv_at hl 0 rfl) ?_
    refine dg_names hx hb hts hown hK hP dX0_token_16 ?_
    refine lv_iload_n hx hb dX0_token_19 rfl (lv_at hl 1 rfl) ?_
    refine dl_names hx hb hK hP (by omega) dX0_token_20 ?_
    have hf2 := hW.2.1 k (by omega) (by omega)
    refine ri_mul hx hb dX0_token_21 ?_
    refine ri_add hx hb dX0_token_22 ?_
    refine lv_goto (tgt := 27) hx hb dX0_token_23 (by decide) ?_
    refine gR_iret hx hb hr hlocks dX0_token_27 ?_
    exact Or.inl ⟨c2, rfl⟩
  · refine ri_if_eq (tgt := 26) hx hb dX0_token_5 (by decide) (by omega) (fun c5 => ?_) (fun c5 => absurd c5 (by decide))
    refine ri_const hx hb dX0_token_26 ?_
    refine gR_iret hx hb hr hlocks dX0_token_27 ?_
    exact Or.inr ⟨c2, rfl⟩
set_option maxHeartbeats 4000000 in
set_option maxRecDepth 100000 in
theorem dm_add (l : Launch) (G : va_G) (ad : Nat → Nat) (cA : ClassId) (sz kn : Int) (K N B D E T O : Int → Int) (kd n : Int) (hkd : -2147483648 ≤ kd ∧ kd ≤ 2147483647) (hn : -2147483648 ≤ n ∧ n ≤ 2147483647) (hD : dD ad) (hI : rd_DI sz kn K N B D E T) : gMM l yX0_add (ws_ yX0_add cX0_add 4 (some .int)) (rmL 1) G [(cA, .byte)] (dP G ad cA sz kn K N B D E T O) (ad 0) [.int (iI kd), .int (iI n)] (dA ad) (fun r H => ∃ (sz1 kn1 : Int) (K1 N1 : Int → Int), dP G ad cA sz1 kn1 K1 N1 B D E T O H ∧ rd_DI sz1 kn1 K1 N1 B D E T ∧ rd_Add sz K N kd n r sz1 K1 N1) := by
  refine gMM_of (by decide) (Nat.le_of_ble_eq_true rfl) ?_
  intro p e s m below meth c ls hx hb hr hml hown hlocks hts hP hK hl
  have hown : s.vm.findClass RX0 = some m.cls := hown
  have hl : lv_has ls 4 [(0, .ref (ad 0)), (1, .int (iI kd)), (2, .int (iI n))] := hl
  have hS : va_S (dA ad) s.heap s.heap [] := va_S.rf
  have hW := hI.1
  have hsz := hW.1
  have hdp := hW.2.2 sz (by omega) (by omega)
  have hdl := rd_dep_le K (i := sz) (by omega)
  refine lv_iload_n hx hb dX0_add_0 rfl (lv_at hl 1 rfl) ?_
  refine ri_const hx hb dX0_add_1 ?_
  refine ri_cmp_eq (tgt := 10) hx hb dX0_add_2 (by decide) (by omega) (fun c2 => ?_) (fun c2 => ?_)
  · refine ri_const hx hb dX0_add_10 ?_
    refine lv_goto (tgt := 15) hx hb dX0_add_11 (by decide) ?_
    refine lv_istore_n (lv' := [(3, .int (iI 1)), (0, .ref (ad 0)), (1, .int (iI kd)), (2, .int (iI n))]) hx hb dX0_add_15 rfl hl (by decide) rfl (fun ls hl => ?_)
    refine lv_iload_n hx hb dX0_add_16 rfl (lv_at hl 2 rfl) ?_
    refine ri_if_lt (tgt := 39) hx hb dX0_add_17 (by decide) (by omega) (fun c17 => by omega) (fun c17 => ?_)
    refine lv_iload_n hx hb dX0_add_20 rfl (lv_at hl 2 rfl) ?_
    refine ri_const hx hb dX0_add_21 ?_
    refine ri_cmp_gt (tgt := 39) hx hb dX0_add_22 (by decide) (by omega) (fun c22 => by omega) (fun c22 => ?_)
    refine lv_iload_n hx hb dX0_add_25 rfl (lv_at hl 0 rfl) ?_
    refine ri_if_eq (tgt := 41) hx hb dX0_add_26 (by decide) (by omega) (fun c26 => absurd c26 (by decide)) (fun c26 => ?_)
    refine lv_iload_n hx hb dX0_add_29 rfl (lv_at hl 3 rfl) ?_
    refine ri_if_lt (tgt := 39) hx hb dX0_add_30 (by decide) (by omega) (fun c30 => ?_) (fun c30 => ?_)
    · refine ri_const hx hb dX0_add_39 ?_
      refine gM_iret hx hb hr hlocks dX0_add_40 hS ?_
      exact ⟨sz, kn, K, N, hP, hI, Or.inl ⟨by unfold rd_bad; omega, rfl, rfl, rfl, rfl⟩⟩
    · refine lv_iload_n hx hb dX0_add_33 rfl (lv_at hl 3 rfl) ?_
      refine ri_push hx hb dX0_add_34 (by decide) ?_
      refine ri_cmp_lt (tgt := 41) hx hb dX0_add_36 (by decide) (by omega) (fun c36 => ?_) (fun c36 => ?_)
      · refine lv_iload_n hx hb dX0_add_41 rfl (lv_at hl 2 rfl) ?_
        refine ri_const hx hb dX0_add_42 ?_
        refine ri_cmp_ne (tgt := 55) hx hb dX0_add_43 (by decide) (by omega) (fun c43 => ?_) (fun c43 => by omega)
        refine lv_aload_n hx hb dX0_add_55 rfl (lv_at hl 1 rfl) ?_
        refine dg_size hx hb hts hown hK hP dX0_add_56 ?_
        refine ri_push hx hb dX0_add_59 (by decide) ?_
        refine ri_cmp_lt (tgt := 67) hx hb dX0_add_61 (by decide) (by omega) (fun c61 => ?_) (fun c61 => ?_)
        · refine lv_aload_n hx hb dX0_add_67 rfl (lv_at hl 1 rfl) ?_
          refine dg_kinds hx hb hts hown hK hP dX0_add_68 ?_
          refine lv_aload_n hx hb dX0_add_71 rfl (lv_at hl 1 rfl) ?_
          refine dg_size hx hb hts hown hK hP dX0_add_72 ?_
          refine lv_iload_n hx hb dX0_add_75 rfl (lv_at hl 2 rfl) ?_
          refine ri_i2b hx hb (by omega) dX0_add_76 ?_
          refine ds_kinds hx hb hK hP hD hS (by omega) (by omega) dX0_add_77 (fun H locs hP hS => ?_)
          refine lv_aload_n hx hb dX0_add_78 rfl (lv_at hl 1 rfl) ?_
          refine dg_names hx hb hts hown hK hP dX0_add_79 ?_
          refine lv_aload_n hx hb dX0_add_82 rfl (lv_at hl 1 rfl) ?_
          refine dg_size hx hb hts hown hK hP dX0_add_83 ?_
          refine lv_iload_n hx hb dX0_add_86 rfl (lv_at hl 0 rfl) ?_
          refine ri_if_eq (tgt := 94) hx hb dX0_add_87 (by decide) (by omega) (fun c87 => absurd c87 (by decide)) (fun c87 => ?_)
          refine lv_iload_n hx hb dX0_add_90 rfl (lv_at hl 3 rfl) ?_
          refine lv_goto (tgt := 95) hx hb dX0_add_91 (by decide) ?_
          refine ri_i2b hx hb (by omega) dX0_add_95 ?_
          refine ds_names hx hb hK hP hD hS (by omega) (by omega) dX0_add_96 (fun H locs hP hS => ?_)
          refine lv_aload_n hx hb dX0_add_97 rfl (lv_at hl 1 rfl) ?_
          refine lv_dup hx hb dX0_add_98 rfl ?_
          refine dg_size hx hb hts hown hK hP dX0_add_99 ?_
          refine ri_const hx hb dX0_add_102 ?_
          refine ri_add hx hb dX0_add_103 ?_
          refine dp_size hx hb hts hown hK hP hD hS dX0_add_104 (fun H locs hP hS => ?_)
          refine lv_aload_n hx hb dX0_add_107 rfl (lv_at hl 1 rfl) ?_
          refine ri_const hx hb dX0_add_108 ?_
          refine dp_known hx hb hts hown hK hP hD hS dX0_add_109 (by omega) (fun H locs hP hS => ?_)
          refine lv_aload_n hx hb dX0_add_112 rfl (lv_at hl 1 rfl) ?_
          refine dg_size hx hb hts hown hK hP dX0_add_113 ?_
          refine ri_const hx hb dX0_add_116 ?_
          refine ri_sub hx hb dX0_add_117 ?_
          refine gM_iret hx hb hr hlocks dX0_add_118 hS ?_
          refine ⟨sz + 1, 0, rd_up K sz kd, rd_up N sz n, hP, ⟨rd_WF_add hW (by omega) (by omega) (by omega) (by omega), Or.inl rfl⟩, Or.inr (Or.inr ⟨by unfold rd_bad; omega, by omega, ?_, rfl, rfl, ?_⟩)⟩
          · congr 1; omega
          · rw [if_pos (by omega)]
        · refine ri_push hx hb dX0_add_64 (by decide) ?_
          refine gM_iret hx hb hr hlocks dX0_add_66 hS ?_
          exact ⟨sz, kn, K, N, hP, hI, Or.inr (Or.inl ⟨by unfold rd_bad; omega, by omega, rfl, rfl, rfl, rfl⟩)⟩
      · refine ri_const hx hb dX0_add_39 ?_
        refine gM_iret hx hb hr hlocks dX0_add_40 hS ?_
        exact ⟨sz, kn, K, N, hP, hI, Or.inl ⟨by unfold rd_bad; omega, rfl, rfl, rfl, rfl⟩⟩
  · refine lv_iload_n hx hb dX0_add_5 rfl (lv_at hl 1 rfl) ?_
    refine ri_const hx hb dX0_add_6 ?_
    refine ri_cmp_ne (tgt := 14) hx hb dX0_add_7 (by decide) (by omega) (fun c7 => ?_) (fun c7 => ?_)
    · refine ri_const hx hb dX0_add_14 ?_
      refine lv_istore_n (lv' := [(3, .int (iI 0)), (0, .ref (ad 0)), (1, .int (iI kd)), (2, .int (iI n))]) hx hb dX0_add_15 rfl hl (by decide) rfl (fun ls hl => ?_)
      refine lv_iload_n hx hb dX0_add_16 rfl (lv_at hl 2 rfl) ?_
      refine ri_if_lt (tgt := 39) hx hb dX0_add_17 (by decide) (by omega) (fun c17 => ?_) (fun c17 => ?_)
      · refine ri_const hx hb dX0_add_39 ?_
        refine gM_iret hx hb hr hlocks dX0_add_40 hS ?_
        exact ⟨sz, kn, K, N, hP, hI, Or.inl ⟨by unfold rd_bad; omega, rfl, rfl, rfl, rfl⟩⟩
      · refine lv_iload_n hx hb dX0_add_20 rfl (lv_at hl 2 rfl) ?_
        refine ri_const hx hb dX0_add_21 ?_
        refine ri_cmp_gt (tgt := 39) hx hb dX0_add_22 (by decide) (by omega) (fun c22 => ?_) (fun c22 => ?_)
        · refine ri_const hx hb dX0_add_39 ?_
          refine gM_iret hx hb hr hlocks dX0_add_40 hS ?_
          exact ⟨sz, kn, K, N, hP, hI, Or.inl ⟨by unfold rd_bad; omega, rfl, rfl, rfl, rfl⟩⟩
        · refine lv_iload_n hx hb dX0_add_25 rfl (lv_at hl 0 rfl) ?_
          refine ri_if_eq (tgt := 41) hx hb dX0_add_26 (by decide) (by omega) (fun c26 => ?_) (fun c26 => absurd c26 (by decide))
          refine lv_iload_n hx hb dX0_add_41 rfl (lv_at hl 2 rfl) ?_
          refine ri_const hx hb dX0_add_42 ?_
          refine ri_cmp_ne (tgt := 55) hx hb dX0_add_43 (by decide) (by omega) (fun c43 => ?_) (fun c43 => ?_)
          · refine lv_aload_n hx hb dX0_add_55 rfl (lv_at hl 1 rfl) ?_
            refine dg_size hx hb hts hown hK hP dX0_add_56 ?_
            refine ri_push hx hb dX0_add_59 (by decide) ?_
            refine ri_cmp_lt (tgt := 67) hx hb dX0_add_61 (by decide) (by omega) (fun c61 => ?_) (fun c61 => ?_)
            · refine lv_aload_n hx hb dX0_add_67 rfl (lv_at hl 1 rfl) ?_
              refine dg_kinds hx hb hts hown hK hP dX0_add_68 ?_
              refine lv_aload_n hx hb dX0_add_71 rfl (lv_at hl 1 rfl) ?_
              refine dg_size hx hb hts hown hK hP dX0_add_72 ?_
              refine lv_iload_n hx hb dX0_add_75 rfl (lv_at hl 2 rfl) ?_
              refine ri_i2b hx hb (by omega) dX0_add_76 ?_
              refine ds_kinds hx hb hK hP hD hS (by omega) (by omega) dX0_add_77 (fun H locs hP hS => ?_)
              refine lv_aload_n hx hb dX0_add_78 rfl (lv_at hl 1 rfl) ?_
              refine dg_names hx hb hts hown hK hP dX0_add_79 ?_
              refine lv_aload_n hx hb dX0_add_82 rfl (lv_at hl 1 rfl) ?_
              refine dg_size hx hb hts hown hK hP dX0_add_83 ?_
              refine lv_iload_n hx hb dX0_add_86 rfl (lv_at hl 0 rfl) ?_
              refine ri_if_eq (tgt := 94) hx hb dX0_add_87 (by decide) (by omega) (fun c87 => ?_) (fun c87 => absurd c87 (by decide))
              refine ri_const hx hb dX0_add_94 ?_
              refine ri_i2b hx hb (by omega) dX0_add_95 ?_
              refine ds_names hx hb hK hP hD hS (by omega) (by omega) dX0_add_96 (fun H locs hP hS => ?_)
              refine lv_aload_n hx hb dX0_add_97 rfl (lv_at hl 1 rfl) ?_
              refine lv_dup hx hb dX0_add_98 rfl ?_
              refine dg_size hx hb hts hown hK hP dX0_add_99 ?_
              refine ri_const hx hb dX0_add_102 ?_
              refine ri_add hx hb dX0_add_103 ?_
              refine dp_size hx hb hts hown hK hP hD hS dX0_add_104 (fun H locs hP hS => ?_)
              refine lv_aload_n hx hb dX0_add_107 rfl (lv_at hl 1 rfl) ?_
              refine ri_const hx hb dX0_add_108 ?_
              refine dp_known hx hb hts hown hK hP hD hS dX0_add_109 (by omega) (fun H locs hP hS => ?_)
              refine lv_aload_n hx hb dX0_add_112 rfl (lv_at hl 1 rfl) ?_
              refine dg_size hx hb hts hown hK hP dX0_add_113 ?_
              refine ri_const hx hb dX0_add_116 ?_
              refine ri_sub hx hb dX0_add_117 ?_
              refine gM_iret hx hb hr hlocks dX0_add_118 hS ?_
              refine ⟨sz + 1, 0, rd_up K sz kd, rd_up N sz 0, hP, ⟨rd_WF_add hW (by omega) (by omega) (by omega) (by omega), Or.inl rfl⟩, Or.inr (Or.inr ⟨by unfold rd_bad; omega, by omega, ?_, rfl, rfl, ?_⟩)⟩
              · congr 1; omega
              · rw [if_neg (by omega)]
            · refine ri_push hx hb dX0_add_64 (by decide) ?_
              refine gM_iret hx hb hr hlocks dX0_add_66 hS ?_
              exact ⟨sz, kn, K, N, hP, hI, Or.inr (Or.inl ⟨by unfold rd_bad; omega, by omega, rfl, rfl, rfl, rfl⟩)⟩
          · refine lv_aload_n hx hb dX0_add_46 rfl (lv_at hl 1 rfl) ?_
            refine gR_call (As := []) (rest := []) hx hb hml hown hts (dm_openCount l G ad cA sz kn K N B D E T O hW) (cwX0_openCount hts 0 ⟨by decide, by decide⟩) (hP.recv hK) hP hK rfl hl.1 rfl (Nat.le_of_ble_eq_true rfl) dX0_add_47 ⟨Nat.zero_le _, Nat.zero_le _⟩ (fun r47 hr47 => ?_)
            subst hr47
            refine ri_if_ne (tgt := 55) hx hb dX0_add_50 (by decide) (by omega) (fun c50 => ?_) (fun c50 => ?_)
            · refine lv_aload_n hx hb dX0_add_55 rfl (lv_at hl 1 rfl) ?_
              refine dg_size hx hb hts hown hK hP dX0_add_56 ?_
              refine ri_push hx hb dX0_add_59 (by decide) ?_
              refine ri_cmp_lt (tgt := 67) hx hb dX0_add_61 (by decide) (by omega) (fun c61 => ?_) (fun c61 => ?_)
              · refine lv_aload_n hx hb dX0_add_67 rfl (lv_at hl 1 rfl) ?_
                refine dg_kinds hx hb hts hown hK hP dX0_add_68 ?_
                refine lv_aload_n hx hb dX0_add_71 rfl (lv_at hl 1 rfl) ?_
                refine dg_size hx hb hts hown hK hP dX0_add_72 ?_
                refine lv_iload_n hx hb dX0_add_75 rfl (lv_at hl 2 rfl) ?_
                refine ri_i2b hx hb (by omega) dX0_add_76 ?_
                refine ds_kinds hx hb hK hP hD hS (by omega) (by omega) dX0_add_77 (fun H locs hP hS => ?_)
                refine lv_aload_n hx hb dX0_add_78 rfl (lv_at hl 1 rfl) ?_
                refine dg_names hx hb hts hown hK hP dX0_add_79 ?_
                refine lv_aload_n hx hb dX0_add_82 rfl (lv_at hl 1 rfl) ?_
                refine dg_size hx hb hts hown hK hP dX0_add_83 ?_
                refine lv_iload_n hx hb dX0_add_86 rfl (lv_at hl 0 rfl) ?_
                refine ri_if_eq (tgt := 94) hx hb dX0_add_87 (by decide) (by omega) (fun c87 => ?_) (fun c87 => absurd c87 (by decide))
                refine ri_const hx hb dX0_add_94 ?_
                refine ri_i2b hx hb (by omega) dX0_add_95 ?_
                refine ds_names hx hb hK hP hD hS (by omega) (by omega) dX0_add_96 (fun H locs hP hS => ?_)
                refine lv_aload_n hx hb dX0_add_97 rfl (lv_at hl 1 rfl) ?_
                refine lv_dup hx hb dX0_add_98 rfl ?_
                refine dg_size hx hb hts hown hK hP dX0_add_99 ?_
                refine ri_const hx hb dX0_add_102 ?_
                refine ri_add hx hb dX0_add_103 ?_
                refine dp_size hx hb hts hown hK hP hD hS dX0_add_104 (fun H locs hP hS => ?_)
                refine lv_aload_n hx hb dX0_add_107 rfl (lv_at hl 1 rfl) ?_
                refine ri_const hx hb dX0_add_108 ?_
                refine dp_known hx hb hts hown hK hP hD hS dX0_add_109 (by omega) (fun H locs hP hS => ?_)
                refine lv_aload_n hx hb dX0_add_112 rfl (lv_at hl 1 rfl) ?_
                refine dg_size hx hb hts hown hK hP dX0_add_113 ?_
                refine ri_const hx hb dX0_add_116 ?_
                refine ri_sub hx hb dX0_add_117 ?_
                refine gM_iret hx hb hr hlocks dX0_add_118 hS ?_
                refine ⟨sz + 1, 0, rd_up K sz kd, rd_up N sz 0, hP, ⟨rd_WF_add hW (by omega) (by omega) (by omega) (by omega), Or.inl rfl⟩, Or.inr (Or.inr ⟨by unfold rd_bad; omega, by omega, ?_, rfl, rfl, ?_⟩)⟩
                · congr 1; omega
                · rw [if_neg (by omega)]
              · refine ri_push hx hb dX0_add_64 (by decide) ?_
                refine gM_iret hx hb hr hlocks dX0_add_66 hS ?_
                exact ⟨sz, kn, K, N, hP, hI, Or.inr (Or.inl ⟨by unfold rd_bad; omega, by omega, rfl, rfl, rfl, rfl⟩)⟩
            · refine ri_const hx hb dX0_add_53 ?_
              refine gM_iret hx hb hr hlocks dX0_add_54 hS ?_
              exact ⟨sz, kn, K, N, hP, hI, Or.inl ⟨by unfold rd_bad; omega, rfl, rfl, rfl, rfl⟩⟩
    · refine ri_const hx hb dX0_add_10 ?_
      refine lv_goto (tgt := 15) hx hb dX0_add_11 (by decide) ?_
      refine lv_istore_n (lv' := [(3, .int (iI 1)), (0, .ref (ad 0)), (1, .int (iI kd)), (2, .int (iI n))]) hx hb dX0_add_15 rfl hl (by decide) rfl (fun ls hl => ?_)
      refine lv_iload_n hx hb dX0_add_16 rfl (lv_at hl 2 rfl) ?_
      refine ri_if_lt (tgt := 39) hx hb dX0_add_17 (by decide) (by omega) (fun c17 => by omega) (fun c17 => ?_)
      refine lv_iload_n hx hb dX0_add_20 rfl (lv_at hl 2 rfl) ?_
      refine ri_const hx hb dX0_add_21 ?_
      refine ri_cmp_gt (tgt := 39) hx hb dX0_add_22 (by decide) (by omega) (fun c22 => by omega) (fun c22 => ?_)
      refine lv_iload_n hx hb dX0_add_25 rfl (lv_at hl 0 rfl) ?_
      refine ri_if_eq (tgt := 41) hx hb dX0_add_26 (by decide) (by omega) (fun c26 => absurd c26 (by decide)) (fun c26 => ?_)
      refine lv_iload_n hx hb dX0_add_29 rfl (lv_at hl 3 rfl) ?_
      refine ri_if_lt (tgt := 39) hx hb dX0_add_30 (by decide) (by omega) (fun c30 => ?_) (fun c30 => ?_)
      · refine ri_const hx hb dX0_add_39 ?_
        refine gM_iret hx hb hr hlocks dX0_add_40 hS ?_
        exact ⟨sz, kn, K, N, hP, hI, Or.inl ⟨by unfold rd_bad; omega, rfl, rfl, rfl, rfl⟩⟩
      · refine lv_iload_n hx hb dX0_add_33 rfl (lv_at hl 3 rfl) ?_
        refine ri_push hx hb dX0_add_34 (by decide) ?_
        refine ri_cmp_lt (tgt := 41) hx hb dX0_add_36 (by decide) (by omega) (fun c36 => ?_) (fun c36 => ?_)
        · refine lv_iload_n hx hb dX0_add_41 rfl (lv_at hl 2 rfl) ?_
          refine ri_const hx hb dX0_add_42 ?_
          refine ri_cmp_ne (tgt := 55) hx hb dX0_add_43 (by decide) (by omega) (fun c43 => ?_) (fun c43 => by omega)
          refine lv_aload_n hx hb dX0_add_55 rfl (lv_at hl 1 rfl) ?_
          refine dg_size hx hb hts hown hK hP dX0_add_56 ?_
          refine ri_push hx hb dX0_add_59 (by decide) ?_
          refine ri_cmp_lt (tgt := 67) hx hb dX0_add_61 (by decide) (by omega) (fun c61 => ?_) (fun c61 => ?_)
          · refine lv_aload_n hx hb dX0_add_67 rfl (lv_at hl 1 rfl) ?_
            refine dg_kinds hx hb hts hown hK hP dX0_add_68 ?_
            refine lv_aload_n hx hb dX0_add_71 rfl (lv_at hl 1 rfl) ?_
            refine dg_size hx hb hts hown hK hP dX0_add_72 ?_
            refine lv_iload_n hx hb dX0_add_75 rfl (lv_at hl 2 rfl) ?_
            refine ri_i2b hx hb (by omega) dX0_add_76 ?_
            refine ds_kinds hx hb hK hP hD hS (by omega) (by omega) dX0_add_77 (fun H locs hP hS => ?_)
            refine lv_aload_n hx hb dX0_add_78 rfl (lv_at hl 1 rfl) ?_
            refine dg_names hx hb hts hown hK hP dX0_add_79 ?_
            refine lv_aload_n hx hb dX0_add_82 rfl (lv_at hl 1 rfl) ?_
            refine dg_size hx hb hts hown hK hP dX0_add_83 ?_
            refine lv_iload_n hx hb dX0_add_86 rfl (lv_at hl 0 rfl) ?_
            refine ri_if_eq (tgt := 94) hx hb dX0_add_87 (by decide) (by omega) (fun c87 => absurd c87 (by decide)) (fun c87 => ?_)
            refine lv_iload_n hx hb dX0_add_90 rfl (lv_at hl 3 rfl) ?_
            refine lv_goto (tgt := 95) hx hb dX0_add_91 (by decide) ?_
            refine ri_i2b hx hb (by omega) dX0_add_95 ?_
            refine ds_names hx hb hK hP hD hS (by omega) (by omega) dX0_add_96 (fun H locs hP hS => ?_)
            refine lv_aload_n hx hb dX0_add_97 rfl (lv_at hl 1 rfl) ?_
            refine lv_dup hx hb dX0_add_98 rfl ?_
            refine dg_size hx hb hts hown hK hP dX0_add_99 ?_
            refine ri_const hx hb dX0_add_102 ?_
            refine ri_add hx hb dX0_add_103 ?_
            refine dp_size hx hb hts hown hK hP hD hS dX0_add_104 (fun H locs hP hS => ?_)
            refine lv_aload_n hx hb dX0_add_107 rfl (lv_at hl 1 rfl) ?_
            refine ri_const hx hb dX0_add_108 ?_
            refine dp_known hx hb hts hown hK hP hD hS dX0_add_109 (by omega) (fun H locs hP hS => ?_)
            refine lv_aload_n hx hb dX0_add_112 rfl (lv_at hl 1 rfl) ?_
            refine dg_size hx hb hts hown hK hP dX0_add_113 ?_
            refine ri_const hx hb dX0_add_116 ?_
            refine ri_sub hx hb dX0_add_117 ?_
            refine gM_iret hx hb hr hlocks dX0_add_118 hS ?_
            refine ⟨sz + 1, 0, rd_up K sz kd, rd_up N sz n, hP, ⟨rd_WF_add hW (by omega) (by omega) (by omega) (by omega), Or.inl rfl⟩, Or.inr (Or.inr ⟨by unfold rd_bad; omega, by omega, ?_, rfl, rfl, ?_⟩)⟩
            · congr 1; omega
            · rw [if_pos (by omega)]
          · refine ri_push hx hb dX0_add_64 (by decide) ?_
            refine gM_iret hx hb hr hlocks dX0_add_66 hS ?_
            exact ⟨sz, kn, K, N, hP, hI, Or.inr (Or.inl ⟨by unfold rd_bad; omega, by omega, rfl, rfl, rfl, rfl⟩)⟩
        · refine ri_const hx hb dX0_add_39 ?_
          refine gM_iret hx hb hr hlocks dX0_add_40 hS ?_
          exact ⟨sz, kn, K, N, hP, hI, Or.inl ⟨by unfold rd_bad; omega, rfl, rfl, rfl, rfl⟩⟩
end
section
theorem rd_WinU_pos {K N : Int → Int} {nm u n w : Int} (h : rd_WinU K N nm u n w) (hw : 0 ≤ w) : rd_Cand K N nm u w := by
  rcases h with ⟨e, -⟩ | ⟨c, -⟩
  · omega
  · exact c
theorem rd_Bds_s {K N T : Int → Int} {y w : Int} (h : ∀ u, 0 ≤ u → u < y → rd_Bd K N u (T u)) (hy : rd_Bd K N y w) : ∀ u, 0 ≤ u → u < y + 1 → rd_Bd K N u (rd_up T y w u) := by
  intro u h1 h2
  by_cases e : u = y
  · rw [e, rd_up_s]; exact hy
  · rw [rd_up_n e]; exact h u h1 (by omega)
set_option maxHeartbeats 4000000 in
set_option maxRecDepth 100000 in
theorem dm_hides (l : Launch) (G : va_G) (ad : Nat → Nat) (cA : ClassId) (sz kn : Int) (K N B D E T O : Int → Int) (d e0 : Int) (hd : 0 ≤ d ∧ d < sz) (he : 0 ≤ e0 ∧ e0 < sz) (hW : rd_WF sz K N) (hL : rd_L1 sz K B D E) : gMR l yX0_hides (ws_ yX0_hides cX0_hides 3 (some .boolean)) (rmL 0) G [(cA, .byte)] (dP G ad cA sz kn K N B D E T O) (ad 0) [.int (iI d), .int (iI e0)] (rd_BP (rd_hid K d e0)) := by
  refine gMR_of (by decide) (Nat.le_of_ble_eq_true rfl) ?_
  intro p e s m below meth c ls hx hb hr hml hown hlocks hts hP hK hl
  have hown : s.vm.findClass RX0 = some m.cls := hown
  have hl : lv_has ls 3 [(0, .ref (ad 0)), (1, .int (iI d)), (2, .int (iI e0))] := hl
  have hsz := hW.1
  refine lv_aload_n hx hb dX0_hides_0 rfl (lv_at hl 0 rfl) ?_
  refine dg_deep hx hb hts hown hK hP dX0_hides_1 ?_
  refine lv_iload_n hx hb dX0_hides_4 rfl (lv_at hl 1 rfl) ?_
  refine dl_deep hx hb hK hP (by omega) dX0_hides_5 ?_
  have hf1 := (hL d (by omega) (by omega)).2.1
  have hg1 := rd_dep_le K (i := d) (by omega)
  have hh1 := hW.2.2 d (by omega) (by omega)
  refine lv_aload_n hx hb dX0_hides_6 rfl (lv_at hl 0 rfl) ?_
  refine dg_deep hx hb hts hown hK hP dX0_hides_7 ?_
  refine lv_iload_n hx hb dX0_hides_10 rfl (lv_at hl 2 rfl) ?_
  refine dl_deep hx hb hK hP (by omega) dX0_hides_11 ?_
  have hf2 := (hL e0 (by omega) (by omega)).2.1
  have hg2 := rd_dep_le K (i := e0) (by omega)
  have hh2 := hW.2.2 e0 (by omega) (by omega)
  refine ri_cmp_gt (tgt := 35) hx hb dX0_hides_12 (by decide) (by omega) (fun c12 => ?_) (fun c12 => ?_)
  · refine ri_const hx hb dX0_hides_35 ?_
    refine lv_goto (tgt := 40) hx hb dX0_hides_36 (by decide) ?_
    refine gR_zret hx hb hr hlocks dX0_hides_40 (by omega) ?_
    exact Or.inl ⟨by unfold rd_hid; omega, rfl⟩
  · refine lv_aload_n hx hb dX0_hides_15 rfl (lv_at hl 0 rfl) ?_
    refine dg_deep hx hb hts hown hK hP dX0_hides_16 ?_
    refine lv_iload_n hx hb dX0_hides_19 rfl (lv_at hl 1 rfl) ?_
    refine dl_deep hx hb hK hP (by omega) dX0_hides_20 ?_
    have hf3 := (hL d (by omega) (by omega)).2.1
    have hg3 := rd_dep_le K (i := d) (by omega)
    have hh3 := hW.2.2 d (by omega) (by omega)
    refine lv_aload_n hx hb dX0_hides_21 rfl (lv_at hl 0 rfl) ?_
    refine dg_deep hx hb hts hown hK hP dX0_hides_22 ?_
    refine lv_iload_n hx hb dX0_hides_25 rfl (lv_at hl 2 rfl) ?_
    refine dl_deep hx hb hK hP (by omega) dX0_hides_26 ?_
    have hf4 := (hL e0 (by omega) (by omega)).2.1
    have hg4 := rd_dep_le K (i := e0) (by omega)
    have hh4 := hW.2.2 e0 (by omega) (by omega)
    refine ri_cmp_ne (tgt := 39) hx hb dX0_hides_27 (by decide) (by omega) (fun c27 => ?_) (fun c27 => ?_)
    · refine ri_const hx hb dX0_hides_39 ?_
      refine gR_zret hx hb hr hlocks dX0_hides_40 (by omega) ?_
      exact Or.inr ⟨by unfold rd_hid; omega, rfl⟩
    · refine lv_iload_n hx hb dX0_hides_30 rfl (lv_at hl 1 rfl) ?_
      refine lv_iload_n hx hb dX0_hides_31 rfl (lv_at hl 2 rfl) ?_
      refine ri_cmp_le (tgt := 39) hx hb dX0_hides_32 (by decide) (by omega) (fun c32 => ?_) (fun c32 => ?_)
      · refine ri_const hx hb dX0_hides_39 ?_
        refine gR_zret hx hb hr hlocks dX0_hides_40 (by omega) ?_
        exact Or.inr ⟨by unfold rd_hid; omega, rfl⟩
      · refine ri_const hx hb dX0_hides_35 ?_
        refine lv_goto (tgt := 40) hx hb dX0_hides_36 (by decide) ?_
        refine gR_zret hx hb hr hlocks dX0_hides_40 (by omega) ?_
        exact Or.inl ⟨by unfold rd_hid; omega, rfl⟩
set_option maxHeartbeats 4000000 in
set_option maxRecDepth 100000 in
theorem dm_inBlockOf (l : Launch) (G : va_G) (ad : Nat → Nat) (cA : ClassId) (sz kn : Int) (K N B D E T O : Int → Int) (d u : Int) (hd : 0 ≤ d ∧ d < u) (hu : u < sz) (hW : rd_WF sz K N) (hL : rd_L1 sz K B D E) : gMR l yX0_inBlockOf (ws_ yX0_inBlockOf cX0_inBlockOf 4 (some .boolean)) (rmL 0) G [(cA, .byte)] (dP G ad cA sz kn K N B D E T O) (ad 0) [.int (iI d), .int (iI u)] (rd_BP (rd_Vis K d u)) := by
  refine gMR_of (by decide) (Nat.le_of_ble_eq_true rfl) ?_
  intro p e s m below meth c ls hx hb hr hml hown hlocks hts hP hK hl
  have hown : s.vm.findClass RX0 = some m.cls := hown
  have hl : lv_has ls 4 [(0, .ref (ad 0)), (1, .int (iI d)), (2, .int (iI u))] := hl
  have hsz := hW.1
  refine lv_aload_n hx hb dX0_inBlockOf_0 rfl (lv_at hl 0 rfl) ?_
  refine dg_block hx hb hts hown hK hP dX0_inBlockOf_1 ?_
  refine lv_iload_n hx hb dX0_inBlockOf_4 rfl (lv_at hl 1 rfl) ?_
  refine dl_block hx hb hK hP (by omega) dX0_inBlockOf_5 ?_
  have hf1 := (hL d (by omega) (by omega)).1.1
  have hg1 := (hL d (by omega) (by omega)).1.2.1
  refine lv_istore_n (lv' := [(3, .int (iI (B d))), (0, .ref (ad 0)), (1, .int (iI d)), (2, .int (iI u))]) hx hb dX0_inBlockOf_6 rfl hl (by decide) rfl (fun ls hl => ?_)
  refine lv_iload_n hx hb dX0_inBlockOf_7 rfl (lv_at hl 0 rfl) ?_
  refine ri_if_lt (tgt := 26) hx hb dX0_inBlockOf_8 (by decide) (by omega) (fun c8 => ?_) (fun c8 => ?_)
  · refine ri_const hx hb dX0_inBlockOf_26 ?_
    refine lv_goto (tgt := 31) hx hb dX0_inBlockOf_27 (by decide) ?_
    refine gR_zret hx hb hr hlocks dX0_inBlockOf_31 (by omega) ?_
    exact Or.inl ⟨(rd_inB hW hL (by omega) (by omega) (by omega)).mp (by omega), rfl⟩
  · refine lv_iload_n hx hb dX0_inBlockOf_11 rfl (lv_at hl 3 rfl) ?_
    refine lv_iload_n hx hb dX0_inBlockOf_12 rfl (lv_at hl 0 rfl) ?_
    refine ri_cmp_le (tgt := 30) hx hb dX0_inBlockOf_13 (by decide) (by omega) (fun c13 => ?_) (fun c13 => ?_)
    · refine ri_const hx hb dX0_inBlockOf_30 ?_
      refine gR_zret hx hb hr hlocks dX0_inBlockOf_31 (by omega) ?_
      exact Or.inr ⟨fun q => absurd ((rd_inB hW hL (by omega) (by omega) (by omega)).mpr q) (by omega), rfl⟩
    · refine lv_iload_n hx hb dX0_inBlockOf_16 rfl (lv_at hl 3 rfl) ?_
      refine lv_aload_n hx hb dX0_inBlockOf_17 rfl (lv_at hl 1 rfl) ?_
      refine dg_ends hx hb hts hown hK hP dX0_inBlockOf_18 ?_
      refine lv_iload_n hx hb dX0_inBlockOf_21 rfl (lv_at hl 0 rfl) ?_
      refine dl_ends hx hb hK hP (by omega) dX0_inBlockOf_22 ?_
      have hk22 := (rd_Blk_open (hL d (by omega) (by omega)).1 (by omega)).1
      have he22 := (hL (B d) (by omega) (by omega)).2.2 hk22
      have h1_22 := he22.1
      have h2_22 := he22.2.1
      refine ri_cmp_gt (tgt := 30) hx hb dX0_inBlockOf_23 (by decide) (by omega) (fun c23 => ?_) (fun c23 => ?_)
      · refine ri_const hx hb dX0_inBlockOf_30 ?_
        refine gR_zret hx hb hr hlocks dX0_inBlockOf_31 (by omega) ?_
        exact Or.inr ⟨fun q => absurd ((rd_inB hW hL (by omega) (by omega) (by omega)).mpr q) (by omega), rfl⟩
      · refine ri_const hx hb dX0_inBlockOf_26 ?_
        refine lv_goto (tgt := 31) hx hb dX0_inBlockOf_27 (by decide) ?_
        refine gR_zret hx hb hr hlocks dX0_inBlockOf_31 (by omega) ?_
        exact Or.inl ⟨(rd_inB hW hL (by omega) (by omega) (by omega)).mp (by omega), rfl⟩
set_option maxHeartbeats 4000000 in
set_option maxRecDepth 100000 in
theorem dm_sees (l : Launch) (G : va_G) (ad : Nat → Nat) (cA : ClassId) (sz kn : Int) (K N B D E T O : Int → Int) (d u : Int) (hd : 0 ≤ d ∧ d < sz) (hu : 0 ≤ u ∧ u < sz) (hW : rd_WF sz K N) (hL : rd_L1 sz K B D E) : gMR l yX0_sees (ws_ yX0_sees cX0_sees 3 (some .boolean)) (rmL 1) G [(cA, .byte)] (dP G ad cA sz kn K N B D E T O) (ad 0) [.int (iI d), .int (iI u)] (rd_BP (d < u ∧ rd_Vis K d u)) := by
  refine gMR_of (by decide) (Nat.le_of_ble_eq_true rfl) ?_
  intro p e s m below meth c ls hx hb hr hml hown hlocks hts hP hK hl
  have hown : s.vm.findClass RX0 = some m.cls := hown
  have hl : lv_has ls 3 [(0, .ref (ad 0)), (1, .int (iI d)), (2, .int (iI u))] := hl
  have hsz := hW.1
  refine lv_iload_n hx hb dX0_sees_0 rfl (lv_at hl 1 rfl) ?_
  refine lv_iload_n hx hb dX0_sees_1 rfl (lv_at hl 2 rfl) ?_
  refine ri_cmp_ge (tgt := 18) hx hb dX0_sees_2 (by decide) (by omega) (fun c2 => ?_) (fun c2 => ?_)
  · refine ri_const hx hb dX0_sees_18 ?_
    refine gR_zret hx hb hr hlocks dX0_sees_19 (by omega) ?_
    exact Or.inr ⟨fun q => by omega, rfl⟩
  · refine lv_aload_n hx hb dX0_sees_5 rfl (lv_at hl 0 rfl) ?_
    refine lv_iload_n hx hb dX0_sees_6 rfl (lv_at hl 1 rfl) ?_
    refine lv_iload_n hx hb dX0_sees_7 rfl (lv_at hl 2 rfl) ?_
    refine gR_call (As := [.int (iI d), .int (iI u)]) (rest := []) hx hb hml hown hts (dm_inBlockOf l G ad cA sz kn K N B D E T O d u (by omega) (by omega) hW hL) (cwX0_inBlockOf hts 0 ⟨by decide, by decide⟩) (hP.recv hK) hP hK rfl hl.1 rfl (Nat.le_of_ble_eq_true rfl) dX0_sees_8 ⟨Nat.zero_le _, Nat.zero_le _⟩ (fun r8 hr8 => ?_)
    rcases hr8 with ⟨c8, rfl⟩ | ⟨c8, rfl⟩
    · refine ri_if_eq (tgt := 18) hx hb dX0_sees_11 (by decide) (by omega) (fun c11 => absurd c11 (by decide)) (fun c11 => ?_)
      refine ri_const hx hb dX0_sees_14 ?_
      refine lv_goto (tgt := 19) hx hb dX0_sees_15 (by decide) ?_
      refine gR_zret hx hb hr hlocks dX0_sees_19 (by omega) ?_
      exact Or.inl ⟨⟨by omega, c8⟩, rfl⟩
    · refine ri_if_eq (tgt := 18) hx hb dX0_sees_11 (by decide) (by omega) (fun c11 => ?_) (fun c11 => absurd c11 (by decide))
      refine ri_const hx hb dX0_sees_18 ?_
      refine gR_zret hx hb hr hlocks dX0_sees_19 (by omega) ?_
      exact Or.inr ⟨fun q => absurd q.2 c8, rfl⟩
set_option maxHeartbeats 4000000 in
set_option maxRecDepth 100000 in
theorem dm_winner (l : Launch) (G : va_G) (ad : Nat → Nat) (cA : ClassId) (sz kn : Int) (K N B D E T O : Int → Int) (nm u : Int) (hnm : -2147483648 ≤ nm ∧ nm ≤ 2147483647) (hu : 0 ≤ u ∧ u < sz) (hW : rd_WF sz K N) (hL : rd_L1 sz K B D E) : gMR l yX0_winner (ws_ yX0_winner cX0_winner 6 (some .int)) (rmL 2) G [(cA, .byte)] (dP G ad cA sz kn K N B D E T O) (ad 0) [.int (iI nm), .int (iI u)] (fun r => ∃ w, r = iI w ∧ rd_Win K N nm u w) := by
  refine gMR_of (by decide) (Nat.le_of_ble_eq_true rfl) ?_
  intro p e s m below meth c ls hx hb hr hml hown hlocks hts hP hK hl
  have hown : s.vm.findClass RX0 = some m.cls := hown
  have hl : lv_has ls 6 [(0, .ref (ad 0)), (1, .int (iI nm)), (2, .int (iI u))] := hl
  have hsz := hW.1
  refine ri_const hx hb dX0_winner_0 ?_
  refine lv_istore_n (lv' := [(3, .int (iI (-1))), (0, .ref (ad 0)), (1, .int (iI nm)), (2, .int (iI u))]) hx hb dX0_winner_1 rfl hl (by decide) rfl (fun ls hl => ?_)
  refine ri_const hx hb dX0_winner_2 ?_
  refine lv_istore (lv' := [(4, .int (iI 0)), (3, .int (iI (-1))), (0, .ref (ad 0)), (1, .int (iI nm)), (2, .int (iI u))]) hx hb dX0_winner_3 hl (by decide) rfl (fun ls hl => ?_)
  have loop5 : ∀ (n : Nat) (best : Int) (x4 : Int) (ls : Array Slot), u - x4 < (n : Int) → (0 ≤ x4 ∧ x4 ≤ u) → (rd_WinU K N nm u x4 best) → (-1 ≤ best ∧ best < x4) → lv_has ls 6 [(0, .ref (ad 0)), (1, .int (iI nm)), (2, .int (iI u)), (3, .int (iI best)), (4, .int (iI x4))] → W p l e (rmL 2) s m (Value.ref (ad 0) :: [.int (iI nm), .int (iI u)]).toArray below meth c s.heap [] 0 0 (MQ below (qR (fun r => ∃ w, r = iI w ∧ rd_Win K N nm u w)) (Value.ref (ad 0) :: [.int (iI nm), .int (iI u)]).toArray s 0 0 (fun _ => False)) (F0 m 5 ls []) := by
    intro n
    induction n with
    | zero =>
      intro best x4 ls hm h1 h2 h3 hl
      exfalso
      omega
    | succ n ih =>
      intro best x4 ls hm h1 h2 h3 hl
      refine lv_iload hx hb dX0_winner_5 (lv_at hl 4 rfl) ?_
      refine lv_iload_n hx hb dX0_winner_7 rfl (lv_at hl 2 rfl) ?_
      refine ri_cmp_ge (tgt := 78) hx hb dX0_winner_8 (by decide) (by omega) (fun c8 => ?_) (fun c8 => ?_)
      · refine lv_iload_n hx hb dX0_winner_78 rfl (lv_at hl 3 rfl) ?_
        refine gR_iret hx hb hr hlocks dX0_winner_79 ?_
        have e : x4 = u := by omega
        rw [e] at h2
        exact ⟨best, rfl, h2⟩
      · refine lv_aload_n hx hb dX0_winner_11 rfl (lv_at hl 0 rfl) ?_
        refine dg_kinds hx hb hts hown hK hP dX0_winner_12 ?_
        refine lv_iload hx hb dX0_winner_15 (lv_at hl 4 rfl) ?_
        refine dl_kinds hx hb hK hP (by omega) dX0_winner_17 ?_
        have hf1 := hW.2.1 x4 (by omega) (by omega)
        refine ri_const hx hb dX0_winner_18 ?_
        refine ri_cmp_ne (tgt := 47) hx hb dX0_winner_19 (by decide) (by omega) (fun c19 => ?_) (fun c19 => ?_)
        · refine ri_const hx hb dX0_winner_47 ?_
          refine lv_istore (lv' := [(5, .int (iI 0)), (0, .ref (ad 0)), (1, .int (iI nm)), (2, .int (iI u)), (3, .int (iI best)), (4, .int (iI x4))]) hx hb dX0_winner_48 hl (by decide) rfl (fun ls hl => ?_)
          refine lv_iload hx hb dX0_winner_50 (lv_at hl 0 rfl) ?_
          refine ri_if_eq (tgt := 72) hx hb dX0_winner_52 (by decide) (by omega) (fun c52 => ?_) (fun c52 => absurd c52 (by decide))
          refine ri_inc (k := 5) (lv1 := [(4, .int (iI (x4 + 1))), (5, .int (iI 0)), (0, .ref (ad 0)), (1, .int (iI nm)), (2, .int (iI u)), (3, .int (iI best))]) hx hb dX0_winner_72 hl rfl (by decide) rfl (fun ls hl => ?_)
          refine lv_goto (tgt := 5) hx hb dX0_winner_75 (by decide) ?_
          exact ih best (x4 + 1) ls (by omega) (by omega) (by exact rd_WinU_skip h2 (fun c => c19 c.2.2.1)) (by omega) (lv_sub hl [2, 3, 4, 5, 0] rfl)
        · refine lv_aload_n hx hb dX0_winner_22 rfl (lv_at hl 0 rfl) ?_
          refine dg_names hx hb hts hown hK hP dX0_winner_23 ?_
          refine lv_iload hx hb dX0_winner_26 (lv_at hl 4 rfl) ?_
          refine dl_names hx hb hK hP (by omega) dX0_winner_28 ?_
          have hf2 := hW.2.1 x4 (by omega) (by omega)
          refine lv_iload_n hx hb dX0_winner_29 rfl (lv_at hl 1 rfl) ?_
          refine ri_cmp_ne (tgt := 47) hx hb dX0_winner_30 (by decide) (by omega) (fun c30 => ?_) (fun c30 => ?_)
          · refine ri_const hx hb dX0_winner_47 ?_
            refine lv_istore (lv' := [(5, .int (iI 0)), (0, .ref (ad 0)), (1, .int (iI nm)), (2, .int (iI u)), (3, .int (iI best)), (4, .int (iI x4))]) hx hb dX0_winner_48 hl (by decide) rfl (fun ls hl => ?_)
            refine lv_iload hx hb dX0_winner_50 (lv_at hl 0 rfl) ?_
            refine ri_if_eq (tgt := 72) hx hb dX0_winner_52 (by decide) (by omega) (fun c52 => ?_) (fun c52 => absurd c52 (by decide))
            refine ri_inc (k := 5) (lv1 := [(4, .int (iI (x4 + 1))), (5, .int (iI 0)), (0, .ref (ad 0)), (1, .int (iI nm)), (2, .int (iI u)), (3, .int (iI best))]) hx hb dX0_winner_72 hl rfl (by decide) rfl (fun ls hl => ?_)
            refine lv_goto (tgt := 5) hx hb dX0_winner_75 (by decide) ?_
            exact ih best (x4 + 1) ls (by omega) (by omega) (by exact rd_WinU_skip h2 (fun c => c30 c.2.2.2.1)) (by omega) (lv_sub hl [2, 3, 4, 5, 0] rfl)
          · refine lv_aload_n hx hb dX0_winner_33 rfl (lv_at hl 0 rfl) ?_
            refine lv_iload hx hb dX0_winner_34 (lv_at hl 4 rfl) ?_
            refine lv_iload_n hx hb dX0_winner_36 rfl (lv_at hl 2 rfl) ?_
            refine gR_call (As := [.int (iI x4), .int (iI u)]) (rest := []) hx hb hml hown hts (dm_sees l G ad cA sz kn K N B D E T O x4 u (by omega) (by omega) hW hL) (cwX0_sees hts 1 ⟨by decide, by decide⟩) (hP.recv hK) hP hK rfl hl.1 rfl (Nat.le_of_ble_eq_true rfl) dX0_winner_37 ⟨Nat.zero_le _, Nat.zero_le _⟩ (fun r37 hr37 => ?_)
            rcases hr37 with ⟨c37, rfl⟩ | ⟨c37, rfl⟩
            · refine ri_if_eq (tgt := 47) hx hb dX0_winner_40 (by decide) (by omega) (fun c40 => absurd c40 (by decide)) (fun c40 => ?_)
              refine ri_const hx hb dX0_winner_43 ?_
              refine lv_goto (tgt := 48) hx hb dX0_winner_44 (by decide) ?_
              refine lv_istore (lv' := [(5, .int (iI 1)), (0, .ref (ad 0)), (1, .int (iI nm)), (2, .int (iI u)), (3, .int (iI best)), (4, .int (iI x4))]) hx hb dX0_winner_48 hl (by decide) rfl (fun ls hl => ?_)
              refine lv_iload hx hb dX0_winner_50 (lv_at hl 0 rfl) ?_
              refine ri_if_eq (tgt := 72) hx hb dX0_winner_52 (by decide) (by omega) (fun c52 => absurd c52 (by decide)) (fun c52 => ?_)
              refine lv_iload_n hx hb dX0_winner_55 rfl (lv_at hl 4 rfl) ?_
              refine ri_if_lt (tgt := 69) hx hb dX0_winner_56 (by decide) (by omega) (fun c56 => ?_) (fun c56 => ?_)
              · refine lv_iload hx hb dX0_winner_69 (lv_at hl 5 rfl) ?_
                refine lv_istore_n (lv' := [(3, .int (iI x4)), (5, .int (iI 1)), (0, .ref (ad 0)), (1, .int (iI nm)), (2, .int (iI u)), (4, .int (iI x4))]) hx hb dX0_winner_71 rfl hl (by decide) rfl (fun ls hl => ?_)
                refine ri_inc (k := 5) (lv1 := [(4, .int (iI (x4 + 1))), (3, .int (iI x4)), (5, .int (iI 1)), (0, .ref (ad 0)), (1, .int (iI nm)), (2, .int (iI u))]) hx hb dX0_winner_72 hl rfl (by decide) rfl (fun ls hl => ?_)
                refine lv_goto (tgt := 5) hx hb dX0_winner_75 (by decide) ?_
                exact ih x4 (x4 + 1) ls (by omega) (by omega) (by exact rd_WinU_take h2 ⟨by omega, by omega, c19, c30, c37.2⟩) (by omega) (lv_sub hl [3, 4, 5, 1, 0] rfl)
              · refine lv_aload_n hx hb dX0_winner_59 rfl (lv_at hl 1 rfl) ?_
                refine lv_iload hx hb dX0_winner_60 (lv_at hl 5 rfl) ?_
                refine lv_iload_n hx hb dX0_winner_62 rfl (lv_at hl 4 rfl) ?_
                refine gR_call (As := [.int (iI x4), .int (iI best)]) (rest := []) hx hb hml hown hts (dm_hides l G ad cA sz kn K N B D E T O x4 best (by omega) (by omega) hW hL) (cwX0_hides hts 0 ⟨by decide, by decide⟩) (hP.recv hK) hP hK rfl hl.1 rfl (Nat.le_of_ble_eq_true rfl) dX0_winner_63 ⟨Nat.zero_le _, Nat.zero_le _⟩ (fun r63 hr63 => ?_)
                rcases hr63 with ⟨c63, rfl⟩ | ⟨c63, rfl⟩
                · refine ri_if_eq (tgt := 72) hx hb dX0_winner_66 (by decide) (by omega) (fun c66 => absurd c66 (by decide)) (fun c66 => ?_)
                  refine lv_iload hx hb dX0_winner_69 (lv_at hl 5 rfl) ?_
                  refine lv_istore_n (lv' := [(3, .int (iI x4)), (5, .int (iI 1)), (0, .ref (ad 0)), (1, .int (iI nm)), (2, .int (iI u)), (4, .int (iI x4))]) hx hb dX0_winner_71 rfl hl (by decide) rfl (fun ls hl => ?_)
                  refine ri_inc (k := 5) (lv1 := [(4, .int (iI (x4 + 1))), (3, .int (iI x4)), (5, .int (iI 1)), (0, .ref (ad 0)), (1, .int (iI nm)), (2, .int (iI u))]) hx hb dX0_winner_72 hl rfl (by decide) rfl (fun ls hl => ?_)
                  refine lv_goto (tgt := 5) hx hb dX0_winner_75 (by decide) ?_
                  exact ih x4 (x4 + 1) ls (by omega) (by omega) (by exact rd_WinU_take h2 ⟨by omega, by omega, c19, c30, c37.2⟩) (by omega) (lv_sub hl [3, 4, 5, 1, 0] rfl)
                · refine ri_if_eq (tgt := 72) hx hb dX0_winner_66 (by decide) (by omega) (fun c66 => ?_) (fun c66 => absurd c66 (by decide))
                  refine ri_inc (k := 5) (lv1 := [(4, .int (iI (x4 + 1))), (5, .int (iI 1)), (0, .ref (ad 0)), (1, .int (iI nm)), (2, .int (iI u)), (3, .int (iI best))]) hx hb dX0_winner_72 hl rfl (by decide) rfl (fun ls hl => ?_)
                  refine lv_goto (tgt := 5) hx hb dX0_winner_75 (by decide) ?_
                  exact ih best (x4 + 1) ls (by omega) (by omega) (by exact absurd ((rd_hid_iff c37.2 (rd_WinU_pos h2 (by omega)).2.2.2.2 (by omega) (by omega)).mpr (by omega)) c63) (by omega) (lv_sub hl [2, 3, 4, 5, 0] rfl)
            · refine ri_if_eq (tgt := 47) hx hb dX0_winner_40 (by decide) (by omega) (fun c40 => ?_) (fun c40 => absurd c40 (by decide))
              refine ri_const hx hb dX0_winner_47 ?_
              refine lv_istore (lv' := [(5, .int (iI 0)), (0, .ref (ad 0)), (1, .int (iI nm)), (2, .int (iI u)), (3, .int (iI best)), (4, .int (iI x4))]) hx hb dX0_winner_48 hl (by decide) rfl (fun ls hl => ?_)
              refine lv_iload hx hb dX0_winner_50 (lv_at hl 0 rfl) ?_
              refine ri_if_eq (tgt := 72) hx hb dX0_winner_52 (by decide) (by omega) (fun c52 => ?_) (fun c52 => absurd c52 (by decide))
              refine ri_inc (k := 5) (lv1 := [(4, .int (iI (x4 + 1))), (5, .int (iI 0)), (0, .ref (ad 0)), (1, .int (iI nm)), (2, .int (iI u)), (3, .int (iI best))]) hx hb dX0_winner_72 hl rfl (by decide) rfl (fun ls hl => ?_)
              refine lv_goto (tgt := 5) hx hb dX0_winner_75 (by decide) ?_
              exact ih best (x4 + 1) ls (by omega) (by omega) (by exact rd_WinU_skip h2 (fun c => c37 ⟨c.2.1, c.2.2.2.2⟩)) (by omega) (lv_sub hl [2, 3, 4, 5, 0] rfl)
  exact loop5 (((u - 0) + 1).toNat) (-1) 0 ls (by omega) (by omega) (by exact rd_WinU_0 K N nm u) (by omega) (lv_sub hl [2, 3, 4, 1, 0] rfl)
set_option maxHeartbeats 4000000 in
set_option maxRecDepth 100000 in
theorem dm_learn (l : Launch) (G : va_G) (ad : Nat → Nat) (cA : ClassId) (sz kn : Int) (K N B D E T O : Int → Int) (hD : dD ad) (hI : rd_DI sz kn K N B D E T) : gMV l yX0_learn (ws_ yX0_learn cX0_learn 3 none) (rmL 3) G [(cA, .byte)] (dP G ad cA sz kn K N B D E T O) (ad 0) [] (dA ad) (fun H => ∃ B1 D1 E1 T1 O1 : Int → Int, dP G ad cA sz 1 K N B1 D1 E1 T1 O1 H ∧ rd_Ln sz K N B1 D1 E1 T1 ∧ (kn = 1 → B1 = B ∧ D1 = D ∧ E1 = E ∧ T1 = T ∧ O1 = O)) := by
  refine gMV_of (by decide) (Nat.le_of_ble_eq_true rfl) ?_
  intro p e s m below meth c ls hx hb hr hml hown hlocks hts hP hK hl
  have hown : s.vm.findClass RX0 = some m.cls := hown
  have hl : lv_has ls 3 [(0, .ref (ad 0))] := hl
  have hS : va_S (dA ad) s.heap s.heap [] := va_S.rf
  have hW := hI.1
  have hsz := hW.1
  have hkn : kn = 0 ∨ kn = 1 := by
    rcases hI.2 with q | q
    · exact Or.inl q
    · exact Or.inr q.1
  refine lv_aload_n hx hb dX0_learn_0 rfl (lv_at hl 0 rfl) ?_
  refine dg_known hx hb hts hown hK hP dX0_learn_1 ?_
  refine ri_if_eq (tgt := 8) hx hb dX0_learn_4 (by decide) (by omega) (fun c4 => ?_) (fun c4 => ?_)
  · refine lv_aload_n hx hb dX0_learn_8 rfl (lv_at hl 0 rfl) ?_
    refine ri_const hx hb dX0_learn_9 ?_
    refine dp_known hx hb hts hown hK hP hD hS dX0_learn_10 (by omega) (fun H locs hP hS => ?_)
    refine ri_const hx hb dX0_learn_13 ?_
    refine lv_istore_n (lv' := [(1, .int (iI 0)), (0, .ref (ad 0))]) hx hb dX0_learn_14 rfl hl (by decide) rfl (fun ls hl => ?_)
    refine ri_const hx hb dX0_learn_15 ?_
    refine lv_istore_n (lv' := [(2, .int (iI 0)), (1, .int (iI 0)), (0, .ref (ad 0))]) hx hb dX0_learn_16 rfl hl (by decide) rfl (fun ls hl => ?_)
    have loop17 : ∀ (n : Nat) (x1 : Int) (x2 : Int) (B_17 : Int → Int) (D_17 : Int → Int) (E_17 : Int → Int) (O_17 : Int → Int) (H : Heap) (locs : List Loc) (ls : Array Slot), sz - x2 < (n : Int) → (0 ≤ x2 ∧ x2 ≤ sz) → (x1 = rd_dep K x2) → (rd_LU sz K B_17 D_17 E_17 O_17 x2) → dP G ad cA sz 1 K N B_17 D_17 E_17 T O_17 H → va_S (dA ad) s.heap H locs → lv_has ls 3 [(0, .ref (ad 0)), (1, .int (iI x1)), (2, .int (iI x2))] → W p l e (rmL 3) s m (Value.ref (ad 0) :: []).toArray below meth c H locs 0 0 (MQ below (qV (dA ad) (fun H => ∃ B1 D1 E1 T1 O1 : Int → Int, dP G ad cA sz 1 K N B1 D1 E1 T1 O1 H ∧ rd_Ln sz K N B1 D1 E1 T1 ∧ (kn = 1 → B1 = B ∧ D1 = D ∧ E1 = E ∧ T1 = T ∧ O1 = O))) (Value.ref (ad 0) :: []).toArray s 0 0 (dA ad)) (F0 m 17 ls []) := by
      intro n
      induction n with
      | zero =>
        intro x1 x2 B_17 D_17 E_17 O_17 H locs ls hm h1 h2 h3 hP hS hl
        exfalso
        omega
      | succ n ih =>
        intro x1 x2 B_17 D_17 E_17 O_17 H locs ls hm h1 h2 h3 hP hS hl
        refine lv_iload_n hx hb dX0_learn_17 rfl (lv_at hl 2 rfl) ?_
        refine lv_aload_n hx hb dX0_learn_18 rfl (lv_at hl 0 rfl) ?_
        refine dg_size hx hb hts hown hK hP dX0_learn_19 ?_
        refine ri_cmp_ge (tgt := 121) hx hb dX0_learn_22 (by decide) (by omega) (fun c22 => ?_) (fun c22 => ?_)
        · have hx2 : x2 = sz := by omega
          have hL : rd_L1 sz K B_17 D_17 E_17 := by
            rw [hx2] at h3
            exact rd_LU_end h3
          refine ri_const hx hb dX0_learn_121 ?_
          refine lv_istore_n (lv' := [(2, .int (iI 0)), (0, .ref (ad 0)), (1, .int (iI x1))]) hx hb dX0_learn_122 rfl hl (by decide) rfl (fun ls hl => ?_)
          have loop123 : ∀ (n : Nat) (y2 : Int) (T_123 : Int → Int) (H : Heap) (locs : List Loc) (ls : Array Slot), sz - y2 < (n : Int) → (0 ≤ y2 ∧ y2 ≤ sz) → (∀ u, 0 ≤ u → u < y2 → rd_Bd K N u (T_123 u)) → dP G ad cA sz 1 K N B_17 D_17 E_17 T_123 O_17 H → va_S (dA ad) s.heap H locs → lv_has ls 3 [(0, .ref (ad 0)), (1, .int (iI x1)), (2, .int (iI y2))] → W p l e (rmL 3) s m (Value.ref (ad 0) :: []).toArray below meth c H locs 0 0 (MQ below (qV (dA ad) (fun H => ∃ B1 D1 E1 T1 O1 : Int → Int, dP G ad cA sz 1 K N B1 D1 E1 T1 O1 H ∧ rd_Ln sz K N B1 D1 E1 T1 ∧ (kn = 1 → B1 = B ∧ D1 = D ∧ E1 = E ∧ T1 = T ∧ O1 = O))) (Value.ref (ad 0) :: []).toArray s 0 0 (dA ad)) (F0 m 123 ls []) := by
            intro n
            induction n with
            | zero =>
              intro y2 T_123 H locs ls hm g1 g2 hP hS hl
              exfalso
              omega
            | succ n ih =>
              intro y2 T_123 H locs ls hm g1 g2 hP hS hl
              refine lv_iload_n hx hb dX0_learn_123 rfl (lv_at hl 2 rfl) ?_
              refine lv_aload_n hx hb dX0_learn_124 rfl (lv_at hl 0 rfl) ?_
              refine dg_size hx hb hts hown hK hP dX0_learn_125 ?_
              refine ri_cmp_ge (tgt := 169) hx hb dX0_learn_128 (by decide) (by omega) (fun c128 => ?_) (fun c128 => ?_)
              · refine gV_vret hx hb hr hlocks dX0_learn_169 hS ?_
                have e : y2 = sz := by omega
                rw [e] at g2
                exact ⟨B_17, D_17, E_17, T_123, O_17, hP, ⟨hL, g2⟩, fun q => by omega⟩
              · refine lv_aload_n hx hb dX0_learn_131 rfl (lv_at hl 0 rfl) ?_
                refine dg_boundTo hx hb hts hown hK hP dX0_learn_132 ?_
                refine lv_iload_n hx hb dX0_learn_135 rfl (lv_at hl 2 rfl) ?_
                refine lv_aload_n hx hb dX0_learn_136 rfl (lv_at hl 0 rfl) ?_
                refine dg_kinds hx hb hts hown hK hP dX0_learn_137 ?_
                refine lv_iload_n hx hb dX0_learn_140 rfl (lv_at hl 2 rfl) ?_
                refine dl_kinds hx hb hK hP (by omega) dX0_learn_141 ?_
                have hf1 := hW.2.1 y2 (by omega) (by omega)
                refine ri_const hx hb dX0_learn_142 ?_
                refine ri_cmp_ne (tgt := 160) hx hb dX0_learn_143 (by decide) (by omega) (fun c143 => ?_) (fun c143 => ?_)
                · refine ri_const hx hb dX0_learn_160 ?_
                  refine ri_i2b hx hb (by omega) dX0_learn_161 ?_
                  refine ds_boundTo hx hb hK hP hD hS (by omega) (by omega) dX0_learn_162 (fun H locs hP hS => ?_)
                  refine ri_inc (k := 2) (lv1 := [(2, .int (iI (y2 + 1))), (0, .ref (ad 0)), (1, .int (iI x1))]) hx hb dX0_learn_163 hl rfl (by decide) rfl (fun ls hl => ?_)
                  refine lv_goto (tgt := 123) hx hb dX0_learn_166 (by decide) ?_
                  exact ih (y2 + 1) (rd_up T_123 y2 (-1)) H locs ls (by omega) (by omega) (by exact rd_Bds_s g2 (Or.inr ⟨c143, rfl⟩)) hP hS (lv_sub hl [1, 2, 0] rfl)
                · refine lv_aload_n hx hb dX0_learn_146 rfl (lv_at hl 0 rfl) ?_
                  refine lv_aload_n hx hb dX0_learn_147 rfl (lv_at hl 0 rfl) ?_
                  refine dg_names hx hb hts hown hK hP dX0_learn_148 ?_
                  refine lv_iload_n hx hb dX0_learn_151 rfl (lv_at hl 2 rfl) ?_
                  refine dl_names hx hb hK hP (by omega) dX0_learn_152 ?_
                  have hf2 := hW.2.1 y2 (by omega) (by omega)
                  refine lv_iload_n hx hb dX0_learn_153 rfl (lv_at hl 2 rfl) ?_
                  refine gR_call (As := [.int (iI (N y2)), .int (iI y2)]) (rest := [.int (iI y2), .ref (ad 6)]) hx hb hml hown hts (dm_winner l G ad cA sz 1 K N B_17 D_17 E_17 T_123 O_17 (N y2) y2 (by omega) (by omega) hW hL) (cwX0_winner hts 2 ⟨by decide, by decide⟩) (hP.recv hK) hP hK rfl hl.1 rfl (Nat.le_of_ble_eq_true rfl) dX0_learn_154 ⟨Nat.zero_le _, Nat.zero_le _⟩ (fun r154 hr154 => ?_)
                  obtain ⟨w154, rfl, hw154⟩ := hr154
                  have hr154 := rd_Win_rng hw154 (by omega)
                  refine lv_goto (tgt := 161) hx hb dX0_learn_157 (by decide) ?_
                  refine ri_i2b hx hb (by omega) dX0_learn_161 ?_
                  refine ds_boundTo hx hb hK hP hD hS (by omega) (by omega) dX0_learn_162 (fun H locs hP hS => ?_)
                  refine ri_inc (k := 2) (lv1 := [(2, .int (iI (y2 + 1))), (0, .ref (ad 0)), (1, .int (iI x1))]) hx hb dX0_learn_163 hl rfl (by decide) rfl (fun ls hl => ?_)
                  refine lv_goto (tgt := 123) hx hb dX0_learn_166 (by decide) ?_
                  exact ih (y2 + 1) (rd_up T_123 y2 w154) H locs ls (by omega) (by omega) (by exact rd_Bds_s g2 (Or.inl ⟨c143, hw154⟩)) hP hS (lv_sub hl [1, 2, 0] rfl)
          exact loop123 (((sz - 0) + 1).toNat) 0 T H locs ls (by omega) (by omega) (by intro u q1 q2; omega) hP hS (lv_sub hl [1, 2, 0] rfl)
        · have hd25 := hW.2.2 x2 (by omega) (by omega)
          have he25 := rd_dep_le K (i := x2) (by omega)
          refine lv_aload_n hx hb dX0_learn_25 rfl (lv_at hl 0 rfl) ?_
          refine dg_block hx hb hts hown hK hP dX0_learn_26 ?_
          refine lv_iload_n hx hb dX0_learn_29 rfl (lv_at hl 2 rfl) ?_
          refine lv_iload_n hx hb dX0_learn_30 rfl (lv_at hl 1 rfl) ?_
          refine ri_if_le (tgt := 45) hx hb dX0_learn_31 (by decide) (by omega) (fun c31 => ?_) (fun c31 => ?_)
          · refine ri_const hx hb dX0_learn_45 ?_
            refine ds_block hx hb hK hP hD hS (by omega) (by omega) dX0_learn_46 (fun H locs hP hS => ?_)
            refine lv_aload_n hx hb dX0_learn_47 rfl (lv_at hl 0 rfl) ?_
            refine dg_deep hx hb hts hown hK hP dX0_learn_48 ?_
            refine lv_iload_n hx hb dX0_learn_51 rfl (lv_at hl 2 rfl) ?_
            refine lv_iload_n hx hb dX0_learn_52 rfl (lv_at hl 1 rfl) ?_
            refine ri_i2b hx hb (by omega) dX0_learn_53 ?_
            refine ds_deep hx hb hK hP hD hS (by omega) (by omega) dX0_learn_54 (fun H locs hP hS => ?_)
            refine lv_aload_n hx hb dX0_learn_55 rfl (lv_at hl 0 rfl) ?_
            refine dg_kinds hx hb hts hown hK hP dX0_learn_56 ?_
            refine lv_iload_n hx hb dX0_learn_59 rfl (lv_at hl 2 rfl) ?_
            refine dl_kinds hx hb hK hP (by omega) dX0_learn_60 ?_
            have hf5 := hW.2.1 x2 (by omega) (by omega)
            refine ri_if_ne (tgt := 89) hx hb dX0_learn_61 (by decide) (by omega) (fun c61 => ?_) (fun c61 => ?_)
            · refine lv_aload_n hx hb dX0_learn_89 rfl (lv_at hl 0 rfl) ?_
              refine dg_kinds hx hb hts hown hK hP dX0_learn_90 ?_
              refine lv_iload_n hx hb dX0_learn_93 rfl (lv_at hl 2 rfl) ?_
              refine dl_kinds hx hb hK hP (by omega) dX0_learn_94 ?_
              have hf6 := hW.2.1 x2 (by omega) (by omega)
              refine ri_const hx hb dX0_learn_95 ?_
              refine ri_cmp_ne (tgt := 115) hx hb dX0_learn_96 (by decide) (by omega) (fun c96 => ?_) (fun c96 => ?_)
              · refine ri_inc (k := 2) (lv1 := [(2, .int (iI (x2 + 1))), (0, .ref (ad 0)), (1, .int (iI x1))]) hx hb dX0_learn_115 hl rfl (by decide) rfl (fun ls hl => ?_)
                refine lv_goto (tgt := 17) hx hb dX0_learn_118 (by decide) ?_
                exact ih x1 (x2 + 1) (rd_up B_17 x2 (-1)) (rd_up D_17 x2 x1) E_17 O_17 H locs ls (by omega) (by omega) (by have := rd_dep_oth (K := K) (i := x2) (by omega) c61 c96; omega) (by have hbk : rd_Blk K x2 (-1) := (rd_LU_blk hW h3 (by omega) (by omega)).2 (by omega); have h4 := (rd_LU_other h3 (by omega) hbk c61 c96).1; rw [← h2] at h4; exact h4) hP hS (lv_sub hl [1, 2, 0] rfl)
              · have hcl := rd_dep_close (K := K) (i := x2) (by omega) c96
                have hw1 := hW.2.2 (x2 + 1) (by omega) (by omega)
                refine ri_inc (k := 1) (lv1 := [(1, .int (iI (x1 + (-1)))), (0, .ref (ad 0)), (2, .int (iI x2))]) hx hb dX0_learn_99 hl rfl (by decide) rfl (fun ls hl => ?_)
                refine lv_aload_n hx hb dX0_learn_102 rfl (lv_at hl 1 rfl) ?_
                refine dg_ends hx hb hts hown hK hP dX0_learn_103 ?_
                refine lv_aload_n hx hb dX0_learn_106 rfl (lv_at hl 1 rfl) ?_
                refine dg_openBlocks hx hb hts hown hK hP dX0_learn_107 ?_
                refine lv_iload_n hx hb dX0_learn_110 rfl (lv_at hl 0 rfl) ?_
                refine dl_openBlocks hx hb hK hP (by omega) dX0_learn_111 ?_
                have ho := h3.2.1 (x1 + (-1)) (by omega) (by omega)
                have ho1 := ho.1
                have ho2 := ho.2.1
                refine lv_iload_n hx hb dX0_learn_112 rfl (lv_at hl 2 rfl) ?_
                refine ri_i2b hx hb (by omega) dX0_learn_113 ?_
                refine ds_ends hx hb hK hP hD hS (by omega) (by omega) dX0_learn_114 (fun H locs hP hS => ?_)
                refine ri_inc (k := 2) (lv1 := [(2, .int (iI (x2 + 1))), (1, .int (iI (x1 + (-1)))), (0, .ref (ad 0))]) hx hb dX0_learn_115 hl rfl (by decide) rfl (fun ls hl => ?_)
                refine lv_goto (tgt := 17) hx hb dX0_learn_118 (by decide) ?_
                exact ih (x1 + (-1)) (x2 + 1) (rd_up B_17 x2 (-1)) (rd_up D_17 x2 x1) (rd_up E_17 (O_17 (x1 + (-1))) x2) O_17 H locs ls (by omega) (by omega) (by have := rd_dep_close (K := K) (i := x2) (by omega) c96; omega) (by have hbk : rd_Blk K x2 (-1) := (rd_LU_blk hW h3 (by omega) (by omega)).2 (by omega); have h4 := (rd_LU_close h3 (by omega) hbk c96 (by omega)).1; rw [show rd_dep K x2 - 1 = x1 + (-1) by omega, ← h2] at h4; exact h4) hP hS (lv_sub hl [2, 1, 0] rfl)
            · refine lv_aload_n hx hb dX0_learn_64 rfl (lv_at hl 0 rfl) ?_
              refine dg_openBlocks hx hb hts hown hK hP dX0_learn_65 ?_
              refine lv_iload_n hx hb dX0_learn_68 rfl (lv_at hl 1 rfl) ?_
              refine lv_iload_n hx hb dX0_learn_69 rfl (lv_at hl 2 rfl) ?_
              refine ri_i2b hx hb (by omega) dX0_learn_70 ?_
              refine ds_openBlocks hx hb hK hP hD hS (by omega) (by omega) dX0_learn_71 (fun H locs hP hS => ?_)
              refine lv_aload_n hx hb dX0_learn_72 rfl (lv_at hl 0 rfl) ?_
              refine dg_ends hx hb hts hown hK hP dX0_learn_73 ?_
              refine lv_iload_n hx hb dX0_learn_76 rfl (lv_at hl 2 rfl) ?_
              refine lv_aload_n hx hb dX0_learn_77 rfl (lv_at hl 0 rfl) ?_
              refine dg_size hx hb hts hown hK hP dX0_learn_78 ?_
              refine ri_i2b hx hb (by omega) dX0_learn_81 ?_
              refine ds_ends hx hb hK hP hD hS (by omega) (by omega) dX0_learn_82 (fun H locs hP hS => ?_)
              refine ri_inc (k := 1) (lv1 := [(1, .int (iI (x1 + 1))), (0, .ref (ad 0)), (2, .int (iI x2))]) hx hb dX0_learn_83 hl rfl (by decide) rfl (fun ls hl => ?_)
              refine lv_goto (tgt := 115) hx hb dX0_learn_86 (by decide) ?_
              refine ri_inc (k := 2) (lv1 := [(2, .int (iI (x2 + 1))), (1, .int (iI (x1 + 1))), (0, .ref (ad 0))]) hx hb dX0_learn_115 hl rfl (by decide) rfl (fun ls hl => ?_)
              refine lv_goto (tgt := 17) hx hb dX0_learn_118 (by decide) ?_
              exact ih (x1 + 1) (x2 + 1) (rd_up B_17 x2 (-1)) (rd_up D_17 x2 x1) (rd_up E_17 x2 sz) (rd_up O_17 x1 x2) H locs ls (by omega) (by omega) (by have := rd_dep_open (K := K) (i := x2) (by omega) c61; omega) (by have hbk : rd_Blk K x2 (-1) := (rd_LU_blk hW h3 (by omega) (by omega)).2 (by omega); have h4 := (rd_LU_open h3 (by omega) hbk c61 (by omega)).1; rw [← h2] at h4; exact h4) hP hS (lv_sub hl [2, 1, 0] rfl)
          · refine lv_aload_n hx hb dX0_learn_34 rfl (lv_at hl 0 rfl) ?_
            refine dg_openBlocks hx hb hts hown hK hP dX0_learn_35 ?_
            refine lv_iload_n hx hb dX0_learn_38 rfl (lv_at hl 1 rfl) ?_
            refine ri_const hx hb dX0_learn_39 ?_
            refine ri_sub hx hb dX0_learn_40 ?_
            refine dl_openBlocks hx hb hK hP (by omega) dX0_learn_41 ?_
            have ho := h3.2.1 (x1 - 1) (by omega) (by omega)
            have ho1 := ho.1
            have ho2 := ho.2.1
            refine lv_goto (tgt := 46) hx hb dX0_learn_42 (by decide) ?_
            refine ds_block hx hb hK hP hD hS (by omega) (by omega) dX0_learn_46 (fun H locs hP hS => ?_)
            refine lv_aload_n hx hb dX0_learn_47 rfl (lv_at hl 0 rfl) ?_
            refine dg_deep hx hb hts hown hK hP dX0_learn_48 ?_
            refine lv_iload_n hx hb dX0_learn_51 rfl (lv_at hl 2 rfl) ?_
            refine lv_iload_n hx hb dX0_learn_52 rfl (lv_at hl 1 rfl) ?_
            refine ri_i2b hx hb (by omega) dX0_learn_53 ?_
            refine ds_deep hx hb hK hP hD hS (by omega) (by omega) dX0_learn_54 (fun H locs hP hS => ?_)
            refine lv_aload_n hx hb dX0_learn_55 rfl (lv_at hl 0 rfl) ?_
            refine dg_kinds hx hb hts hown hK hP dX0_learn_56 ?_
            refine lv_iload_n hx hb dX0_learn_59 rfl (lv_at hl 2 rfl) ?_
            refine dl_kinds hx hb hK hP (by omega) dX0_learn_60 ?_
            have hf7 := hW.2.1 x2 (by omega) (by omega)
            refine ri_if_ne (tgt := 89) hx hb dX0_learn_61 (by decide) (by omega) (fun c61 => ?_) (fun c61 => ?_)
            · refine lv_aload_n hx hb dX0_learn_89 rfl (lv_at hl 0 rfl) ?_
              refine dg_kinds hx hb hts hown hK hP dX0_learn_90 ?_
              refine lv_iload_n hx hb dX0_learn_93 rfl (lv_at hl 2 rfl) ?_
              refine dl_kinds hx hb hK hP (by omega) dX0_learn_94 ?_
              have hf8 := hW.2.1 x2 (by omega) (by omega)
              refine ri_const hx hb dX0_learn_95 ?_
              refine ri_cmp_ne (tgt := 115) hx hb dX0_learn_96 (by decide) (by omega) (fun c96 => ?_) (fun c96 => ?_)
              · refine ri_inc (k := 2) (lv1 := [(2, .int (iI (x2 + 1))), (0, .ref (ad 0)), (1, .int (iI x1))]) hx hb dX0_learn_115 hl rfl (by decide) rfl (fun ls hl => ?_)
                refine lv_goto (tgt := 17) hx hb dX0_learn_118 (by decide) ?_
                exact ih x1 (x2 + 1) (rd_up B_17 x2 (O_17 (x1 - 1))) (rd_up D_17 x2 x1) E_17 O_17 H locs ls (by omega) (by omega) (by have := rd_dep_oth (K := K) (i := x2) (by omega) c61 c96; omega) (by have hbk : rd_Blk K x2 (O_17 (x1 - 1)) := (by rw [h2]; exact (rd_LU_blk hW h3 (by omega) (by omega)).1 (by omega)); have h4 := (rd_LU_other h3 (by omega) hbk c61 c96).1; rw [← h2] at h4; exact h4) hP hS (lv_sub hl [1, 2, 0] rfl)
              · have hcl := rd_dep_close (K := K) (i := x2) (by omega) c96
                have hw1 := hW.2.2 (x2 + 1) (by omega) (by omega)
                refine ri_inc (k := 1) (lv1 := [(1, .int (iI (x1 + (-1)))), (0, .ref (ad 0)), (2, .int (iI x2))]) hx hb dX0_learn_99 hl rfl (by decide) rfl (fun ls hl => ?_)
                refine lv_aload_n hx hb dX0_learn_102 rfl (lv_at hl 1 rfl) ?_
                refine dg_ends hx hb hts hown hK hP dX0_learn_103 ?_
                refine lv_aload_n hx hb dX0_learn_106 rfl (lv_at hl 1 rfl) ?_
                refine dg_openBlocks hx hb hts hown hK hP dX0_learn_107 ?_
                refine lv_iload_n hx hb dX0_learn_110 rfl (lv_at hl 0 rfl) ?_
                refine dl_openBlocks hx hb hK hP (by omega) dX0_learn_111 ?_
                have ho := h3.2.1 (x1 + (-1)) (by omega) (by omega)
                have ho1 := ho.1
                have ho2 := ho.2.1
                refine lv_iload_n hx hb dX0_learn_112 rfl (lv_at hl 2 rfl) ?_
                refine ri_i2b hx hb (by omega) dX0_learn_113 ?_
                refine ds_ends hx hb hK hP hD hS (by omega) (by omega) dX0_learn_114 (fun H locs hP hS => ?_)
                refine ri_inc (k := 2) (lv1 := [(2, .int (iI (x2 + 1))), (1, .int (iI (x1 + (-1)))), (0, .ref (ad 0))]) hx hb dX0_learn_115 hl rfl (by decide) rfl (fun ls hl => ?_)
                refine lv_goto (tgt := 17) hx hb dX0_learn_118 (by decide) ?_
                exact ih (x1 + (-1)) (x2 + 1) (rd_up B_17 x2 (O_17 (x1 - 1))) (rd_up D_17 x2 x1) (rd_up E_17 (O_17 (x1 + (-1))) x2) O_17 H locs ls (by omega) (by omega) (by have := rd_dep_close (K := K) (i := x2) (by omega) c96; omega) (by have hbk : rd_Blk K x2 (O_17 (x1 - 1)) := (by rw [h2]; exact (rd_LU_blk hW h3 (by omega) (by omega)).1 (by omega)); have h4 := (rd_LU_close h3 (by omega) hbk c96 (by omega)).1; rw [show rd_dep K x2 - 1 = x1 + (-1) by omega, ← h2] at h4; exact h4) hP hS (lv_sub hl [2, 1, 0] rfl)
            · refine lv_aload_n hx hb dX0_learn_64 rfl (lv_at hl 0 rfl) ?_
              refine dg_openBlocks hx hb hts hown hK hP dX0_learn_65 ?_
              refine lv_iload_n hx hb dX0_learn_68 rfl (lv_at hl 1 rfl) ?_
              refine lv_iload_n hx hb dX0_learn_69 rfl (lv_at hl 2 rfl) ?_
              refine ri_i2b hx hb (by omega) dX0_learn_70 ?_
              refine ds_openBlocks hx hb hK hP hD hS (by omega) (by omega) dX0_learn_71 (fun H locs hP hS => ?_)
              refine lv_aload_n hx hb dX0_learn_72 rfl (lv_at hl 0 rfl) ?_
              refine dg_ends hx hb hts hown hK hP dX0_learn_73 ?_
              refine lv_iload_n hx hb dX0_learn_76 rfl (lv_at hl 2 rfl) ?_
              refine lv_aload_n hx hb dX0_learn_77 rfl (lv_at hl 0 rfl) ?_
              refine dg_size hx hb hts hown hK hP dX0_learn_78 ?_
              refine ri_i2b hx hb (by omega) dX0_learn_81 ?_
              refine ds_ends hx hb hK hP hD hS (by omega) (by omega) dX0_learn_82 (fun H locs hP hS => ?_)
              refine ri_inc (k := 1) (lv1 := [(1, .int (iI (x1 + 1))), (0, .ref (ad 0)), (2, .int (iI x2))]) hx hb dX0_learn_83 hl rfl (by decide) rfl (fun ls hl => ?_)
              refine lv_goto (tgt := 115) hx hb dX0_learn_86 (by decide) ?_
              refine ri_inc (k := 2) (lv1 := [(2, .int (iI (x2 + 1))), (1, .int (iI (x1 + 1))), (0, .ref (ad 0))]) hx hb dX0_learn_115 hl rfl (by decide) rfl (fun ls hl => ?_)
              refine lv_goto (tgt := 17) hx hb dX0_learn_118 (by decide) ?_
              exact ih (x1 + 1) (x2 + 1) (rd_up B_17 x2 (O_17 (x1 - 1))) (rd_up D_17 x2 x1) (rd_up E_17 x2 sz) (rd_up O_17 x1 x2) H locs ls (by omega) (by omega) (by have := rd_dep_open (K := K) (i := x2) (by omega) c61; omega) (by have hbk : rd_Blk K x2 (O_17 (x1 - 1)) := (by rw [h2]; exact (rd_LU_blk hW h3 (by omega) (by omega)).1 (by omega)); have h4 := (rd_LU_open h3 (by omega) hbk c61 (by omega)).1; rw [← h2] at h4; exact h4) hP hS (lv_sub hl [2, 1, 0] rfl)
    exact loop17 (((sz - 0) + 1).toNat) 0 0 B D E O H locs ls (by omega) (by omega) (by exact (rd_dep_0 K).symm) (by exact rd_LU_0 _ _ _ _ _ _) hP hS (lv_sub hl [2, 1, 0] rfl)
  · refine gV_vret hx hb hr hlocks dX0_learn_7 hS ?_
    rcases hI.2 with q | ⟨q, hLn⟩
    · omega
    · subst q
      exact ⟨B, D, E, T, O, hP, hLn, fun _ => ⟨rfl, rfl, rfl, rfl, rfl⟩⟩
end
section
/-- the desk's world, its tokens as they were -/
def dKp (G : va_G) (ad : Nat → Nat) (cA : ClassId) (sz : Int) (K N : Int → Int) (H : Heap) : Prop := ∃ (kn1 : Int) (B1 D1 E1 T1 O1 : Int → Int), dP G ad cA sz kn1 K N B1 D1 E1 T1 O1 H ∧ rd_DI sz kn1 K N B1 D1 E1 T1
theorem rd_rn_s {F N N0 : Int → Int} {x v : Int} (h : ∀ i, F i = if i < x then N0 i else N i) (hv : v = N0 x) : ∀ i, rd_up F x v i = if i < x + 1 then N0 i else N i := by
  intro i
  by_cases e : i = x
  · rw [e, rd_up_s, if_pos (by omega), hv]
  · rw [rd_up_n e, h i]
    by_cases q : i < x
    · rw [if_pos q, if_pos (by omega)]
    · rw [if_neg q, if_neg (by omega)]
theorem rd_rn_s0 {F N N0 : Int → Int} {x : Int} (h : ∀ i, F i = if i < x then N0 i else N i) (hv : N x = N0 x) : ∀ i, F i = if i < x + 1 then N0 i else N i := by
  intro i
  rw [h i]
  by_cases e : i = x
  · rw [e, if_neg (by omega), if_pos (by omega), hv]
  · by_cases q : i < x
    · rw [if_pos q, if_pos (by omega)]
    · rw [if_neg q, if_neg (by omega)]
set_option maxHeartbeats 4000000 in
set_option maxRecDepth 100000 in
theorem dm_bound (l : Launch) (G : va_G) (ad : Nat → Nat) (cA : ClassId) (sz kn : Int) (K N B D E T O : Int → Int) (k : Int) (hk : -2147483648 ≤ k ∧ k ≤ 2147483647) (hD : dD ad) (hI : rd_DI sz kn K N B D E T) : gMM l yX0_bound (ws_ yX0_bound cX0_bound 2 (some .int)) (rmL 4) G [(cA, .byte)] (dP G ad cA sz kn K N B D E T O) (ad 0) [.int (iI k)] (dA ad) (fun r H => dKp G ad cA sz K N H ∧ rd_Bou sz K N k r) := by
  refine gMM_of (by decide) (Nat.le_of_ble_eq_true rfl) ?_
  intro p e s m below meth c ls hx hb hr hml hown hlocks hts hP hK hl
  have hown : s.vm.findClass RX0 = some m.cls := hown
  have hl : lv_has ls 2 [(0, .ref (ad 0)), (1, .int (iI k))] := hl
  have hS : va_S (dA ad) s.heap s.heap [] := va_S.rf
  have hW := hI.1
  have hsz := hW.1
  refine lv_aload_n hx hb dX0_bound_0 rfl (lv_at hl 0 rfl) ?_
  refine lv_iload_n hx hb dX0_bound_1 rfl (lv_at hl 1 rfl) ?_
  refine ri_const hx hb dX0_bound_2 ?_
  refine gR_call (As := [.int (iI k), .int (iI 3)]) (rest := []) hx hb hml hown hts (dm_isA l G ad cA sz kn K N B D E T O k 3 (by omega) (by omega) hW) (cwX0_isA hts 1 ⟨by decide, by decide⟩) (hP.recv hK) hP hK rfl hl.1 rfl (Nat.le_of_ble_eq_true rfl) dX0_bound_3 ⟨Nat.zero_le _, Nat.zero_le _⟩ (fun r3 hr3 => ?_)
  rcases hr3 with ⟨c3, rfl⟩ | ⟨c3, rfl⟩
  · refine ri_if_ne (tgt := 11) hx hb dX0_bound_6 (by decide) (by omega) (fun c6 => ?_) (fun c6 => absurd c6 (by decide))
    refine lv_aload_n hx hb dX0_bound_11 rfl (lv_at hl 0 rfl) ?_
    refine gV_call (As := []) (rest := []) hx hb hml hown hts (dm_learn l G ad cA sz kn K N B D E T O hD hI) (cwX0_learn hts 3 ⟨by decide, by decide⟩) (hP.recv hK) hP hK rfl hl.1 rfl (Nat.le_of_ble_eq_true rfl) dX0_bound_12 ⟨Nat.zero_le _, Nat.zero_le _⟩ (fun _ h => h) hS (fun H locs hr12 _ hS => ?_)
    obtain ⟨B1, D1, E1, T1, O1, hP, hLn, hsame⟩ := hr12
    have hL := hLn.1
    have hT := hLn.2
    refine lv_aload_n hx hb dX0_bound_15 rfl (lv_at hl 0 rfl) ?_
    refine dg_boundTo hx hb hts hown hK hP dX0_bound_16 ?_
    refine lv_iload_n hx hb dX0_bound_19 rfl (lv_at hl 1 rfl) ?_
    refine dl_boundTo hx hb hK hP (by omega) dX0_bound_20 ?_
    have hf4 := rd_Bd_rng (hT k (by omega) (by omega)) (by omega)
    refine gM_iret hx hb hr hlocks dX0_bound_21 hS ?_
    exact ⟨⟨1, B1, D1, E1, T1, O1, hP, hW, Or.inr ⟨rfl, hLn⟩⟩, Or.inl ⟨c3.1, T1 k, hT k (by omega) (by omega), rfl⟩⟩
  · refine ri_if_ne (tgt := 11) hx hb dX0_bound_6 (by decide) (by omega) (fun c6 => absurd c6 (by decide)) (fun c6 => ?_)
    refine ri_const hx hb dX0_bound_9 ?_
    refine gM_iret hx hb hr hlocks dX0_bound_10 hS ?_
    refine ⟨⟨kn, B, D, E, T, O, hP, hI⟩, ?_⟩
    by_cases q : 0 ≤ k ∧ k < sz
    · exact Or.inl ⟨q, -1, Or.inr ⟨fun e => c3 ⟨q, e⟩, rfl⟩, rfl⟩
    · exact Or.inr ⟨q, rfl⟩
set_option maxHeartbeats 4000000 in
set_option maxRecDepth 100000 in
theorem dm_uses (l : Launch) (G : va_G) (ad : Nat → Nat) (cA : ClassId) (sz kn : Int) (K N B D E T O : Int → Int) (k : Int) (hk : -2147483648 ≤ k ∧ k ≤ 2147483647) (hD : dD ad) (hI : rd_DI sz kn K N B D E T) : gMM l yX0_uses (ws_ yX0_uses cX0_uses 4 (some .int)) (rmL 4) G [(cA, .byte)] (dP G ad cA sz kn K N B D E T O) (ad 0) [.int (iI k)] (dA ad) (fun r H => ∃ (kn1 : Int) (B1 D1 E1 T1 O1 : Int → Int), dP G ad cA sz kn1 K N B1 D1 E1 T1 O1 H ∧ rd_DI sz kn1 K N B1 D1 E1 T1 ∧ (kn = 1 → kn1 = 1 ∧ B1 = B ∧ D1 = D ∧ E1 = E ∧ T1 = T ∧ O1 = O) ∧ rd_Uses sz K N k r) := by
  refine gMM_of (by decide) (Nat.le_of_ble_eq_true rfl) ?_
  intro p e s m below meth c ls hx hb hr hml hown hlocks hts hP hK hl
  have hown : s.vm.findClass RX0 = some m.cls := hown
  have hl : lv_has ls 4 [(0, .ref (ad 0)), (1, .int (iI k))] := hl
  have hS : va_S (dA ad) s.heap s.heap [] := va_S.rf
  have hW := hI.1
  have hsz := hW.1
  refine lv_aload_n hx hb dX0_uses_0 rfl (lv_at hl 0 rfl) ?_
  refine lv_iload_n hx hb dX0_uses_1 rfl (lv_at hl 1 rfl) ?_
  refine ri_const hx hb dX0_uses_2 ?_
  refine gR_call (As := [.int (iI k), .int (iI 2)]) (rest := []) hx hb hml hown hts (dm_isA l G ad cA sz kn K N B D E T O k 2 (by omega) (by omega) hW) (cwX0_isA hts 1 ⟨by decide, by decide⟩) (hP.recv hK) hP hK rfl hl.1 rfl (Nat.le_of_ble_eq_true rfl) dX0_uses_3 ⟨Nat.zero_le _, Nat.zero_le _⟩ (fun r3 hr3 => ?_)
  rcases hr3 with ⟨c3, rfl⟩ | ⟨c3, rfl⟩
  · refine ri_if_ne (tgt := 11) hx hb dX0_uses_6 (by decide) (by omega) (fun c6 => ?_) (fun c6 => absurd c6 (by decide))
    refine lv_aload_n hx hb dX0_uses_11 rfl (lv_at hl 0 rfl) ?_
    refine gV_call (As := []) (rest := []) hx hb hml hown hts (dm_learn l G ad cA sz kn K N B D E T O hD hI) (cwX0_learn hts 3 ⟨by decide, by decide⟩) (hP.recv hK) hP hK rfl hl.1 rfl (Nat.le_of_ble_eq_true rfl) dX0_uses_12 ⟨Nat.zero_le _, Nat.zero_le _⟩ (fun _ h => h) hS (fun H locs hr12 _ hS => ?_)
    obtain ⟨B1, D1, E1, T1, O1, hP, hLn, hsame⟩ := hr12
    have hL := hLn.1
    have hT := hLn.2
    refine ri_const hx hb dX0_uses_15 ?_
    refine lv_istore_n (lv' := [(2, .int (iI 0)), (0, .ref (ad 0)), (1, .int (iI k))]) hx hb dX0_uses_16 rfl hl (by decide) rfl (fun ls hl => ?_)
    refine ri_const hx hb dX0_uses_17 ?_
    refine lv_istore_n (lv' := [(3, .int (iI 0)), (2, .int (iI 0)), (0, .ref (ad 0)), (1, .int (iI k))]) hx hb dX0_uses_18 rfl hl (by decide) rfl (fun ls hl => ?_)
    have loop19 : ∀ (n : Nat) (set : Int32) (x3 : Int) (ls : Array Slot), sz - x3 < (n : Int) → (0 ≤ x3 ∧ x3 ≤ sz) → (set = rd_set (fun u => rd_Bd K N u k) x3) → lv_has ls 4 [(0, .ref (ad 0)), (1, .int (iI k)), (2, .int set), (3, .int (iI x3))] → W p l e (rmL 4) s m (Value.ref (ad 0) :: [.int (iI k)]).toArray below meth c H locs 0 0 (MQ below (qM (dA ad) (fun r H => ∃ (kn1 : Int) (B1 D1 E1 T1 O1 : Int → Int), dP G ad cA sz kn1 K N B1 D1 E1 T1 O1 H ∧ rd_DI sz kn1 K N B1 D1 E1 T1 ∧ (kn = 1 → kn1 = 1 ∧ B1 = B ∧ D1 = D ∧ E1 = E ∧ T1 = T ∧ O1 = O) ∧ rd_Uses sz K N k r)) (Value.ref (ad 0) :: [.int (iI k)]).toArray s 0 0 (dA ad)) (F0 m 19 ls []) := by
      intro n
      induction n with
      | zero =>
        intro set x3 ls hm h1 h2 hl
        exfalso
        omega
      | succ n ih =>
        intro set x3 ls hm h1 h2 hl
        refine lv_iload_n hx hb dX0_uses_19 rfl (lv_at hl 3 rfl) ?_
        refine lv_aload_n hx hb dX0_uses_20 rfl (lv_at hl 0 rfl) ?_
        refine dg_size hx hb hts hown hK hP dX0_uses_21 ?_
        refine ri_cmp_ge (tgt := 53) hx hb dX0_uses_24 (by decide) (by omega) (fun c24 => ?_) (fun c24 => ?_)
        · refine lv_iload_n hx hb dX0_uses_53 rfl (lv_at hl 2 rfl) ?_
          refine gM_iret hx hb hr hlocks dX0_uses_54 hS ?_
          have e : x3 = sz := by omega
          exact ⟨1, B1, D1, E1, T1, O1, hP, ⟨hW, Or.inr ⟨rfl, hLn⟩⟩, fun q => ⟨rfl, hsame q⟩, Or.inl ⟨c3, by rw [h2, e]⟩⟩
        · refine lv_iload_n hx hb dX0_uses_27 rfl (lv_at hl 2 rfl) ?_
          refine lv_aload_n hx hb dX0_uses_28 rfl (lv_at hl 0 rfl) ?_
          refine dg_boundTo hx hb hts hown hK hP dX0_uses_29 ?_
          refine lv_iload_n hx hb dX0_uses_32 rfl (lv_at hl 3 rfl) ?_
          refine dl_boundTo hx hb hK hP (by omega) dX0_uses_33 ?_
          have hf4 := rd_Bd_rng (hT x3 (by omega) (by omega)) (by omega)
          refine lv_iload_n hx hb dX0_uses_34 rfl (lv_at hl 1 rfl) ?_
          refine ri_cmp_ne (tgt := 44) hx hb dX0_uses_35 (by decide) (by omega) (fun c35 => ?_) (fun c35 => ?_)
          · refine ri_const hx hb dX0_uses_44 ?_
            refine lv_ior hx hb dX0_uses_45 ?_
            refine lv_istore_n (lv' := [(2, .int (set ||| iI 0)), (0, .ref (ad 0)), (1, .int (iI k)), (3, .int (iI x3))]) hx hb dX0_uses_46 rfl hl (by decide) rfl (fun ls hl => ?_)
            refine ri_inc (k := 3) (lv1 := [(3, .int (iI (x3 + 1))), (2, .int (set ||| iI 0)), (0, .ref (ad 0)), (1, .int (iI k))]) hx hb dX0_uses_47 hl rfl (by decide) rfl (fun ls hl => ?_)
            refine lv_goto (tgt := 19) hx hb dX0_uses_50 (by decide) ?_
            exact ih (set ||| iI 0) (x3 + 1) ls (by omega) (by omega) (by rw [rd_or0, rd_set_f (f := fun u => rd_Bd K N u k) (by omega) (fun q => c35 ((rd_Bds_iff hT (by omega) (by omega)).mp q)), h2]) (lv_sub hl [2, 3, 1, 0] rfl)
          · refine ri_const hx hb dX0_uses_38 ?_
            refine lv_iload_n hx hb dX0_uses_39 rfl (lv_at hl 3 rfl) ?_
            refine lv_ishl hx hb dX0_uses_40 ?_
            refine lv_goto (tgt := 45) hx hb dX0_uses_41 (by decide) ?_
            refine lv_ior hx hb dX0_uses_45 ?_
            refine lv_istore_n (lv' := [(2, .int (set ||| (rd_bit x3))), (0, .ref (ad 0)), (1, .int (iI k)), (3, .int (iI x3))]) hx hb dX0_uses_46 rfl hl (by decide) rfl (fun ls hl => ?_)
            refine ri_inc (k := 3) (lv1 := [(3, .int (iI (x3 + 1))), (2, .int (set ||| (rd_bit x3))), (0, .ref (ad 0)), (1, .int (iI k))]) hx hb dX0_uses_47 hl rfl (by decide) rfl (fun ls hl => ?_)
            refine lv_goto (tgt := 19) hx hb dX0_uses_50 (by decide) ?_
            exact ih (set ||| (rd_bit x3)) (x3 + 1) ls (by omega) (by omega) (by rw [rd_set_t (f := fun u => rd_Bd K N u k) (by omega) ((rd_Bds_iff hT (by omega) (by omega)).mpr c35), h2]) (lv_sub hl [2, 3, 1, 0] rfl)
    exact loop19 (Int.toNat ((sz - 0) + 1)) (iI 0) 0 ls (by omega) (by omega) (by exact (rd_set_0 _).symm) (lv_sub hl [2, 3, 1, 0] rfl)
  · refine ri_if_ne (tgt := 11) hx hb dX0_uses_6 (by decide) (by omega) (fun c6 => absurd c6 (by decide)) (fun c6 => ?_)
    refine ri_const hx hb dX0_uses_9 ?_
    refine gM_iret hx hb hr hlocks dX0_uses_10 hS ?_
    exact ⟨kn, B, D, E, T, O, hP, hI, fun q => ⟨q, rfl, rfl, rfl, rfl, rfl⟩, Or.inr ⟨c3, rfl⟩⟩
set_option maxHeartbeats 4000000 in
set_option maxRecDepth 100000 in
theorem dm_free (l : Launch) (G : va_G) (ad : Nat → Nat) (cA : ClassId) (sz kn : Int) (K N B D E T O : Int → Int) (hD : dD ad) (hI : rd_DI sz kn K N B D E T) : gMM l yX0_free (ws_ yX0_free cX0_free 3 (some .int)) (rmL 4) G [(cA, .byte)] (dP G ad cA sz kn K N B D E T O) (ad 0) [] (dA ad) (fun r H => dKp G ad cA sz K N H ∧ rd_Fre sz K N r) := by
  refine gMM_of (by decide) (Nat.le_of_ble_eq_true rfl) ?_
  intro p e s m below meth c ls hx hb hr hml hown hlocks hts hP hK hl
  have hown : s.vm.findClass RX0 = some m.cls := hown
  have hl : lv_has ls 3 [(0, .ref (ad 0))] := hl
  have hS : va_S (dA ad) s.heap s.heap [] := va_S.rf
  have hW := hI.1
  have hsz := hW.1
  refine lv_aload_n hx hb dX0_free_0 rfl (lv_at hl 0 rfl) ?_
  refine gV_call (As := []) (rest := []) hx hb hml hown hts (dm_learn l G ad cA sz kn K N B D E T O hD hI) (cwX0_learn hts 3 ⟨by decide, by decide⟩) (hP.recv hK) hP hK rfl hl.1 rfl (Nat.le_of_ble_eq_true rfl) dX0_free_1 ⟨Nat.zero_le _, Nat.zero_le _⟩ (fun _ h => h) hS (fun H locs hr1 _ hS => ?_)
  obtain ⟨B1, D1, E1, T1, O1, hP, hLn, hsame⟩ := hr1
  have hL := hLn.1
  have hT := hLn.2
  refine ri_const hx hb dX0_free_4 ?_
  refine lv_istore_n (lv' := [(1, .int (iI 0)), (0, .ref (ad 0))]) hx hb dX0_free_5 rfl hl (by decide) rfl (fun ls hl => ?_)
  refine ri_const hx hb dX0_free_6 ?_
  refine lv_istore_n (lv' := [(2, .int (iI 0)), (1, .int (iI 0)), (0, .ref (ad 0))]) hx hb dX0_free_7 rfl hl (by decide) rfl (fun ls hl => ?_)
  have loop8 : ∀ (n : Nat) (set : Int32) (x2 : Int) (ls : Array Slot), sz - x2 < (n : Int) → (0 ≤ x2 ∧ x2 ≤ sz) → (set = rd_set (fun u => K u = 3 ∧ rd_Bd K N u (-1)) x2) → lv_has ls 3 [(0, .ref (ad 0)), (1, .int set), (2, .int (iI x2))] → W p l e (rmL 4) s m (Value.ref (ad 0) :: []).toArray below meth c H locs 0 0 (MQ below (qM (dA ad) (fun r H => dKp G ad cA sz K N H ∧ rd_Fre sz K N r)) (Value.ref (ad 0) :: []).toArray s 0 0 (dA ad)) (F0 m 8 ls []) := by
    intro n
    induction n with
    | zero =>
      intro set x2 ls hm h1 h2 hl
      exfalso
      omega
    | succ n ih =>
      intro set x2 ls hm h1 h2 hl
      refine lv_iload_n hx hb dX0_free_8 rfl (lv_at hl 2 rfl) ?_
      refine lv_aload_n hx hb dX0_free_9 rfl (lv_at hl 0 rfl) ?_
      refine dg_size hx hb hts hown hK hP dX0_free_10 ?_
      refine ri_cmp_ge (tgt := 51) hx hb dX0_free_13 (by decide) (by omega) (fun c13 => ?_) (fun c13 => ?_)
      · refine lv_iload_n hx hb dX0_free_51 rfl (lv_at hl 1 rfl) ?_
        refine gM_iret hx hb hr hlocks dX0_free_52 hS ?_
        have e : x2 = sz := by omega
        refine ⟨⟨1, B1, D1, E1, T1, O1, hP, hW, Or.inr ⟨rfl, hLn⟩⟩, ?_⟩
        show set = _
        rw [h2, e]
      · refine lv_iload_n hx hb dX0_free_16 rfl (lv_at hl 1 rfl) ?_
        refine lv_aload_n hx hb dX0_free_17 rfl (lv_at hl 0 rfl) ?_
        refine dg_kinds hx hb hts hown hK hP dX0_free_18 ?_
        refine lv_iload_n hx hb dX0_free_21 rfl (lv_at hl 2 rfl) ?_
        refine dl_kinds hx hb hK hP (by omega) dX0_free_22 ?_
        have hf4 := hW.2.1 x2 (by omega) (by omega)
        refine ri_const hx hb dX0_free_23 ?_
        refine ri_cmp_ne (tgt := 42) hx hb dX0_free_24 (by decide) (by omega) (fun c24 => ?_) (fun c24 => ?_)
        · refine ri_const hx hb dX0_free_42 ?_
          refine lv_ior hx hb dX0_free_43 ?_
          refine lv_istore_n (lv' := [(1, .int (set ||| iI 0)), (0, .ref (ad 0)), (2, .int (iI x2))]) hx hb dX0_free_44 rfl hl (by decide) rfl (fun ls hl => ?_)
          refine ri_inc (k := 2) (lv1 := [(2, .int (iI (x2 + 1))), (1, .int (set ||| iI 0)), (0, .ref (ad 0))]) hx hb dX0_free_45 hl rfl (by decide) rfl (fun ls hl => ?_)
          refine lv_goto (tgt := 8) hx hb dX0_free_48 (by decide) ?_
          exact ih (set ||| iI 0) (x2 + 1) ls (by omega) (by omega) (by rw [rd_or0, rd_set_f (f := fun u => K u = 3 ∧ rd_Bd K N u (-1)) (by omega) (fun q => c24 q.1), h2]) (lv_sub hl [2, 1, 0] rfl)
        · refine lv_aload_n hx hb dX0_free_27 rfl (lv_at hl 0 rfl) ?_
          refine dg_boundTo hx hb hts hown hK hP dX0_free_28 ?_
          refine lv_iload_n hx hb dX0_free_31 rfl (lv_at hl 2 rfl) ?_
          refine dl_boundTo hx hb hK hP (by omega) dX0_free_32 ?_
          have hf5 := rd_Bd_rng (hT x2 (by omega) (by omega)) (by omega)
          refine ri_if_ge (tgt := 42) hx hb dX0_free_33 (by decide) (by omega) (fun c33 => ?_) (fun c33 => ?_)
          · refine ri_const hx hb dX0_free_42 ?_
            refine lv_ior hx hb dX0_free_43 ?_
            refine lv_istore_n (lv' := [(1, .int (set ||| iI 0)), (0, .ref (ad 0)), (2, .int (iI x2))]) hx hb dX0_free_44 rfl hl (by decide) rfl (fun ls hl => ?_)
            refine ri_inc (k := 2) (lv1 := [(2, .int (iI (x2 + 1))), (1, .int (set ||| iI 0)), (0, .ref (ad 0))]) hx hb dX0_free_45 hl rfl (by decide) rfl (fun ls hl => ?_)
            refine lv_goto (tgt := 8) hx hb dX0_free_48 (by decide) ?_
            exact ih (set ||| iI 0) (x2 + 1) ls (by omega) (by omega) (by rw [rd_or0, rd_set_f (f := fun u => K u = 3 ∧ rd_Bd K N u (-1)) (by omega) (fun q => by have := (rd_Bds_iff hT (by omega) (by omega)).mp q.2; omega), h2]) (lv_sub hl [2, 1, 0] rfl)
          · refine ri_const hx hb dX0_free_36 ?_
            refine lv_iload_n hx hb dX0_free_37 rfl (lv_at hl 2 rfl) ?_
            refine lv_ishl hx hb dX0_free_38 ?_
            refine lv_goto (tgt := 43) hx hb dX0_free_39 (by decide) ?_
            refine lv_ior hx hb dX0_free_43 ?_
            refine lv_istore_n (lv' := [(1, .int (set ||| (rd_bit x2))), (0, .ref (ad 0)), (2, .int (iI x2))]) hx hb dX0_free_44 rfl hl (by decide) rfl (fun ls hl => ?_)
            refine ri_inc (k := 2) (lv1 := [(2, .int (iI (x2 + 1))), (1, .int (set ||| (rd_bit x2))), (0, .ref (ad 0))]) hx hb dX0_free_45 hl rfl (by decide) rfl (fun ls hl => ?_)
            refine lv_goto (tgt := 8) hx hb dX0_free_48 (by decide) ?_
            exact ih (set ||| (rd_bit x2)) (x2 + 1) ls (by omega) (by omega) (by rw [rd_set_t (f := fun u => K u = 3 ∧ rd_Bd K N u (-1)) (by omega) ⟨c24, (rd_Bds_iff hT (by omega) (by omega)).mpr (by omega)⟩, h2]) (lv_sub hl [2, 1, 0] rfl)
  exact loop8 (Int.toNat ((sz - 0) + 1)) (iI 0) 0 ls (by omega) (by omega) (by exact (rd_set_0 _).symm) (lv_sub hl [2, 1, 0] rfl)
set_option maxHeartbeats 4000000 in
set_option maxRecDepth 100000 in
theorem dm_unused (l : Launch) (G : va_G) (ad : Nat → Nat) (cA : ClassId) (sz kn : Int) (K N B D E T O : Int → Int) (hD : dD ad) (hI : rd_DI sz kn K N B D E T) : gMM l yX0_unused (ws_ yX0_unused cX0_unused 3 (some .int)) (rmL 5) G [(cA, .byte)] (dP G ad cA sz kn K N B D E T O) (ad 0) [] (dA ad) (fun r H => dKp G ad cA sz K N H ∧ rd_Unu sz K N r) := by
  refine gMM_of (by decide) (Nat.le_of_ble_eq_true rfl) ?_
  intro p e s m below meth c ls hx hb hr hml hown hlocks hts hP hK hl
  have hown : s.vm.findClass RX0 = some m.cls := hown
  have hl : lv_has ls 3 [(0, .ref (ad 0))] := hl
  have hS : va_S (dA ad) s.heap s.heap [] := va_S.rf
  have hW := hI.1
  have hsz := hW.1
  refine ri_const hx hb dX0_unused_0 ?_
  refine lv_istore_n (lv' := [(1, .int (iI 0)), (0, .ref (ad 0))]) hx hb dX0_unused_1 rfl hl (by decide) rfl (fun ls hl => ?_)
  refine ri_const hx hb dX0_unused_2 ?_
  refine lv_istore_n (lv' := [(2, .int (iI 0)), (1, .int (iI 0)), (0, .ref (ad 0))]) hx hb dX0_unused_3 rfl hl (by decide) rfl (fun ls hl => ?_)
  have loop4 : ∀ (n : Nat) (set : Int32) (x2 : Int) (kn_4 : Int) (B_4 : Int → Int) (D_4 : Int → Int) (E_4 : Int → Int) (T_4 : Int → Int) (O_4 : Int → Int) (H : Heap) (locs : List Loc) (ls : Array Slot), sz - x2 < (n : Int) → (0 ≤ x2 ∧ x2 ≤ sz) → (set = rd_set (fun k => K k = 2 ∧ ∀ u, 0 ≤ u → u < sz → ¬ rd_Bd K N u k) x2) → (rd_DI sz kn_4 K N B_4 D_4 E_4 T_4) → dP G ad cA sz kn_4 K N B_4 D_4 E_4 T_4 O_4 H → va_S (dA ad) s.heap H locs → lv_has ls 3 [(0, .ref (ad 0)), (1, .int set), (2, .int (iI x2))] → W p l e (rmL 5) s m (Value.ref (ad 0) :: []).toArray below meth c H locs 0 0 (MQ below (qM (dA ad) (fun r H => dKp G ad cA sz K N H ∧ rd_Unu sz K N r)) (Value.ref (ad 0) :: []).toArray s 0 0 (dA ad)) (F0 m 4 ls []) := by
    intro n
    induction n with
    | zero =>
      intro set x2 kn_4 B_4 D_4 E_4 T_4 O_4 H locs ls hm h1 h2 h3 hP hS hl
      exfalso
      omega
    | succ n ih =>
      intro set x2 kn_4 B_4 D_4 E_4 T_4 O_4 H locs ls hm h1 h2 h3 hP hS hl
      refine lv_iload_n hx hb dX0_unused_4 rfl (lv_at hl 2 rfl) ?_
      refine lv_aload_n hx hb dX0_unused_5 rfl (lv_at hl 0 rfl) ?_
      refine dg_size hx hb hts hown hK hP dX0_unused_6 ?_
      refine ri_cmp_ge (tgt := 46) hx hb dX0_unused_9 (by decide) (by omega) (fun c9 => ?_) (fun c9 => ?_)
      · refine lv_iload_n hx hb dX0_unused_46 rfl (lv_at hl 1 rfl) ?_
        refine gM_iret hx hb hr hlocks dX0_unused_47 hS ?_
        have e : x2 = sz := by omega
        refine ⟨⟨kn_4, B_4, D_4, E_4, T_4, O_4, hP, h3⟩, ?_⟩
        show set = _
        rw [h2, e]
      · refine lv_iload_n hx hb dX0_unused_12 rfl (lv_at hl 1 rfl) ?_
        refine lv_aload_n hx hb dX0_unused_13 rfl (lv_at hl 0 rfl) ?_
        refine dg_kinds hx hb hts hown hK hP dX0_unused_14 ?_
        refine lv_iload_n hx hb dX0_unused_17 rfl (lv_at hl 2 rfl) ?_
        refine dl_kinds hx hb hK hP (by omega) dX0_unused_18 ?_
        have hf1 := hW.2.1 x2 (by omega) (by omega)
        refine ri_const hx hb dX0_unused_19 ?_
        refine ri_cmp_ne (tgt := 37) hx hb dX0_unused_20 (by decide) (by omega) (fun c20 => ?_) (fun c20 => ?_)
        · refine ri_const hx hb dX0_unused_37 ?_
          refine lv_ior hx hb dX0_unused_38 ?_
          refine lv_istore_n (lv' := [(1, .int (set ||| iI 0)), (0, .ref (ad 0)), (2, .int (iI x2))]) hx hb dX0_unused_39 rfl hl (by decide) rfl (fun ls hl => ?_)
          refine ri_inc (k := 2) (lv1 := [(2, .int (iI (x2 + 1))), (1, .int (set ||| iI 0)), (0, .ref (ad 0))]) hx hb dX0_unused_40 hl rfl (by decide) rfl (fun ls hl => ?_)
          refine lv_goto (tgt := 4) hx hb dX0_unused_43 (by decide) ?_
          exact ih (set ||| iI 0) (x2 + 1) kn_4 B_4 D_4 E_4 T_4 O_4 H locs ls (by omega) (by omega) (by rw [rd_or0, rd_set_f (f := fun k => K k = 2 ∧ ∀ u, 0 ≤ u → u < sz → ¬ rd_Bd K N u k) (by omega) (fun q => c20 q.1), h2]) (by exact h3) hP hS (lv_sub hl [2, 1, 0] rfl)
        · refine lv_aload_n hx hb dX0_unused_23 rfl (lv_at hl 0 rfl) ?_
          refine lv_iload_n hx hb dX0_unused_24 rfl (lv_at hl 2 rfl) ?_
          refine gM_call (As := [.int (iI x2)]) (rest := [.int set]) hx hb hml hown hts (dm_uses l G ad cA sz kn_4 K N B_4 D_4 E_4 T_4 O_4 x2 (by omega) hD h3) (cwX0_uses hts 4 ⟨by decide, by decide⟩) (hP.recv hK) hP hK rfl hl.1 rfl (Nat.le_of_ble_eq_true rfl) dX0_unused_25 ⟨Nat.zero_le _, Nat.zero_le _⟩ (fun _ h => h) hS (fun r25 H locs hr25 _ hS => ?_)
          obtain ⟨kn1, B1, D1, E1, T1, O1, hP, hI1, hsame1, hus⟩ := hr25
          refine lv_if_ne (tgt := 37) hx hb dX0_unused_28 (by decide) (fun c28 => ?_) (fun c28 => ?_)
          · refine ri_const hx hb dX0_unused_37 ?_
            refine lv_ior hx hb dX0_unused_38 ?_
            refine lv_istore_n (lv' := [(1, .int (set ||| iI 0)), (0, .ref (ad 0)), (2, .int (iI x2))]) hx hb dX0_unused_39 rfl hl (by decide) rfl (fun ls hl => ?_)
            refine ri_inc (k := 2) (lv1 := [(2, .int (iI (x2 + 1))), (1, .int (set ||| iI 0)), (0, .ref (ad 0))]) hx hb dX0_unused_40 hl rfl (by decide) rfl (fun ls hl => ?_)
            refine lv_goto (tgt := 4) hx hb dX0_unused_43 (by decide) ?_
            exact ih (set ||| iI 0) (x2 + 1) kn1 B1 D1 E1 T1 O1 H locs ls (by omega) (by omega) (by rw [rd_or0, rd_set_f (f := fun k => K k = 2 ∧ ∀ u, 0 ≤ u → u < sz → ¬ rd_Bd K N u k) (by omega) (fun q => c28 ((rd_Uses_0 hus ⟨by omega, c20⟩ (by omega)).mpr q.2)), h2]) (by exact hI1) hP hS (lv_sub hl [2, 1, 0] rfl)
          · refine ri_const hx hb dX0_unused_31 ?_
            refine lv_iload_n hx hb dX0_unused_32 rfl (lv_at hl 2 rfl) ?_
            refine lv_ishl hx hb dX0_unused_33 ?_
            refine lv_goto (tgt := 38) hx hb dX0_unused_34 (by decide) ?_
            refine lv_ior hx hb dX0_unused_38 ?_
            refine lv_istore_n (lv' := [(1, .int (set ||| (rd_bit x2))), (0, .ref (ad 0)), (2, .int (iI x2))]) hx hb dX0_unused_39 rfl hl (by decide) rfl (fun ls hl => ?_)
            refine ri_inc (k := 2) (lv1 := [(2, .int (iI (x2 + 1))), (1, .int (set ||| (rd_bit x2))), (0, .ref (ad 0))]) hx hb dX0_unused_40 hl rfl (by decide) rfl (fun ls hl => ?_)
            refine lv_goto (tgt := 4) hx hb dX0_unused_43 (by decide) ?_
            exact ih (set ||| (rd_bit x2)) (x2 + 1) kn1 B1 D1 E1 T1 O1 H locs ls (by omega) (by omega) (by rw [rd_set_t (f := fun k => K k = 2 ∧ ∀ u, 0 ≤ u → u < sz → ¬ rd_Bd K N u k) (by omega) ⟨c20, (rd_Uses_0 hus ⟨by omega, c20⟩ (by omega)).mp c28⟩, h2]) (by exact hI1) hP hS (lv_sub hl [2, 1, 0] rfl)
  exact loop4 (Int.toNat ((sz - 0) + 1)) (iI 0) 0 kn B D E T O s.heap [] ls (by omega) (by omega) (by exact (rd_set_0 _).symm) (by exact hI) hP hS (lv_sub hl [2, 1, 0] rfl)
set_option maxHeartbeats 4000000 in
set_option maxRecDepth 100000 in
theorem dm_legalName (l : Launch) (G : va_G) (ad : Nat → Nat) (cA : ClassId) (sz kn : Int) (K N B D E T O : Int → Int) (k m0 : Int) (hk : 0 ≤ k ∧ k < sz) (hm0 : -2147483648 ≤ m0 ∧ m0 ≤ 2147483647) (hW : rd_WF sz K N) (hLn : rd_Ln sz K N B D E T) : gMR l yX0_legalName (ws_ yX0_legalName cX0_legalName 5 (some .boolean)) (rmL 3) G [(cA, .byte)] (dP G ad cA sz kn K N B D E T O) (ad 0) [.int (iI k), .int (iI m0)] (rd_BP (rd_LN sz K N T k m0)) := by
  refine gMR_of (by decide) (Nat.le_of_ble_eq_true rfl) ?_
  intro p e s m below meth c ls hx hb hr hml hown hlocks hts hP hK hl
  have hown : s.vm.findClass RX0 = some m.cls := hown
  have hl : lv_has ls 5 [(0, .ref (ad 0)), (1, .int (iI k)), (2, .int (iI m0))] := hl
  have hsz := hW.1
  have hL := hLn.1
  have hT := hLn.2
  refine lv_iload_n hx hb dX0_legalName_0 rfl (lv_at hl 2 rfl) ?_
  refine lv_aload_n hx hb dX0_legalName_1 rfl (lv_at hl 0 rfl) ?_
  refine dg_names hx hb hts hown hK hP dX0_legalName_2 ?_
  refine lv_iload_n hx hb dX0_legalName_5 rfl (lv_at hl 1 rfl) ?_
  refine dl_names hx hb hK hP (by omega) dX0_legalName_6 ?_
  have hf1 := hW.2.1 k (by omega) (by omega)
  refine ri_cmp_ne (tgt := 12) hx hb dX0_legalName_7 (by decide) (by omega) (fun c7 => ?_) (fun c7 => ?_)
  · refine lv_iload_n hx hb dX0_legalName_12 rfl (lv_at hl 1 rfl) ?_
    refine ri_const hx hb dX0_legalName_13 ?_
    refine ri_add hx hb dX0_legalName_14 ?_
    refine lv_istore_n (lv' := [(3, .int (iI (k + 1))), (0, .ref (ad 0)), (1, .int (iI k)), (2, .int (iI m0))]) hx hb dX0_legalName_15 rfl hl (by decide) rfl (fun ls hl => ?_)
    have loop16 : ∀ (n : Nat) (x3 : Int) (ls : Array Slot), sz - x3 < (n : Int) → (k < x3 ∧ x3 ≤ sz) → (∀ u, k < u → u < x3 → rd_LNu K N T k m0 u) → lv_has ls 5 [(0, .ref (ad 0)), (1, .int (iI k)), (2, .int (iI m0)), (3, .int (iI x3))] → W p l e (rmL 3) s m (Value.ref (ad 0) :: [.int (iI k), .int (iI m0)]).toArray below meth c s.heap [] 0 0 (MQ below (qR (rd_BP (rd_LN sz K N T k m0))) (Value.ref (ad 0) :: [.int (iI k), .int (iI m0)]).toArray s 0 0 (fun _ => False)) (F0 m 16 ls []) := by
      intro n
      induction n with
      | zero =>
        intro x3 ls hm h1 h2 hl
        exfalso
        omega
      | succ n ih =>
        intro x3 ls hm h1 h2 hl
        refine lv_iload_n hx hb dX0_legalName_16 rfl (lv_at hl 3 rfl) ?_
        refine lv_aload_n hx hb dX0_legalName_17 rfl (lv_at hl 0 rfl) ?_
        refine dg_size hx hb hts hown hK hP dX0_legalName_18 ?_
        refine ri_cmp_ge (tgt := 122) hx hb dX0_legalName_21 (by decide) (by omega) (fun c21 => ?_) (fun c21 => ?_)
        · refine ri_const hx hb dX0_legalName_122 ?_
          refine gR_zret hx hb hr hlocks dX0_legalName_123 (by omega) ?_
          exact Or.inl ⟨Or.inr (fun u q1 q2 => h2 u q1 (by omega)), rfl⟩
        · refine lv_aload_n hx hb dX0_legalName_24 rfl (lv_at hl 0 rfl) ?_
          refine dg_boundTo hx hb hts hown hK hP dX0_legalName_25 ?_
          refine lv_iload_n hx hb dX0_legalName_28 rfl (lv_at hl 3 rfl) ?_
          refine dl_boundTo hx hb hK hP (by omega) dX0_legalName_29 ?_
          have hf2 := rd_Bd_rng (hT x3 (by omega) (by omega)) (by omega)
          refine lv_iload_n hx hb dX0_legalName_30 rfl (lv_at hl 1 rfl) ?_
          refine ri_cmp_ne (tgt := 62) hx hb dX0_legalName_31 (by decide) (by omega) (fun c31 => ?_) (fun c31 => ?_)
          · refine lv_aload_n hx hb dX0_legalName_62 rfl (lv_at hl 0 rfl) ?_
            refine dg_kinds hx hb hts hown hK hP dX0_legalName_63 ?_
            refine lv_iload_n hx hb dX0_legalName_66 rfl (lv_at hl 3 rfl) ?_
            refine dl_kinds hx hb hK hP (by omega) dX0_legalName_67 ?_
            have hf3 := hW.2.1 x3 (by omega) (by omega)
            refine ri_const hx hb dX0_legalName_68 ?_
            refine ri_cmp_ne (tgt := 116) hx hb dX0_legalName_69 (by decide) (by omega) (fun c69 => ?_) (fun c69 => ?_)
            · refine ri_inc (k := 3) (lv1 := [(3, .int (iI (x3 + 1))), (0, .ref (ad 0)), (1, .int (iI k)), (2, .int (iI m0))]) hx hb dX0_legalName_116 hl rfl (by decide) rfl (fun ls hl => ?_)
              refine lv_goto (tgt := 16) hx hb dX0_legalName_119 (by decide) ?_
              exact ih (x3 + 1) ls (by omega) (by omega) (by exact rd_all_s h2 ⟨fun g => absurd g c31, fun _ g => absurd g c69⟩) (lv_sub hl [1, 2, 3, 0] rfl)
            · refine lv_aload_n hx hb dX0_legalName_72 rfl (lv_at hl 0 rfl) ?_
              refine dg_names hx hb hts hown hK hP dX0_legalName_73 ?_
              refine lv_iload_n hx hb dX0_legalName_76 rfl (lv_at hl 3 rfl) ?_
              refine dl_names hx hb hK hP (by omega) dX0_legalName_77 ?_
              have hf4 := hW.2.1 x3 (by omega) (by omega)
              refine lv_iload_n hx hb dX0_legalName_78 rfl (lv_at hl 2 rfl) ?_
              refine ri_cmp_ne (tgt := 116) hx hb dX0_legalName_79 (by decide) (by omega) (fun c79 => ?_) (fun c79 => ?_)
              · refine ri_inc (k := 3) (lv1 := [(3, .int (iI (x3 + 1))), (0, .ref (ad 0)), (1, .int (iI k)), (2, .int (iI m0))]) hx hb dX0_legalName_116 hl rfl (by decide) rfl (fun ls hl => ?_)
                refine lv_goto (tgt := 16) hx hb dX0_legalName_119 (by decide) ?_
                exact ih (x3 + 1) ls (by omega) (by omega) (by exact rd_all_s h2 ⟨fun g => absurd g c31, fun _ _ g => absurd g c79⟩) (lv_sub hl [1, 2, 3, 0] rfl)
              · refine lv_aload_n hx hb dX0_legalName_82 rfl (lv_at hl 0 rfl) ?_
                refine lv_iload_n hx hb dX0_legalName_83 rfl (lv_at hl 1 rfl) ?_
                refine lv_iload_n hx hb dX0_legalName_84 rfl (lv_at hl 3 rfl) ?_
                refine gR_call (As := [.int (iI k), .int (iI x3)]) (rest := []) hx hb hml hown hts (dm_sees l G ad cA sz kn K N B D E T O k x3 (by omega) (by omega) hW hL) (cwX0_sees hts 1 ⟨by decide, by decide⟩) (hP.recv hK) hP hK rfl hl.1 rfl (Nat.le_of_ble_eq_true rfl) dX0_legalName_85 ⟨Nat.zero_le _, Nat.zero_le _⟩ (fun r85 hr85 => ?_)
                rcases hr85 with ⟨c85, rfl⟩ | ⟨c85, rfl⟩
                · refine ri_if_eq (tgt := 116) hx hb dX0_legalName_88 (by decide) (by omega) (fun c88 => absurd c88 (by decide)) (fun c88 => ?_)
                  refine lv_aload_n hx hb dX0_legalName_91 rfl (lv_at hl 0 rfl) ?_
                  refine dg_boundTo hx hb hts hown hK hP dX0_legalName_92 ?_
                  refine lv_iload_n hx hb dX0_legalName_95 rfl (lv_at hl 3 rfl) ?_
                  refine dl_boundTo hx hb hK hP (by omega) dX0_legalName_96 ?_
                  have hf5 := rd_Bd_rng (hT x3 (by omega) (by omega)) (by omega)
                  refine ri_if_lt (tgt := 114) hx hb dX0_legalName_97 (by decide) (by omega) (fun c97 => ?_) (fun c97 => ?_)
                  · refine ri_const hx hb dX0_legalName_114 ?_
                    refine gR_zret hx hb hr hlocks dX0_legalName_115 (by omega) ?_
                    refine Or.inr ⟨fun q => ?_, rfl⟩
                    rcases q with q | q
                    · exact c7 q
                    · exact (q x3 (by omega) (by omega)).2 c31 c69 c79 c85.2 (Or.inl c97)
                  · refine lv_aload_n hx hb dX0_legalName_100 rfl (lv_at hl 0 rfl) ?_
                    refine lv_iload_n hx hb dX0_legalName_101 rfl (lv_at hl 1 rfl) ?_
                    refine lv_aload_n hx hb dX0_legalName_102 rfl (lv_at hl 0 rfl) ?_
                    refine dg_boundTo hx hb hts hown hK hP dX0_legalName_103 ?_
                    refine lv_iload_n hx hb dX0_legalName_106 rfl (lv_at hl 3 rfl) ?_
                    refine dl_boundTo hx hb hK hP (by omega) dX0_legalName_107 ?_
                    have hf6 := rd_Bd_rng (hT x3 (by omega) (by omega)) (by omega)
                    refine gR_call (As := [.int (iI k), .int (iI (T x3))]) (rest := []) hx hb hml hown hts (dm_hides l G ad cA sz kn K N B D E T O k (T x3) (by omega) (by omega) hW hL) (cwX0_hides hts 0 ⟨by decide, by decide⟩) (hP.recv hK) hP hK rfl hl.1 rfl (Nat.le_of_ble_eq_true rfl) dX0_legalName_108 ⟨Nat.zero_le _, Nat.zero_le _⟩ (fun r108 hr108 => ?_)
                    rcases hr108 with ⟨c108, rfl⟩ | ⟨c108, rfl⟩
                    · refine ri_if_eq (tgt := 116) hx hb dX0_legalName_111 (by decide) (by omega) (fun c111 => absurd c111 (by decide)) (fun c111 => ?_)
                      refine ri_const hx hb dX0_legalName_114 ?_
                      refine gR_zret hx hb hr hlocks dX0_legalName_115 (by omega) ?_
                      refine Or.inr ⟨fun q => ?_, rfl⟩
                      rcases q with q | q
                      · exact c7 q
                      · exact (q x3 (by omega) (by omega)).2 c31 c69 c79 c85.2 (Or.inr c108)
                    · refine ri_if_eq (tgt := 116) hx hb dX0_legalName_111 (by decide) (by omega) (fun c111 => ?_) (fun c111 => absurd c111 (by decide))
                      refine ri_inc (k := 3) (lv1 := [(3, .int (iI (x3 + 1))), (0, .ref (ad 0)), (1, .int (iI k)), (2, .int (iI m0))]) hx hb dX0_legalName_116 hl rfl (by decide) rfl (fun ls hl => ?_)
                      refine lv_goto (tgt := 16) hx hb dX0_legalName_119 (by decide) ?_
                      exact ih (x3 + 1) ls (by omega) (by omega) (by exact rd_all_s h2 ⟨fun g => absurd g c31, fun _ _ _ _ g => by rcases g with g | g; omega; exact c108 g⟩) (lv_sub hl [1, 2, 3, 0] rfl)
                · refine ri_if_eq (tgt := 116) hx hb dX0_legalName_88 (by decide) (by omega) (fun c88 => ?_) (fun c88 => absurd c88 (by decide))
                  refine ri_inc (k := 3) (lv1 := [(3, .int (iI (x3 + 1))), (0, .ref (ad 0)), (1, .int (iI k)), (2, .int (iI m0))]) hx hb dX0_legalName_116 hl rfl (by decide) rfl (fun ls hl => ?_)
                  refine lv_goto (tgt := 16) hx hb dX0_legalName_119 (by decide) ?_
                  exact ih (x3 + 1) ls (by omega) (by omega) (by exact rd_all_s h2 ⟨fun g => absurd g c31, fun _ _ _ g => absurd ⟨by omega, g⟩ c85⟩) (lv_sub hl [1, 2, 3, 0] rfl)
          · refine lv_aload_n hx hb dX0_legalName_34 rfl (lv_at hl 0 rfl) ?_
            refine lv_iload_n hx hb dX0_legalName_35 rfl (lv_at hl 2 rfl) ?_
            refine lv_iload_n hx hb dX0_legalName_36 rfl (lv_at hl 3 rfl) ?_
            refine gR_call (As := [.int (iI m0), .int (iI x3)]) (rest := []) hx hb hml hown hts (dm_winner l G ad cA sz kn K N B D E T O m0 x3 (by omega) (by omega) hW hL) (cwX0_winner hts 2 ⟨by decide, by decide⟩) (hP.recv hK) hP hK rfl hl.1 rfl (Nat.le_of_ble_eq_true rfl) dX0_legalName_37 ⟨Nat.zero_le _, Nat.zero_le _⟩ (fun r37 hr37 => ?_)
            obtain ⟨w37, rfl, hw37⟩ := hr37
            have hr37 := rd_Win_rng hw37 (by omega)
            refine lv_istore (lv' := [(4, .int (iI w37)), (0, .ref (ad 0)), (1, .int (iI k)), (2, .int (iI m0)), (3, .int (iI x3))]) hx hb dX0_legalName_40 hl (by decide) rfl (fun ls hl => ?_)
            refine lv_iload hx hb dX0_legalName_42 (lv_at hl 0 rfl) ?_
            refine ri_if_lt (tgt := 59) hx hb dX0_legalName_44 (by decide) (by omega) (fun c44 => ?_) (fun c44 => ?_)
            · refine lv_goto (tgt := 116) hx hb dX0_legalName_59 (by decide) ?_
              refine ri_inc (k := 4) (lv1 := [(3, .int (iI (x3 + 1))), (4, .int (iI w37)), (0, .ref (ad 0)), (1, .int (iI k)), (2, .int (iI m0))]) hx hb dX0_legalName_116 hl rfl (by decide) rfl (fun ls hl => ?_)
              refine lv_goto (tgt := 16) hx hb dX0_legalName_119 (by decide) ?_
              exact ih (x3 + 1) ls (by omega) (by omega) (by exact rd_all_s h2 ⟨fun _ o ho hh => by have := rd_Win_uniq ho hw37; omega, fun g => absurd c31 g⟩) (lv_sub hl [2, 3, 4, 0] rfl)
            · refine lv_aload_n hx hb dX0_legalName_47 rfl (lv_at hl 1 rfl) ?_
              refine lv_iload hx hb dX0_legalName_48 (lv_at hl 0 rfl) ?_
              refine lv_iload_n hx hb dX0_legalName_50 rfl (lv_at hl 2 rfl) ?_
              refine gR_call (As := [.int (iI w37), .int (iI k)]) (rest := []) hx hb hml hown hts (dm_hides l G ad cA sz kn K N B D E T O w37 k (by omega) (by omega) hW hL) (cwX0_hides hts 0 ⟨by decide, by decide⟩) (hP.recv hK) hP hK rfl hl.1 rfl (Nat.le_of_ble_eq_true rfl) dX0_legalName_51 ⟨Nat.zero_le _, Nat.zero_le _⟩ (fun r51 hr51 => ?_)
              rcases hr51 with ⟨c51, rfl⟩ | ⟨c51, rfl⟩
              · refine ri_if_eq (tgt := 59) hx hb dX0_legalName_54 (by decide) (by omega) (fun c54 => absurd c54 (by decide)) (fun c54 => ?_)
                refine ri_const hx hb dX0_legalName_57 ?_
                refine gR_zret hx hb hr hlocks dX0_legalName_58 (by omega) ?_
                refine Or.inr ⟨fun q => ?_, rfl⟩
                rcases q with q | q
                · exact c7 q
                · exact (q x3 (by omega) (by omega)).1 c31 w37 hw37 ⟨by omega, c51⟩
              · refine ri_if_eq (tgt := 59) hx hb dX0_legalName_54 (by decide) (by omega) (fun c54 => ?_) (fun c54 => absurd c54 (by decide))
                refine lv_goto (tgt := 116) hx hb dX0_legalName_59 (by decide) ?_
                refine ri_inc (k := 4) (lv1 := [(3, .int (iI (x3 + 1))), (4, .int (iI w37)), (0, .ref (ad 0)), (1, .int (iI k)), (2, .int (iI m0))]) hx hb dX0_legalName_116 hl rfl (by decide) rfl (fun ls hl => ?_)
                refine lv_goto (tgt := 16) hx hb dX0_legalName_119 (by decide) ?_
                exact ih (x3 + 1) ls (by omega) (by omega) (by exact rd_all_s h2 ⟨fun _ o ho hh => by rw [rd_Win_uniq ho hw37] at hh; exact c51 hh.2, fun g => absurd c31 g⟩) (lv_sub hl [2, 3, 4, 0] rfl)
    exact loop16 (Int.toNat ((sz - (k + 1)) + 1)) (k + 1) ls (by omega) (by omega) (by intro u q1 q2; omega) (lv_sub hl [1, 2, 3, 0] rfl)
  · refine ri_const hx hb dX0_legalName_10 ?_
    refine gR_zret hx hb hr hlocks dX0_legalName_11 (by omega) ?_
    exact Or.inl ⟨Or.inl c7, rfl⟩
set_option maxHeartbeats 4000000 in
set_option maxRecDepth 100000 in
theorem dm_names (l : Launch) (G : va_G) (ad : Nat → Nat) (cA : ClassId) (sz kn : Int) (K N B D E T O : Int → Int) (k : Int) (hk : -2147483648 ≤ k ∧ k ≤ 2147483647) (hD : dD ad) (hI : rd_DI sz kn K N B D E T) : gMM l yX0_names (ws_ yX0_names cX0_names 4 (some .int)) (rmL 4) G [(cA, .byte)] (dP G ad cA sz kn K N B D E T O) (ad 0) [.int (iI k)] (dA ad) (fun r H => dKp G ad cA sz K N H ∧ rd_Names sz K N k r) := by
  refine gMM_of (by decide) (Nat.le_of_ble_eq_true rfl) ?_
  intro p e s m below meth c ls hx hb hr hml hown hlocks hts hP hK hl
  have hown : s.vm.findClass RX0 = some m.cls := hown
  have hl : lv_has ls 4 [(0, .ref (ad 0)), (1, .int (iI k))] := hl
  have hS : va_S (dA ad) s.heap s.heap [] := va_S.rf
  have hW := hI.1
  have hsz := hW.1
  refine lv_aload_n hx hb dX0_names_0 rfl (lv_at hl 0 rfl) ?_
  refine lv_iload_n hx hb dX0_names_1 rfl (lv_at hl 1 rfl) ?_
  refine ri_const hx hb dX0_names_2 ?_
  refine gR_call (As := [.int (iI k), .int (iI 2)]) (rest := []) hx hb hml hown hts (dm_isA l G ad cA sz kn K N B D E T O k 2 (by omega) (by omega) hW) (cwX0_isA hts 1 ⟨by decide, by decide⟩) (hP.recv hK) hP hK rfl hl.1 rfl (Nat.le_of_ble_eq_true rfl) dX0_names_3 ⟨Nat.zero_le _, Nat.zero_le _⟩ (fun r3 hr3 => ?_)
  rcases hr3 with ⟨c3, rfl⟩ | ⟨c3, rfl⟩
  · refine ri_if_ne (tgt := 11) hx hb dX0_names_6 (by decide) (by omega) (fun c6 => ?_) (fun c6 => absurd c6 (by decide))
    refine lv_aload_n hx hb dX0_names_11 rfl (lv_at hl 0 rfl) ?_
    refine gV_call (As := []) (rest := []) hx hb hml hown hts (dm_learn l G ad cA sz kn K N B D E T O hD hI) (cwX0_learn hts 3 ⟨by decide, by decide⟩) (hP.recv hK) hP hK rfl hl.1 rfl (Nat.le_of_ble_eq_true rfl) dX0_names_12 ⟨Nat.zero_le _, Nat.zero_le _⟩ (fun _ h => h) hS (fun H locs hr12 _ hS => ?_)
    obtain ⟨B1, D1, E1, T1, O1, hP, hLn, hsame⟩ := hr12
    have hL := hLn.1
    have hT := hLn.2
    refine ri_const hx hb dX0_names_15 ?_
    refine lv_istore_n (lv' := [(2, .int (iI 0)), (0, .ref (ad 0)), (1, .int (iI k))]) hx hb dX0_names_16 rfl hl (by decide) rfl (fun ls hl => ?_)
    refine ri_const hx hb dX0_names_17 ?_
    refine lv_istore_n (lv' := [(3, .int (iI 0)), (2, .int (iI 0)), (0, .ref (ad 0)), (1, .int (iI k))]) hx hb dX0_names_18 rfl hl (by decide) rfl (fun ls hl => ?_)
    have loop19 : ∀ (n : Nat) (set : Int32) (x3 : Int) (ls : Array Slot), 8 - x3 < (n : Int) → (0 ≤ x3 ∧ x3 ≤ 8) → (set = rd_set (rd_okN sz K N k) x3) → lv_has ls 4 [(0, .ref (ad 0)), (1, .int (iI k)), (2, .int set), (3, .int (iI x3))] → W p l e (rmL 4) s m (Value.ref (ad 0) :: [.int (iI k)]).toArray below meth c H locs 0 0 (MQ below (qM (dA ad) (fun r H => dKp G ad cA sz K N H ∧ rd_Names sz K N k r)) (Value.ref (ad 0) :: [.int (iI k)]).toArray s 0 0 (dA ad)) (F0 m 19 ls []) := by
      intro n
      induction n with
      | zero =>
        intro set x3 ls hm h1 h2 hl
        exfalso
        omega
      | succ n ih =>
        intro set x3 ls hm h1 h2 hl
        refine lv_iload_n hx hb dX0_names_19 rfl (lv_at hl 3 rfl) ?_
        refine ri_push hx hb dX0_names_20 (by decide) ?_
        refine ri_cmp_ge (tgt := 50) hx hb dX0_names_22 (by decide) (by omega) (fun c22 => ?_) (fun c22 => ?_)
        · refine lv_iload_n hx hb dX0_names_50 rfl (lv_at hl 2 rfl) ?_
          refine gM_iret hx hb hr hlocks dX0_names_51 hS ?_
          have e : x3 = 8 := by omega
          exact ⟨⟨1, B1, D1, E1, T1, O1, hP, hW, Or.inr ⟨rfl, hLn⟩⟩, Or.inl ⟨c3, by rw [h2, e]⟩⟩
        · refine lv_iload_n hx hb dX0_names_25 rfl (lv_at hl 2 rfl) ?_
          refine lv_aload_n hx hb dX0_names_26 rfl (lv_at hl 0 rfl) ?_
          refine lv_iload_n hx hb dX0_names_27 rfl (lv_at hl 1 rfl) ?_
          refine lv_iload_n hx hb dX0_names_28 rfl (lv_at hl 3 rfl) ?_
          refine gR_call (As := [.int (iI k), .int (iI x3)]) (rest := [.int set]) hx hb hml hown hts (dm_legalName l G ad cA sz 1 K N B1 D1 E1 T1 O1 k x3 (by omega) (by omega) hW hLn) (cwX0_legalName hts 3 ⟨by decide, by decide⟩) (hP.recv hK) hP hK rfl hl.1 rfl (Nat.le_of_ble_eq_true rfl) dX0_names_29 ⟨Nat.zero_le _, Nat.zero_le _⟩ (fun r29 hr29 => ?_)
          rcases hr29 with ⟨c29, rfl⟩ | ⟨c29, rfl⟩
          · refine ri_if_eq (tgt := 41) hx hb dX0_names_32 (by decide) (by omega) (fun c32 => absurd c32 (by decide)) (fun c32 => ?_)
            refine ri_const hx hb dX0_names_35 ?_
            refine lv_iload_n hx hb dX0_names_36 rfl (lv_at hl 3 rfl) ?_
            refine lv_ishl hx hb dX0_names_37 ?_
            refine lv_goto (tgt := 42) hx hb dX0_names_38 (by decide) ?_
            refine lv_ior hx hb dX0_names_42 ?_
            refine lv_istore_n (lv' := [(2, .int (set ||| (rd_bit x3))), (0, .ref (ad 0)), (1, .int (iI k)), (3, .int (iI x3))]) hx hb dX0_names_43 rfl hl (by decide) rfl (fun ls hl => ?_)
            refine ri_inc (k := 3) (lv1 := [(3, .int (iI (x3 + 1))), (2, .int (set ||| (rd_bit x3))), (0, .ref (ad 0)), (1, .int (iI k))]) hx hb dX0_names_44 hl rfl (by decide) rfl (fun ls hl => ?_)
            refine lv_goto (tgt := 19) hx hb dX0_names_47 (by decide) ?_
            exact ih (set ||| (rd_bit x3)) (x3 + 1) ls (by omega) (by omega) (by rw [rd_set_t (f := rd_okN sz K N k) (by omega) (((rd_okN_iff hT).trans (rd_lawA hT (by omega) (by omega) c3.2).symm).mpr c29), h2]) (lv_sub hl [2, 3, 1, 0] rfl)
          · refine ri_if_eq (tgt := 41) hx hb dX0_names_32 (by decide) (by omega) (fun c32 => ?_) (fun c32 => absurd c32 (by decide))
            refine ri_const hx hb dX0_names_41 ?_
            refine lv_ior hx hb dX0_names_42 ?_
            refine lv_istore_n (lv' := [(2, .int (set ||| iI 0)), (0, .ref (ad 0)), (1, .int (iI k)), (3, .int (iI x3))]) hx hb dX0_names_43 rfl hl (by decide) rfl (fun ls hl => ?_)
            refine ri_inc (k := 3) (lv1 := [(3, .int (iI (x3 + 1))), (2, .int (set ||| iI 0)), (0, .ref (ad 0)), (1, .int (iI k))]) hx hb dX0_names_44 hl rfl (by decide) rfl (fun ls hl => ?_)
            refine lv_goto (tgt := 19) hx hb dX0_names_47 (by decide) ?_
            exact ih (set ||| iI 0) (x3 + 1) ls (by omega) (by omega) (by rw [rd_or0, rd_set_f (f := rd_okN sz K N k) (by omega) (fun q => c29 (((rd_okN_iff hT).trans (rd_lawA hT (by omega) (by omega) c3.2).symm).mp q)), h2]) (lv_sub hl [2, 3, 1, 0] rfl)
    exact loop19 (Int.toNat ((8 - 0) + 1)) (iI 0) 0 ls (by omega) (by omega) (by exact (rd_set_0 _).symm) (lv_sub hl [2, 3, 1, 0] rfl)
  · refine ri_if_ne (tgt := 11) hx hb dX0_names_6 (by decide) (by omega) (fun c6 => absurd c6 (by decide)) (fun c6 => ?_)
    refine ri_const hx hb dX0_names_9 ?_
    refine gM_iret hx hb hr hlocks dX0_names_10 hS ?_
    exact ⟨⟨kn, B, D, E, T, O, hP, hI⟩, Or.inr ⟨c3, rfl⟩⟩
set_option maxHeartbeats 4000000 in
set_option maxRecDepth 100000 in
theorem dm_rename (l : Launch) (G : va_G) (ad : Nat → Nat) (cA : ClassId) (sz kn : Int) (K N B D E T O : Int → Int) (k m0 : Int) (hk : -2147483648 ≤ k ∧ k ≤ 2147483647) (hm0 : -2147483648 ≤ m0 ∧ m0 ≤ 2147483647) (hD : dD ad) (hI : rd_DI sz kn K N B D E T) : gMM l yX0_rename (ws_ yX0_rename cX0_rename 5 (some .int)) (rmL 4) G [(cA, .byte)] (dP G ad cA sz kn K N B D E T O) (ad 0) [.int (iI k), .int (iI m0)] (dA ad) (fun r H => ∃ (kn1 : Int) (N1 B1 D1 E1 T1 O1 : Int → Int), dP G ad cA sz kn1 K N1 B1 D1 E1 T1 O1 H ∧ rd_DI sz kn1 K N1 B1 D1 E1 T1 ∧ rd_Ren sz K N k m0 r N1) := by
  refine gMM_of (by decide) (Nat.le_of_ble_eq_true rfl) ?_
  intro p e s m below meth c ls hx hb hr hml hown hlocks hts hP hK hl
  have hown : s.vm.findClass RX0 = some m.cls := hown
  have hl : lv_has ls 5 [(0, .ref (ad 0)), (1, .int (iI k)), (2, .int (iI m0))] := hl
  have hS : va_S (dA ad) s.heap s.heap [] := va_S.rf
  have hW := hI.1
  have hsz := hW.1
  refine lv_aload_n hx hb dX0_rename_0 rfl (lv_at hl 0 rfl) ?_
  refine lv_iload_n hx hb dX0_rename_1 rfl (lv_at hl 1 rfl) ?_
  refine ri_const hx hb dX0_rename_2 ?_
  refine gR_call (As := [.int (iI k), .int (iI 2)]) (rest := []) hx hb hml hown hts (dm_isA l G ad cA sz kn K N B D E T O k 2 (by omega) (by omega) hW) (cwX0_isA hts 1 ⟨by decide, by decide⟩) (hP.recv hK) hP hK rfl hl.1 rfl (Nat.le_of_ble_eq_true rfl) dX0_rename_3 ⟨Nat.zero_le _, Nat.zero_le _⟩ (fun r3 hr3 => ?_)
  rcases hr3 with ⟨c3, rfl⟩ | ⟨c3, rfl⟩
  · refine ri_if_eq (tgt := 19) hx hb dX0_rename_6 (by decide) (by omega) (fun c6 => absurd c6 (by decide)) (fun c6 => ?_)
    refine lv_iload_n hx hb dX0_rename_9 rfl (lv_at hl 2 rfl) ?_
    refine ri_if_lt (tgt := 19) hx hb dX0_rename_10 (by decide) (by omega) (fun c10 => ?_) (fun c10 => ?_)
    · refine ri_const hx hb dX0_rename_19 ?_
      refine gM_iret hx hb hr hlocks dX0_rename_20 hS ?_
      exact ⟨kn, N, B, D, E, T, O, hP, hI, Or.inl ⟨fun q => by omega, rfl, rfl⟩⟩
    · refine lv_iload_n hx hb dX0_rename_13 rfl (lv_at hl 2 rfl) ?_
      refine ri_push hx hb dX0_rename_14 (by decide) ?_
      refine ri_cmp_lt (tgt := 21) hx hb dX0_rename_16 (by decide) (by omega) (fun c16 => ?_) (fun c16 => ?_)
      · refine lv_aload_n hx hb dX0_rename_21 rfl (lv_at hl 0 rfl) ?_
        refine gV_call (As := []) (rest := []) hx hb hml hown hts (dm_learn l G ad cA sz kn K N B D E T O hD hI) (cwX0_learn hts 3 ⟨by decide, by decide⟩) (hP.recv hK) hP hK rfl hl.1 rfl (Nat.le_of_ble_eq_true rfl) dX0_rename_22 ⟨Nat.zero_le _, Nat.zero_le _⟩ (fun _ h => h) hS (fun H locs hr22 _ hS => ?_)
        obtain ⟨B1, D1, E1, T1, O1, hP, hLn, hsame⟩ := hr22
        have hL := hLn.1
        have hT := hLn.2
        refine lv_aload_n hx hb dX0_rename_25 rfl (lv_at hl 0 rfl) ?_
        refine lv_iload_n hx hb dX0_rename_26 rfl (lv_at hl 1 rfl) ?_
        refine lv_iload_n hx hb dX0_rename_27 rfl (lv_at hl 2 rfl) ?_
        refine gR_call (As := [.int (iI k), .int (iI m0)]) (rest := []) hx hb hml hown hts (dm_legalName l G ad cA sz 1 K N B1 D1 E1 T1 O1 k m0 (by omega) (by omega) hW hLn) (cwX0_legalName hts 3 ⟨by decide, by decide⟩) (hP.recv hK) hP hK rfl hl.1 rfl (Nat.le_of_ble_eq_true rfl) dX0_rename_28 ⟨Nat.zero_le _, Nat.zero_le _⟩ (fun r28 hr28 => ?_)
        rcases hr28 with ⟨c28, rfl⟩ | ⟨c28, rfl⟩
        · refine ri_if_ne (tgt := 37) hx hb dX0_rename_31 (by decide) (by omega) (fun c31 => ?_) (fun c31 => absurd c31 (by decide))
          have hok : rd_okN sz K N k m0 := (rd_okN_iff hT).mpr ((rd_lawA hT (by omega) (by omega) c3.2).mp c28)
          refine ri_const hx hb dX0_rename_37 ?_
          refine lv_istore_n (lv' := [(3, .int (iI 0)), (0, .ref (ad 0)), (1, .int (iI k)), (2, .int (iI m0))]) hx hb dX0_rename_38 rfl hl (by decide) rfl (fun ls hl => ?_)
          refine ri_const hx hb dX0_rename_39 ?_
          refine lv_istore (lv' := [(4, .int (iI 0)), (3, .int (iI 0)), (0, .ref (ad 0)), (1, .int (iI k)), (2, .int (iI m0))]) hx hb dX0_rename_40 hl (by decide) rfl (fun ls hl => ?_)
          have loop42 : ∀ (n : Nat) (x3 : Int) (x4 : Int) (N_42 : Int → Int) (H : Heap) (locs : List Loc) (ls : Array Slot), sz - x4 < (n : Int) → (0 ≤ x4 ∧ x4 ≤ sz) → (x3 = rd_cnt (fun u => rd_rn sz N T1 k m0 u ≠ N u) x4) → (∀ i, N_42 i = if i < x4 then rd_rn sz N T1 k m0 i else N i) → dP G ad cA sz 1 K N_42 B1 D1 E1 T1 O1 H → va_S (dA ad) s.heap H locs → lv_has ls 5 [(0, .ref (ad 0)), (1, .int (iI k)), (2, .int (iI m0)), (3, .int (iI x3)), (4, .int (iI x4))] → W p l e (rmL 4) s m (Value.ref (ad 0) :: [.int (iI k), .int (iI m0)]).toArray below meth c H locs 0 0 (MQ below (qM (dA ad) (fun r H => ∃ (kn1 : Int) (N1 B1 D1 E1 T1 O1 : Int → Int), dP G ad cA sz kn1 K N1 B1 D1 E1 T1 O1 H ∧ rd_DI sz kn1 K N1 B1 D1 E1 T1 ∧ rd_Ren sz K N k m0 r N1)) (Value.ref (ad 0) :: [.int (iI k), .int (iI m0)]).toArray s 0 0 (dA ad)) (F0 m 42 ls []) := by
            intro n
            induction n with
            | zero =>
              intro x3 x4 N_42 H locs ls hm h1 h2 h3 hP hS hl
              exfalso
              omega
            | succ n ih =>
              intro x3 x4 N_42 H locs ls hm h1 h2 h3 hP hS hl
              refine lv_iload hx hb dX0_rename_42 (lv_at hl 4 rfl) ?_
              refine lv_aload_n hx hb dX0_rename_44 rfl (lv_at hl 0 rfl) ?_
              refine dg_size hx hb hts hown hK hP dX0_rename_45 ?_
              refine ri_cmp_ge (tgt := 97) hx hb dX0_rename_48 (by decide) (by omega) (fun c48 => ?_) (fun c48 => ?_)
              · refine lv_iload_n hx hb dX0_rename_97 rfl (lv_at hl 3 rfl) ?_
                refine gM_iret hx hb hr hlocks dX0_rename_98 hS ?_
                have e : x4 = sz := by omega
                have eN : N_42 = rd_rn sz N T1 k m0 := by
                  funext i
                  rw [h3 i]
                  by_cases q : i < x4
                  · rw [if_pos q]
                  · rw [if_neg q]
                    exact (if_neg (by omega)).symm
                rw [eN] at hP
                have hlg := (rd_okN_iff hT).mp hok
                exact ⟨1, _, B1, D1, E1, T1, O1, hP, ⟨rd_WF_rn hW (by omega), Or.inr ⟨rfl, hL, rd_Bds_rn hT hlg⟩⟩, Or.inr (Or.inr ⟨⟨c3, by omega, by omega⟩, hok, by rw [h2, e], T1, hT, rfl⟩)⟩
              · refine lv_iload hx hb dX0_rename_51 (lv_at hl 4 rfl) ?_
                refine lv_iload_n hx hb dX0_rename_53 rfl (lv_at hl 1 rfl) ?_
                refine ri_cmp_eq (tgt := 68) hx hb dX0_rename_54 (by decide) (by omega) (fun c54 => ?_) (fun c54 => ?_)
                · refine lv_aload_n hx hb dX0_rename_68 rfl (lv_at hl 0 rfl) ?_
                  refine dg_names hx hb hts hown hK hP dX0_rename_69 ?_
                  refine lv_iload hx hb dX0_rename_72 (lv_at hl 4 rfl) ?_
                  refine dl_names hx hb hK hP (by omega) dX0_rename_74 ?_
                  have hf4 := hW.2.1 x4 (by omega) (by omega)
                  have hg4 : N_42 x4 = N x4 := by rw [h3 x4, if_neg (by omega)]
                  refine lv_iload_n hx hb dX0_rename_75 rfl (lv_at hl 2 rfl) ?_
                  refine ri_cmp_eq (tgt := 91) hx hb dX0_rename_76 (by decide) (by omega) (fun c76 => ?_) (fun c76 => ?_)
                  · refine ri_inc (k := 4) (lv1 := [(4, .int (iI (x4 + 1))), (0, .ref (ad 0)), (1, .int (iI k)), (2, .int (iI m0)), (3, .int (iI x3))]) hx hb dX0_rename_91 hl rfl (by decide) rfl (fun ls hl => ?_)
                    refine lv_goto (tgt := 42) hx hb dX0_rename_94 (by decide) ?_
                    have hrn : rd_rn sz N T1 k m0 x4 = m0 := if_pos (by omega)
                    exact ih x3 (x4 + 1) N_42 H locs ls (by omega) (by omega) (by rw [rd_cnt_f (f := fun u => rd_rn sz N T1 k m0 u ≠ N u) (by omega) (fun q => q (by rw [hrn]; try omega)), h2]) (by exact rd_rn_s0 h3 (by rw [hrn]; try omega)) hP hS (lv_sub hl [1, 2, 3, 4, 0] rfl)
                  · refine lv_aload_n hx hb dX0_rename_79 rfl (lv_at hl 0 rfl) ?_
                    refine dg_names hx hb hts hown hK hP dX0_rename_80 ?_
                    refine lv_iload hx hb dX0_rename_83 (lv_at hl 4 rfl) ?_
                    refine lv_iload_n hx hb dX0_rename_85 rfl (lv_at hl 2 rfl) ?_
                    refine ri_i2b hx hb (by omega) dX0_rename_86 ?_
                    refine ds_names hx hb hK hP hD hS (by omega) (by omega) dX0_rename_87 (fun H locs hP hS => ?_)
                    refine ri_inc (k := 3) (lv1 := [(3, .int (iI (x3 + 1))), (0, .ref (ad 0)), (1, .int (iI k)), (2, .int (iI m0)), (4, .int (iI x4))]) hx hb dX0_rename_88 hl rfl (by decide) rfl (fun ls hl => ?_)
                    refine ri_inc (k := 4) (lv1 := [(4, .int (iI (x4 + 1))), (3, .int (iI (x3 + 1))), (0, .ref (ad 0)), (1, .int (iI k)), (2, .int (iI m0))]) hx hb dX0_rename_91 hl rfl (by decide) rfl (fun ls hl => ?_)
                    refine lv_goto (tgt := 42) hx hb dX0_rename_94 (by decide) ?_
                    have hrn : rd_rn sz N T1 k m0 x4 = m0 := if_pos (by omega)
                    exact ih (x3 + 1) (x4 + 1) (rd_up N_42 x4 m0) H locs ls (by omega) (by omega) (by rw [rd_cnt_t (f := fun u => rd_rn sz N T1 k m0 u ≠ N u) (by omega) (by rw [hrn]; omega), h2]) (by exact rd_rn_s h3 hrn.symm) hP hS (lv_sub hl [2, 3, 4, 1, 0] rfl)
                · refine lv_aload_n hx hb dX0_rename_57 rfl (lv_at hl 0 rfl) ?_
                  refine dg_boundTo hx hb hts hown hK hP dX0_rename_58 ?_
                  refine lv_iload hx hb dX0_rename_61 (lv_at hl 4 rfl) ?_
                  refine dl_boundTo hx hb hK hP (by omega) dX0_rename_63 ?_
                  have hf5 := rd_Bd_rng (hT x4 (by omega) (by omega)) (by omega)
                  refine lv_iload_n hx hb dX0_rename_64 rfl (lv_at hl 1 rfl) ?_
                  refine ri_cmp_ne (tgt := 91) hx hb dX0_rename_65 (by decide) (by omega) (fun c65 => ?_) (fun c65 => ?_)
                  · refine ri_inc (k := 4) (lv1 := [(4, .int (iI (x4 + 1))), (0, .ref (ad 0)), (1, .int (iI k)), (2, .int (iI m0)), (3, .int (iI x3))]) hx hb dX0_rename_91 hl rfl (by decide) rfl (fun ls hl => ?_)
                    refine lv_goto (tgt := 42) hx hb dX0_rename_94 (by decide) ?_
                    have hrn : rd_rn sz N T1 k m0 x4 = N x4 := if_neg (by omega)
                    exact ih x3 (x4 + 1) N_42 H locs ls (by omega) (by omega) (by rw [rd_cnt_f (f := fun u => rd_rn sz N T1 k m0 u ≠ N u) (by omega) (fun q => q (by rw [hrn]; try omega)), h2]) (by exact rd_rn_s0 h3 (by rw [hrn]; try omega)) hP hS (lv_sub hl [1, 2, 3, 4, 0] rfl)
                  · refine lv_aload_n hx hb dX0_rename_68 rfl (lv_at hl 0 rfl) ?_
                    refine dg_names hx hb hts hown hK hP dX0_rename_69 ?_
                    refine lv_iload hx hb dX0_rename_72 (lv_at hl 4 rfl) ?_
                    refine dl_names hx hb hK hP (by omega) dX0_rename_74 ?_
                    have hf6 := hW.2.1 x4 (by omega) (by omega)
                    have hg6 : N_42 x4 = N x4 := by rw [h3 x4, if_neg (by omega)]
                    refine lv_iload_n hx hb dX0_rename_75 rfl (lv_at hl 2 rfl) ?_
                    refine ri_cmp_eq (tgt := 91) hx hb dX0_rename_76 (by decide) (by omega) (fun c76 => ?_) (fun c76 => ?_)
                    · refine ri_inc (k := 4) (lv1 := [(4, .int (iI (x4 + 1))), (0, .ref (ad 0)), (1, .int (iI k)), (2, .int (iI m0)), (3, .int (iI x3))]) hx hb dX0_rename_91 hl rfl (by decide) rfl (fun ls hl => ?_)
                      refine lv_goto (tgt := 42) hx hb dX0_rename_94 (by decide) ?_
                      have hrn : rd_rn sz N T1 k m0 x4 = m0 := if_pos (by omega)
                      exact ih x3 (x4 + 1) N_42 H locs ls (by omega) (by omega) (by rw [rd_cnt_f (f := fun u => rd_rn sz N T1 k m0 u ≠ N u) (by omega) (fun q => q (by rw [hrn]; try omega)), h2]) (by exact rd_rn_s0 h3 (by rw [hrn]; try omega)) hP hS (lv_sub hl [1, 2, 3, 4, 0] rfl)
                    · refine lv_aload_n hx hb dX0_rename_79 rfl (lv_at hl 0 rfl) ?_
                      refine dg_names hx hb hts hown hK hP dX0_rename_80 ?_
                      refine lv_iload hx hb dX0_rename_83 (lv_at hl 4 rfl) ?_
                      refine lv_iload_n hx hb dX0_rename_85 rfl (lv_at hl 2 rfl) ?_
                      refine ri_i2b hx hb (by omega) dX0_rename_86 ?_
                      refine ds_names hx hb hK hP hD hS (by omega) (by omega) dX0_rename_87 (fun H locs hP hS => ?_)
                      refine ri_inc (k := 3) (lv1 := [(3, .int (iI (x3 + 1))), (0, .ref (ad 0)), (1, .int (iI k)), (2, .int (iI m0)), (4, .int (iI x4))]) hx hb dX0_rename_88 hl rfl (by decide) rfl (fun ls hl => ?_)
                      refine ri_inc (k := 4) (lv1 := [(4, .int (iI (x4 + 1))), (3, .int (iI (x3 + 1))), (0, .ref (ad 0)), (1, .int (iI k)), (2, .int (iI m0))]) hx hb dX0_rename_91 hl rfl (by decide) rfl (fun ls hl => ?_)
                      refine lv_goto (tgt := 42) hx hb dX0_rename_94 (by decide) ?_
                      have hrn : rd_rn sz N T1 k m0 x4 = m0 := if_pos (by omega)
                      exact ih (x3 + 1) (x4 + 1) (rd_up N_42 x4 m0) H locs ls (by omega) (by omega) (by rw [rd_cnt_t (f := fun u => rd_rn sz N T1 k m0 u ≠ N u) (by omega) (by rw [hrn]; omega), h2]) (by exact rd_rn_s h3 hrn.symm) hP hS (lv_sub hl [2, 3, 4, 1, 0] rfl)
          exact loop42 (Int.toNat ((sz - 0) + 1)) 0 0 N H locs ls (by omega) (by omega) (by exact (rd_cnt_0 _).symm) (by intro i; by_cases q : i < 0; rw [if_pos q]; exact (if_neg (by omega)).symm; rw [if_neg q]) hP hS (lv_sub hl [2, 3, 4, 1, 0] rfl)
        · refine ri_if_ne (tgt := 37) hx hb dX0_rename_31 (by decide) (by omega) (fun c31 => absurd c31 (by decide)) (fun c31 => ?_)
          refine ri_push hx hb dX0_rename_34 (by decide) ?_
          refine gM_iret hx hb hr hlocks dX0_rename_36 hS ?_
          exact ⟨1, N, B1, D1, E1, T1, O1, hP, ⟨hW, Or.inr ⟨rfl, hLn⟩⟩, Or.inr (Or.inl ⟨⟨c3, by omega, by omega⟩, fun q => c28 ((rd_lawA hT (by omega) (by omega) c3.2).mpr ((rd_okN_iff hT).mp q)), rfl, rfl⟩)⟩
      · refine ri_const hx hb dX0_rename_19 ?_
        refine gM_iret hx hb hr hlocks dX0_rename_20 hS ?_
        exact ⟨kn, N, B, D, E, T, O, hP, hI, Or.inl ⟨fun q => by omega, rfl, rfl⟩⟩
  · refine ri_if_eq (tgt := 19) hx hb dX0_rename_6 (by decide) (by omega) (fun c6 => ?_) (fun c6 => absurd c6 (by decide))
    refine ri_const hx hb dX0_rename_19 ?_
    refine gM_iret hx hb hr hlocks dX0_rename_20 hS ?_
    exact ⟨kn, N, B, D, E, T, O, hP, hI, Or.inl ⟨fun q => c3 q.1, rfl, rfl⟩⟩
set_option maxHeartbeats 4000000 in
set_option maxRecDepth 100000 in
theorem dm_depth (l : Launch) (G : va_G) (ad : Nat → Nat) (cA : ClassId) (sz kn : Int) (K N B D E T O : Int → Int) (k : Int) (hk : -2147483648 ≤ k ∧ k ≤ 2147483647) (hD : dD ad) (hI : rd_DI sz kn K N B D E T) : gMM l yX0_depth (ws_ yX0_depth cX0_depth 2 (some .int)) (rmL 4) G [(cA, .byte)] (dP G ad cA sz kn K N B D E T O) (ad 0) [.int (iI k)] (dA ad) (fun r H => dKp G ad cA sz K N H ∧ rd_Dpt sz K k r) := by
  refine gMM_of (by decide) (Nat.le_of_ble_eq_true rfl) ?_
  intro p e s m below meth c ls hx hb hr hml hown hlocks hts hP hK hl
  have hown : s.vm.findClass RX0 = some m.cls := hown
  have hl : lv_has ls 2 [(0, .ref (ad 0)), (1, .int (iI k))] := hl
  have hS : va_S (dA ad) s.heap s.heap [] := va_S.rf
  have hW := hI.1
  have hsz := hW.1
  refine lv_aload_n hx hb dX0_depth_0 rfl (lv_at hl 0 rfl) ?_
  refine lv_iload_n hx hb dX0_depth_1 rfl (lv_at hl 1 rfl) ?_
  refine gR_call (As := [.int (iI k)]) (rest := []) hx hb hml hown hts (dm_isPlace l G ad cA sz kn K N B D E T O k (by omega) hW) (cwX0_isPlace hts 0 ⟨by decide, by decide⟩) (hP.recv hK) hP hK rfl hl.1 rfl (Nat.le_of_ble_eq_true rfl) dX0_depth_2 ⟨Nat.zero_le _, Nat.zero_le _⟩ (fun r2 hr2 => ?_)
  rcases hr2 with ⟨c2, rfl⟩ | ⟨c2, rfl⟩
  · refine ri_if_ne (tgt := 10) hx hb dX0_depth_5 (by decide) (by omega) (fun c5 => ?_) (fun c5 => absurd c5 (by decide))
    refine lv_aload_n hx hb dX0_depth_10 rfl (lv_at hl 0 rfl) ?_
    refine gV_call (As := []) (rest := []) hx hb hml hown hts (dm_learn l G ad cA sz kn K N B D E T O hD hI) (cwX0_learn hts 3 ⟨by decide, by decide⟩) (hP.recv hK) hP hK rfl hl.1 rfl (Nat.le_of_ble_eq_true rfl) dX0_depth_11 ⟨Nat.zero_le _, Nat.zero_le _⟩ (fun _ h => h) hS (fun H locs hr11 _ hS => ?_)
    obtain ⟨B1, D1, E1, T1, O1, hP, hLn, hsame⟩ := hr11
    have hL := hLn.1
    have hT := hLn.2
    refine lv_aload_n hx hb dX0_depth_14 rfl (lv_at hl 0 rfl) ?_
    refine dg_deep hx hb hts hown hK hP dX0_depth_15 ?_
    refine lv_iload_n hx hb dX0_depth_18 rfl (lv_at hl 1 rfl) ?_
    refine dl_deep hx hb hK hP (by omega) dX0_depth_19 ?_
    refine gM_iret hx hb hr hlocks dX0_depth_20 hS ?_
    exact ⟨⟨1, B1, D1, E1, T1, O1, hP, hW, Or.inr ⟨rfl, hLn⟩⟩, Or.inl ⟨c2, by rw [(hL k (by omega) (by omega)).2.1]⟩⟩
  · refine ri_if_ne (tgt := 10) hx hb dX0_depth_5 (by decide) (by omega) (fun c5 => absurd c5 (by decide)) (fun c5 => ?_)
    refine ri_const hx hb dX0_depth_8 ?_
    refine gM_iret hx hb hr hlocks dX0_depth_9 hS ?_
    exact ⟨⟨kn, B, D, E, T, O, hP, hI⟩, Or.inr ⟨c2, rfl⟩⟩
set_option maxHeartbeats 4000000 in
set_option maxRecDepth 100000 in
theorem dm_visible (l : Launch) (G : va_G) (ad : Nat → Nat) (cA : ClassId) (sz kn : Int) (K N B D E T O : Int → Int) (k : Int) (hk : -2147483648 ≤ k ∧ k ≤ 2147483647) (hD : dD ad) (hI : rd_DI sz kn K N B D E T) : gMM l yX0_visible (ws_ yX0_visible cX0_visible 4 (some .int)) (rmL 4) G [(cA, .byte)] (dP G ad cA sz kn K N B D E T O) (ad 0) [.int (iI k)] (dA ad) (fun r H => dKp G ad cA sz K N H ∧ rd_Vib sz K N k r) := by
  refine gMM_of (by decide) (Nat.le_of_ble_eq_true rfl) ?_
  intro p e s m below meth c ls hx hb hr hml hown hlocks hts hP hK hl
  have hown : s.vm.findClass RX0 = some m.cls := hown
  have hl : lv_has ls 4 [(0, .ref (ad 0)), (1, .int (iI k))] := hl
  have hS : va_S (dA ad) s.heap s.heap [] := va_S.rf
  have hW := hI.1
  have hsz := hW.1
  refine lv_aload_n hx hb dX0_visible_0 rfl (lv_at hl 0 rfl) ?_
  refine lv_iload_n hx hb dX0_visible_1 rfl (lv_at hl 1 rfl) ?_
  refine gR_call (As := [.int (iI k)]) (rest := []) hx hb hml hown hts (dm_isPlace l G ad cA sz kn K N B D E T O k (by omega) hW) (cwX0_isPlace hts 0 ⟨by decide, by decide⟩) (hP.recv hK) hP hK rfl hl.1 rfl (Nat.le_of_ble_eq_true rfl) dX0_visible_2 ⟨Nat.zero_le _, Nat.zero_le _⟩ (fun r2 hr2 => ?_)
  rcases hr2 with ⟨c2, rfl⟩ | ⟨c2, rfl⟩
  · refine ri_if_ne (tgt := 10) hx hb dX0_visible_5 (by decide) (by omega) (fun c5 => ?_) (fun c5 => absurd c5 (by decide))
    refine lv_aload_n hx hb dX0_visible_10 rfl (lv_at hl 0 rfl) ?_
    refine gV_call (As := []) (rest := []) hx hb hml hown hts (dm_learn l G ad cA sz kn K N B D E T O hD hI) (cwX0_learn hts 3 ⟨by decide, by decide⟩) (hP.recv hK) hP hK rfl hl.1 rfl (Nat.le_of_ble_eq_true rfl) dX0_visible_11 ⟨Nat.zero_le _, Nat.zero_le _⟩ (fun _ h => h) hS (fun H locs hr11 _ hS => ?_)
    obtain ⟨B1, D1, E1, T1, O1, hP, hLn, hsame⟩ := hr11
    have hL := hLn.1
    have hT := hLn.2
    refine ri_const hx hb dX0_visible_14 ?_
    refine lv_istore_n (lv' := [(2, .int (iI 0)), (0, .ref (ad 0)), (1, .int (iI k))]) hx hb dX0_visible_15 rfl hl (by decide) rfl (fun ls hl => ?_)
    refine ri_const hx hb dX0_visible_16 ?_
    refine lv_istore_n (lv' := [(3, .int (iI 0)), (2, .int (iI 0)), (0, .ref (ad 0)), (1, .int (iI k))]) hx hb dX0_visible_17 rfl hl (by decide) rfl (fun ls hl => ?_)
    have loop18 : ∀ (n : Nat) (set : Int32) (x3 : Int) (ls : Array Slot), 8 - x3 < (n : Int) → (0 ≤ x3 ∧ x3 ≤ 8) → (set = rd_set (fun n => ∃ d, rd_Cand K N n k d) x3) → lv_has ls 4 [(0, .ref (ad 0)), (1, .int (iI k)), (2, .int set), (3, .int (iI x3))] → W p l e (rmL 4) s m (Value.ref (ad 0) :: [.int (iI k)]).toArray below meth c H locs 0 0 (MQ below (qM (dA ad) (fun r H => dKp G ad cA sz K N H ∧ rd_Vib sz K N k r)) (Value.ref (ad 0) :: [.int (iI k)]).toArray s 0 0 (dA ad)) (F0 m 18 ls []) := by
      intro n
      induction n with
      | zero =>
        intro set x3 ls hm h1 h2 hl
        exfalso
        omega
      | succ n ih =>
        intro set x3 ls hm h1 h2 hl
        refine lv_iload_n hx hb dX0_visible_18 rfl (lv_at hl 3 rfl) ?_
        refine ri_push hx hb dX0_visible_19 (by decide) ?_
        refine ri_cmp_ge (tgt := 49) hx hb dX0_visible_21 (by decide) (by omega) (fun c21 => ?_) (fun c21 => ?_)
        · refine lv_iload_n hx hb dX0_visible_49 rfl (lv_at hl 2 rfl) ?_
          refine gM_iret hx hb hr hlocks dX0_visible_50 hS ?_
          have e : x3 = 8 := by omega
          exact ⟨⟨1, B1, D1, E1, T1, O1, hP, hW, Or.inr ⟨rfl, hLn⟩⟩, Or.inl ⟨c2, by rw [h2, e]⟩⟩
        · refine lv_iload_n hx hb dX0_visible_24 rfl (lv_at hl 2 rfl) ?_
          refine lv_aload_n hx hb dX0_visible_25 rfl (lv_at hl 0 rfl) ?_
          refine lv_iload_n hx hb dX0_visible_26 rfl (lv_at hl 3 rfl) ?_
          refine lv_iload_n hx hb dX0_visible_27 rfl (lv_at hl 1 rfl) ?_
          refine gR_call (As := [.int (iI x3), .int (iI k)]) (rest := [.int set]) hx hb hml hown hts (dm_winner l G ad cA sz 1 K N B1 D1 E1 T1 O1 x3 k (by omega) (by omega) hW hL) (cwX0_winner hts 2 ⟨by decide, by decide⟩) (hP.recv hK) hP hK rfl hl.1 rfl (Nat.le_of_ble_eq_true rfl) dX0_visible_28 ⟨Nat.zero_le _, Nat.zero_le _⟩ (fun r28 hr28 => ?_)
          obtain ⟨w28, rfl, hw28⟩ := hr28
          have hr28 := rd_Win_rng hw28 (by omega)
          refine ri_if_lt (tgt := 40) hx hb dX0_visible_31 (by decide) (by omega) (fun c31 => ?_) (fun c31 => ?_)
          · refine ri_const hx hb dX0_visible_40 ?_
            refine lv_ior hx hb dX0_visible_41 ?_
            refine lv_istore_n (lv' := [(2, .int (set ||| iI 0)), (0, .ref (ad 0)), (1, .int (iI k)), (3, .int (iI x3))]) hx hb dX0_visible_42 rfl hl (by decide) rfl (fun ls hl => ?_)
            refine ri_inc (k := 3) (lv1 := [(3, .int (iI (x3 + 1))), (2, .int (set ||| iI 0)), (0, .ref (ad 0)), (1, .int (iI k))]) hx hb dX0_visible_43 hl rfl (by decide) rfl (fun ls hl => ?_)
            refine lv_goto (tgt := 18) hx hb dX0_visible_46 (by decide) ?_
            exact ih (set ||| iI 0) (x3 + 1) ls (by omega) (by omega) (by rw [rd_or0, rd_set_f (f := fun n => ∃ d, rd_Cand K N n k d) (by omega) (fun q => by obtain ⟨d, q⟩ := q; exact rd_Win_neg hw28 c31 q), h2]) (lv_sub hl [2, 3, 1, 0] rfl)
          · refine ri_const hx hb dX0_visible_34 ?_
            refine lv_iload_n hx hb dX0_visible_35 rfl (lv_at hl 3 rfl) ?_
            refine lv_ishl hx hb dX0_visible_36 ?_
            refine lv_goto (tgt := 41) hx hb dX0_visible_37 (by decide) ?_
            refine lv_ior hx hb dX0_visible_41 ?_
            refine lv_istore_n (lv' := [(2, .int (set ||| (rd_bit x3))), (0, .ref (ad 0)), (1, .int (iI k)), (3, .int (iI x3))]) hx hb dX0_visible_42 rfl hl (by decide) rfl (fun ls hl => ?_)
            refine ri_inc (k := 3) (lv1 := [(3, .int (iI (x3 + 1))), (2, .int (set ||| (rd_bit x3))), (0, .ref (ad 0)), (1, .int (iI k))]) hx hb dX0_visible_43 hl rfl (by decide) rfl (fun ls hl => ?_)
            refine lv_goto (tgt := 18) hx hb dX0_visible_46 (by decide) ?_
            exact ih (set ||| (rd_bit x3)) (x3 + 1) ls (by omega) (by omega) (by rw [rd_set_t (f := fun n => ∃ d, rd_Cand K N n k d) (by omega) ⟨w28, rd_Win_pos hw28 c31⟩, h2]) (lv_sub hl [2, 3, 1, 0] rfl)
    exact loop18 (Int.toNat ((8 - 0) + 1)) (iI 0) 0 ls (by omega) (by omega) (by exact (rd_set_0 _).symm) (lv_sub hl [2, 3, 1, 0] rfl)
  · refine ri_if_ne (tgt := 10) hx hb dX0_visible_5 (by decide) (by omega) (fun c5 => absurd c5 (by decide)) (fun c5 => ?_)
    refine ri_const hx hb dX0_visible_8 ?_
    refine gM_iret hx hb hr hlocks dX0_visible_9 hS ?_
    exact ⟨⟨kn, B, D, E, T, O, hP, hI⟩, Or.inr ⟨c2, rfl⟩⟩
end
section
theorem rd_sw_up (K : Int → Int) (k : Int) : rd_up (rd_up K k (K (k + 1))) (k + 1) (K k) = rd_sw K k := by
  funext i
  by_cases e : i = k + 1
  · rw [e, rd_up_s, rd_sw_b]
  · rw [rd_up_n e]
    by_cases e2 : i = k
    · rw [e2, rd_up_s, rd_sw_a]
    · rw [rd_up_n e2, rd_sw_o e2 e]
theorem rd_mv_s {F K : Int → Int} {x k v : Int} (h : ∀ i, F i = if x < i ∧ i ≤ k then K (i - 1) else K i) (hx : x ≤ k) (hv : v = K (x - 1)) : ∀ i, rd_up F x v i = if x + (-1) < i ∧ i ≤ k then K (i - 1) else K i := by
  intro i
  by_cases e : i = x
  · rw [e, rd_up_s, if_pos (by omega), hv]
  · rw [rd_up_n e, h i]
    by_cases q : x < i ∧ i ≤ k
    · rw [if_pos q, if_pos (by omega)]
    · rw [if_neg q, if_neg (by omega)]
theorem rd_mv_e {F K : Int → Int} {b k v : Int} (h : ∀ i, F i = if b < i ∧ i ≤ k then K (i - 1) else K i) (hv : v = K k) : rd_up F b v = rd_mv K b k := by
  funext i
  by_cases e : i = b
  · rw [e, rd_up_s, rd_mv_b, hv]
  · rw [rd_up_n e, h i]
    unfold rd_mv
    rw [if_neg e]
set_option maxHeartbeats 4000000 in
set_option maxRecDepth 100000 in
theorem dm_legalSwap (l : Launch) (G : va_G) (ad : Nat → Nat) (cA : ClassId) (sz kn : Int) (K N B D E T O : Int → Int) (k : Int) (hk : 0 ≤ k ∧ k + 1 < sz) (hk2 : 2 ≤ K k ∧ 2 ≤ K (k + 1)) (hD : dD ad) (hI : rd_DI sz kn K N B D E T) (hkn : kn = 1) (hLn : rd_Ln sz K N B D E T) : gMM l yX0_legalSwap (ws_ yX0_legalSwap cX0_legalSwap 2 (some .boolean)) (rmL 5) G [(cA, .byte)] (dP G ad cA sz kn K N B D E T O) (ad 0) [.int (iI k)] (dA ad) (fun r H => dP G ad cA sz kn K N B D E T O H ∧ rd_BP (rd_LS sz K N T k) r) := by
  refine gMM_of (by decide) (Nat.le_of_ble_eq_true rfl) ?_
  intro p e s m below meth c ls hx hb hr hml hown hlocks hts hP hK hl
  have hown : s.vm.findClass RX0 = some m.cls := hown
  have hl : lv_has ls 2 [(0, .ref (ad 0)), (1, .int (iI k))] := hl
  have hS : va_S (dA ad) s.heap s.heap [] := va_S.rf
  have hW := hI.1
  have hsz := hW.1
  have hL := hLn.1
  have hT := hLn.2
  refine lv_aload_n hx hb dX0_legalSwap_0 rfl (lv_at hl 0 rfl) ?_
  refine dg_names hx hb hts hown hK hP dX0_legalSwap_1 ?_
  refine lv_iload_n hx hb dX0_legalSwap_4 rfl (lv_at hl 1 rfl) ?_
  refine dl_names hx hb hK hP (by omega) dX0_legalSwap_5 ?_
  have hf1 := hW.2.1 k (by omega) (by omega)
  refine lv_aload_n hx hb dX0_legalSwap_6 rfl (lv_at hl 0 rfl) ?_
  refine dg_names hx hb hts hown hK hP dX0_legalSwap_7 ?_
  refine lv_iload_n hx hb dX0_legalSwap_10 rfl (lv_at hl 1 rfl) ?_
  refine ri_const hx hb dX0_legalSwap_11 ?_
  refine ri_add hx hb dX0_legalSwap_12 ?_
  refine dl_names hx hb hK hP (by omega) dX0_legalSwap_13 ?_
  have hf2 := hW.2.1 (k + 1) (by omega) (by omega)
  refine ri_cmp_ne (tgt := 39) hx hb dX0_legalSwap_14 (by decide) (by omega) (fun c14 => ?_) (fun c14 => ?_)
  · refine ri_const hx hb dX0_legalSwap_39 ?_
    refine gM_zret hx hb hr hlocks dX0_legalSwap_40 hS (by omega) ?_
    exact ⟨hP, Or.inl ⟨Or.inl (Or.inl c14), rfl⟩⟩
  · refine lv_aload_n hx hb dX0_legalSwap_17 rfl (lv_at hl 0 rfl) ?_
    refine dg_kinds hx hb hts hown hK hP dX0_legalSwap_18 ?_
    refine lv_iload_n hx hb dX0_legalSwap_21 rfl (lv_at hl 1 rfl) ?_
    refine dl_kinds hx hb hK hP (by omega) dX0_legalSwap_22 ?_
    have hf3 := hW.2.1 k (by omega) (by omega)
    refine ri_const hx hb dX0_legalSwap_23 ?_
    refine ri_cmp_ne (tgt := 41) hx hb dX0_legalSwap_24 (by decide) (by omega) (fun c24 => ?_) (fun c24 => ?_)
    · refine lv_aload_n hx hb dX0_legalSwap_41 rfl (lv_at hl 0 rfl) ?_
      refine dg_kinds hx hb hts hown hK hP dX0_legalSwap_42 ?_
      refine lv_iload_n hx hb dX0_legalSwap_45 rfl (lv_at hl 1 rfl) ?_
      refine dl_kinds hx hb hK hP (by omega) dX0_legalSwap_46 ?_
      have hf4 := hW.2.1 k (by omega) (by omega)
      refine ri_const hx hb dX0_legalSwap_47 ?_
      refine ri_cmp_eq (tgt := 63) hx hb dX0_legalSwap_48 (by decide) (by omega) (fun c48 => by omega) (fun c48 => ?_)
      refine lv_aload_n hx hb dX0_legalSwap_51 rfl (lv_at hl 0 rfl) ?_
      refine dg_kinds hx hb hts hown hK hP dX0_legalSwap_52 ?_
      refine lv_iload_n hx hb dX0_legalSwap_55 rfl (lv_at hl 1 rfl) ?_
      refine ri_const hx hb dX0_legalSwap_56 ?_
      refine ri_add hx hb dX0_legalSwap_57 ?_
      refine dl_kinds hx hb hK hP (by omega) dX0_legalSwap_58 ?_
      have hf5 := hW.2.1 (k + 1) (by omega) (by omega)
      refine ri_const hx hb dX0_legalSwap_59 ?_
      refine ri_cmp_ne (tgt := 65) hx hb dX0_legalSwap_60 (by decide) (by omega) (fun c60 => ?_) (fun c60 => ?_)
      · refine lv_aload_n hx hb dX0_legalSwap_65 rfl (lv_at hl 0 rfl) ?_
        refine lv_iload_n hx hb dX0_legalSwap_66 rfl (lv_at hl 1 rfl) ?_
        refine ri_const hx hb dX0_legalSwap_67 ?_
        refine ri_add hx hb dX0_legalSwap_68 ?_
        refine gM_call (As := [.int (iI (k + 1))]) (rest := []) hx hb hml hown hts (dm_uses l G ad cA sz kn K N B D E T O (k + 1) (by omega) hD hI) (cwX0_uses hts 4 ⟨by decide, by decide⟩) (hP.recv hK) hP hK rfl hl.1 rfl (Nat.le_of_ble_eq_true rfl) dX0_legalSwap_69 ⟨Nat.zero_le _, Nat.zero_le _⟩ (fun _ h => h) hS (fun r69 H locs hr69 _ hS => ?_)
        obtain ⟨kn1, B1, D1, E1, T1, O1, hP, hI1, hsame1, hus⟩ := hr69
        obtain ⟨hk1, hB1, hD1, hE1, hT1, hO1⟩ := hsame1 hkn
        rw [hk1.trans hkn.symm, hB1, hD1, hE1, hT1, hO1] at hP
        refine lv_if_ne (tgt := 79) hx hb dX0_legalSwap_72 (by decide) (fun c72 => ?_) (fun c72 => ?_)
        · refine ri_const hx hb dX0_legalSwap_79 ?_
          refine gM_zret hx hb hr hlocks dX0_legalSwap_80 hS (by omega) ?_
          have hA := rd_Uses_0 hus ⟨by omega, by omega⟩ (by omega)
          refine ⟨hP, Or.inr ⟨fun q => ?_, rfl⟩⟩
          rcases q with (q | q) | q
          · exact q c14
          · omega
          · exact c72 (hA.mpr (fun u q1 q2 e => q.2 u q1 q2 ((rd_Bds_iff hT q1 q2).mp e)))
        · refine ri_const hx hb dX0_legalSwap_75 ?_
          refine lv_goto (tgt := 80) hx hb dX0_legalSwap_76 (by decide) ?_
          refine gM_zret hx hb hr hlocks dX0_legalSwap_80 hS (by omega) ?_
          have hA := rd_Uses_0 hus ⟨by omega, by omega⟩ (by omega)
          exact ⟨hP, Or.inl ⟨Or.inr ⟨by omega, fun u q1 q2 e => hA.mp c72 u q1 q2 ((rd_Bds_iff hT q1 q2).mpr e)⟩, rfl⟩⟩
      · refine ri_const hx hb dX0_legalSwap_63 ?_
        refine gM_zret hx hb hr hlocks dX0_legalSwap_64 hS (by omega) ?_
        refine ⟨hP, Or.inr ⟨fun q => ?_, rfl⟩⟩
        rcases q with (q | q) | q
        · exact q c14
        · omega
        · exact q.1 (by omega)
    · refine lv_aload_n hx hb dX0_legalSwap_27 rfl (lv_at hl 0 rfl) ?_
      refine dg_kinds hx hb hts hown hK hP dX0_legalSwap_28 ?_
      refine lv_iload_n hx hb dX0_legalSwap_31 rfl (lv_at hl 1 rfl) ?_
      refine ri_const hx hb dX0_legalSwap_32 ?_
      refine ri_add hx hb dX0_legalSwap_33 ?_
      refine dl_kinds hx hb hK hP (by omega) dX0_legalSwap_34 ?_
      have hf9 := hW.2.1 (k + 1) (by omega) (by omega)
      refine ri_const hx hb dX0_legalSwap_35 ?_
      refine ri_cmp_ne (tgt := 41) hx hb dX0_legalSwap_36 (by decide) (by omega) (fun c36 => ?_) (fun c36 => ?_)
      · refine lv_aload_n hx hb dX0_legalSwap_41 rfl (lv_at hl 0 rfl) ?_
        refine dg_kinds hx hb hts hown hK hP dX0_legalSwap_42 ?_
        refine lv_iload_n hx hb dX0_legalSwap_45 rfl (lv_at hl 1 rfl) ?_
        refine dl_kinds hx hb hK hP (by omega) dX0_legalSwap_46 ?_
        have hf10 := hW.2.1 k (by omega) (by omega)
        refine ri_const hx hb dX0_legalSwap_47 ?_
        refine ri_cmp_eq (tgt := 63) hx hb dX0_legalSwap_48 (by decide) (by omega) (fun c48 => ?_) (fun c48 => by omega)
        refine ri_const hx hb dX0_legalSwap_63 ?_
        refine gM_zret hx hb hr hlocks dX0_legalSwap_64 hS (by omega) ?_
        refine ⟨hP, Or.inr ⟨fun q => ?_, rfl⟩⟩
        rcases q with (q | q) | q
        · exact q c14
        · omega
        · exact q.1 (by omega)
      · refine ri_const hx hb dX0_legalSwap_39 ?_
        refine gM_zret hx hb hr hlocks dX0_legalSwap_40 hS (by omega) ?_
        exact ⟨hP, Or.inl ⟨Or.inl (Or.inr ⟨c24, c36⟩), rfl⟩⟩
set_option maxHeartbeats 4000000 in
set_option maxRecDepth 100000 in
theorem dm_swap (l : Launch) (G : va_G) (ad : Nat → Nat) (cA : ClassId) (sz kn : Int) (K N B D E T O : Int → Int) (k : Int) (hk : -2147483648 ≤ k ∧ k ≤ 2147483647) (hD : dD ad) (hI : rd_DI sz kn K N B D E T) : gMM l yX0_swap (ws_ yX0_swap cX0_swap 5 (some .int)) (rmL 6) G [(cA, .byte)] (dP G ad cA sz kn K N B D E T O) (ad 0) [.int (iI k)] (dA ad) (fun r H => ∃ (kn1 : Int) (K1 N1 B1 D1 E1 T1 O1 : Int → Int), dP G ad cA sz kn1 K1 N1 B1 D1 E1 T1 O1 H ∧ rd_DI sz kn1 K1 N1 B1 D1 E1 T1 ∧ rd_Swp sz K N k r K1 N1) := by
  refine gMM_of (by decide) (Nat.le_of_ble_eq_true rfl) ?_
  intro p e s m below meth c ls hx hb hr hml hown hlocks hts hP hK hl
  have hown : s.vm.findClass RX0 = some m.cls := hown
  have hl : lv_has ls 5 [(0, .ref (ad 0)), (1, .int (iI k))] := hl
  have hS : va_S (dA ad) s.heap s.heap [] := va_S.rf
  have hW := hI.1
  have hsz := hW.1
  refine lv_aload_n hx hb dX0_swap_0 rfl (lv_at hl 0 rfl) ?_
  refine lv_iload_n hx hb dX0_swap_1 rfl (lv_at hl 1 rfl) ?_
  refine gR_call (As := [.int (iI k)]) (rest := []) hx hb hml hown hts (dm_isPlace l G ad cA sz kn K N B D E T O k (by omega) hW) (cwX0_isPlace hts 0 ⟨by decide, by decide⟩) (hP.recv hK) hP hK rfl hl.1 rfl (Nat.le_of_ble_eq_true rfl) dX0_swap_2 ⟨Nat.zero_le _, Nat.zero_le _⟩ (fun r2 hr2 => ?_)
  rcases hr2 with ⟨c2, rfl⟩ | ⟨c2, rfl⟩
  · refine ri_if_eq (tgt := 44) hx hb dX0_swap_5 (by decide) (by omega) (fun c5 => absurd c5 (by decide)) (fun c5 => ?_)
    refine lv_aload_n hx hb dX0_swap_8 rfl (lv_at hl 0 rfl) ?_
    refine lv_iload_n hx hb dX0_swap_9 rfl (lv_at hl 1 rfl) ?_
    refine ri_const hx hb dX0_swap_10 ?_
    refine ri_add hx hb dX0_swap_11 ?_
    refine gR_call (As := [.int (iI (k + 1))]) (rest := []) hx hb hml hown hts (dm_isPlace l G ad cA sz kn K N B D E T O (k + 1) (by omega) hW) (cwX0_isPlace hts 0 ⟨by decide, by decide⟩) (hP.recv hK) hP hK rfl hl.1 rfl (Nat.le_of_ble_eq_true rfl) dX0_swap_12 ⟨Nat.zero_le _, Nat.zero_le _⟩ (fun r12 hr12 => ?_)
    rcases hr12 with ⟨c12, rfl⟩ | ⟨c12, rfl⟩
    · refine ri_if_eq (tgt := 44) hx hb dX0_swap_15 (by decide) (by omega) (fun c15 => absurd c15 (by decide)) (fun c15 => ?_)
      refine lv_aload_n hx hb dX0_swap_18 rfl (lv_at hl 0 rfl) ?_
      refine dg_kinds hx hb hts hown hK hP dX0_swap_19 ?_
      refine lv_iload_n hx hb dX0_swap_22 rfl (lv_at hl 1 rfl) ?_
      refine dl_kinds hx hb hK hP (by omega) dX0_swap_23 ?_
      have hf1 := hW.2.1 k (by omega) (by omega)
      refine ri_const hx hb dX0_swap_24 ?_
      refine ri_cmp_lt (tgt := 44) hx hb dX0_swap_25 (by decide) (by omega) (fun c25 => ?_) (fun c25 => ?_)
      · refine ri_const hx hb dX0_swap_44 ?_
        refine lv_istore_n (lv' := [(2, .int (iI 0)), (0, .ref (ad 0)), (1, .int (iI k))]) hx hb dX0_swap_45 rfl hl (by decide) rfl (fun ls hl => ?_)
        refine lv_iload_n hx hb dX0_swap_46 rfl (lv_at hl 0 rfl) ?_
        refine ri_if_ne (tgt := 52) hx hb dX0_swap_47 (by decide) (by omega) (fun c47 => absurd c47 (by decide)) (fun c47 => ?_)
        refine ri_const hx hb dX0_swap_50 ?_
        refine gM_iret hx hb hr hlocks dX0_swap_51 hS ?_
        exact ⟨kn, K, N, B, D, E, T, O, hP, hI, Or.inl ⟨fun q => by obtain ⟨q1, q2, q3, q4⟩ := q; omega, rfl, rfl, rfl⟩⟩
      · refine lv_aload_n hx hb dX0_swap_28 rfl (lv_at hl 0 rfl) ?_
        refine dg_kinds hx hb hts hown hK hP dX0_swap_29 ?_
        refine lv_iload_n hx hb dX0_swap_32 rfl (lv_at hl 1 rfl) ?_
        refine ri_const hx hb dX0_swap_33 ?_
        refine ri_add hx hb dX0_swap_34 ?_
        refine dl_kinds hx hb hK hP (by omega) dX0_swap_35 ?_
        have hf2 := hW.2.1 (k + 1) (by omega) (by omega)
        refine ri_const hx hb dX0_swap_36 ?_
        refine ri_cmp_lt (tgt := 44) hx hb dX0_swap_37 (by decide) (by omega) (fun c37 => ?_) (fun c37 => ?_)
        · refine ri_const hx hb dX0_swap_44 ?_
          refine lv_istore_n (lv' := [(2, .int (iI 0)), (0, .ref (ad 0)), (1, .int (iI k))]) hx hb dX0_swap_45 rfl hl (by decide) rfl (fun ls hl => ?_)
          refine lv_iload_n hx hb dX0_swap_46 rfl (lv_at hl 0 rfl) ?_
          refine ri_if_ne (tgt := 52) hx hb dX0_swap_47 (by decide) (by omega) (fun c47 => absurd c47 (by decide)) (fun c47 => ?_)
          refine ri_const hx hb dX0_swap_50 ?_
          refine gM_iret hx hb hr hlocks dX0_swap_51 hS ?_
          exact ⟨kn, K, N, B, D, E, T, O, hP, hI, Or.inl ⟨fun q => by obtain ⟨q1, q2, q3, q4⟩ := q; omega, rfl, rfl, rfl⟩⟩
        · refine ri_const hx hb dX0_swap_40 ?_
          refine lv_goto (tgt := 45) hx hb dX0_swap_41 (by decide) ?_
          refine lv_istore_n (lv' := [(2, .int (iI 1)), (0, .ref (ad 0)), (1, .int (iI k))]) hx hb dX0_swap_45 rfl hl (by decide) rfl (fun ls hl => ?_)
          refine lv_iload_n hx hb dX0_swap_46 rfl (lv_at hl 0 rfl) ?_
          refine ri_if_ne (tgt := 52) hx hb dX0_swap_47 (by decide) (by omega) (fun c47 => ?_) (fun c47 => absurd c47 (by decide))
          refine lv_aload_n hx hb dX0_swap_52 rfl (lv_at hl 1 rfl) ?_
          refine gV_call (As := []) (rest := []) hx hb hml hown hts (dm_learn l G ad cA sz kn K N B D E T O hD hI) (cwX0_learn hts 3 ⟨by decide, by decide⟩) (hP.recv hK) hP hK rfl hl.1 rfl (Nat.le_of_ble_eq_true rfl) dX0_swap_53 ⟨Nat.zero_le _, Nat.zero_le _⟩ (fun _ h => h) hS (fun H locs hr53 _ hS => ?_)
          obtain ⟨B1, D1, E1, T1, O1, hP, hLn, hsame⟩ := hr53
          have hL := hLn.1
          have hT := hLn.2
          refine lv_aload_n hx hb dX0_swap_56 rfl (lv_at hl 1 rfl) ?_
          refine lv_iload_n hx hb dX0_swap_57 rfl (lv_at hl 2 rfl) ?_
          refine gM_call (As := [.int (iI k)]) (rest := []) hx hb hml hown hts (dm_legalSwap l G ad cA sz 1 K N B1 D1 E1 T1 O1 k (by omega) (by omega) hD ⟨hW, Or.inr ⟨rfl, hLn⟩⟩ rfl hLn) (cwX0_legalSwap hts 5 ⟨by decide, by decide⟩) (hP.recv hK) hP hK rfl hl.1 rfl (Nat.le_of_ble_eq_true rfl) dX0_swap_58 ⟨Nat.zero_le _, Nat.zero_le _⟩ (fun _ h => h) hS (fun r58 H locs hr58 _ hS => ?_)
          rcases hr58 with ⟨hP, ⟨c58, rfl⟩ | ⟨c58, rfl⟩⟩
          · refine ri_if_ne (tgt := 67) hx hb dX0_swap_61 (by decide) (by omega) (fun c61 => ?_) (fun c61 => absurd c61 (by decide))
            refine lv_aload_n hx hb dX0_swap_67 rfl (lv_at hl 1 rfl) ?_
            refine dg_kinds hx hb hts hown hK hP dX0_swap_68 ?_
            refine lv_iload_n hx hb dX0_swap_71 rfl (lv_at hl 2 rfl) ?_
            refine dl_kinds hx hb hK hP (by omega) dX0_swap_72 ?_
            have hf6 := hW.2.1 k (by omega) (by omega)
            refine lv_istore_n (lv' := [(3, .int (iI (K k))), (2, .int (iI 1)), (0, .ref (ad 0)), (1, .int (iI k))]) hx hb dX0_swap_73 rfl hl (by decide) rfl (fun ls hl => ?_)
            refine lv_aload_n hx hb dX0_swap_74 rfl (lv_at hl 2 rfl) ?_
            refine dg_names hx hb hts hown hK hP dX0_swap_75 ?_
            refine lv_iload_n hx hb dX0_swap_78 rfl (lv_at hl 3 rfl) ?_
            refine dl_names hx hb hK hP (by omega) dX0_swap_79 ?_
            have hf7 := hW.2.1 k (by omega) (by omega)
            refine lv_istore (lv' := [(4, .int (iI (N k))), (3, .int (iI (K k))), (2, .int (iI 1)), (0, .ref (ad 0)), (1, .int (iI k))]) hx hb dX0_swap_80 hl (by decide) rfl (fun ls hl => ?_)
            refine lv_aload_n hx hb dX0_swap_82 rfl (lv_at hl 3 rfl) ?_
            refine dg_kinds hx hb hts hown hK hP dX0_swap_83 ?_
            refine lv_iload_n hx hb dX0_swap_86 rfl (lv_at hl 4 rfl) ?_
            refine lv_aload_n hx hb dX0_swap_87 rfl (lv_at hl 3 rfl) ?_
            refine dg_kinds hx hb hts hown hK hP dX0_swap_88 ?_
            refine lv_iload_n hx hb dX0_swap_91 rfl (lv_at hl 4 rfl) ?_
            refine ri_const hx hb dX0_swap_92 ?_
            refine ri_add hx hb dX0_swap_93 ?_
            refine dl_kinds hx hb hK hP (by omega) dX0_swap_94 ?_
            have hf8 := hW.2.1 (k + 1) (by omega) (by omega)
            refine ds_kinds hx hb hK hP hD hS (by omega) (by omega) dX0_swap_95 (fun H locs hP hS => ?_)
            refine lv_aload_n hx hb dX0_swap_96 rfl (lv_at hl 3 rfl) ?_
            refine dg_names hx hb hts hown hK hP dX0_swap_97 ?_
            refine lv_iload_n hx hb dX0_swap_100 rfl (lv_at hl 4 rfl) ?_
            refine lv_aload_n hx hb dX0_swap_101 rfl (lv_at hl 3 rfl) ?_
            refine dg_names hx hb hts hown hK hP dX0_swap_102 ?_
            refine lv_iload_n hx hb dX0_swap_105 rfl (lv_at hl 4 rfl) ?_
            refine ri_const hx hb dX0_swap_106 ?_
            refine ri_add hx hb dX0_swap_107 ?_
            refine dl_names hx hb hK hP (by omega) dX0_swap_108 ?_
            have hf9 := hW.2.1 (k + 1) (by omega) (by omega)
            refine ds_names hx hb hK hP hD hS (by omega) (by omega) dX0_swap_109 (fun H locs hP hS => ?_)
            refine lv_aload_n hx hb dX0_swap_110 rfl (lv_at hl 3 rfl) ?_
            refine dg_kinds hx hb hts hown hK hP dX0_swap_111 ?_
            refine lv_iload_n hx hb dX0_swap_114 rfl (lv_at hl 4 rfl) ?_
            refine ri_const hx hb dX0_swap_115 ?_
            refine ri_add hx hb dX0_swap_116 ?_
            refine lv_iload_n hx hb dX0_swap_117 rfl (lv_at hl 1 rfl) ?_
            refine ds_kinds hx hb hK hP hD hS (by omega) (by omega) dX0_swap_118 (fun H locs hP hS => ?_)
            refine lv_aload_n hx hb dX0_swap_119 rfl (lv_at hl 3 rfl) ?_
            refine dg_names hx hb hts hown hK hP dX0_swap_120 ?_
            refine lv_iload_n hx hb dX0_swap_123 rfl (lv_at hl 4 rfl) ?_
            refine ri_const hx hb dX0_swap_124 ?_
            refine ri_add hx hb dX0_swap_125 ?_
            refine lv_iload hx hb dX0_swap_126 (lv_at hl 0 rfl) ?_
            refine ds_names hx hb hK hP hD hS (by omega) (by omega) dX0_swap_128 (fun H locs hP hS => ?_)
            refine lv_aload_n hx hb dX0_swap_129 rfl (lv_at hl 3 rfl) ?_
            refine ri_const hx hb dX0_swap_130 ?_
            refine dp_known hx hb hts hown hK hP hD hS dX0_swap_131 (by omega) (fun H locs hP hS => ?_)
            refine lv_iload_n hx hb dX0_swap_134 rfl (lv_at hl 4 rfl) ?_
            refine gM_iret hx hb hr hlocks dX0_swap_135 hS ?_
            rw [rd_sw_up, rd_sw_up] at hP
            exact ⟨0, _, _, B1, D1, E1, T1, O1, hP, ⟨rd_WF_sw hW (by omega) (by omega) (by omega) (by omega), Or.inl rfl⟩, Or.inr (Or.inr ⟨⟨c2, c12, c25, c37⟩, (rd_okS_iff hT (by omega) (by omega)).mpr ((rd_lawB hT (by omega) (by omega) (by omega) (by omega)).mp c58), rfl, rfl, rfl⟩)⟩
          · refine ri_if_ne (tgt := 67) hx hb dX0_swap_61 (by decide) (by omega) (fun c61 => absurd c61 (by decide)) (fun c61 => ?_)
            refine ri_push hx hb dX0_swap_64 (by decide) ?_
            refine gM_iret hx hb hr hlocks dX0_swap_66 hS ?_
            exact ⟨1, K, N, B1, D1, E1, T1, O1, hP, ⟨hW, Or.inr ⟨rfl, hLn⟩⟩, Or.inr (Or.inl ⟨⟨c2, c12, c25, c37⟩, fun q => c58 ((rd_lawB hT (by omega) (by omega) (by omega) (by omega)).mpr ((rd_okS_iff hT (by omega) (by omega)).mp q)), rfl, rfl, rfl⟩)⟩
    · refine ri_if_eq (tgt := 44) hx hb dX0_swap_15 (by decide) (by omega) (fun c15 => ?_) (fun c15 => absurd c15 (by decide))
      refine ri_const hx hb dX0_swap_44 ?_
      refine lv_istore_n (lv' := [(2, .int (iI 0)), (0, .ref (ad 0)), (1, .int (iI k))]) hx hb dX0_swap_45 rfl hl (by decide) rfl (fun ls hl => ?_)
      refine lv_iload_n hx hb dX0_swap_46 rfl (lv_at hl 0 rfl) ?_
      refine ri_if_ne (tgt := 52) hx hb dX0_swap_47 (by decide) (by omega) (fun c47 => absurd c47 (by decide)) (fun c47 => ?_)
      refine ri_const hx hb dX0_swap_50 ?_
      refine gM_iret hx hb hr hlocks dX0_swap_51 hS ?_
      exact ⟨kn, K, N, B, D, E, T, O, hP, hI, Or.inl ⟨fun q => by obtain ⟨q1, q2, q3, q4⟩ := q; omega, rfl, rfl, rfl⟩⟩
  · refine ri_if_eq (tgt := 44) hx hb dX0_swap_5 (by decide) (by omega) (fun c5 => ?_) (fun c5 => absurd c5 (by decide))
    refine ri_const hx hb dX0_swap_44 ?_
    refine lv_istore_n (lv' := [(2, .int (iI 0)), (0, .ref (ad 0)), (1, .int (iI k))]) hx hb dX0_swap_45 rfl hl (by decide) rfl (fun ls hl => ?_)
    refine lv_iload_n hx hb dX0_swap_46 rfl (lv_at hl 0 rfl) ?_
    refine ri_if_ne (tgt := 52) hx hb dX0_swap_47 (by decide) (by omega) (fun c47 => absurd c47 (by decide)) (fun c47 => ?_)
    refine ri_const hx hb dX0_swap_50 ?_
    refine gM_iret hx hb hr hlocks dX0_swap_51 hS ?_
    exact ⟨kn, K, N, B, D, E, T, O, hP, hI, Or.inl ⟨fun q => by obtain ⟨q1, q2, q3, q4⟩ := q; omega, rfl, rfl, rfl⟩⟩
set_option maxHeartbeats 4000000 in
set_option maxRecDepth 100000 in
theorem dm_legalOut (l : Launch) (G : va_G) (ad : Nat → Nat) (cA : ClassId) (sz kn : Int) (K N B D E T O : Int → Int) (k : Int) (hk : 0 ≤ k ∧ k < sz) (hk2 : K k = 2) (hbk : 0 ≤ B k) (hD : dD ad) (hI : rd_DI sz kn K N B D E T) (hkn : kn = 1) (hLn : rd_Ln sz K N B D E T) : gMM l yX0_legalOut (ws_ yX0_legalOut cX0_legalOut 6 (some .boolean)) (rmL 5) G [(cA, .byte)] (dP G ad cA sz kn K N B D E T O) (ad 0) [.int (iI k)] (dA ad) (fun r H => dP G ad cA sz kn K N B D E T O H ∧ rd_BP (rd_LO sz K N B T k) r) := by
  refine gMM_of (by decide) (Nat.le_of_ble_eq_true rfl) ?_
  intro p e s m below meth c ls hx hb hr hml hown hlocks hts hP hK hl
  have hown : s.vm.findClass RX0 = some m.cls := hown
  have hl : lv_has ls 6 [(0, .ref (ad 0)), (1, .int (iI k))] := hl
  have hS : va_S (dA ad) s.heap s.heap [] := va_S.rf
  have hW := hI.1
  have hsz := hW.1
  have hL := hLn.1
  have hT := hLn.2
  have hb1 := (hL k (by omega) (by omega)).1.2.1
  refine lv_aload_n hx hb dX0_legalOut_0 rfl (lv_at hl 0 rfl) ?_
  refine dg_block hx hb hts hown hK hP dX0_legalOut_1 ?_
  refine lv_iload_n hx hb dX0_legalOut_4 rfl (lv_at hl 1 rfl) ?_
  refine dl_block hx hb hK hP (by omega) dX0_legalOut_5 ?_
  have hf1 := (hL k (by omega) (by omega)).1.1
  have hg1 := (hL k (by omega) (by omega)).1.2.1
  refine lv_istore_n (lv' := [(2, .int (iI (B k))), (0, .ref (ad 0)), (1, .int (iI k))]) hx hb dX0_legalOut_6 rfl hl (by decide) rfl (fun ls hl => ?_)
  refine lv_aload_n hx hb dX0_legalOut_7 rfl (lv_at hl 1 rfl) ?_
  refine lv_iload_n hx hb dX0_legalOut_8 rfl (lv_at hl 2 rfl) ?_
  refine gM_call (As := [.int (iI k)]) (rest := []) hx hb hml hown hts (dm_uses l G ad cA sz kn K N B D E T O k (by omega) hD hI) (cwX0_uses hts 4 ⟨by decide, by decide⟩) (hP.recv hK) hP hK rfl hl.1 rfl (Nat.le_of_ble_eq_true rfl) dX0_legalOut_9 ⟨Nat.zero_le _, Nat.zero_le _⟩ (fun _ h => h) hS (fun r9 H locs hr9 _ hS => ?_)
  obtain ⟨kn1, B1, D1, E1, T1, O1, hP, hI1, hsame1, hus⟩ := hr9
  obtain ⟨hk1, hB1, hD1, hE1, hT1, hO1⟩ := hsame1 hkn
  rw [hk1.trans hkn.symm, hB1, hD1, hE1, hT1, hO1] at hP
  have hus0 := rd_Uses_0 hus ⟨by omega, hk2⟩ (by omega)
  refine lv_istore_n (lv' := [(3, .int r9), (2, .int (iI (B k))), (0, .ref (ad 0)), (1, .int (iI k))]) hx hb dX0_legalOut_12 rfl hl (by decide) rfl (fun ls hl => ?_)
  refine lv_iload_n hx hb dX0_legalOut_13 rfl (lv_at hl 1 rfl) ?_
  refine ri_const hx hb dX0_legalOut_14 ?_
  refine ri_add hx hb dX0_legalOut_15 ?_
  refine lv_istore (lv' := [(4, .int (iI ((B k) + 1))), (3, .int r9), (2, .int (iI (B k))), (0, .ref (ad 0)), (1, .int (iI k))]) hx hb dX0_legalOut_16 hl (by decide) rfl (fun ls hl => ?_)
  have loop18 : ∀ (n : Nat) (x4 : Int) (ls : Array Slot), k - x4 < (n : Int) → (B k < x4 ∧ x4 ≤ k) → (∀ d, B k < d → d < x4 → ¬ ((∃ u, 0 ≤ u ∧ u < sz ∧ T u = k) ∧ K d = 2 ∧ N d = N k ∧ B d = B k)) → lv_has ls 6 [(3, .int r9), (2, .int (iI (B k))), (0, .ref (ad 0)), (1, .int (iI k)), (4, .int (iI x4))] → W p l e (rmL 5) s m (Value.ref (ad 0) :: [.int (iI k)]).toArray below meth c H locs 0 0 (MQ below (qM (dA ad) (fun r H => dP G ad cA sz kn K N B D E T O H ∧ rd_BP (rd_LO sz K N B T k) r)) (Value.ref (ad 0) :: [.int (iI k)]).toArray s 0 0 (dA ad)) (F0 m 18 ls []) := by
    intro n
    induction n with
    | zero =>
      intro x4 ls hm h1 h2 hl
      exfalso
      omega
    | succ n ih =>
      intro x4 ls hm h1 h2 hl
      refine lv_iload hx hb dX0_legalOut_18 (lv_at hl 4 rfl) ?_
      refine lv_iload_n hx hb dX0_legalOut_20 rfl (lv_at hl 3 rfl) ?_
      refine ri_cmp_ge (tgt := 74) hx hb dX0_legalOut_21 (by decide) (by omega) (fun c21 => ?_) (fun c21 => ?_)
      · have h2k : ∀ d, B k < d → d < k → ¬ ((∃ u, 0 ≤ u ∧ u < sz ∧ T u = k) ∧ K d = 2 ∧ N d = N k ∧ B d = B k) := fun d d1 d2 => h2 d d1 (by omega)
        refine lv_iload_n hx hb dX0_legalOut_74 rfl (lv_at hl 1 rfl) ?_
        refine ri_const hx hb dX0_legalOut_75 ?_
        refine ri_add hx hb dX0_legalOut_76 ?_
        refine lv_istore (lv' := [(4, .int (iI ((B k) + 1))), (3, .int r9), (2, .int (iI (B k))), (0, .ref (ad 0)), (1, .int (iI k))]) hx hb dX0_legalOut_77 hl (by decide) rfl (fun ls hl => ?_)
        have loop79 : ∀ (n : Nat) (y4 : Int) (ls : Array Slot), sz - y4 < (n : Int) → (B k < y4 ∧ y4 ≤ sz) → (∀ u, B k < u → u < y4 → ¬ ((K u = 3 ∧ N u = N k ∧ T u ≠ k) ∧ rd_Vis K (B k) u ∧ (T u < 0 ∨ (T u < B k ∧ ¬ rd_hid K (T u) (B k))))) → lv_has ls 6 [(3, .int r9), (2, .int (iI (B k))), (0, .ref (ad 0)), (1, .int (iI k)), (4, .int (iI y4))] → W p l e (rmL 5) s m (Value.ref (ad 0) :: [.int (iI k)]).toArray below meth c H locs 0 0 (MQ below (qM (dA ad) (fun r H => dP G ad cA sz kn K N B D E T O H ∧ rd_BP (rd_LO sz K N B T k) r)) (Value.ref (ad 0) :: [.int (iI k)]).toArray s 0 0 (dA ad)) (F0 m 79 ls []) := by
          intro n
          induction n with
          | zero =>
            intro y4 ls hm g1 g2 hl
            exfalso
            omega
          | succ n ih =>
            intro y4 ls hm g1 g2 hl
            refine lv_iload hx hb dX0_legalOut_79 (lv_at hl 4 rfl) ?_
            refine lv_aload_n hx hb dX0_legalOut_81 rfl (lv_at hl 2 rfl) ?_
            refine dg_size hx hb hts hown hK hP dX0_legalOut_82 ?_
            refine ri_cmp_ge (tgt := 192) hx hb dX0_legalOut_85 (by decide) (by omega) (fun c85 => ?_) (fun c85 => ?_)
            · refine ri_const hx hb dX0_legalOut_192 ?_
              refine gM_zret hx hb hr hlocks dX0_legalOut_193 hS (by omega) ?_
              exact ⟨hP, Or.inl ⟨⟨h2k, fun u u1 u2 => g2 u u1 (by omega)⟩, rfl⟩⟩
            · refine lv_aload_n hx hb dX0_legalOut_88 rfl (lv_at hl 2 rfl) ?_
              refine dg_kinds hx hb hts hown hK hP dX0_legalOut_89 ?_
              refine lv_iload hx hb dX0_legalOut_92 (lv_at hl 4 rfl) ?_
              refine dl_kinds hx hb hK hP (by omega) dX0_legalOut_94 ?_
              have hf5 := hW.2.1 y4 (by omega) (by omega)
              refine ri_const hx hb dX0_legalOut_95 ?_
              refine ri_cmp_ne (tgt := 130) hx hb dX0_legalOut_96 (by decide) (by omega) (fun c96 => ?_) (fun c96 => ?_)
              · refine ri_const hx hb dX0_legalOut_130 ?_
                refine lv_istore (lv' := [(5, .int (iI 0)), (3, .int r9), (2, .int (iI (B k))), (0, .ref (ad 0)), (1, .int (iI k)), (4, .int (iI y4))]) hx hb dX0_legalOut_131 hl (by decide) rfl (fun ls hl => ?_)
                refine lv_iload hx hb dX0_legalOut_133 (lv_at hl 0 rfl) ?_
                refine ri_if_eq (tgt := 186) hx hb dX0_legalOut_135 (by decide) (by omega) (fun c135 => ?_) (fun c135 => absurd c135 (by decide))
                refine ri_inc (k := 5) (lv1 := [(4, .int (iI (y4 + 1))), (5, .int (iI 0)), (3, .int r9), (2, .int (iI (B k))), (0, .ref (ad 0)), (1, .int (iI k))]) hx hb dX0_legalOut_186 hl rfl (by decide) rfl (fun ls hl => ?_)
                refine lv_goto (tgt := 79) hx hb dX0_legalOut_189 (by decide) ?_
                exact ih (y4 + 1) ls (by omega) (by omega) (by exact rd_all_s g2 (fun q => c96 q.1.1)) (lv_sub hl [2, 3, 4, 5, 0] rfl)
              · refine lv_aload_n hx hb dX0_legalOut_99 rfl (lv_at hl 2 rfl) ?_
                refine dg_names hx hb hts hown hK hP dX0_legalOut_100 ?_
                refine lv_iload hx hb dX0_legalOut_103 (lv_at hl 4 rfl) ?_
                refine dl_names hx hb hK hP (by omega) dX0_legalOut_105 ?_
                have hf6 := hW.2.1 y4 (by omega) (by omega)
                refine lv_aload_n hx hb dX0_legalOut_106 rfl (lv_at hl 2 rfl) ?_
                refine dg_names hx hb hts hown hK hP dX0_legalOut_107 ?_
                refine lv_iload_n hx hb dX0_legalOut_110 rfl (lv_at hl 3 rfl) ?_
                refine dl_names hx hb hK hP (by omega) dX0_legalOut_111 ?_
                have hf7 := hW.2.1 k (by omega) (by omega)
                refine ri_cmp_ne (tgt := 130) hx hb dX0_legalOut_112 (by decide) (by omega) (fun c112 => ?_) (fun c112 => ?_)
                · refine ri_const hx hb dX0_legalOut_130 ?_
                  refine lv_istore (lv' := [(5, .int (iI 0)), (3, .int r9), (2, .int (iI (B k))), (0, .ref (ad 0)), (1, .int (iI k)), (4, .int (iI y4))]) hx hb dX0_legalOut_131 hl (by decide) rfl (fun ls hl => ?_)
                  refine lv_iload hx hb dX0_legalOut_133 (lv_at hl 0 rfl) ?_
                  refine ri_if_eq (tgt := 186) hx hb dX0_legalOut_135 (by decide) (by omega) (fun c135 => ?_) (fun c135 => absurd c135 (by decide))
                  refine ri_inc (k := 5) (lv1 := [(4, .int (iI (y4 + 1))), (5, .int (iI 0)), (3, .int r9), (2, .int (iI (B k))), (0, .ref (ad 0)), (1, .int (iI k))]) hx hb dX0_legalOut_186 hl rfl (by decide) rfl (fun ls hl => ?_)
                  refine lv_goto (tgt := 79) hx hb dX0_legalOut_189 (by decide) ?_
                  exact ih (y4 + 1) ls (by omega) (by omega) (by exact rd_all_s g2 (fun q => c112 q.1.2.1)) (lv_sub hl [2, 3, 4, 5, 0] rfl)
                · refine lv_aload_n hx hb dX0_legalOut_115 rfl (lv_at hl 2 rfl) ?_
                  refine dg_boundTo hx hb hts hown hK hP dX0_legalOut_116 ?_
                  refine lv_iload hx hb dX0_legalOut_119 (lv_at hl 4 rfl) ?_
                  refine dl_boundTo hx hb hK hP (by omega) dX0_legalOut_121 ?_
                  have hf8 := rd_Bd_rng (hT y4 (by omega) (by omega)) (by omega)
                  refine lv_iload_n hx hb dX0_legalOut_122 rfl (lv_at hl 3 rfl) ?_
                  refine ri_cmp_eq (tgt := 130) hx hb dX0_legalOut_123 (by decide) (by omega) (fun c123 => ?_) (fun c123 => ?_)
                  · refine ri_const hx hb dX0_legalOut_130 ?_
                    refine lv_istore (lv' := [(5, .int (iI 0)), (3, .int r9), (2, .int (iI (B k))), (0, .ref (ad 0)), (1, .int (iI k)), (4, .int (iI y4))]) hx hb dX0_legalOut_131 hl (by decide) rfl (fun ls hl => ?_)
                    refine lv_iload hx hb dX0_legalOut_133 (lv_at hl 0 rfl) ?_
                    refine ri_if_eq (tgt := 186) hx hb dX0_legalOut_135 (by decide) (by omega) (fun c135 => ?_) (fun c135 => absurd c135 (by decide))
                    refine ri_inc (k := 5) (lv1 := [(4, .int (iI (y4 + 1))), (5, .int (iI 0)), (3, .int r9), (2, .int (iI (B k))), (0, .ref (ad 0)), (1, .int (iI k))]) hx hb dX0_legalOut_186 hl rfl (by decide) rfl (fun ls hl => ?_)
                    refine lv_goto (tgt := 79) hx hb dX0_legalOut_189 (by decide) ?_
                    exact ih (y4 + 1) ls (by omega) (by omega) (by exact rd_all_s g2 (fun q => q.1.2.2 c123)) (lv_sub hl [2, 3, 4, 5, 0] rfl)
                  · refine ri_const hx hb dX0_legalOut_126 ?_
                    refine lv_goto (tgt := 131) hx hb dX0_legalOut_127 (by decide) ?_
                    refine lv_istore (lv' := [(5, .int (iI 1)), (3, .int r9), (2, .int (iI (B k))), (0, .ref (ad 0)), (1, .int (iI k)), (4, .int (iI y4))]) hx hb dX0_legalOut_131 hl (by decide) rfl (fun ls hl => ?_)
                    refine lv_iload hx hb dX0_legalOut_133 (lv_at hl 0 rfl) ?_
                    refine ri_if_eq (tgt := 186) hx hb dX0_legalOut_135 (by decide) (by omega) (fun c135 => absurd c135 (by decide)) (fun c135 => ?_)
                    refine lv_aload_n hx hb dX0_legalOut_138 rfl (lv_at hl 3 rfl) ?_
                    refine lv_iload_n hx hb dX0_legalOut_139 rfl (lv_at hl 2 rfl) ?_
                    refine lv_iload hx hb dX0_legalOut_140 (lv_at hl 5 rfl) ?_
                    refine gR_call (As := [.int (iI (B k)), .int (iI y4)]) (rest := []) hx hb hml hown hts (dm_inBlockOf l G ad cA sz kn K N B D E T O (B k) y4 (by omega) (by omega) hW hL) (cwX0_inBlockOf hts 0 ⟨by decide, by decide⟩) (hP.recv hK) hP hK rfl hl.1 rfl (Nat.le_of_ble_eq_true rfl) dX0_legalOut_142 ⟨Nat.zero_le _, Nat.zero_le _⟩ (fun r142 hr142 => ?_)
                    rcases hr142 with ⟨c142, rfl⟩ | ⟨c142, rfl⟩
                    · refine ri_if_eq (tgt := 186) hx hb dX0_legalOut_145 (by decide) (by omega) (fun c145 => absurd c145 (by decide)) (fun c145 => ?_)
                      refine lv_aload_n hx hb dX0_legalOut_148 rfl (lv_at hl 3 rfl) ?_
                      refine dg_boundTo hx hb hts hown hK hP dX0_legalOut_149 ?_
                      refine lv_iload hx hb dX0_legalOut_152 (lv_at hl 5 rfl) ?_
                      refine dl_boundTo hx hb hK hP (by omega) dX0_legalOut_154 ?_
                      have hf9 := rd_Bd_rng (hT y4 (by omega) (by omega)) (by omega)
                      refine ri_if_lt (tgt := 184) hx hb dX0_legalOut_155 (by decide) (by omega) (fun c155 => ?_) (fun c155 => ?_)
                      · refine ri_const hx hb dX0_legalOut_184 ?_
                        refine gM_zret hx hb hr hlocks dX0_legalOut_185 hS (by omega) ?_
                        exact ⟨hP, Or.inr ⟨fun q => q.2 y4 (by omega) (by omega) ⟨⟨c96, c112, c123⟩, c142, Or.inl c155⟩, rfl⟩⟩
                      · refine lv_aload_n hx hb dX0_legalOut_158 rfl (lv_at hl 3 rfl) ?_
                        refine dg_boundTo hx hb hts hown hK hP dX0_legalOut_159 ?_
                        refine lv_iload hx hb dX0_legalOut_162 (lv_at hl 5 rfl) ?_
                        refine dl_boundTo hx hb hK hP (by omega) dX0_legalOut_164 ?_
                        have hf10 := rd_Bd_rng (hT y4 (by omega) (by omega)) (by omega)
                        refine lv_iload_n hx hb dX0_legalOut_165 rfl (lv_at hl 2 rfl) ?_
                        refine ri_cmp_ge (tgt := 186) hx hb dX0_legalOut_166 (by decide) (by omega) (fun c166 => ?_) (fun c166 => ?_)
                        · refine ri_inc (k := 5) (lv1 := [(4, .int (iI (y4 + 1))), (5, .int (iI 1)), (3, .int r9), (2, .int (iI (B k))), (0, .ref (ad 0)), (1, .int (iI k))]) hx hb dX0_legalOut_186 hl rfl (by decide) rfl (fun ls hl => ?_)
                          refine lv_goto (tgt := 79) hx hb dX0_legalOut_189 (by decide) ?_
                          exact ih (y4 + 1) ls (by omega) (by omega) (by exact rd_all_s g2 (fun q => by rcases q.2.2 with e | e; omega; have := e.1; omega)) (lv_sub hl [2, 3, 4, 5, 0] rfl)
                        · refine lv_aload_n hx hb dX0_legalOut_169 rfl (lv_at hl 3 rfl) ?_
                          refine lv_aload_n hx hb dX0_legalOut_170 rfl (lv_at hl 3 rfl) ?_
                          refine dg_boundTo hx hb hts hown hK hP dX0_legalOut_171 ?_
                          refine lv_iload hx hb dX0_legalOut_174 (lv_at hl 5 rfl) ?_
                          refine dl_boundTo hx hb hK hP (by omega) dX0_legalOut_176 ?_
                          have hf11 := rd_Bd_rng (hT y4 (by omega) (by omega)) (by omega)
                          refine lv_iload_n hx hb dX0_legalOut_177 rfl (lv_at hl 2 rfl) ?_
                          refine gR_call (As := [.int (iI (T y4)), .int (iI (B k))]) (rest := []) hx hb hml hown hts (dm_hides l G ad cA sz kn K N B D E T O (T y4) (B k) (by omega) (by omega) hW hL) (cwX0_hides hts 0 ⟨by decide, by decide⟩) (hP.recv hK) hP hK rfl hl.1 rfl (Nat.le_of_ble_eq_true rfl) dX0_legalOut_178 ⟨Nat.zero_le _, Nat.zero_le _⟩ (fun r178 hr178 => ?_)
                          rcases hr178 with ⟨c178, rfl⟩ | ⟨c178, rfl⟩
                          · refine ri_if_ne (tgt := 186) hx hb dX0_legalOut_181 (by decide) (by omega) (fun c181 => ?_) (fun c181 => absurd c181 (by decide))
                            refine ri_inc (k := 5) (lv1 := [(4, .int (iI (y4 + 1))), (5, .int (iI 1)), (3, .int r9), (2, .int (iI (B k))), (0, .ref (ad 0)), (1, .int (iI k))]) hx hb dX0_legalOut_186 hl rfl (by decide) rfl (fun ls hl => ?_)
                            refine lv_goto (tgt := 79) hx hb dX0_legalOut_189 (by decide) ?_
                            exact ih (y4 + 1) ls (by omega) (by omega) (by exact rd_all_s g2 (fun q => by rcases q.2.2 with e | e; omega; exact e.2 c178)) (lv_sub hl [2, 3, 4, 5, 0] rfl)
                          · refine ri_if_ne (tgt := 186) hx hb dX0_legalOut_181 (by decide) (by omega) (fun c181 => absurd c181 (by decide)) (fun c181 => ?_)
                            refine ri_const hx hb dX0_legalOut_184 ?_
                            refine gM_zret hx hb hr hlocks dX0_legalOut_185 hS (by omega) ?_
                            exact ⟨hP, Or.inr ⟨fun q => q.2 y4 (by omega) (by omega) ⟨⟨c96, c112, c123⟩, c142, Or.inr ⟨c166, c178⟩⟩, rfl⟩⟩
                    · refine ri_if_eq (tgt := 186) hx hb dX0_legalOut_145 (by decide) (by omega) (fun c145 => ?_) (fun c145 => absurd c145 (by decide))
                      refine ri_inc (k := 5) (lv1 := [(4, .int (iI (y4 + 1))), (5, .int (iI 1)), (3, .int r9), (2, .int (iI (B k))), (0, .ref (ad 0)), (1, .int (iI k))]) hx hb dX0_legalOut_186 hl rfl (by decide) rfl (fun ls hl => ?_)
                      refine lv_goto (tgt := 79) hx hb dX0_legalOut_189 (by decide) ?_
                      exact ih (y4 + 1) ls (by omega) (by omega) (by exact rd_all_s g2 (fun q => c142 q.2.1)) (lv_sub hl [2, 3, 4, 5, 0] rfl)
        exact loop79 (Int.toNat ((sz - ((B k) + 1)) + 1)) ((B k) + 1) ls (by omega) (by omega) (by intro u q1 q2; omega) (lv_sub hl [1, 2, 3, 4, 0] rfl)
      · refine lv_iload_n hx hb dX0_legalOut_24 rfl (lv_at hl 0 rfl) ?_
        refine lv_if_eq (tgt := 68) hx hb dX0_legalOut_25 (by decide) (fun c25 => ?_) (fun c25 => ?_)
        · refine ri_inc (k := 4) (lv1 := [(4, .int (iI (x4 + 1))), (3, .int r9), (2, .int (iI (B k))), (0, .ref (ad 0)), (1, .int (iI k))]) hx hb dX0_legalOut_68 hl rfl (by decide) rfl (fun ls hl => ?_)
          refine lv_goto (tgt := 18) hx hb dX0_legalOut_71 (by decide) ?_
          exact ih (x4 + 1) ls (by omega) (by omega) (by exact rd_all_s h2 (fun q => by obtain ⟨⟨u, u1, u2, u3⟩, -⟩ := q; exact hus0.mp c25 u u1 u2 ((rd_Bds_iff hT u1 u2).mpr u3))) (lv_sub hl [1, 2, 3, 4, 0] rfl)
        · refine lv_aload_n hx hb dX0_legalOut_28 rfl (lv_at hl 2 rfl) ?_
          refine dg_kinds hx hb hts hown hK hP dX0_legalOut_29 ?_
          refine lv_iload hx hb dX0_legalOut_32 (lv_at hl 4 rfl) ?_
          refine dl_kinds hx hb hK hP (by omega) dX0_legalOut_34 ?_
          have hf12 := hW.2.1 x4 (by omega) (by omega)
          refine ri_const hx hb dX0_legalOut_35 ?_
          refine ri_cmp_ne (tgt := 68) hx hb dX0_legalOut_36 (by decide) (by omega) (fun c36 => ?_) (fun c36 => ?_)
          · refine ri_inc (k := 4) (lv1 := [(4, .int (iI (x4 + 1))), (3, .int r9), (2, .int (iI (B k))), (0, .ref (ad 0)), (1, .int (iI k))]) hx hb dX0_legalOut_68 hl rfl (by decide) rfl (fun ls hl => ?_)
            refine lv_goto (tgt := 18) hx hb dX0_legalOut_71 (by decide) ?_
            exact ih (x4 + 1) ls (by omega) (by omega) (by exact rd_all_s h2 (fun q => c36 q.2.1)) (lv_sub hl [1, 2, 3, 4, 0] rfl)
          · refine lv_aload_n hx hb dX0_legalOut_39 rfl (lv_at hl 2 rfl) ?_
            refine dg_names hx hb hts hown hK hP dX0_legalOut_40 ?_
            refine lv_iload hx hb dX0_legalOut_43 (lv_at hl 4 rfl) ?_
            refine dl_names hx hb hK hP (by omega) dX0_legalOut_45 ?_
            have hf13 := hW.2.1 x4 (by omega) (by omega)
            refine lv_aload_n hx hb dX0_legalOut_46 rfl (lv_at hl 2 rfl) ?_
            refine dg_names hx hb hts hown hK hP dX0_legalOut_47 ?_
            refine lv_iload_n hx hb dX0_legalOut_50 rfl (lv_at hl 3 rfl) ?_
            refine dl_names hx hb hK hP (by omega) dX0_legalOut_51 ?_
            have hf14 := hW.2.1 k (by omega) (by omega)
            refine ri_cmp_ne (tgt := 68) hx hb dX0_legalOut_52 (by decide) (by omega) (fun c52 => ?_) (fun c52 => ?_)
            · refine ri_inc (k := 4) (lv1 := [(4, .int (iI (x4 + 1))), (3, .int r9), (2, .int (iI (B k))), (0, .ref (ad 0)), (1, .int (iI k))]) hx hb dX0_legalOut_68 hl rfl (by decide) rfl (fun ls hl => ?_)
              refine lv_goto (tgt := 18) hx hb dX0_legalOut_71 (by decide) ?_
              exact ih (x4 + 1) ls (by omega) (by omega) (by exact rd_all_s h2 (fun q => c52 q.2.2.1)) (lv_sub hl [1, 2, 3, 4, 0] rfl)
            · refine lv_aload_n hx hb dX0_legalOut_55 rfl (lv_at hl 2 rfl) ?_
              refine dg_block hx hb hts hown hK hP dX0_legalOut_56 ?_
              refine lv_iload hx hb dX0_legalOut_59 (lv_at hl 4 rfl) ?_
              refine dl_block hx hb hK hP (by omega) dX0_legalOut_61 ?_
              have hf15 := (hL x4 (by omega) (by omega)).1.1
              have hg15 := (hL x4 (by omega) (by omega)).1.2.1
              refine lv_iload_n hx hb dX0_legalOut_62 rfl (lv_at hl 1 rfl) ?_
              refine ri_cmp_ne (tgt := 68) hx hb dX0_legalOut_63 (by decide) (by omega) (fun c63 => ?_) (fun c63 => ?_)
              · refine ri_inc (k := 4) (lv1 := [(4, .int (iI (x4 + 1))), (3, .int r9), (2, .int (iI (B k))), (0, .ref (ad 0)), (1, .int (iI k))]) hx hb dX0_legalOut_68 hl rfl (by decide) rfl (fun ls hl => ?_)
                refine lv_goto (tgt := 18) hx hb dX0_legalOut_71 (by decide) ?_
                exact ih (x4 + 1) ls (by omega) (by omega) (by exact rd_all_s h2 (fun q => c63 q.2.2.2)) (lv_sub hl [1, 2, 3, 4, 0] rfl)
              · refine ri_const hx hb dX0_legalOut_66 ?_
                refine gM_zret hx hb hr hlocks dX0_legalOut_67 hS (by omega) ?_
                have hex : ∃ u, 0 ≤ u ∧ u < sz ∧ T u = k := by
                  apply Classical.byContradiction
                  intro hn
                  exact c25 (hus0.mpr (fun u u1 u2 e => hn ⟨u, u1, u2, (rd_Bds_iff hT u1 u2).mp e⟩))
                exact ⟨hP, Or.inr ⟨fun q => q.1 x4 (by omega) (by omega) ⟨hex, c36, c52, c63⟩, rfl⟩⟩
  exact loop18 (Int.toNat ((k - ((B k) + 1)) + 1)) ((B k) + 1) ls (by omega) (by omega) (by intro d q1 q2; omega) (lv_sub hl [1, 2, 3, 4, 0] rfl)
set_option maxHeartbeats 4000000 in
set_option maxRecDepth 100000 in
theorem dm_moveOut (l : Launch) (G : va_G) (ad : Nat → Nat) (cA : ClassId) (sz kn : Int) (K N B D E T O : Int → Int) (k : Int) (hk : -2147483648 ≤ k ∧ k ≤ 2147483647) (hD : dD ad) (hI : rd_DI sz kn K N B D E T) : gMM l yX0_moveOut (ws_ yX0_moveOut cX0_moveOut 5 (some .int)) (rmL 6) G [(cA, .byte)] (dP G ad cA sz kn K N B D E T O) (ad 0) [.int (iI k)] (dA ad) (fun r H => ∃ (kn1 : Int) (K1 N1 B1 D1 E1 T1 O1 : Int → Int), dP G ad cA sz kn1 K1 N1 B1 D1 E1 T1 O1 H ∧ rd_DI sz kn1 K1 N1 B1 D1 E1 T1 ∧ rd_Mov sz K N k r K1 N1) := by
  refine gMM_of (by decide) (Nat.le_of_ble_eq_true rfl) ?_
  intro p e s m below meth c ls hx hb hr hml hown hlocks hts hP hK hl
  have hown : s.vm.findClass RX0 = some m.cls := hown
  have hl : lv_has ls 5 [(0, .ref (ad 0)), (1, .int (iI k))] := hl
  have hS : va_S (dA ad) s.heap s.heap [] := va_S.rf
  have hW := hI.1
  have hsz := hW.1
  refine lv_aload_n hx hb dX0_moveOut_0 rfl (lv_at hl 0 rfl) ?_
  refine lv_iload_n hx hb dX0_moveOut_1 rfl (lv_at hl 1 rfl) ?_
  refine ri_const hx hb dX0_moveOut_2 ?_
  refine gR_call (As := [.int (iI k), .int (iI 2)]) (rest := []) hx hb hml hown hts (dm_isA l G ad cA sz kn K N B D E T O k 2 (by omega) (by omega) hW) (cwX0_isA hts 1 ⟨by decide, by decide⟩) (hP.recv hK) hP hK rfl hl.1 rfl (Nat.le_of_ble_eq_true rfl) dX0_moveOut_3 ⟨Nat.zero_le _, Nat.zero_le _⟩ (fun r3 hr3 => ?_)
  rcases hr3 with ⟨c3, rfl⟩ | ⟨c3, rfl⟩
  · refine ri_if_ne (tgt := 11) hx hb dX0_moveOut_6 (by decide) (by omega) (fun c6 => ?_) (fun c6 => absurd c6 (by decide))
    refine lv_aload_n hx hb dX0_moveOut_11 rfl (lv_at hl 0 rfl) ?_
    refine gV_call (As := []) (rest := []) hx hb hml hown hts (dm_learn l G ad cA sz kn K N B D E T O hD hI) (cwX0_learn hts 3 ⟨by decide, by decide⟩) (hP.recv hK) hP hK rfl hl.1 rfl (Nat.le_of_ble_eq_true rfl) dX0_moveOut_12 ⟨Nat.zero_le _, Nat.zero_le _⟩ (fun _ h => h) hS (fun H locs hr12 _ hS => ?_)
    obtain ⟨B1, D1, E1, T1, O1, hP, hLn, hsame⟩ := hr12
    have hL := hLn.1
    have hT := hLn.2
    refine lv_aload_n hx hb dX0_moveOut_15 rfl (lv_at hl 0 rfl) ?_
    refine dg_block hx hb hts hown hK hP dX0_moveOut_16 ?_
    refine lv_iload_n hx hb dX0_moveOut_19 rfl (lv_at hl 1 rfl) ?_
    refine dl_block hx hb hK hP (by omega) dX0_moveOut_20 ?_
    have hf4 := (hL k (by omega) (by omega)).1.1
    have hg4 := (hL k (by omega) (by omega)).1.2.1
    refine lv_istore_n (lv' := [(2, .int (iI (B1 k))), (0, .ref (ad 0)), (1, .int (iI k))]) hx hb dX0_moveOut_21 rfl hl (by decide) rfl (fun ls hl => ?_)
    refine lv_iload_n hx hb dX0_moveOut_22 rfl (lv_at hl 0 rfl) ?_
    refine ri_const hx hb dX0_moveOut_23 ?_
    refine ri_cmp_ne (tgt := 29) hx hb dX0_moveOut_24 (by decide) (by omega) (fun c24 => ?_) (fun c24 => ?_)
    · refine lv_aload_n hx hb dX0_moveOut_29 rfl (lv_at hl 1 rfl) ?_
      refine lv_iload_n hx hb dX0_moveOut_30 rfl (lv_at hl 2 rfl) ?_
      refine gM_call (As := [.int (iI k)]) (rest := []) hx hb hml hown hts (dm_legalOut l G ad cA sz 1 K N B1 D1 E1 T1 O1 k (by omega) c3.2 (by omega) hD ⟨hW, Or.inr ⟨rfl, hLn⟩⟩ rfl hLn) (cwX0_legalOut hts 5 ⟨by decide, by decide⟩) (hP.recv hK) hP hK rfl hl.1 rfl (Nat.le_of_ble_eq_true rfl) dX0_moveOut_31 ⟨Nat.zero_le _, Nat.zero_le _⟩ (fun _ h => h) hS (fun r31 H locs hr31 _ hS => ?_)
      rcases hr31 with ⟨hP, ⟨c31, rfl⟩ | ⟨c31, rfl⟩⟩
      · refine ri_if_ne (tgt := 40) hx hb dX0_moveOut_34 (by decide) (by omega) (fun c34 => ?_) (fun c34 => absurd c34 (by decide))
        refine lv_aload_n hx hb dX0_moveOut_40 rfl (lv_at hl 1 rfl) ?_
        refine dg_names hx hb hts hown hK hP dX0_moveOut_41 ?_
        refine lv_iload_n hx hb dX0_moveOut_44 rfl (lv_at hl 2 rfl) ?_
        refine dl_names hx hb hK hP (by omega) dX0_moveOut_45 ?_
        have hf5 := hW.2.1 k (by omega) (by omega)
        refine lv_istore_n (lv' := [(3, .int (iI (N k))), (2, .int (iI (B1 k))), (0, .ref (ad 0)), (1, .int (iI k))]) hx hb dX0_moveOut_46 rfl hl (by decide) rfl (fun ls hl => ?_)
        refine lv_iload_n hx hb dX0_moveOut_47 rfl (lv_at hl 3 rfl) ?_
        refine lv_istore (lv' := [(4, .int (iI k)), (3, .int (iI (N k))), (2, .int (iI (B1 k))), (0, .ref (ad 0)), (1, .int (iI k))]) hx hb dX0_moveOut_48 hl (by decide) rfl (fun ls hl => ?_)
        have loop50 : ∀ (n : Nat) (x4 : Int) (K_50 : Int → Int) (N_50 : Int → Int) (H : Heap) (locs : List Loc) (ls : Array Slot), x4 - B1 k < (n : Int) → (B1 k ≤ x4 ∧ x4 ≤ k) → (∀ i, K_50 i = if x4 < i ∧ i ≤ k then K (i - 1) else K i) → (∀ i, N_50 i = if x4 < i ∧ i ≤ k then N (i - 1) else N i) → dP G ad cA sz 1 K_50 N_50 B1 D1 E1 T1 O1 H → va_S (dA ad) s.heap H locs → lv_has ls 5 [(3, .int (iI (N k))), (2, .int (iI (B1 k))), (0, .ref (ad 0)), (1, .int (iI k)), (4, .int (iI x4))] → W p l e (rmL 6) s m (Value.ref (ad 0) :: [.int (iI k)]).toArray below meth c H locs 0 0 (MQ below (qM (dA ad) (fun r H => ∃ (kn1 : Int) (K1 N1 B1 D1 E1 T1 O1 : Int → Int), dP G ad cA sz kn1 K1 N1 B1 D1 E1 T1 O1 H ∧ rd_DI sz kn1 K1 N1 B1 D1 E1 T1 ∧ rd_Mov sz K N k r K1 N1)) (Value.ref (ad 0) :: [.int (iI k)]).toArray s 0 0 (dA ad)) (F0 m 50 ls []) := by
          intro n
          induction n with
          | zero =>
            intro x4 K_50 N_50 H locs ls hm h1 h2 h3 hP hS hl
            exfalso
            omega
          | succ n ih =>
            intro x4 K_50 N_50 H locs ls hm h1 h2 h3 hP hS hl
            refine lv_iload hx hb dX0_moveOut_50 (lv_at hl 4 rfl) ?_
            refine lv_iload_n hx hb dX0_moveOut_52 rfl (lv_at hl 1 rfl) ?_
            refine ri_cmp_le (tgt := 94) hx hb dX0_moveOut_53 (by decide) (by omega) (fun c53 => ?_) (fun c53 => ?_)
            · refine lv_aload_n hx hb dX0_moveOut_94 rfl (lv_at hl 2 rfl) ?_
              refine dg_kinds hx hb hts hown hK hP dX0_moveOut_95 ?_
              refine lv_iload_n hx hb dX0_moveOut_98 rfl (lv_at hl 1 rfl) ?_
              refine ri_const hx hb dX0_moveOut_99 ?_
              refine ds_kinds hx hb hK hP hD hS (by omega) (by omega) dX0_moveOut_100 (fun H locs hP hS => ?_)
              refine lv_aload_n hx hb dX0_moveOut_101 rfl (lv_at hl 2 rfl) ?_
              refine dg_names hx hb hts hown hK hP dX0_moveOut_102 ?_
              refine lv_iload_n hx hb dX0_moveOut_105 rfl (lv_at hl 1 rfl) ?_
              refine lv_iload_n hx hb dX0_moveOut_106 rfl (lv_at hl 0 rfl) ?_
              refine ds_names hx hb hK hP hD hS (by omega) (by omega) dX0_moveOut_107 (fun H locs hP hS => ?_)
              refine lv_aload_n hx hb dX0_moveOut_108 rfl (lv_at hl 2 rfl) ?_
              refine ri_const hx hb dX0_moveOut_109 ?_
              refine dp_known hx hb hts hown hK hP hD hS dX0_moveOut_110 (by omega) (fun H locs hP hS => ?_)
              refine lv_iload_n hx hb dX0_moveOut_113 rfl (lv_at hl 1 rfl) ?_
              refine gM_iret hx hb hr hlocks dX0_moveOut_114 hS ?_
              have e : x4 = B1 k := by omega
              rw [e] at h2 h3
              rw [rd_mv_e h2 c3.2.symm, rd_mv_e h3 rfl] at hP
              exact ⟨0, _, _, B1, D1, E1, T1, O1, hP, ⟨rd_WF_mv hW (by omega) (by omega) (by omega) c3.2, Or.inl rfl⟩, Or.inr (Or.inr ⟨B1 k, ⟨c3, by omega, (hL k (by omega) (by omega)).1⟩, (rd_okO_iff hT (by omega) (by omega) (by omega)).mpr ((rd_lawC hL hT (by omega) (by omega) c3.2 (by omega)).mp c31), rfl, rfl, rfl⟩)⟩
            · refine lv_aload_n hx hb dX0_moveOut_56 rfl (lv_at hl 2 rfl) ?_
              refine dg_kinds hx hb hts hown hK hP dX0_moveOut_57 ?_
              refine lv_iload hx hb dX0_moveOut_60 (lv_at hl 4 rfl) ?_
              refine lv_aload_n hx hb dX0_moveOut_62 rfl (lv_at hl 2 rfl) ?_
              refine dg_kinds hx hb hts hown hK hP dX0_moveOut_63 ?_
              refine lv_iload hx hb dX0_moveOut_66 (lv_at hl 4 rfl) ?_
              refine ri_const hx hb dX0_moveOut_68 ?_
              refine ri_sub hx hb dX0_moveOut_69 ?_
              refine dl_kinds hx hb hK hP (by omega) dX0_moveOut_70 ?_
              have hg6 : K_50 (x4 - 1) = K (x4 - 1) := by rw [h2 (x4 - 1), if_neg (by omega)]
              have hf6 := hW.2.1 (x4 - 1) (by omega) (by omega)
              refine ds_kinds hx hb hK hP hD hS (by omega) (by omega) dX0_moveOut_71 (fun H locs hP hS => ?_)
              refine lv_aload_n hx hb dX0_moveOut_72 rfl (lv_at hl 2 rfl) ?_
              refine dg_names hx hb hts hown hK hP dX0_moveOut_73 ?_
              refine lv_iload hx hb dX0_moveOut_76 (lv_at hl 4 rfl) ?_
              refine lv_aload_n hx hb dX0_moveOut_78 rfl (lv_at hl 2 rfl) ?_
              refine dg_names hx hb hts hown hK hP dX0_moveOut_79 ?_
              refine lv_iload hx hb dX0_moveOut_82 (lv_at hl 4 rfl) ?_
              refine ri_const hx hb dX0_moveOut_84 ?_
              refine ri_sub hx hb dX0_moveOut_85 ?_
              refine dl_names hx hb hK hP (by omega) dX0_moveOut_86 ?_
              have hg7 : N_50 (x4 - 1) = N (x4 - 1) := by rw [h3 (x4 - 1), if_neg (by omega)]
              have hf7 := hW.2.1 (x4 - 1) (by omega) (by omega)
              refine ds_names hx hb hK hP hD hS (by omega) (by omega) dX0_moveOut_87 (fun H locs hP hS => ?_)
              refine ri_inc (k := 4) (lv1 := [(4, .int (iI (x4 + (-1)))), (3, .int (iI (N k))), (2, .int (iI (B1 k))), (0, .ref (ad 0)), (1, .int (iI k))]) hx hb dX0_moveOut_88 hl rfl (by decide) rfl (fun ls hl => ?_)
              refine lv_goto (tgt := 50) hx hb dX0_moveOut_91 (by decide) ?_
              exact ih (x4 + (-1)) (rd_up K_50 x4 (K_50 (x4 - 1))) (rd_up N_50 x4 (N_50 (x4 - 1))) H locs ls (by omega) (by omega) (by exact rd_mv_s h2 (by omega) (by rw [h2 (x4 - 1), if_neg (by omega)])) (by exact rd_mv_s h3 (by omega) (by rw [h3 (x4 - 1), if_neg (by omega)])) hP hS (lv_sub hl [1, 2, 3, 4, 0] rfl)
        exact loop50 (Int.toNat ((k - B1 k) + 1)) k K N H locs ls (by omega) (by omega) (by intro i; rw [if_neg (by omega)]) (by intro i; rw [if_neg (by omega)]) hP hS (lv_sub hl [1, 2, 3, 4, 0] rfl)
      · refine ri_if_ne (tgt := 40) hx hb dX0_moveOut_34 (by decide) (by omega) (fun c34 => absurd c34 (by decide)) (fun c34 => ?_)
        refine ri_push hx hb dX0_moveOut_37 (by decide) ?_
        refine gM_iret hx hb hr hlocks dX0_moveOut_39 hS ?_
        exact ⟨1, K, N, B1, D1, E1, T1, O1, hP, ⟨hW, Or.inr ⟨rfl, hLn⟩⟩, Or.inr (Or.inl ⟨B1 k, ⟨c3, by omega, (hL k (by omega) (by omega)).1⟩, fun q => c31 ((rd_lawC hL hT (by omega) (by omega) c3.2 (by omega)).mpr ((rd_okO_iff hT (by omega) (by omega) (by omega)).mp q)), rfl, rfl, rfl⟩)⟩
    · refine ri_const hx hb dX0_moveOut_27 ?_
      refine gM_iret hx hb hr hlocks dX0_moveOut_28 hS ?_
      exact ⟨1, K, N, B1, D1, E1, T1, O1, hP, ⟨hW, Or.inr ⟨rfl, hLn⟩⟩, Or.inl ⟨fun q => by obtain ⟨b, q⟩ := q; have e := rd_Blk_uniq q.2.2 (hL k (by omega) (by omega)).1; have := q.2.1; omega, rfl, rfl, rfl⟩⟩
  · refine ri_if_ne (tgt := 11) hx hb dX0_moveOut_6 (by decide) (by omega) (fun c6 => absurd c6 (by decide)) (fun c6 => ?_)
    refine ri_const hx hb dX0_moveOut_9 ?_
    refine gM_iret hx hb hr hlocks dX0_moveOut_10 hS ?_
    exact ⟨kn, K, N, B, D, E, T, O, hP, hI, Or.inl ⟨fun q => by obtain ⟨b, q⟩ := q; exact c3 q.1, rfl, rfl, rfl⟩⟩
set_option maxHeartbeats 4000000 in
set_option maxRecDepth 100000 in
theorem dm_canMoveOut (l : Launch) (G : va_G) (ad : Nat → Nat) (cA : ClassId) (sz kn : Int) (K N B D E T O : Int → Int) (k : Int) (hk : -2147483648 ≤ k ∧ k ≤ 2147483647) (hD : dD ad) (hI : rd_DI sz kn K N B D E T) : gMM l yX0_canMoveOut (ws_ yX0_canMoveOut cX0_canMoveOut 2 (some .boolean)) (rmL 6) G [(cA, .byte)] (dP G ad cA sz kn K N B D E T O) (ad 0) [.int (iI k)] (dA ad) (fun r H => dKp G ad cA sz K N H ∧ rd_BP (rd_Can sz K N k) r) := by
  refine gMM_of (by decide) (Nat.le_of_ble_eq_true rfl) ?_
  intro p e s m below meth c ls hx hb hr hml hown hlocks hts hP hK hl
  have hown : s.vm.findClass RX0 = some m.cls := hown
  have hl : lv_has ls 2 [(0, .ref (ad 0)), (1, .int (iI k))] := hl
  have hS : va_S (dA ad) s.heap s.heap [] := va_S.rf
  have hW := hI.1
  have hsz := hW.1
  refine lv_aload_n hx hb dX0_canMoveOut_0 rfl (lv_at hl 0 rfl) ?_
  refine lv_iload_n hx hb dX0_canMoveOut_1 rfl (lv_at hl 1 rfl) ?_
  refine ri_const hx hb dX0_canMoveOut_2 ?_
  refine gR_call (As := [.int (iI k), .int (iI 2)]) (rest := []) hx hb hml hown hts (dm_isA l G ad cA sz kn K N B D E T O k 2 (by omega) (by omega) hW) (cwX0_isA hts 1 ⟨by decide, by decide⟩) (hP.recv hK) hP hK rfl hl.1 rfl (Nat.le_of_ble_eq_true rfl) dX0_canMoveOut_3 ⟨Nat.zero_le _, Nat.zero_le _⟩ (fun r3 hr3 => ?_)
  rcases hr3 with ⟨c3, rfl⟩ | ⟨c3, rfl⟩
  · refine ri_if_ne (tgt := 11) hx hb dX0_canMoveOut_6 (by decide) (by omega) (fun c6 => ?_) (fun c6 => absurd c6 (by decide))
    refine lv_aload_n hx hb dX0_canMoveOut_11 rfl (lv_at hl 0 rfl) ?_
    refine gV_call (As := []) (rest := []) hx hb hml hown hts (dm_learn l G ad cA sz kn K N B D E T O hD hI) (cwX0_learn hts 3 ⟨by decide, by decide⟩) (hP.recv hK) hP hK rfl hl.1 rfl (Nat.le_of_ble_eq_true rfl) dX0_canMoveOut_12 ⟨Nat.zero_le _, Nat.zero_le _⟩ (fun _ h => h) hS (fun H locs hr12 _ hS => ?_)
    obtain ⟨B1, D1, E1, T1, O1, hP, hLn, hsame⟩ := hr12
    have hL := hLn.1
    have hT := hLn.2
    refine lv_aload_n hx hb dX0_canMoveOut_15 rfl (lv_at hl 0 rfl) ?_
    refine dg_block hx hb hts hown hK hP dX0_canMoveOut_16 ?_
    refine lv_iload_n hx hb dX0_canMoveOut_19 rfl (lv_at hl 1 rfl) ?_
    refine dl_block hx hb hK hP (by omega) dX0_canMoveOut_20 ?_
    have hf4 := (hL k (by omega) (by omega)).1.1
    have hg4 := (hL k (by omega) (by omega)).1.2.1
    refine ri_const hx hb dX0_canMoveOut_21 ?_
    refine ri_cmp_eq (tgt := 37) hx hb dX0_canMoveOut_22 (by decide) (by omega) (fun c22 => ?_) (fun c22 => ?_)
    · refine ri_const hx hb dX0_canMoveOut_37 ?_
      refine gM_zret hx hb hr hlocks dX0_canMoveOut_38 hS (by omega) ?_
      refine ⟨⟨1, B1, D1, E1, T1, O1, hP, hW, Or.inr ⟨rfl, hLn⟩⟩, Or.inr ⟨fun q => ?_, rfl⟩⟩
      obtain ⟨b, q, q2⟩ := q
      have e := rd_Blk_uniq q.2.2 (hL k (by omega) (by omega)).1
      have q3 := q.2.1
      omega
    · refine lv_aload_n hx hb dX0_canMoveOut_25 rfl (lv_at hl 0 rfl) ?_
      refine lv_iload_n hx hb dX0_canMoveOut_26 rfl (lv_at hl 1 rfl) ?_
      refine gM_call (As := [.int (iI k)]) (rest := []) hx hb hml hown hts (dm_legalOut l G ad cA sz 1 K N B1 D1 E1 T1 O1 k (by omega) c3.2 (by omega) hD ⟨hW, Or.inr ⟨rfl, hLn⟩⟩ rfl hLn) (cwX0_legalOut hts 5 ⟨by decide, by decide⟩) (hP.recv hK) hP hK rfl hl.1 rfl (Nat.le_of_ble_eq_true rfl) dX0_canMoveOut_27 ⟨Nat.zero_le _, Nat.zero_le _⟩ (fun _ h => h) hS (fun r27 H locs hr27 _ hS => ?_)
      rcases hr27 with ⟨hP, ⟨c27, rfl⟩ | ⟨c27, rfl⟩⟩
      · refine ri_if_eq (tgt := 37) hx hb dX0_canMoveOut_30 (by decide) (by omega) (fun c30 => absurd c30 (by decide)) (fun c30 => ?_)
        refine ri_const hx hb dX0_canMoveOut_33 ?_
        refine lv_goto (tgt := 38) hx hb dX0_canMoveOut_34 (by decide) ?_
        refine gM_zret hx hb hr hlocks dX0_canMoveOut_38 hS (by omega) ?_
        exact ⟨⟨1, B1, D1, E1, T1, O1, hP, hW, Or.inr ⟨rfl, hLn⟩⟩, Or.inl ⟨⟨B1 k, ⟨c3, by omega, (hL k (by omega) (by omega)).1⟩, (rd_okO_iff hT (by omega) (by omega) (by omega)).mpr ((rd_lawC hL hT (by omega) (by omega) c3.2 (by omega)).mp c27)⟩, rfl⟩⟩
      · refine ri_if_eq (tgt := 37) hx hb dX0_canMoveOut_30 (by decide) (by omega) (fun c30 => ?_) (fun c30 => absurd c30 (by decide))
        refine ri_const hx hb dX0_canMoveOut_37 ?_
        refine gM_zret hx hb hr hlocks dX0_canMoveOut_38 hS (by omega) ?_
        refine ⟨⟨1, B1, D1, E1, T1, O1, hP, hW, Or.inr ⟨rfl, hLn⟩⟩, Or.inr ⟨fun q => ?_, rfl⟩⟩
        obtain ⟨b, q, q2⟩ := q
        have e := rd_Blk_uniq q.2.2 (hL k (by omega) (by omega)).1
        have q3 := q.2.1
        rw [e] at q2
        exact c27 ((rd_lawC hL hT (by omega) (by omega) c3.2 (by omega)).mpr ((rd_okO_iff hT (by omega) (by omega) (by omega)).mp q2))
  · refine ri_if_ne (tgt := 11) hx hb dX0_canMoveOut_6 (by decide) (by omega) (fun c6 => absurd c6 (by decide)) (fun c6 => ?_)
    refine ri_const hx hb dX0_canMoveOut_9 ?_
    refine gM_zret hx hb hr hlocks dX0_canMoveOut_10 hS (by omega) ?_
    exact ⟨⟨kn, B, D, E, T, O, hP, hI⟩, Or.inr ⟨fun q => by obtain ⟨b, q, -⟩ := q; exact c3 q.1, rfl⟩⟩
end
section
/-- the model's world, its tokens as they were -/
def mKp (G : va_G) (ad : Nat → Nat) (cA : ClassId) (sz : Int) (Ka Na : Int → Int) (H : Heap) : Prop := ∃ C1 M1 R1 V1 : Int → Int, mP G ad cA sz Ka Na C1 M1 R1 V1 H
theorem rd_cp_s {F G : Int → Int} {x v : Int} (h : ∀ i, 0 ≤ i → i < x → F i = G i) (hv : v = G x) : ∀ i, 0 ≤ i → i < x + 1 → rd_up F x v i = G i := by
  intro i h1 h2
  by_cases e : i = x
  · rw [e, rd_up_s, hv]
  · rw [rd_up_n e]; exact h i h1 (by omega)
theorem rd_all_d {P : Int → Prop} {x k : Int} (h : ∀ q, x < q → q ≤ k → P q) (hx : P x) : ∀ q, x + (-1) < q → q ≤ k → P q := by
  intro q h1 h2
  by_cases e : q = x
  · rw [e]; exact hx
  · exact h q (by omega) h2
theorem rd_all_e {P : Int → Prop} {x k : Int} (h : ∀ q, x < q → q < k → P q) (hx : P x) : ∀ q, x + (-1) < q → q < k → P q := by
  intro q h1 h2
  by_cases e : q = x
  · rw [e]; exact hx
  · exact h q (by omega) h2
theorem rd_Lst_rng {K N : Int → Int} {b u nm r : Int} (h : rd_Lst K N b u nm r) (hb : -1 ≤ b) (hu : 0 ≤ u) : -1 ≤ r ∧ r < u := by
  rcases h with ⟨e, -⟩ | ⟨h1, h2, -⟩ <;> omega
theorem rd_dpb_ge {K : Int → Int} {b : Int} (h : 0 ≤ b → 0 ≤ rd_dep K b) : -1 ≤ rd_dpb K b := by
  rcases Int.lt_or_le b 0 with q | q
  · rw [rd_dpb_n q]; omega
  · rw [rd_dpb_p q]; have := h q; omega
/-- the first x places of C over K -/
def rd_ac (x : Int) (C K : Int → Int) : Int → Int := fun i => if 0 ≤ i ∧ i < x then C i else K i
theorem rd_ac_0 (C K : Int → Int) : rd_ac 0 C K = K := by
  funext i
  exact if_neg (by omega)
theorem rd_ac_s {C K : Int → Int} {x : Int} (h : 0 ≤ x) : rd_up (rd_ac x C K) x (C x) = rd_ac (x + 1) C K := by
  funext i
  unfold rd_ac
  by_cases e : i = x
  · rw [e, rd_up_s, if_pos (by omega)]
  · rw [rd_up_n e]
    by_cases q : 0 ≤ i ∧ i < x
    · rw [if_pos q, if_pos (by omega)]
    · rw [if_neg q, if_neg (by omega)]
theorem rd_ac_eq {C K : Int → Int} {x : Int} (h : ∀ i, ¬ (0 ≤ i ∧ i < x) → C i = K i) : rd_ac x C K = C := by
  funext i
  by_cases q : 0 ≤ i ∧ i < x
  · exact if_pos q
  · rw [h i q]; exact if_neg q
set_option maxHeartbeats 4000000 in
set_option maxRecDepth 100000 in
theorem mm_is (l : Launch) (G : va_G) (ad : Nat → Nat) (cA : ClassId) (sz : Int) (Ka Na Ca Ma Ra Va : Int → Int) (k : Int) (hk : -2147483648 ≤ k ∧ k ≤ 2147483647) (hsz : 0 ≤ sz ∧ sz ≤ 28) : gMR l yX1_is (ws_ yX1_is cX1_is 2 (some .boolean)) (rmL 0) G [(cA, .int)] (mP G ad cA sz Ka Na Ca Ma Ra Va) (ad 0) [.int (iI k)] (rd_BP (0 ≤ k ∧ k < sz)) := by
  refine gMR_of (by decide) (Nat.le_of_ble_eq_true rfl) ?_
  intro p e s m below meth c ls hx hb hr hml hown hlocks hts hP hK hl
  have hown : s.vm.findClass RX1 = some m.cls := hown
  have hl : lv_has ls 2 [(0, .ref (ad 0)), (1, .int (iI k))] := hl
  refine lv_iload_n hx hb dX1_is_0 rfl (lv_at hl 1 rfl) ?_
  refine ri_if_lt (tgt := 16) hx hb dX1_is_1 (by decide) (by omega) (fun c1 => ?_) (fun c1 => ?_)
  · refine ri_const hx hb dX1_is_16 ?_
    refine gR_zret hx hb hr hlocks dX1_is_17 (by omega) ?_
    exact Or.inr ⟨by omega, rfl⟩
  · refine lv_iload_n hx hb dX1_is_4 rfl (lv_at hl 1 rfl) ?_
    refine lv_aload_n hx hb dX1_is_5 rfl (lv_at hl 0 rfl) ?_
    refine mg_size hx hb hts hown hK hP dX1_is_6 ?_
    refine ri_cmp_ge (tgt := 16) hx hb dX1_is_9 (by decide) (by omega) (fun c9 => ?_) (fun c9 => ?_)
    · refine ri_const hx hb dX1_is_16 ?_
      refine gR_zret hx hb hr hlocks dX1_is_17 (by omega) ?_
      exact Or.inr ⟨by omega, rfl⟩
    · refine ri_const hx hb dX1_is_12 ?_
      refine lv_goto (tgt := 17) hx hb dX1_is_13 (by decide) ?_
      refine gR_zret hx hb hr hlocks dX1_is_17 (by omega) ?_
      exact Or.inl ⟨by omega, rfl⟩
set_option maxHeartbeats 4000000 in
set_option maxRecDepth 100000 in
theorem mm_copy (l : Launch) (G : va_G) (ad : Nat → Nat) (cA : ClassId) (sz : Int) (Ka Na Ca Ma Ra Va : Int → Int) (hD : mD ad) : gMV l yX1_copy (ws_ yX1_copy cX1_copy 2 none) (rmL 0) G [(cA, .int)] (mP G ad cA sz Ka Na Ca Ma Ra Va) (ad 0) [] (mA ad) (fun H => mP G ad cA sz Ka Na Ka Na rd_id Va H) := by
  refine gMV_of (by decide) (Nat.le_of_ble_eq_true rfl) ?_
  intro p e s m below meth c ls hx hb hr hml hown hlocks hts hP hK hl
  have hown : s.vm.findClass RX1 = some m.cls := hown
  have hl : lv_has ls 2 [(0, .ref (ad 0))] := hl
  have hS : va_S (mA ad) s.heap s.heap [] := va_S.rf
  refine ri_const hx hb dX1_copy_0 ?_
  refine lv_istore_n (lv' := [(1, .int (iI 0)), (0, .ref (ad 0))]) hx hb dX1_copy_1 rfl hl (by decide) rfl (fun ls hl => ?_)
  have loop2 : ∀ (n : Nat) (x1 : Int) (Ca_2 : Int → Int) (Ma_2 : Int → Int) (Ra_2 : Int → Int) (H : Heap) (locs : List Loc) (ls : Array Slot), 28 - x1 < (n : Int) → (0 ≤ x1 ∧ x1 ≤ 28) → (∀ i, 0 ≤ i → i < x1 → Ca_2 i = Ka i) → (∀ i, 0 ≤ i → i < x1 → Ma_2 i = Na i) → (∀ i, 0 ≤ i → i < x1 → Ra_2 i = rd_id i) → mP G ad cA sz Ka Na Ca_2 Ma_2 Ra_2 Va H → va_S (mA ad) s.heap H locs → lv_has ls 2 [(0, .ref (ad 0)), (1, .int (iI x1))] → W p l e (rmL 0) s m (Value.ref (ad 0) :: []).toArray below meth c H locs 0 0 (MQ below (qV (mA ad) (fun H => mP G ad cA sz Ka Na Ka Na rd_id Va H)) (Value.ref (ad 0) :: []).toArray s 0 0 (mA ad)) (F0 m 2 ls []) := by
    intro n
    induction n with
    | zero =>
      intro x1 Ca_2 Ma_2 Ra_2 H locs ls hm h1 h2 h3 h4 hP hS hl
      exfalso
      omega
    | succ n ih =>
      intro x1 Ca_2 Ma_2 Ra_2 H locs ls hm h1 h2 h3 h4 hP hS hl
      refine lv_iload_n hx hb dX1_copy_2 rfl (lv_at hl 1 rfl) ?_
      refine ri_push hx hb dX1_copy_3 (by decide) ?_
      refine ri_cmp_ge (tgt := 45) hx hb dX1_copy_5 (by decide) (by omega) (fun c5 => ?_) (fun c5 => ?_)
      · refine gV_vret hx hb hr hlocks dX1_copy_45 hS ?_
        exact ((hP.c_Ca (fun j a b => h2 j a (by omega))).c_Ma (fun j a b => h3 j a (by omega))).c_Ra (fun j a b => h4 j a (by omega))
      · refine lv_aload_n hx hb dX1_copy_8 rfl (lv_at hl 0 rfl) ?_
        refine mg_kind hx hb hts hown hK hP dX1_copy_9 ?_
        refine lv_iload_n hx hb dX1_copy_12 rfl (lv_at hl 1 rfl) ?_
        refine lv_aload_n hx hb dX1_copy_13 rfl (lv_at hl 0 rfl) ?_
        refine mg_kinds hx hb hts hown hK hP dX1_copy_14 ?_
        refine lv_iload_n hx hb dX1_copy_17 rfl (lv_at hl 1 rfl) ?_
        refine ml_kinds hx hb hK hP (by omega) dX1_copy_18 ?_
        refine ms_kind hx hb hK hP hD hS (by omega) dX1_copy_19 (fun H locs hP hS => ?_)
        refine lv_aload_n hx hb dX1_copy_20 rfl (lv_at hl 0 rfl) ?_
        refine mg_name hx hb hts hown hK hP dX1_copy_21 ?_
        refine lv_iload_n hx hb dX1_copy_24 rfl (lv_at hl 1 rfl) ?_
        refine lv_aload_n hx hb dX1_copy_25 rfl (lv_at hl 0 rfl) ?_
        refine mg_names hx hb hts hown hK hP dX1_copy_26 ?_
        refine lv_iload_n hx hb dX1_copy_29 rfl (lv_at hl 1 rfl) ?_
        refine ml_names hx hb hK hP (by omega) dX1_copy_30 ?_
        refine ms_name hx hb hK hP hD hS (by omega) dX1_copy_31 (fun H locs hP hS => ?_)
        refine lv_aload_n hx hb dX1_copy_32 rfl (lv_at hl 0 rfl) ?_
        refine mg_origin hx hb hts hown hK hP dX1_copy_33 ?_
        refine lv_iload_n hx hb dX1_copy_36 rfl (lv_at hl 1 rfl) ?_
        refine lv_iload_n hx hb dX1_copy_37 rfl (lv_at hl 1 rfl) ?_
        refine ms_origin hx hb hK hP hD hS (by omega) dX1_copy_38 (fun H locs hP hS => ?_)
        refine ri_inc (k := 1) (lv1 := [(1, .int (iI (x1 + 1))), (0, .ref (ad 0))]) hx hb dX1_copy_39 hl rfl (by decide) rfl (fun ls hl => ?_)
        refine lv_goto (tgt := 2) hx hb dX1_copy_42 (by decide) ?_
        exact ih (x1 + 1) (rd_up Ca_2 x1 (Ka x1)) (rd_up Ma_2 x1 (Na x1)) (rd_up Ra_2 x1 x1) H locs ls (by omega) (by omega) (by exact rd_cp_s h2 rfl) (by exact rd_cp_s h3 rfl) (by exact rd_cp_s h4 rfl) hP hS (lv_sub hl [1, 0] rfl)
  exact loop2 (Int.toNat ((28 - 0) + 1)) 0 Ca Ma Ra s.heap [] ls (by omega) (by omega) (by intro i q1 q2; omega) (by intro i q1 q2; omega) (by intro i q1 q2; omega) hP hS (lv_sub hl [1, 0] rfl)
set_option maxHeartbeats 4000000 in
set_option maxRecDepth 100000 in
theorem mm_around (l : Launch) (G : va_G) (ad : Nat → Nat) (cA : ClassId) (sz : Int) (Ka Na Ca Ma Ra Va : Int → Int) (k : Int) (hk : 0 ≤ k ∧ k < sz) (hWc : rd_WF sz Ca Ma) : gMR l yX1_around (ws_ yX1_around cX1_around 4 (some .int)) (rmL 0) G [(cA, .int)] (mP G ad cA sz Ka Na Ca Ma Ra Va) (ad 0) [.int (iI k)] (fun r => ∃ w, r = iI w ∧ rd_Blk Ca k w) := by
  refine gMR_of (by decide) (Nat.le_of_ble_eq_true rfl) ?_
  intro p e s m below meth c ls hx hb hr hml hown hlocks hts hP hK hl
  have hown : s.vm.findClass RX1 = some m.cls := hown
  have hl : lv_has ls 4 [(0, .ref (ad 0)), (1, .int (iI k))] := hl
  have hsz := hWc.1
  have hd3 := hWc.2.2 k (by omega) (by omega)
  have hd4 := rd_dep_le Ca (i := k) (by omega)
  refine ri_const hx hb dX1_around_0 ?_
  refine lv_istore_n (lv' := [(2, .int (iI 0)), (0, .ref (ad 0)), (1, .int (iI k))]) hx hb dX1_around_1 rfl hl (by decide) rfl (fun ls hl => ?_)
  refine lv_iload_n hx hb dX1_around_2 rfl (lv_at hl 2 rfl) ?_
  refine ri_const hx hb dX1_around_3 ?_
  refine ri_sub hx hb dX1_around_4 ?_
  refine lv_istore_n (lv' := [(3, .int (iI (k - 1))), (2, .int (iI 0)), (0, .ref (ad 0)), (1, .int (iI k))]) hx hb dX1_around_5 rfl hl (by decide) rfl (fun ls hl => ?_)
  have loop6 : ∀ (n : Nat) (x2 : Int) (x3 : Int) (ls : Array Slot), x3 + 1 < (n : Int) → (-1 ≤ x3 ∧ x3 < k) → (x2 = rd_dep Ca (x3 + 1) - rd_dep Ca k) → (∀ q, x3 < q → q ≤ k → rd_dep Ca k ≤ rd_dep Ca q) → lv_has ls 4 [(0, .ref (ad 0)), (1, .int (iI k)), (2, .int (iI x2)), (3, .int (iI x3))] → W p l e (rmL 0) s m (Value.ref (ad 0) :: [.int (iI k)]).toArray below meth c s.heap [] 0 0 (MQ below (qR (fun r => ∃ w, r = iI w ∧ rd_Blk Ca k w)) (Value.ref (ad 0) :: [.int (iI k)]).toArray s 0 0 (fun _ => False)) (F0 m 6 ls []) := by
    intro n
    induction n with
    | zero =>
      intro x2 x3 ls hm h1 h2 h3 hl
      exfalso
      omega
    | succ n ih =>
      intro x2 x3 ls hm h1 h2 h3 hl
      refine lv_iload_n hx hb dX1_around_6 rfl (lv_at hl 3 rfl) ?_
      refine ri_if_lt (tgt := 64) hx hb dX1_around_7 (by decide) (by omega) (fun c7 => ?_) (fun c7 => ?_)
      · refine ri_const hx hb dX1_around_64 ?_
        refine gR_iret hx hb hr hlocks dX1_around_65 ?_
        exact ⟨-1, rfl, by omega, by omega, fun q q1 q2 => h3 q (by omega) q2, fun q => by omega⟩
      · have hd1 := hWc.2.2 (x3 + 1) (by omega) (by omega)
        have hd2 := rd_dep_le Ca (i := x3 + 1) (by omega)
        refine lv_aload_n hx hb dX1_around_10 rfl (lv_at hl 0 rfl) ?_
        refine mg_kind hx hb hts hown hK hP dX1_around_11 ?_
        refine lv_iload_n hx hb dX1_around_14 rfl (lv_at hl 3 rfl) ?_
        refine ml_kind hx hb hK hP (by omega) dX1_around_15 ?_
        have hf1 := hWc.2.1 x3 (by omega) (by omega)
        refine ri_if_ne (tgt := 25) hx hb dX1_around_16 (by decide) (by omega) (fun c16 => ?_) (fun c16 => ?_)
        · refine lv_aload_n hx hb dX1_around_25 rfl (lv_at hl 0 rfl) ?_
          refine mg_kind hx hb hts hown hK hP dX1_around_26 ?_
          refine lv_iload_n hx hb dX1_around_29 rfl (lv_at hl 3 rfl) ?_
          refine ml_kind hx hb hK hP (by omega) dX1_around_30 ?_
          have hf2 := hWc.2.1 x3 (by omega) (by omega)
          refine ri_const hx hb dX1_around_31 ?_
          refine ri_cmp_ne (tgt := 41) hx hb dX1_around_32 (by decide) (by omega) (fun c32 => ?_) (fun c32 => ?_)
          · refine lv_aload_n hx hb dX1_around_41 rfl (lv_at hl 0 rfl) ?_
            refine mg_kind hx hb hts hown hK hP dX1_around_42 ?_
            refine lv_iload_n hx hb dX1_around_45 rfl (lv_at hl 3 rfl) ?_
            refine ml_kind hx hb hK hP (by omega) dX1_around_46 ?_
            have hf3 := hWc.2.1 x3 (by omega) (by omega)
            refine ri_if_ne (tgt := 56) hx hb dX1_around_47 (by decide) (by omega) (fun c47 => ?_) (fun c47 => by omega)
            refine lv_iload_n hx hb dX1_around_56 rfl (lv_at hl 2 rfl) ?_
            refine lv_istore_n (lv' := [(2, .int (iI x2)), (0, .ref (ad 0)), (1, .int (iI k)), (3, .int (iI x3))]) hx hb dX1_around_57 rfl hl (by decide) rfl (fun ls hl => ?_)
            refine ri_inc (k := 3) (lv1 := [(3, .int (iI (x3 + (-1)))), (2, .int (iI x2)), (0, .ref (ad 0)), (1, .int (iI k))]) hx hb dX1_around_58 hl rfl (by decide) rfl (fun ls hl => ?_)
            refine lv_goto (tgt := 6) hx hb dX1_around_61 (by decide) ?_
            exact ih x2 (x3 + (-1)) ls (by omega) (by omega) (by rw [show x3 + (-1) + 1 = x3 by omega]; have := rd_dep_oth (K := Ca) (i := x3) (by omega) c16 c32; omega) (by exact rd_all_d h3 (by have := rd_dep_oth (K := Ca) (i := x3) (by omega) c16 c32; have := h3 (x3 + 1) (by omega) (by omega); omega)) (lv_sub hl [2, 3, 1, 0] rfl)
          · refine lv_iload_n hx hb dX1_around_35 rfl (lv_at hl 2 rfl) ?_
            refine ri_const hx hb dX1_around_36 ?_
            refine ri_add hx hb dX1_around_37 ?_
            refine lv_goto (tgt := 57) hx hb dX1_around_38 (by decide) ?_
            refine lv_istore_n (lv' := [(2, .int (iI (x2 + 1))), (0, .ref (ad 0)), (1, .int (iI k)), (3, .int (iI x3))]) hx hb dX1_around_57 rfl hl (by decide) rfl (fun ls hl => ?_)
            refine ri_inc (k := 3) (lv1 := [(3, .int (iI (x3 + (-1)))), (2, .int (iI (x2 + 1))), (0, .ref (ad 0)), (1, .int (iI k))]) hx hb dX1_around_58 hl rfl (by decide) rfl (fun ls hl => ?_)
            refine lv_goto (tgt := 6) hx hb dX1_around_61 (by decide) ?_
            exact ih (x2 + 1) (x3 + (-1)) ls (by omega) (by omega) (by rw [show x3 + (-1) + 1 = x3 by omega]; have := rd_dep_close (K := Ca) (i := x3) (by omega) c32; omega) (by exact rd_all_d h3 (by have := rd_dep_close (K := Ca) (i := x3) (by omega) c32; have := h3 (x3 + 1) (by omega) (by omega); omega)) (lv_sub hl [2, 3, 1, 0] rfl)
        · refine lv_iload_n hx hb dX1_around_19 rfl (lv_at hl 2 rfl) ?_
          refine ri_if_ne (tgt := 25) hx hb dX1_around_20 (by decide) (by omega) (fun c20 => ?_) (fun c20 => ?_)
          · refine lv_aload_n hx hb dX1_around_25 rfl (lv_at hl 0 rfl) ?_
            refine mg_kind hx hb hts hown hK hP dX1_around_26 ?_
            refine lv_iload_n hx hb dX1_around_29 rfl (lv_at hl 3 rfl) ?_
            refine ml_kind hx hb hK hP (by omega) dX1_around_30 ?_
            have hf4 := hWc.2.1 x3 (by omega) (by omega)
            refine ri_const hx hb dX1_around_31 ?_
            refine ri_cmp_ne (tgt := 41) hx hb dX1_around_32 (by decide) (by omega) (fun c32 => ?_) (fun c32 => by omega)
            refine lv_aload_n hx hb dX1_around_41 rfl (lv_at hl 0 rfl) ?_
            refine mg_kind hx hb hts hown hK hP dX1_around_42 ?_
            refine lv_iload_n hx hb dX1_around_45 rfl (lv_at hl 3 rfl) ?_
            refine ml_kind hx hb hK hP (by omega) dX1_around_46 ?_
            have hf5 := hWc.2.1 x3 (by omega) (by omega)
            refine ri_if_ne (tgt := 56) hx hb dX1_around_47 (by decide) (by omega) (fun c47 => by omega) (fun c47 => ?_)
            refine lv_iload_n hx hb dX1_around_50 rfl (lv_at hl 2 rfl) ?_
            refine ri_const hx hb dX1_around_51 ?_
            refine ri_sub hx hb dX1_around_52 ?_
            refine lv_goto (tgt := 57) hx hb dX1_around_53 (by decide) ?_
            refine lv_istore_n (lv' := [(2, .int (iI (x2 - 1))), (0, .ref (ad 0)), (1, .int (iI k)), (3, .int (iI x3))]) hx hb dX1_around_57 rfl hl (by decide) rfl (fun ls hl => ?_)
            refine ri_inc (k := 3) (lv1 := [(3, .int (iI (x3 + (-1)))), (2, .int (iI (x2 - 1))), (0, .ref (ad 0)), (1, .int (iI k))]) hx hb dX1_around_58 hl rfl (by decide) rfl (fun ls hl => ?_)
            refine lv_goto (tgt := 6) hx hb dX1_around_61 (by decide) ?_
            exact ih (x2 - 1) (x3 + (-1)) ls (by omega) (by omega) (by rw [show x3 + (-1) + 1 = x3 by omega]; have := rd_dep_open (K := Ca) (i := x3) (by omega) c16; omega) (by exact rd_all_d h3 (by have := rd_dep_open (K := Ca) (i := x3) (by omega) c16; have := h3 (x3 + 1) (by omega) (by omega); omega)) (lv_sub hl [2, 3, 1, 0] rfl)
          · refine lv_iload_n hx hb dX1_around_23 rfl (lv_at hl 3 rfl) ?_
            refine gR_iret hx hb hr hlocks dX1_around_24 ?_
            exact ⟨x3, rfl, by omega, by omega, h3, fun _ => by have := rd_dep_open (K := Ca) (i := x3) (by omega) c16; omega⟩
  exact loop6 (Int.toNat (((k - 1) + 1) + 1)) 0 (k - 1) ls (by omega) (by omega) (by rw [show k - 1 + 1 = k by omega]; omega) (by intro q q1 q2; rw [show q = k by omega]; exact Int.le_refl _) (lv_sub hl [2, 3, 1, 0] rfl)
set_option maxHeartbeats 4000000 in
set_option maxRecDepth 100000 in
theorem mm_last (l : Launch) (G : va_G) (ad : Nat → Nat) (cA : ClassId) (sz : Int) (Ka Na Ca Ma Ra Va : Int → Int) (b u nm : Int) (hb0 : -1 ≤ b ∧ b < u) (hu : 0 ≤ u ∧ u < sz) (hnm : -2147483648 ≤ nm ∧ nm ≤ 2147483647) (hWc : rd_WF sz Ca Ma) : gMR l yX1_last (ws_ yX1_last cX1_last 5 (some .int)) (rmL 1) G [(cA, .int)] (mP G ad cA sz Ka Na Ca Ma Ra Va) (ad 0) [.int (iI b), .int (iI u), .int (iI nm)] (fun r => ∃ w, r = iI w ∧ rd_Lst Ca Ma b u nm w) := by
  refine gMR_of (by decide) (Nat.le_of_ble_eq_true rfl) ?_
  intro p e s m below meth c ls hx hb hr hml hown hlocks hts hP hK hl
  have hown : s.vm.findClass RX1 = some m.cls := hown
  have hl : lv_has ls 5 [(0, .ref (ad 0)), (1, .int (iI b)), (2, .int (iI u)), (3, .int (iI nm))] := hl
  have hsz := hWc.1
  refine lv_iload_n hx hb dX1_last_0 rfl (lv_at hl 2 rfl) ?_
  refine ri_const hx hb dX1_last_1 ?_
  refine ri_sub hx hb dX1_last_2 ?_
  refine lv_istore (lv' := [(4, .int (iI (u - 1))), (0, .ref (ad 0)), (1, .int (iI b)), (2, .int (iI u)), (3, .int (iI nm))]) hx hb dX1_last_3 hl (by decide) rfl (fun ls hl => ?_)
  have loop5 : ∀ (n : Nat) (x4 : Int) (ls : Array Slot), x4 - b < (n : Int) → (b ≤ x4 ∧ x4 < u) → (∀ p, x4 < p → p < u → ¬ (Ca p = 2 ∧ Ma p = nm ∧ rd_Blk Ca p b)) → lv_has ls 5 [(0, .ref (ad 0)), (1, .int (iI b)), (2, .int (iI u)), (3, .int (iI nm)), (4, .int (iI x4))] → W p l e (rmL 1) s m (Value.ref (ad 0) :: [.int (iI b), .int (iI u), .int (iI nm)]).toArray below meth c s.heap [] 0 0 (MQ below (qR (fun r => ∃ w, r = iI w ∧ rd_Lst Ca Ma b u nm w)) (Value.ref (ad 0) :: [.int (iI b), .int (iI u), .int (iI nm)]).toArray s 0 0 (fun _ => False)) (F0 m 5 ls []) := by
    intro n
    induction n with
    | zero =>
      intro x4 ls hm h1 h2 hl
      exfalso
      omega
    | succ n ih =>
      intro x4 ls hm h1 h2 hl
      refine lv_iload hx hb dX1_last_5 (lv_at hl 4 rfl) ?_
      refine lv_iload_n hx hb dX1_last_7 rfl (lv_at hl 1 rfl) ?_
      refine ri_cmp_le (tgt := 52) hx hb dX1_last_8 (by decide) (by omega) (fun c8 => ?_) (fun c8 => ?_)
      · refine ri_const hx hb dX1_last_52 ?_
        refine gR_iret hx hb hr hlocks dX1_last_53 ?_
        exact ⟨-1, rfl, Or.inl ⟨rfl, fun p p1 p2 => h2 p (by omega) p2⟩⟩
      · refine lv_aload_n hx hb dX1_last_11 rfl (lv_at hl 0 rfl) ?_
        refine mg_kind hx hb hts hown hK hP dX1_last_12 ?_
        refine lv_iload hx hb dX1_last_15 (lv_at hl 4 rfl) ?_
        refine ml_kind hx hb hK hP (by omega) dX1_last_17 ?_
        have hf1 := hWc.2.1 x4 (by omega) (by omega)
        refine ri_const hx hb dX1_last_18 ?_
        refine ri_cmp_ne (tgt := 46) hx hb dX1_last_19 (by decide) (by omega) (fun c19 => ?_) (fun c19 => ?_)
        · refine ri_inc (k := 4) (lv1 := [(4, .int (iI (x4 + (-1)))), (0, .ref (ad 0)), (1, .int (iI b)), (2, .int (iI u)), (3, .int (iI nm))]) hx hb dX1_last_46 hl rfl (by decide) rfl (fun ls hl => ?_)
          refine lv_goto (tgt := 5) hx hb dX1_last_49 (by decide) ?_
          exact ih (x4 + (-1)) ls (by omega) (by omega) (by exact rd_all_e h2 (fun q => c19 q.1)) (lv_sub hl [1, 2, 3, 4, 0] rfl)
        · refine lv_aload_n hx hb dX1_last_22 rfl (lv_at hl 0 rfl) ?_
          refine mg_name hx hb hts hown hK hP dX1_last_23 ?_
          refine lv_iload hx hb dX1_last_26 (lv_at hl 4 rfl) ?_
          refine ml_name hx hb hK hP (by omega) dX1_last_28 ?_
          have hf2 := hWc.2.1 x4 (by omega) (by omega)
          refine lv_iload_n hx hb dX1_last_29 rfl (lv_at hl 3 rfl) ?_
          refine ri_cmp_ne (tgt := 46) hx hb dX1_last_30 (by decide) (by omega) (fun c30 => ?_) (fun c30 => ?_)
          · refine ri_inc (k := 4) (lv1 := [(4, .int (iI (x4 + (-1)))), (0, .ref (ad 0)), (1, .int (iI b)), (2, .int (iI u)), (3, .int (iI nm))]) hx hb dX1_last_46 hl rfl (by decide) rfl (fun ls hl => ?_)
            refine lv_goto (tgt := 5) hx hb dX1_last_49 (by decide) ?_
            exact ih (x4 + (-1)) ls (by omega) (by omega) (by exact rd_all_e h2 (fun q => c30 q.2.1)) (lv_sub hl [1, 2, 3, 4, 0] rfl)
          · refine lv_aload_n hx hb dX1_last_33 rfl (lv_at hl 0 rfl) ?_
            refine lv_iload hx hb dX1_last_34 (lv_at hl 4 rfl) ?_
            refine gR_call (As := [.int (iI x4)]) (rest := []) hx hb hml hown hts (mm_around l G ad cA sz Ka Na Ca Ma Ra Va x4 (by omega) hWc) (cwX1_around hts 0 ⟨by decide, by decide⟩) (hP.recv hK) hP hK rfl hl.1 rfl (Nat.le_of_ble_eq_true rfl) dX1_last_36 ⟨Nat.zero_le _, Nat.zero_le _⟩ (fun r36 hr36 => ?_)
            obtain ⟨w36, rfl, hw36⟩ := hr36
            have hr36 := hw36.1
            have hs36 := hw36.2.1
            refine lv_iload_n hx hb dX1_last_39 rfl (lv_at hl 1 rfl) ?_
            refine ri_cmp_ne (tgt := 46) hx hb dX1_last_40 (by decide) (by omega) (fun c40 => ?_) (fun c40 => ?_)
            · refine ri_inc (k := 4) (lv1 := [(4, .int (iI (x4 + (-1)))), (0, .ref (ad 0)), (1, .int (iI b)), (2, .int (iI u)), (3, .int (iI nm))]) hx hb dX1_last_46 hl rfl (by decide) rfl (fun ls hl => ?_)
              refine lv_goto (tgt := 5) hx hb dX1_last_49 (by decide) ?_
              exact ih (x4 + (-1)) ls (by omega) (by omega) (by exact rd_all_e h2 (fun q => c40 (rd_Blk_uniq hw36 q.2.2))) (lv_sub hl [1, 2, 3, 4, 0] rfl)
            · refine lv_iload hx hb dX1_last_43 (lv_at hl 4 rfl) ?_
              refine gR_iret hx hb hr hlocks dX1_last_45 ?_
              exact ⟨x4, rfl, Or.inr ⟨by omega, by omega, ⟨c19, c30, by rw [← c40]; exact hw36⟩, h2⟩⟩
  exact loop5 (Int.toNat (((u - 1) - b) + 1)) (u - 1) ls (by omega) (by omega) (by intro p q1 q2; omega) (lv_sub hl [1, 2, 3, 4, 0] rfl)
set_option maxHeartbeats 4000000 in
set_option maxRecDepth 100000 in
theorem mm_bind (l : Launch) (G : va_G) (ad : Nat → Nat) (cA : ClassId) (sz : Int) (Ka Na Ca Ma Ra Va : Int → Int) (u nm : Int) (hu : 0 ≤ u ∧ u < sz) (hnm : -2147483648 ≤ nm ∧ nm ≤ 2147483647) (hWc : rd_WF sz Ca Ma) : gMR l yX1_bind (ws_ yX1_bind cX1_bind 6 (some .int)) (rmL 2) G [(cA, .int)] (mP G ad cA sz Ka Na Ca Ma Ra Va) (ad 0) [.int (iI u), .int (iI nm)] (fun r => ∃ w, r = iI w ∧ rd_Win Ca Ma nm u w) := by
  refine gMR_of (by decide) (Nat.le_of_ble_eq_true rfl) ?_
  intro p e s m below meth c ls hx hb hr hml hown hlocks hts hP hK hl
  have hown : s.vm.findClass RX1 = some m.cls := hown
  have hl : lv_has ls 6 [(0, .ref (ad 0)), (1, .int (iI u)), (2, .int (iI nm))] := hl
  have hsz := hWc.1
  have hwn : ∀ i, 0 ≤ i → i ≤ u → 0 ≤ rd_dep Ca i := fun i q1 q2 => hWc.2.2 i q1 (by omega)
  have hdu := rd_dep_le Ca (i := u) (by omega)
  refine lv_aload_n hx hb dX1_bind_0 rfl (lv_at hl 0 rfl) ?_
  refine lv_iload_n hx hb dX1_bind_1 rfl (lv_at hl 1 rfl) ?_
  refine gR_call (As := [.int (iI u)]) (rest := []) hx hb hml hown hts (mm_around l G ad cA sz Ka Na Ca Ma Ra Va u (by omega) hWc) (cwX1_around hts 0 ⟨by decide, by decide⟩) (hP.recv hK) hP hK rfl hl.1 rfl (Nat.le_of_ble_eq_true rfl) dX1_bind_2 ⟨Nat.zero_le _, Nat.zero_le _⟩ (fun r2 hr2 => ?_)
  obtain ⟨w2, rfl, hw2⟩ := hr2
  have hr2 := hw2.1
  have hs2 := hw2.2.1
  refine lv_istore_n (lv' := [(3, .int (iI w2)), (0, .ref (ad 0)), (1, .int (iI u)), (2, .int (iI nm))]) hx hb dX1_bind_5 rfl hl (by decide) rfl (fun ls hl => ?_)
  refine ri_const hx hb dX1_bind_6 ?_
  refine lv_istore (lv' := [(4, .int (iI 0)), (3, .int (iI w2)), (0, .ref (ad 0)), (1, .int (iI u)), (2, .int (iI nm))]) hx hb dX1_bind_7 hl (by decide) rfl (fun ls hl => ?_)
  have loop9 : ∀ (n : Nat) (x3 : Int) (x4 : Int) (ls : Array Slot), 28 - x4 < (n : Int) → ((0 ≤ x4 ∧ x4 ≤ 28) ∧ -1 ≤ x3 ∧ x3 < u) → (rd_Chn Ca Ma nm u x3) → (rd_dpb Ca x3 = rd_dep Ca u - 1 - x4) → (0 ≤ x3 → Ca x3 = 0) → lv_has ls 6 [(0, .ref (ad 0)), (1, .int (iI u)), (2, .int (iI nm)), (3, .int (iI x3)), (4, .int (iI x4))] → W p l e (rmL 2) s m (Value.ref (ad 0) :: [.int (iI u), .int (iI nm)]).toArray below meth c s.heap [] 0 0 (MQ below (qR (fun r => ∃ w, r = iI w ∧ rd_Win Ca Ma nm u w)) (Value.ref (ad 0) :: [.int (iI u), .int (iI nm)]).toArray s 0 0 (fun _ => False)) (F0 m 9 ls []) := by
    intro n
    induction n with
    | zero =>
      intro x3 x4 ls hm h1 h2 h3 h4 hl
      exfalso
      omega
    | succ n ih =>
      intro x3 x4 ls hm h1 h2 h3 h4 hl
      refine lv_iload hx hb dX1_bind_9 (lv_at hl 4 rfl) ?_
      refine ri_push hx hb dX1_bind_11 (by decide) ?_
      refine ri_cmp_gt (tgt := 49) hx hb dX1_bind_13 (by decide) (by omega) (fun c13 => by omega) (fun c13 => ?_)
      refine lv_aload_n hx hb dX1_bind_16 rfl (lv_at hl 0 rfl) ?_
      refine lv_iload_n hx hb dX1_bind_17 rfl (lv_at hl 3 rfl) ?_
      refine lv_iload_n hx hb dX1_bind_18 rfl (lv_at hl 1 rfl) ?_
      refine lv_iload_n hx hb dX1_bind_19 rfl (lv_at hl 2 rfl) ?_
      refine gR_call (As := [.int (iI x3), .int (iI u), .int (iI nm)]) (rest := []) hx hb hml hown hts (mm_last l G ad cA sz Ka Na Ca Ma Ra Va x3 u nm (by omega) (by omega) (by omega) hWc) (cwX1_last hts 1 ⟨by decide, by decide⟩) (hP.recv hK) hP hK rfl hl.1 rfl (Nat.le_of_ble_eq_true rfl) dX1_bind_20 ⟨Nat.zero_le _, Nat.zero_le _⟩ (fun r20 hr20 => ?_)
      obtain ⟨w20, rfl, hw20⟩ := hr20
      have hr20 := rd_Lst_rng hw20 (by omega) (by omega)
      refine lv_istore (lv' := [(5, .int (iI w20)), (0, .ref (ad 0)), (1, .int (iI u)), (2, .int (iI nm)), (3, .int (iI x3)), (4, .int (iI x4))]) hx hb dX1_bind_23 hl (by decide) rfl (fun ls hl => ?_)
      refine lv_iload hx hb dX1_bind_25 (lv_at hl 0 rfl) ?_
      refine ri_if_ge (tgt := 34) hx hb dX1_bind_27 (by decide) (by omega) (fun c27 => ?_) (fun c27 => ?_)
      · refine lv_iload hx hb dX1_bind_34 (lv_at hl 0 rfl) ?_
        refine gR_iret hx hb hr hlocks dX1_bind_36 ?_
        exact ⟨w20, rfl, rd_Chn_found h2 hwn hw20 c27⟩
      · refine lv_iload_n hx hb dX1_bind_30 rfl (lv_at hl 4 rfl) ?_
        refine ri_if_ge (tgt := 37) hx hb dX1_bind_31 (by decide) (by omega) (fun c31 => ?_) (fun c31 => ?_)
        · refine lv_aload_n hx hb dX1_bind_37 rfl (lv_at hl 1 rfl) ?_
          refine lv_iload_n hx hb dX1_bind_38 rfl (lv_at hl 4 rfl) ?_
          refine gR_call (As := [.int (iI x3)]) (rest := []) hx hb hml hown hts (mm_around l G ad cA sz Ka Na Ca Ma Ra Va x3 (by omega) hWc) (cwX1_around hts 0 ⟨by decide, by decide⟩) (hP.recv hK) hP hK rfl hl.1 rfl (Nat.le_of_ble_eq_true rfl) dX1_bind_39 ⟨Nat.zero_le _, Nat.zero_le _⟩ (fun r39 hr39 => ?_)
          obtain ⟨w39, rfl, hw39⟩ := hr39
          have hr39 := hw39.1
          have hs39 := hw39.2.1
          refine lv_istore_n (lv' := [(3, .int (iI w39)), (5, .int (iI w20)), (0, .ref (ad 0)), (1, .int (iI u)), (2, .int (iI nm)), (4, .int (iI x4))]) hx hb dX1_bind_42 rfl hl (by decide) rfl (fun ls hl => ?_)
          refine ri_inc (k := 5) (lv1 := [(4, .int (iI (x4 + 1))), (3, .int (iI w39)), (5, .int (iI w20)), (0, .ref (ad 0)), (1, .int (iI u)), (2, .int (iI nm))]) hx hb dX1_bind_43 hl rfl (by decide) rfl (fun ls hl => ?_)
          refine lv_goto (tgt := 9) hx hb dX1_bind_46 (by decide) ?_
          have hnx := rd_Chn_next h2 hwn (by rw [show (-1 : Int) = w20 by omega]; exact hw20) (by omega) (by have := h4 (by omega); omega) hw39
          have hdg := rd_dpb_ge (K := Ca) (b := w39) (fun q => hwn w39 q (by omega))
          exact ih w39 (x4 + 1) ls (by have := hnx.2; omega) (by have := hnx.2; omega) (by exact hnx.1) (by have := hnx.2; omega) (by intro q; exact (rd_Blk_open hw39 q).1) (lv_sub hl [3, 4, 5, 1, 0] rfl)
        · refine lv_iload hx hb dX1_bind_34 (lv_at hl 0 rfl) ?_
          refine gR_iret hx hb hr hlocks dX1_bind_36 ?_
          have e : w20 = -1 := by omega
          rw [e] at hw20 ⊢
          exact ⟨-1, rfl, rd_Chn_none h2 hw20 c31⟩
  exact loop9 (Int.toNat ((28 - 0) + 1)) w2 0 ls (by omega) (by omega) (by exact (rd_Chn_init (by omega) (hwn u (by omega) (by omega)) hw2).1) (by have := (rd_Chn_init (N := Ma) (nm := nm) (by omega) (hwn u (by omega) (by omega)) hw2).2; omega) (by intro q; exact (rd_Blk_open hw2 q).1) (lv_sub hl [2, 3, 4, 1, 0] rfl)
set_option maxHeartbeats 4000000 in
set_option maxRecDepth 100000 in
theorem mm_bindAll (l : Launch) (G : va_G) (ad : Nat → Nat) (cA : ClassId) (sz : Int) (Ka Na Ca Ma Ra Va : Int → Int) (hD : mD ad) (hW : rd_WF sz Ka Na) : gMV l yX1_bindAll (ws_ yX1_bindAll cX1_bindAll 2 none) (rmL 3) G [(cA, .int)] (mP G ad cA sz Ka Na Ca Ma Ra Va) (ad 0) [] (mA ad) (fun H => ∃ V1 : Int → Int, mP G ad cA sz Ka Na Ka Na rd_id V1 H ∧ rd_Bds sz Ka Na V1) := by
  refine gMV_of (by decide) (Nat.le_of_ble_eq_true rfl) ?_
  intro p e s m below meth c ls hx hb hr hml hown hlocks hts hP hK hl
  have hown : s.vm.findClass RX1 = some m.cls := hown
  have hl : lv_has ls 2 [(0, .ref (ad 0))] := hl
  have hS : va_S (mA ad) s.heap s.heap [] := va_S.rf
  have hsz := hW.1
  refine lv_aload_n hx hb dX1_bindAll_0 rfl (lv_at hl 0 rfl) ?_
  refine gV_call (As := []) (rest := []) hx hb hml hown hts (mm_copy l G ad cA sz Ka Na Ca Ma Ra Va hD) (cwX1_copy hts 0 ⟨by decide, by decide⟩) (hP.recv hK) hP hK rfl hl.1 rfl (Nat.le_of_ble_eq_true rfl) dX1_bindAll_1 ⟨Nat.zero_le _, Nat.zero_le _⟩ (fun _ h => h) hS (fun H locs hr1 _ hS => ?_)
  have hP : mP G ad cA sz Ka Na Ka Na rd_id Va H := hr1
  refine ri_const hx hb dX1_bindAll_4 ?_
  refine lv_istore_n (lv' := [(1, .int (iI 0)), (0, .ref (ad 0))]) hx hb dX1_bindAll_5 rfl hl (by decide) rfl (fun ls hl => ?_)
  have loop6 : ∀ (n : Nat) (x1 : Int) (Va_6 : Int → Int) (H : Heap) (locs : List Loc) (ls : Array Slot), sz - x1 < (n : Int) → (0 ≤ x1 ∧ x1 ≤ sz) → (∀ u, 0 ≤ u → u < x1 → rd_Bd Ka Na u (Va_6 u)) → mP G ad cA sz Ka Na Ka Na rd_id Va_6 H → va_S (mA ad) s.heap H locs → lv_has ls 2 [(0, .ref (ad 0)), (1, .int (iI x1))] → W p l e (rmL 3) s m (Value.ref (ad 0) :: []).toArray below meth c H locs 0 0 (MQ below (qV (mA ad) (fun H => ∃ V1 : Int → Int, mP G ad cA sz Ka Na Ka Na rd_id V1 H ∧ rd_Bds sz Ka Na V1)) (Value.ref (ad 0) :: []).toArray s 0 0 (mA ad)) (F0 m 6 ls []) := by
    intro n
    induction n with
    | zero =>
      intro x1 Va_6 H locs ls hm g1 g2 hP hS hl
      exfalso
      omega
    | succ n ih =>
      intro x1 Va_6 H locs ls hm g1 g2 hP hS hl
      refine lv_iload_n hx hb dX1_bindAll_6 rfl (lv_at hl 1 rfl) ?_
      refine lv_aload_n hx hb dX1_bindAll_7 rfl (lv_at hl 0 rfl) ?_
      refine mg_size hx hb hts hown hK hP dX1_bindAll_8 ?_
      refine ri_cmp_ge (tgt := 51) hx hb dX1_bindAll_11 (by decide) (by omega) (fun c11 => ?_) (fun c11 => ?_)
      · refine gV_vret hx hb hr hlocks dX1_bindAll_51 hS ?_
        have e : x1 = sz := by omega
        rw [e] at g2
        exact ⟨Va_6, hP, g2⟩
      · refine lv_aload_n hx hb dX1_bindAll_14 rfl (lv_at hl 0 rfl) ?_
        refine mg_was hx hb hts hown hK hP dX1_bindAll_15 ?_
        refine lv_iload_n hx hb dX1_bindAll_18 rfl (lv_at hl 1 rfl) ?_
        refine lv_aload_n hx hb dX1_bindAll_19 rfl (lv_at hl 0 rfl) ?_
        refine mg_kind hx hb hts hown hK hP dX1_bindAll_20 ?_
        refine lv_iload_n hx hb dX1_bindAll_23 rfl (lv_at hl 1 rfl) ?_
        refine ml_kind hx hb hK hP (by omega) dX1_bindAll_24 ?_
        have hf2 := hW.2.1 x1 (by omega) (by omega)
        refine ri_const hx hb dX1_bindAll_25 ?_
        refine ri_cmp_ne (tgt := 43) hx hb dX1_bindAll_26 (by decide) (by omega) (fun c26 => ?_) (fun c26 => ?_)
        · refine ri_const hx hb dX1_bindAll_43 ?_
          refine ms_was hx hb hK hP hD hS (by omega) dX1_bindAll_44 (fun H locs hP hS => ?_)
          refine ri_inc (k := 1) (lv1 := [(1, .int (iI (x1 + 1))), (0, .ref (ad 0))]) hx hb dX1_bindAll_45 hl rfl (by decide) rfl (fun ls hl => ?_)
          refine lv_goto (tgt := 6) hx hb dX1_bindAll_48 (by decide) ?_
          exact ih (x1 + 1) (rd_up Va_6 x1 (-1)) H locs ls (by omega) (by omega) (by exact rd_Bds_s g2 (Or.inr ⟨c26, rfl⟩)) hP hS (lv_sub hl [1, 0] rfl)
        · refine lv_aload_n hx hb dX1_bindAll_29 rfl (lv_at hl 0 rfl) ?_
          refine lv_iload_n hx hb dX1_bindAll_30 rfl (lv_at hl 1 rfl) ?_
          refine lv_aload_n hx hb dX1_bindAll_31 rfl (lv_at hl 0 rfl) ?_
          refine mg_name hx hb hts hown hK hP dX1_bindAll_32 ?_
          refine lv_iload_n hx hb dX1_bindAll_35 rfl (lv_at hl 1 rfl) ?_
          refine ml_name hx hb hK hP (by omega) dX1_bindAll_36 ?_
          have hf3 := hW.2.1 x1 (by omega) (by omega)
          refine gR_call (As := [.int (iI x1), .int (iI (Na x1))]) (rest := [.int (iI x1), .ref (ad 6)]) hx hb hml hown hts (mm_bind l G ad cA sz Ka Na Ka Na rd_id Va_6 x1 (Na x1) (by omega) (by omega) hW) (cwX1_bind hts 2 ⟨by decide, by decide⟩) (hP.recv hK) hP hK rfl hl.1 rfl (Nat.le_of_ble_eq_true rfl) dX1_bindAll_37 ⟨Nat.zero_le _, Nat.zero_le _⟩ (fun r37 hr37 => ?_)
          obtain ⟨w37, rfl, hw37⟩ := hr37
          have hr37 := rd_Win_rng hw37 (by omega)
          refine lv_goto (tgt := 44) hx hb dX1_bindAll_40 (by decide) ?_
          refine ms_was hx hb hK hP hD hS (by omega) dX1_bindAll_44 (fun H locs hP hS => ?_)
          refine ri_inc (k := 1) (lv1 := [(1, .int (iI (x1 + 1))), (0, .ref (ad 0))]) hx hb dX1_bindAll_45 hl rfl (by decide) rfl (fun ls hl => ?_)
          refine lv_goto (tgt := 6) hx hb dX1_bindAll_48 (by decide) ?_
          exact ih (x1 + 1) (rd_up Va_6 x1 w37) H locs ls (by omega) (by omega) (by exact rd_Bds_s g2 (Or.inl ⟨c26, hw37⟩)) hP hS (lv_sub hl [1, 0] rfl)
  exact loop6 (Int.toNat ((sz - 0) + 1)) 0 Va H locs ls (by omega) (by omega) (by intro u q1 q2; omega) hP hS (lv_sub hl [1, 0] rfl)
theorem rd_lg_s {P Q : Int → Prop} {x : Int} (h : ∀ u, 0 ≤ u → u < x → P u → Q u) (hx : P x → Q x) : ∀ u, 0 ≤ u → u < x + 1 → P u → Q u := by
  intro u h1 h2
  by_cases e : u = x
  · rw [e]; exact hx
  · exact h u h1 (by omega)
set_option maxHeartbeats 4000000 in
set_option maxRecDepth 100000 in
theorem mm_legal (l : Launch) (G : va_G) (ad : Nat → Nat) (cA : ClassId) (sz : Int) (Ka Na Ca Ma Ra Va : Int → Int) (hWc : rd_WF sz Ca Ma) (hR : ∀ i, 0 ≤ i → i < sz → 0 ≤ Ra i ∧ Ra i < sz) (hV : ∀ i, 0 ≤ i → i < sz → -1 ≤ Va i ∧ Va i < sz) : gMR l yX1_legal (ws_ yX1_legal cX1_legal 4 (some .boolean)) (rmL 3) G [(cA, .int)] (mP G ad cA sz Ka Na Ca Ma Ra Va) (ad 0) [] (rd_BP (rd_Legal sz Ca Ma Ra Va)) := by
  refine gMR_of (by decide) (Nat.le_of_ble_eq_true rfl) ?_
  intro p e s m below meth c ls hx hb hr hml hown hlocks hts hP hK hl
  have hown : s.vm.findClass RX1 = some m.cls := hown
  have hl : lv_has ls 4 [(0, .ref (ad 0))] := hl
  have hsz := hWc.1
  refine ri_const hx hb dX1_legal_0 ?_
  refine lv_istore_n (lv' := [(1, .int (iI 1)), (0, .ref (ad 0))]) hx hb dX1_legal_1 rfl hl (by decide) rfl (fun ls hl => ?_)
  refine ri_const hx hb dX1_legal_2 ?_
  refine lv_istore_n (lv' := [(2, .int (iI 0)), (1, .int (iI 1)), (0, .ref (ad 0))]) hx hb dX1_legal_3 rfl hl (by decide) rfl (fun ls hl => ?_)
  have loop4 : ∀ (n : Nat) (x1 : Int) (x2 : Int) (ls : Array Slot), sz - x2 < (n : Int) → (0 ≤ x2 ∧ x2 ≤ sz) → ((x1 = 1 ∧ ∀ u, 0 ≤ u → u < x2 → Ca u = 3 → ∃ p, rd_Win Ca Ma (Ma u) u p ∧ Va (Ra u) = (if p < 0 then -1 else Ra p)) ∨ (x1 = 0 ∧ ¬ rd_Legal sz Ca Ma Ra Va)) → (x1 = 0 ∨ x1 = 1) → lv_has ls 4 [(0, .ref (ad 0)), (1, .int (iI x1)), (2, .int (iI x2))] → W p l e (rmL 3) s m (Value.ref (ad 0) :: []).toArray below meth c s.heap [] 0 0 (MQ below (qR (rd_BP (rd_Legal sz Ca Ma Ra Va))) (Value.ref (ad 0) :: []).toArray s 0 0 (fun _ => False)) (F0 m 4 ls []) := by
    intro n
    induction n with
    | zero =>
      intro x1 x2 ls hm h1 h2 h3 hl
      exfalso
      omega
    | succ n ih =>
      intro x1 x2 ls hm h1 h2 h3 hl
      refine lv_iload_n hx hb dX1_legal_4 rfl (lv_at hl 2 rfl) ?_
      refine lv_aload_n hx hb dX1_legal_5 rfl (lv_at hl 0 rfl) ?_
      refine mg_size hx hb hts hown hK hP dX1_legal_6 ?_
      refine ri_cmp_ge (tgt := 78) hx hb dX1_legal_9 (by decide) (by omega) (fun c9 => ?_) (fun c9 => ?_)
      · refine lv_iload_n hx hb dX1_legal_78 rfl (lv_at hl 1 rfl) ?_
        refine gR_zret hx hb hr hlocks dX1_legal_79 (by omega) ?_
        rcases h2 with ⟨e, q⟩ | ⟨e, q⟩
        · rw [e]
          exact Or.inl ⟨fun u a b => q u a (by omega), rfl⟩
        · rw [e]
          exact Or.inr ⟨q, rfl⟩
      · refine lv_aload_n hx hb dX1_legal_12 rfl (lv_at hl 0 rfl) ?_
        refine mg_kind hx hb hts hown hK hP dX1_legal_13 ?_
        refine lv_iload_n hx hb dX1_legal_16 rfl (lv_at hl 2 rfl) ?_
        refine ml_kind hx hb hK hP (by omega) dX1_legal_17 ?_
        have hf1 := hWc.2.1 x2 (by omega) (by omega)
        refine ri_const hx hb dX1_legal_18 ?_
        refine ri_cmp_ne (tgt := 72) hx hb dX1_legal_19 (by decide) (by omega) (fun c19 => ?_) (fun c19 => ?_)
        · refine ri_inc (k := 2) (lv1 := [(2, .int (iI (x2 + 1))), (0, .ref (ad 0)), (1, .int (iI x1))]) hx hb dX1_legal_72 hl rfl (by decide) rfl (fun ls hl => ?_)
          refine lv_goto (tgt := 4) hx hb dX1_legal_75 (by decide) ?_
          exact ih x1 (x2 + 1) ls (by omega) (by omega) (by rcases h2 with ⟨e, q⟩ | ⟨e, q⟩; exact Or.inl ⟨e, rd_lg_s q (fun g => absurd g c19)⟩; exact Or.inr ⟨e, q⟩) (by omega) (lv_sub hl [1, 2, 0] rfl)
        · refine lv_aload_n hx hb dX1_legal_22 rfl (lv_at hl 0 rfl) ?_
          refine lv_iload_n hx hb dX1_legal_23 rfl (lv_at hl 2 rfl) ?_
          refine lv_aload_n hx hb dX1_legal_24 rfl (lv_at hl 0 rfl) ?_
          refine mg_name hx hb hts hown hK hP dX1_legal_25 ?_
          refine lv_iload_n hx hb dX1_legal_28 rfl (lv_at hl 2 rfl) ?_
          refine ml_name hx hb hK hP (by omega) dX1_legal_29 ?_
          have hf2 := hWc.2.1 x2 (by omega) (by omega)
          refine gR_call (As := [.int (iI x2), .int (iI (Ma x2))]) (rest := []) hx hb hml hown hts (mm_bind l G ad cA sz Ka Na Ca Ma Ra Va x2 (Ma x2) (by omega) (by omega) hWc) (cwX1_bind hts 2 ⟨by decide, by decide⟩) (hP.recv hK) hP hK rfl hl.1 rfl (Nat.le_of_ble_eq_true rfl) dX1_legal_30 ⟨Nat.zero_le _, Nat.zero_le _⟩ (fun r30 hr30 => ?_)
          obtain ⟨w30, rfl, hw30⟩ := hr30
          have hr30 := rd_Win_rng hw30 (by omega)
          refine lv_istore_n (lv' := [(3, .int (iI w30)), (0, .ref (ad 0)), (1, .int (iI x1)), (2, .int (iI x2))]) hx hb dX1_legal_33 rfl hl (by decide) rfl (fun ls hl => ?_)
          refine lv_iload_n hx hb dX1_legal_34 rfl (lv_at hl 2 rfl) ?_
          refine ri_if_eq (tgt := 70) hx hb dX1_legal_35 (by decide) (by omega) (fun c35 => ?_) (fun c35 => ?_)
          · refine ri_const hx hb dX1_legal_70 ?_
            refine lv_istore_n (lv' := [(1, .int (iI 0)), (3, .int (iI w30)), (0, .ref (ad 0)), (2, .int (iI x2))]) hx hb dX1_legal_71 rfl hl (by decide) rfl (fun ls hl => ?_)
            refine ri_inc (k := 3) (lv1 := [(2, .int (iI (x2 + 1))), (1, .int (iI 0)), (3, .int (iI w30)), (0, .ref (ad 0))]) hx hb dX1_legal_72 hl rfl (by decide) rfl (fun ls hl => ?_)
            refine lv_goto (tgt := 4) hx hb dX1_legal_75 (by decide) ?_
            exact ih 0 (x2 + 1) ls (by omega) (by omega) (by rcases h2 with ⟨e, q⟩ | ⟨e, q⟩; omega; exact Or.inr ⟨rfl, q⟩) (by omega) (lv_sub hl [3, 1, 0] rfl)
          · refine lv_aload_n hx hb dX1_legal_38 rfl (lv_at hl 1 rfl) ?_
            refine mg_was hx hb hts hown hK hP dX1_legal_39 ?_
            refine lv_aload_n hx hb dX1_legal_42 rfl (lv_at hl 1 rfl) ?_
            refine mg_origin hx hb hts hown hK hP dX1_legal_43 ?_
            refine lv_iload_n hx hb dX1_legal_46 rfl (lv_at hl 3 rfl) ?_
            refine ml_origin hx hb hK hP (by omega) dX1_legal_47 ?_
            have hf5 := hR x2 (by omega) (by omega)
            refine ml_was hx hb hK hP (by omega) dX1_legal_48 ?_
            have hf6 := hV (Ra x2) (by omega) (by omega)
            refine lv_iload_n hx hb dX1_legal_49 rfl (lv_at hl 0 rfl) ?_
            refine ri_if_ge (tgt := 57) hx hb dX1_legal_50 (by decide) (by omega) (fun c50 => ?_) (fun c50 => ?_)
            · refine lv_aload_n hx hb dX1_legal_57 rfl (lv_at hl 1 rfl) ?_
              refine mg_origin hx hb hts hown hK hP dX1_legal_58 ?_
              refine lv_iload_n hx hb dX1_legal_61 rfl (lv_at hl 0 rfl) ?_
              refine ml_origin hx hb hK hP (by omega) dX1_legal_62 ?_
              have hf7 := hR w30 (by omega) (by omega)
              refine ri_cmp_ne (tgt := 70) hx hb dX1_legal_63 (by decide) (by omega) (fun c63 => ?_) (fun c63 => ?_)
              · refine ri_const hx hb dX1_legal_70 ?_
                refine lv_istore_n (lv' := [(1, .int (iI 0)), (3, .int (iI w30)), (0, .ref (ad 0)), (2, .int (iI x2))]) hx hb dX1_legal_71 rfl hl (by decide) rfl (fun ls hl => ?_)
                refine ri_inc (k := 3) (lv1 := [(2, .int (iI (x2 + 1))), (1, .int (iI 0)), (3, .int (iI w30)), (0, .ref (ad 0))]) hx hb dX1_legal_72 hl rfl (by decide) rfl (fun ls hl => ?_)
                refine lv_goto (tgt := 4) hx hb dX1_legal_75 (by decide) ?_
                exact ih 0 (x2 + 1) ls (by omega) (by omega) (by refine Or.inr ⟨rfl, fun g => ?_⟩; obtain ⟨pp, gw, ge⟩ := g x2 (by omega) (by omega) c19; rw [rd_Win_uniq gw hw30, if_neg (by omega)] at ge; exact c63 ge) (by omega) (lv_sub hl [3, 1, 0] rfl)
              · refine ri_const hx hb dX1_legal_66 ?_
                refine lv_goto (tgt := 71) hx hb dX1_legal_67 (by decide) ?_
                refine lv_istore_n (lv' := [(1, .int (iI 1)), (3, .int (iI w30)), (0, .ref (ad 0)), (2, .int (iI x2))]) hx hb dX1_legal_71 rfl hl (by decide) rfl (fun ls hl => ?_)
                refine ri_inc (k := 3) (lv1 := [(2, .int (iI (x2 + 1))), (1, .int (iI 1)), (3, .int (iI w30)), (0, .ref (ad 0))]) hx hb dX1_legal_72 hl rfl (by decide) rfl (fun ls hl => ?_)
                refine lv_goto (tgt := 4) hx hb dX1_legal_75 (by decide) ?_
                exact ih 1 (x2 + 1) ls (by omega) (by omega) (by rcases h2 with ⟨e, q⟩ | ⟨e, q⟩; exact Or.inl ⟨rfl, rd_lg_s q (fun _ => ⟨w30, hw30, by rw [c63, if_neg (by omega)]⟩)⟩; omega) (by omega) (lv_sub hl [3, 1, 0] rfl)
            · refine ri_const hx hb dX1_legal_53 ?_
              refine lv_goto (tgt := 63) hx hb dX1_legal_54 (by decide) ?_
              refine ri_cmp_ne (tgt := 70) hx hb dX1_legal_63 (by decide) (by omega) (fun c63 => ?_) (fun c63 => ?_)
              · refine ri_const hx hb dX1_legal_70 ?_
                refine lv_istore_n (lv' := [(1, .int (iI 0)), (3, .int (iI w30)), (0, .ref (ad 0)), (2, .int (iI x2))]) hx hb dX1_legal_71 rfl hl (by decide) rfl (fun ls hl => ?_)
                refine ri_inc (k := 3) (lv1 := [(2, .int (iI (x2 + 1))), (1, .int (iI 0)), (3, .int (iI w30)), (0, .ref (ad 0))]) hx hb dX1_legal_72 hl rfl (by decide) rfl (fun ls hl => ?_)
                refine lv_goto (tgt := 4) hx hb dX1_legal_75 (by decide) ?_
                exact ih 0 (x2 + 1) ls (by omega) (by omega) (by refine Or.inr ⟨rfl, fun g => ?_⟩; obtain ⟨pp, gw, ge⟩ := g x2 (by omega) (by omega) c19; rw [rd_Win_uniq gw hw30, if_pos (by omega)] at ge; exact c63 ge) (by omega) (lv_sub hl [3, 1, 0] rfl)
              · refine ri_const hx hb dX1_legal_66 ?_
                refine lv_goto (tgt := 71) hx hb dX1_legal_67 (by decide) ?_
                refine lv_istore_n (lv' := [(1, .int (iI 1)), (3, .int (iI w30)), (0, .ref (ad 0)), (2, .int (iI x2))]) hx hb dX1_legal_71 rfl hl (by decide) rfl (fun ls hl => ?_)
                refine ri_inc (k := 3) (lv1 := [(2, .int (iI (x2 + 1))), (1, .int (iI 1)), (3, .int (iI w30)), (0, .ref (ad 0))]) hx hb dX1_legal_72 hl rfl (by decide) rfl (fun ls hl => ?_)
                refine lv_goto (tgt := 4) hx hb dX1_legal_75 (by decide) ?_
                exact ih 1 (x2 + 1) ls (by omega) (by omega) (by rcases h2 with ⟨e, q⟩ | ⟨e, q⟩; exact Or.inl ⟨rfl, rd_lg_s q (fun _ => ⟨w30, hw30, by rw [c63, if_pos (by omega)]⟩)⟩; omega) (by omega) (lv_sub hl [3, 1, 0] rfl)
  exact loop4 (Int.toNat ((sz - 0) + 1)) 1 0 ls (by omega) (by omega) (by exact Or.inl ⟨rfl, fun u q1 q2 => by omega⟩) (by omega) (lv_sub hl [2, 1, 0] rfl)
set_option maxHeartbeats 4000000 in
set_option maxRecDepth 100000 in
theorem mm_accept (l : Launch) (G : va_G) (ad : Nat → Nat) (cA : ClassId) (sz : Int) (Ka Na Ca Ma Ra Va : Int → Int) (hD : mD ad) (hsz : 0 ≤ sz ∧ sz ≤ 28) : gMV l yX1_accept (ws_ yX1_accept cX1_accept 2 none) (rmL 0) G [(cA, .int)] (mP G ad cA sz Ka Na Ca Ma Ra Va) (ad 0) [] (mA ad) (fun H => mP G ad cA sz (rd_ac sz Ca Ka) (rd_ac sz Ma Na) Ca Ma Ra Va H) := by
  refine gMV_of (by decide) (Nat.le_of_ble_eq_true rfl) ?_
  intro p e s m below meth c ls hx hb hr hml hown hlocks hts hP hK hl
  have hown : s.vm.findClass RX1 = some m.cls := hown
  have hl : lv_has ls 2 [(0, .ref (ad 0))] := hl
  have hS : va_S (mA ad) s.heap s.heap [] := va_S.rf
  refine ri_const hx hb dX1_accept_0 ?_
  refine lv_istore_n (lv' := [(1, .int (iI 0)), (0, .ref (ad 0))]) hx hb dX1_accept_1 rfl hl (by decide) rfl (fun ls hl => ?_)
  have loop2 : ∀ (n : Nat) (x1 : Int) (Ka_2 : Int → Int) (Na_2 : Int → Int) (H : Heap) (locs : List Loc) (ls : Array Slot), sz - x1 < (n : Int) → (0 ≤ x1 ∧ x1 ≤ sz) → (Ka_2 = rd_ac x1 Ca Ka) → (Na_2 = rd_ac x1 Ma Na) → mP G ad cA sz Ka_2 Na_2 Ca Ma Ra Va H → va_S (mA ad) s.heap H locs → lv_has ls 2 [(0, .ref (ad 0)), (1, .int (iI x1))] → W p l e (rmL 0) s m (Value.ref (ad 0) :: []).toArray below meth c H locs 0 0 (MQ below (qV (mA ad) (fun H => mP G ad cA sz (rd_ac sz Ca Ka) (rd_ac sz Ma Na) Ca Ma Ra Va H)) (Value.ref (ad 0) :: []).toArray s 0 0 (mA ad)) (F0 m 2 ls []) := by
    intro n
    induction n with
    | zero =>
      intro x1 Ka_2 Na_2 H locs ls hm h1 h2 h3 hP hS hl
      exfalso
      omega
    | succ n ih =>
      intro x1 Ka_2 Na_2 H locs ls hm h1 h2 h3 hP hS hl
      refine lv_iload_n hx hb dX1_accept_2 rfl (lv_at hl 1 rfl) ?_
      refine lv_aload_n hx hb dX1_accept_3 rfl (lv_at hl 0 rfl) ?_
      refine mg_size hx hb hts hown hK hP dX1_accept_4 ?_
      refine ri_cmp_ge (tgt := 40) hx hb dX1_accept_7 (by decide) (by omega) (fun c7 => ?_) (fun c7 => ?_)
      · refine gV_vret hx hb hr hlocks dX1_accept_40 hS ?_
        have e : x1 = sz := by omega
        rw [h2, h3, e] at hP
        exact hP
      · refine lv_aload_n hx hb dX1_accept_10 rfl (lv_at hl 0 rfl) ?_
        refine mg_kinds hx hb hts hown hK hP dX1_accept_11 ?_
        refine lv_iload_n hx hb dX1_accept_14 rfl (lv_at hl 1 rfl) ?_
        refine lv_aload_n hx hb dX1_accept_15 rfl (lv_at hl 0 rfl) ?_
        refine mg_kind hx hb hts hown hK hP dX1_accept_16 ?_
        refine lv_iload_n hx hb dX1_accept_19 rfl (lv_at hl 1 rfl) ?_
        refine ml_kind hx hb hK hP (by omega) dX1_accept_20 ?_
        refine ms_kinds hx hb hK hP hD hS (by omega) dX1_accept_21 (fun H locs hP hS => ?_)
        refine lv_aload_n hx hb dX1_accept_22 rfl (lv_at hl 0 rfl) ?_
        refine mg_names hx hb hts hown hK hP dX1_accept_23 ?_
        refine lv_iload_n hx hb dX1_accept_26 rfl (lv_at hl 1 rfl) ?_
        refine lv_aload_n hx hb dX1_accept_27 rfl (lv_at hl 0 rfl) ?_
        refine mg_name hx hb hts hown hK hP dX1_accept_28 ?_
        refine lv_iload_n hx hb dX1_accept_31 rfl (lv_at hl 1 rfl) ?_
        refine ml_name hx hb hK hP (by omega) dX1_accept_32 ?_
        refine ms_names hx hb hK hP hD hS (by omega) dX1_accept_33 (fun H locs hP hS => ?_)
        refine ri_inc (k := 1) (lv1 := [(1, .int (iI (x1 + 1))), (0, .ref (ad 0))]) hx hb dX1_accept_34 hl rfl (by decide) rfl (fun ls hl => ?_)
        refine lv_goto (tgt := 2) hx hb dX1_accept_37 (by decide) ?_
        exact ih (x1 + 1) (rd_up Ka_2 x1 (Ca x1)) (rd_up Na_2 x1 (Ma x1)) H locs ls (by omega) (by omega) (by rw [h2]; exact rd_ac_s (by omega)) (by rw [h3]; exact rd_ac_s (by omega)) hP hS (lv_sub hl [1, 0] rfl)
  exact loop2 (Int.toNat ((sz - 0) + 1)) 0 Ka Na s.heap [] ls (by omega) (by omega) (by exact (rd_ac_0 _ _).symm) (by exact (rd_ac_0 _ _).symm) hP hS (lv_sub hl [1, 0] rfl)
set_option maxHeartbeats 4000000 in
set_option maxRecDepth 100000 in
theorem mm_open (l : Launch) (G : va_G) (ad : Nat → Nat) (cA : ClassId) (sz : Int) (Ka Na Ca Ma Ra Va : Int → Int) (hW : rd_WF sz Ka Na) : gMR l yX1_open (ws_ yX1_open cX1_open 3 (some .int)) (rmL 0) G [(cA, .int)] (mP G ad cA sz Ka Na Ca Ma Ra Va) (ad 0) [] (fun r => r = iI (rd_dep Ka sz)) := by
  refine gMR_of (by decide) (Nat.le_of_ble_eq_true rfl) ?_
  intro p e s m below meth c ls hx hb hr hml hown hlocks hts hP hK hl
  have hown : s.vm.findClass RX1 = some m.cls := hown
  have hl : lv_has ls 3 [(0, .ref (ad 0))] := hl
  have hsz := hW.1
  refine ri_const hx hb dX1_open_0 ?_
  refine lv_istore_n (lv' := [(1, .int (iI 0)), (0, .ref (ad 0))]) hx hb dX1_open_1 rfl hl (by decide) rfl (fun ls hl => ?_)
  refine ri_const hx hb dX1_open_2 ?_
  refine lv_istore_n (lv' := [(2, .int (iI 0)), (1, .int (iI 0)), (0, .ref (ad 0))]) hx hb dX1_open_3 rfl hl (by decide) rfl (fun ls hl => ?_)
  have loop4 : ∀ (n : Nat) (x1 : Int) (x2 : Int) (ls : Array Slot), sz - x2 < (n : Int) → (0 ≤ x2 ∧ x2 ≤ sz) → (x1 = rd_dep Ka x2) → lv_has ls 3 [(0, .ref (ad 0)), (1, .int (iI x1)), (2, .int (iI x2))] → W p l e (rmL 0) s m (Value.ref (ad 0) :: []).toArray below meth c s.heap [] 0 0 (MQ below (qR (fun r => r = iI (rd_dep Ka sz))) (Value.ref (ad 0) :: []).toArray s 0 0 (fun _ => False)) (F0 m 4 ls []) := by
    intro n
    induction n with
    | zero =>
      intro x1 x2 ls hm h1 h2 hl
      exfalso
      omega
    | succ n ih =>
      intro x1 x2 ls hm h1 h2 hl
      refine lv_iload_n hx hb dX1_open_4 rfl (lv_at hl 2 rfl) ?_
      refine lv_aload_n hx hb dX1_open_5 rfl (lv_at hl 0 rfl) ?_
      refine mg_size hx hb hts hown hK hP dX1_open_6 ?_
      refine ri_cmp_ge (tgt := 51) hx hb dX1_open_9 (by decide) (by omega) (fun c9 => ?_) (fun c9 => ?_)
      · refine lv_iload_n hx hb dX1_open_51 rfl (lv_at hl 1 rfl) ?_
        refine gR_iret hx hb hr hlocks dX1_open_52 ?_
        have e : x2 = sz := by omega
        rw [h2, e]
      · refine lv_aload_n hx hb dX1_open_12 rfl (lv_at hl 0 rfl) ?_
        refine mg_kinds hx hb hts hown hK hP dX1_open_13 ?_
        refine lv_iload_n hx hb dX1_open_16 rfl (lv_at hl 2 rfl) ?_
        refine ml_kinds hx hb hK hP (by omega) dX1_open_17 ?_
        have hf1 := hW.2.1 x2 (by omega) (by omega)
        refine ri_if_ne (tgt := 27) hx hb dX1_open_18 (by decide) (by omega) (fun c18 => ?_) (fun c18 => ?_)
        · refine lv_aload_n hx hb dX1_open_27 rfl (lv_at hl 0 rfl) ?_
          refine mg_kinds hx hb hts hown hK hP dX1_open_28 ?_
          refine lv_iload_n hx hb dX1_open_31 rfl (lv_at hl 2 rfl) ?_
          refine ml_kinds hx hb hK hP (by omega) dX1_open_32 ?_
          have hf2 := hW.2.1 x2 (by omega) (by omega)
          refine ri_const hx hb dX1_open_33 ?_
          refine ri_cmp_ne (tgt := 43) hx hb dX1_open_34 (by decide) (by omega) (fun c34 => ?_) (fun c34 => ?_)
          · refine lv_iload_n hx hb dX1_open_43 rfl (lv_at hl 1 rfl) ?_
            refine lv_istore_n (lv' := [(1, .int (iI x1)), (0, .ref (ad 0)), (2, .int (iI x2))]) hx hb dX1_open_44 rfl hl (by decide) rfl (fun ls hl => ?_)
            refine ri_inc (k := 2) (lv1 := [(2, .int (iI (x2 + 1))), (1, .int (iI x1)), (0, .ref (ad 0))]) hx hb dX1_open_45 hl rfl (by decide) rfl (fun ls hl => ?_)
            refine lv_goto (tgt := 4) hx hb dX1_open_48 (by decide) ?_
            exact ih x1 (x2 + 1) ls (by omega) (by omega) (by have := rd_dep_oth (K := Ka) (i := x2) (by omega) c18 c34; omega) (lv_sub hl [2, 1, 0] rfl)
          · refine lv_iload_n hx hb dX1_open_37 rfl (lv_at hl 1 rfl) ?_
            refine ri_const hx hb dX1_open_38 ?_
            refine ri_sub hx hb dX1_open_39 ?_
            refine lv_goto (tgt := 44) hx hb dX1_open_40 (by decide) ?_
            refine lv_istore_n (lv' := [(1, .int (iI (x1 - 1))), (0, .ref (ad 0)), (2, .int (iI x2))]) hx hb dX1_open_44 rfl hl (by decide) rfl (fun ls hl => ?_)
            refine ri_inc (k := 2) (lv1 := [(2, .int (iI (x2 + 1))), (1, .int (iI (x1 - 1))), (0, .ref (ad 0))]) hx hb dX1_open_45 hl rfl (by decide) rfl (fun ls hl => ?_)
            refine lv_goto (tgt := 4) hx hb dX1_open_48 (by decide) ?_
            exact ih (x1 - 1) (x2 + 1) ls (by omega) (by omega) (by have := rd_dep_close (K := Ka) (i := x2) (by omega) c34; omega) (lv_sub hl [2, 1, 0] rfl)
        · refine lv_iload_n hx hb dX1_open_21 rfl (lv_at hl 1 rfl) ?_
          refine ri_const hx hb dX1_open_22 ?_
          refine ri_add hx hb dX1_open_23 ?_
          refine lv_goto (tgt := 44) hx hb dX1_open_24 (by decide) ?_
          refine lv_istore_n (lv' := [(1, .int (iI (x1 + 1))), (0, .ref (ad 0)), (2, .int (iI x2))]) hx hb dX1_open_44 rfl hl (by decide) rfl (fun ls hl => ?_)
          refine ri_inc (k := 2) (lv1 := [(2, .int (iI (x2 + 1))), (1, .int (iI (x1 + 1))), (0, .ref (ad 0))]) hx hb dX1_open_45 hl rfl (by decide) rfl (fun ls hl => ?_)
          refine lv_goto (tgt := 4) hx hb dX1_open_48 (by decide) ?_
          exact ih (x1 + 1) (x2 + 1) ls (by omega) (by omega) (by have := rd_dep_open (K := Ka) (i := x2) (by omega) c18; omega) (lv_sub hl [2, 1, 0] rfl)
  exact loop4 (Int.toNat ((sz - 0) + 1)) 0 0 ls (by omega) (by omega) (by exact (rd_dep_0 Ka).symm) (lv_sub hl [2, 1, 0] rfl)
set_option maxHeartbeats 4000000 in
set_option maxRecDepth 100000 in
theorem mm_drop (l : Launch) (G : va_G) (ad : Nat → Nat) (cA : ClassId) (sz : Int) (Ka Na Ca Ma Ra Va : Int → Int) (hD : mD ad) (hsz : 0 ≤ sz ∧ sz ≤ 28) : gMM l yX1_drop (ws_ yX1_drop cX1_drop 1 (some .int)) (rmL 0) G [(cA, .int)] (mP G ad cA sz Ka Na Ca Ma Ra Va) (ad 0) [] (mA ad) (fun r H => ∃ sz1 : Int, mP G ad cA sz1 Ka Na Ca Ma Ra Va H ∧ rd_Drp sz r sz1) := by
  refine gMM_of (by decide) (Nat.le_of_ble_eq_true rfl) ?_
  intro p e s m below meth c ls hx hb hr hml hown hlocks hts hP hK hl
  have hown : s.vm.findClass RX1 = some m.cls := hown
  have hl : lv_has ls 1 [(0, .ref (ad 0))] := hl
  have hS : va_S (mA ad) s.heap s.heap [] := va_S.rf
  refine lv_aload_n hx hb dX1_drop_0 rfl (lv_at hl 0 rfl) ?_
  refine mg_size hx hb hts hown hK hP dX1_drop_1 ?_
  refine ri_if_ne (tgt := 9) hx hb dX1_drop_4 (by decide) (by omega) (fun c4 => ?_) (fun c4 => ?_)
  · refine lv_aload_n hx hb dX1_drop_9 rfl (lv_at hl 0 rfl) ?_
    refine lv_dup hx hb dX1_drop_10 rfl ?_
    refine mg_size hx hb hts hown hK hP dX1_drop_11 ?_
    refine ri_const hx hb dX1_drop_14 ?_
    refine ri_sub hx hb dX1_drop_15 ?_
    refine mp_size hx hb hts hown hK hP hD hS dX1_drop_16 (fun H locs hP hS => ?_)
    refine lv_aload_n hx hb dX1_drop_19 rfl (lv_at hl 0 rfl) ?_
    refine mg_size hx hb hts hown hK hP dX1_drop_20 ?_
    refine gM_iret hx hb hr hlocks dX1_drop_23 hS ?_
    exact ⟨sz - 1, hP, Or.inr ⟨by omega, rfl, rfl⟩⟩
  · refine ri_const hx hb dX1_drop_7 ?_
    refine gM_iret hx hb hr hlocks dX1_drop_8 hS ?_
    exact ⟨sz, hP, Or.inl ⟨by omega, rfl, rfl⟩⟩
set_option maxHeartbeats 4000000 in
set_option maxRecDepth 100000 in
theorem mm_length (l : Launch) (G : va_G) (ad : Nat → Nat) (cA : ClassId) (sz : Int) (Ka Na Ca Ma Ra Va : Int → Int)  : gMR l yX1_length (ws_ yX1_length cX1_length 1 (some .int)) (rmL 0) G [(cA, .int)] (mP G ad cA sz Ka Na Ca Ma Ra Va) (ad 0) [] (fun r => r = iI sz) := by
  refine gMR_of (by decide) (Nat.le_of_ble_eq_true rfl) ?_
  intro p e s m below meth c ls hx hb hr hml hown hlocks hts hP hK hl
  have hown : s.vm.findClass RX1 = some m.cls := hown
  have hl : lv_has ls 1 [(0, .ref (ad 0))] := hl
  refine lv_aload_n hx hb dX1_length_0 rfl (lv_at hl 0 rfl) ?_
  refine mg_size hx hb hts hown hK hP dX1_length_1 ?_
  refine gR_iret hx hb hr hlocks dX1_length_4 ?_
  rfl
set_option maxHeartbeats 4000000 in
set_option maxRecDepth 100000 in
theorem mm_token (l : Launch) (G : va_G) (ad : Nat → Nat) (cA : ClassId) (sz : Int) (Ka Na Ca Ma Ra Va : Int → Int) (k : Int) (hk : -2147483648 ≤ k ∧ k ≤ 2147483647) (hsz : 0 ≤ sz ∧ sz ≤ 28) : gMR l yX1_token (ws_ yX1_token cX1_token 2 (some .int)) (rmL 1) G [(cA, .int)] (mP G ad cA sz Ka Na Ca Ma Ra Va) (ad 0) [.int (iI k)] (rd_Tok sz Ka Na k) := by
  refine gMR_of (by decide) (Nat.le_of_ble_eq_true rfl) ?_
  intro p e s m below meth c ls hx hb hr hml hown hlocks hts hP hK hl
  have hown : s.vm.findClass RX1 = some m.cls := hown
  have hl : lv_has ls 2 [(0, .ref (ad 0)), (1, .int (iI k))] := hl
  refine lv_aload_n hx hb dX1_token_0 rfl (lv_at hl 0 rfl) ?_
  refine lv_iload_n hx hb dX1_token_1 rfl (lv_at hl 1 rfl) ?_
  refine gR_call (As := [.int (iI k)]) (rest := []) hx hb hml hown hts (mm_is l G ad cA sz Ka Na Ca Ma Ra Va k (by omega) hsz) (cwX1_is hts 0 ⟨by decide, by decide⟩) (hP.recv hK) hP hK rfl hl.1 rfl (Nat.le_of_ble_eq_true rfl) dX1_token_2 ⟨Nat.zero_le _, Nat.zero_le _⟩ (fun r2 hr2 => ?_)
  rcases hr2 with ⟨c2, rfl⟩ | ⟨c2, rfl⟩
  · refine ri_if_eq (tgt := 26) hx hb dX1_token_5 (by decide) (by omega) (fun c5 => absurd c5 (by decide)) (fun c5 => ?_)
    refine lv_aload_n hx hb dX1_token_8 rfl (lv_at hl 0 rfl) ?_
    refine mg_kinds hx hb hts hown hK hP dX1_token_9 ?_
    refine lv_iload_n hx hb dX1_token_12 rfl (lv_at hl 1 rfl) ?_
    refine ml_kinds hx hb hK hP (by omega) dX1_token_13 ?_
    refine ri_const hx hb dX1_token_14 ?_
    refine lv_aload_n hx hb dX1_token_15 rfl (lv_at hl 0 rfl) ?_
    refine mg_names hx hb hts hown hK hP dX1_token_16 ?_
    refine lv_iload_n hx hb dX1_token_19 rfl (lv_at hl 1 rfl) ?_
    refine ml_names hx hb hK hP (by omega) dX1_token_20 ?_
    refine ri_mul hx hb dX1_token_21 ?_
    refine ri_add hx hb dX1_token_22 ?_
    refine lv_goto (tgt := 27) hx hb dX1_token_23 (by decide) ?_
    refine gR_iret hx hb hr hlocks dX1_token_27 ?_
    exact Or.inl ⟨c2, rfl⟩
  · refine ri_if_eq (tgt := 26) hx hb dX1_token_5 (by decide) (by omega) (fun c5 => ?_) (fun c5 => absurd c5 (by decide))
    refine ri_const hx hb dX1_token_26 ?_
    refine gR_iret hx hb hr hlocks dX1_token_27 ?_
    exact Or.inr ⟨c2, rfl⟩
set_option maxHeartbeats 4000000 in
set_option maxRecDepth 100000 in
theorem mm_add (l : Launch) (G : va_G) (ad : Nat → Nat) (cA : ClassId) (sz : Int) (Ka Na Ca Ma Ra Va : Int → Int) (kd n : Int) (hkd : -2147483648 ≤ kd ∧ kd ≤ 2147483647) (hn : -2147483648 ≤ n ∧ n ≤ 2147483647) (hD : mD ad) (hW : rd_WF sz Ka Na) : gMM l yX1_add (ws_ yX1_add cX1_add 4 (some .int)) (rmL 1) G [(cA, .int)] (mP G ad cA sz Ka Na Ca Ma Ra Va) (ad 0) [.int (iI kd), .int (iI n)] (mA ad) (fun r H => ∃ (sz1 : Int) (K1 N1 : Int → Int), mP G ad cA sz1 K1 N1 Ca Ma Ra Va H ∧ rd_Add sz Ka Na kd n r sz1 K1 N1) := by
  refine gMM_of (by decide) (Nat.le_of_ble_eq_true rfl) ?_
  intro p e s m below meth c ls hx hb hr hml hown hlocks hts hP hK hl
  have hown : s.vm.findClass RX1 = some m.cls := hown
  have hl : lv_has ls 4 [(0, .ref (ad 0)), (1, .int (iI kd)), (2, .int (iI n))] := hl
  have hS : va_S (mA ad) s.heap s.heap [] := va_S.rf
  have hsz := hW.1
  have hdp := hW.2.2 sz (by omega) (by omega)
  have hdl := rd_dep_le Ka (i := sz) (by omega)
  refine lv_iload_n hx hb dX1_add_0 rfl (lv_at hl 1 rfl) ?_
  refine ri_const hx hb dX1_add_1 ?_
  refine ri_cmp_eq (tgt := 10) hx hb dX1_add_2 (by decide) (by omega) (fun c2 => ?_) (fun c2 => ?_)
  · refine ri_const hx hb dX1_add_10 ?_
    refine lv_goto (tgt := 15) hx hb dX1_add_11 (by decide) ?_
    refine lv_istore_n (lv' := [(3, .int (iI 1)), (0, .ref (ad 0)), (1, .int (iI kd)), (2, .int (iI n))]) hx hb dX1_add_15 rfl hl (by decide) rfl (fun ls hl => ?_)
    refine lv_iload_n hx hb dX1_add_16 rfl (lv_at hl 2 rfl) ?_
    refine ri_if_lt (tgt := 51) hx hb dX1_add_17 (by decide) (by omega) (fun c17 => by omega) (fun c17 => ?_)
    refine lv_iload_n hx hb dX1_add_20 rfl (lv_at hl 2 rfl) ?_
    refine ri_const hx hb dX1_add_21 ?_
    refine ri_cmp_gt (tgt := 51) hx hb dX1_add_22 (by decide) (by omega) (fun c22 => by omega) (fun c22 => ?_)
    refine lv_iload_n hx hb dX1_add_25 rfl (lv_at hl 2 rfl) ?_
    refine ri_const hx hb dX1_add_26 ?_
    refine ri_cmp_ne (tgt := 37) hx hb dX1_add_27 (by decide) (by omega) (fun c27 => ?_) (fun c27 => by omega)
    refine lv_iload_n hx hb dX1_add_37 rfl (lv_at hl 0 rfl) ?_
    refine ri_if_eq (tgt := 53) hx hb dX1_add_38 (by decide) (by omega) (fun c38 => absurd c38 (by decide)) (fun c38 => ?_)
    refine lv_iload_n hx hb dX1_add_41 rfl (lv_at hl 3 rfl) ?_
    refine ri_if_lt (tgt := 51) hx hb dX1_add_42 (by decide) (by omega) (fun c42 => ?_) (fun c42 => ?_)
    · refine ri_const hx hb dX1_add_51 ?_
      refine gM_iret hx hb hr hlocks dX1_add_52 hS ?_
      exact ⟨sz, Ka, Na, hP, Or.inl ⟨by unfold rd_bad; omega, rfl, rfl, rfl, rfl⟩⟩
    · refine lv_iload_n hx hb dX1_add_45 rfl (lv_at hl 3 rfl) ?_
      refine ri_push hx hb dX1_add_46 (by decide) ?_
      refine ri_cmp_le (tgt := 53) hx hb dX1_add_48 (by decide) (by omega) (fun c48 => ?_) (fun c48 => ?_)
      · refine lv_aload_n hx hb dX1_add_53 rfl (lv_at hl 1 rfl) ?_
        refine mg_size hx hb hts hown hK hP dX1_add_54 ?_
        refine ri_push hx hb dX1_add_57 (by decide) ?_
        refine ri_cmp_lt (tgt := 65) hx hb dX1_add_59 (by decide) (by omega) (fun c59 => ?_) (fun c59 => ?_)
        · refine lv_aload_n hx hb dX1_add_65 rfl (lv_at hl 1 rfl) ?_
          refine mg_kinds hx hb hts hown hK hP dX1_add_66 ?_
          refine lv_aload_n hx hb dX1_add_69 rfl (lv_at hl 1 rfl) ?_
          refine mg_size hx hb hts hown hK hP dX1_add_70 ?_
          refine lv_iload_n hx hb dX1_add_73 rfl (lv_at hl 2 rfl) ?_
          refine ms_kinds hx hb hK hP hD hS (by omega) dX1_add_74 (fun H locs hP hS => ?_)
          refine lv_aload_n hx hb dX1_add_75 rfl (lv_at hl 1 rfl) ?_
          refine mg_names hx hb hts hown hK hP dX1_add_76 ?_
          refine lv_aload_n hx hb dX1_add_79 rfl (lv_at hl 1 rfl) ?_
          refine mg_size hx hb hts hown hK hP dX1_add_80 ?_
          refine lv_iload_n hx hb dX1_add_83 rfl (lv_at hl 0 rfl) ?_
          refine ri_if_eq (tgt := 91) hx hb dX1_add_84 (by decide) (by omega) (fun c84 => absurd c84 (by decide)) (fun c84 => ?_)
          refine lv_iload_n hx hb dX1_add_87 rfl (lv_at hl 3 rfl) ?_
          refine lv_goto (tgt := 92) hx hb dX1_add_88 (by decide) ?_
          refine ms_names hx hb hK hP hD hS (by omega) dX1_add_92 (fun H locs hP hS => ?_)
          refine lv_aload_n hx hb dX1_add_93 rfl (lv_at hl 1 rfl) ?_
          refine lv_dup hx hb dX1_add_94 rfl ?_
          refine mg_size hx hb hts hown hK hP dX1_add_95 ?_
          refine ri_const hx hb dX1_add_98 ?_
          refine ri_add hx hb dX1_add_99 ?_
          refine mp_size hx hb hts hown hK hP hD hS dX1_add_100 (fun H locs hP hS => ?_)
          refine lv_aload_n hx hb dX1_add_103 rfl (lv_at hl 1 rfl) ?_
          refine mg_size hx hb hts hown hK hP dX1_add_104 ?_
          refine ri_const hx hb dX1_add_107 ?_
          refine ri_sub hx hb dX1_add_108 ?_
          refine gM_iret hx hb hr hlocks dX1_add_109 hS ?_
          refine ⟨sz + 1, rd_up Ka sz kd, rd_up Na sz n, hP, Or.inr (Or.inr ⟨by unfold rd_bad; omega, by omega, ?_, rfl, rfl, ?_⟩)⟩
          · congr 1; omega
          · rw [if_pos (by omega)]
        · refine ri_push hx hb dX1_add_62 (by decide) ?_
          refine gM_iret hx hb hr hlocks dX1_add_64 hS ?_
          exact ⟨sz, Ka, Na, hP, Or.inr (Or.inl ⟨by unfold rd_bad; omega, by omega, rfl, rfl, rfl, rfl⟩)⟩
      · refine ri_const hx hb dX1_add_51 ?_
        refine gM_iret hx hb hr hlocks dX1_add_52 hS ?_
        exact ⟨sz, Ka, Na, hP, Or.inl ⟨by unfold rd_bad; omega, rfl, rfl, rfl, rfl⟩⟩
  · refine lv_iload_n hx hb dX1_add_5 rfl (lv_at hl 1 rfl) ?_
    refine ri_const hx hb dX1_add_6 ?_
    refine ri_cmp_ne (tgt := 14) hx hb dX1_add_7 (by decide) (by omega) (fun c7 => ?_) (fun c7 => ?_)
    · refine ri_const hx hb dX1_add_14 ?_
      refine lv_istore_n (lv' := [(3, .int (iI 0)), (0, .ref (ad 0)), (1, .int (iI kd)), (2, .int (iI n))]) hx hb dX1_add_15 rfl hl (by decide) rfl (fun ls hl => ?_)
      refine lv_iload_n hx hb dX1_add_16 rfl (lv_at hl 2 rfl) ?_
      refine ri_if_lt (tgt := 51) hx hb dX1_add_17 (by decide) (by omega) (fun c17 => ?_) (fun c17 => ?_)
      · refine ri_const hx hb dX1_add_51 ?_
        refine gM_iret hx hb hr hlocks dX1_add_52 hS ?_
        exact ⟨sz, Ka, Na, hP, Or.inl ⟨by unfold rd_bad; omega, rfl, rfl, rfl, rfl⟩⟩
      · refine lv_iload_n hx hb dX1_add_20 rfl (lv_at hl 2 rfl) ?_
        refine ri_const hx hb dX1_add_21 ?_
        refine ri_cmp_gt (tgt := 51) hx hb dX1_add_22 (by decide) (by omega) (fun c22 => ?_) (fun c22 => ?_)
        · refine ri_const hx hb dX1_add_51 ?_
          refine gM_iret hx hb hr hlocks dX1_add_52 hS ?_
          exact ⟨sz, Ka, Na, hP, Or.inl ⟨by unfold rd_bad; omega, rfl, rfl, rfl, rfl⟩⟩
        · refine lv_iload_n hx hb dX1_add_25 rfl (lv_at hl 2 rfl) ?_
          refine ri_const hx hb dX1_add_26 ?_
          refine ri_cmp_ne (tgt := 37) hx hb dX1_add_27 (by decide) (by omega) (fun c27 => ?_) (fun c27 => ?_)
          · refine lv_iload_n hx hb dX1_add_37 rfl (lv_at hl 0 rfl) ?_
            refine ri_if_eq (tgt := 53) hx hb dX1_add_38 (by decide) (by omega) (fun c38 => ?_) (fun c38 => absurd c38 (by decide))
            refine lv_aload_n hx hb dX1_add_53 rfl (lv_at hl 1 rfl) ?_
            refine mg_size hx hb hts hown hK hP dX1_add_54 ?_
            refine ri_push hx hb dX1_add_57 (by decide) ?_
            refine ri_cmp_lt (tgt := 65) hx hb dX1_add_59 (by decide) (by omega) (fun c59 => ?_) (fun c59 => ?_)
            · refine lv_aload_n hx hb dX1_add_65 rfl (lv_at hl 1 rfl) ?_
              refine mg_kinds hx hb hts hown hK hP dX1_add_66 ?_
              refine lv_aload_n hx hb dX1_add_69 rfl (lv_at hl 1 rfl) ?_
              refine mg_size hx hb hts hown hK hP dX1_add_70 ?_
              refine lv_iload_n hx hb dX1_add_73 rfl (lv_at hl 2 rfl) ?_
              refine ms_kinds hx hb hK hP hD hS (by omega) dX1_add_74 (fun H locs hP hS => ?_)
              refine lv_aload_n hx hb dX1_add_75 rfl (lv_at hl 1 rfl) ?_
              refine mg_names hx hb hts hown hK hP dX1_add_76 ?_
              refine lv_aload_n hx hb dX1_add_79 rfl (lv_at hl 1 rfl) ?_
              refine mg_size hx hb hts hown hK hP dX1_add_80 ?_
              refine lv_iload_n hx hb dX1_add_83 rfl (lv_at hl 0 rfl) ?_
              refine ri_if_eq (tgt := 91) hx hb dX1_add_84 (by decide) (by omega) (fun c84 => ?_) (fun c84 => absurd c84 (by decide))
              refine ri_const hx hb dX1_add_91 ?_
              refine ms_names hx hb hK hP hD hS (by omega) dX1_add_92 (fun H locs hP hS => ?_)
              refine lv_aload_n hx hb dX1_add_93 rfl (lv_at hl 1 rfl) ?_
              refine lv_dup hx hb dX1_add_94 rfl ?_
              refine mg_size hx hb hts hown hK hP dX1_add_95 ?_
              refine ri_const hx hb dX1_add_98 ?_
              refine ri_add hx hb dX1_add_99 ?_
              refine mp_size hx hb hts hown hK hP hD hS dX1_add_100 (fun H locs hP hS => ?_)
              refine lv_aload_n hx hb dX1_add_103 rfl (lv_at hl 1 rfl) ?_
              refine mg_size hx hb hts hown hK hP dX1_add_104 ?_
              refine ri_const hx hb dX1_add_107 ?_
              refine ri_sub hx hb dX1_add_108 ?_
              refine gM_iret hx hb hr hlocks dX1_add_109 hS ?_
              refine ⟨sz + 1, rd_up Ka sz kd, rd_up Na sz 0, hP, Or.inr (Or.inr ⟨by unfold rd_bad; omega, by omega, ?_, rfl, rfl, ?_⟩)⟩
              · congr 1; omega
              · rw [if_neg (by omega)]
            · refine ri_push hx hb dX1_add_62 (by decide) ?_
              refine gM_iret hx hb hr hlocks dX1_add_64 hS ?_
              exact ⟨sz, Ka, Na, hP, Or.inr (Or.inl ⟨by unfold rd_bad; omega, by omega, rfl, rfl, rfl, rfl⟩)⟩
          · refine lv_aload_n hx hb dX1_add_30 rfl (lv_at hl 1 rfl) ?_
            refine gR_call (As := []) (rest := []) hx hb hml hown hts (mm_open l G ad cA sz Ka Na Ca Ma Ra Va hW) (cwX1_open hts 0 ⟨by decide, by decide⟩) (hP.recv hK) hP hK rfl hl.1 rfl (Nat.le_of_ble_eq_true rfl) dX1_add_31 ⟨Nat.zero_le _, Nat.zero_le _⟩ (fun r31 hr31 => ?_)
            subst hr31
            refine ri_if_eq (tgt := 51) hx hb dX1_add_34 (by decide) (by omega) (fun c34 => ?_) (fun c34 => ?_)
            · refine ri_const hx hb dX1_add_51 ?_
              refine gM_iret hx hb hr hlocks dX1_add_52 hS ?_
              exact ⟨sz, Ka, Na, hP, Or.inl ⟨by unfold rd_bad; omega, rfl, rfl, rfl, rfl⟩⟩
            · refine lv_iload_n hx hb dX1_add_37 rfl (lv_at hl 0 rfl) ?_
              refine ri_if_eq (tgt := 53) hx hb dX1_add_38 (by decide) (by omega) (fun c38 => ?_) (fun c38 => absurd c38 (by decide))
              refine lv_aload_n hx hb dX1_add_53 rfl (lv_at hl 1 rfl) ?_
              refine mg_size hx hb hts hown hK hP dX1_add_54 ?_
              refine ri_push hx hb dX1_add_57 (by decide) ?_
              refine ri_cmp_lt (tgt := 65) hx hb dX1_add_59 (by decide) (by omega) (fun c59 => ?_) (fun c59 => ?_)
              · refine lv_aload_n hx hb dX1_add_65 rfl (lv_at hl 1 rfl) ?_
                refine mg_kinds hx hb hts hown hK hP dX1_add_66 ?_
                refine lv_aload_n hx hb dX1_add_69 rfl (lv_at hl 1 rfl) ?_
                refine mg_size hx hb hts hown hK hP dX1_add_70 ?_
                refine lv_iload_n hx hb dX1_add_73 rfl (lv_at hl 2 rfl) ?_
                refine ms_kinds hx hb hK hP hD hS (by omega) dX1_add_74 (fun H locs hP hS => ?_)
                refine lv_aload_n hx hb dX1_add_75 rfl (lv_at hl 1 rfl) ?_
                refine mg_names hx hb hts hown hK hP dX1_add_76 ?_
                refine lv_aload_n hx hb dX1_add_79 rfl (lv_at hl 1 rfl) ?_
                refine mg_size hx hb hts hown hK hP dX1_add_80 ?_
                refine lv_iload_n hx hb dX1_add_83 rfl (lv_at hl 0 rfl) ?_
                refine ri_if_eq (tgt := 91) hx hb dX1_add_84 (by decide) (by omega) (fun c84 => ?_) (fun c84 => absurd c84 (by decide))
                refine ri_const hx hb dX1_add_91 ?_
                refine ms_names hx hb hK hP hD hS (by omega) dX1_add_92 (fun H locs hP hS => ?_)
                refine lv_aload_n hx hb dX1_add_93 rfl (lv_at hl 1 rfl) ?_
                refine lv_dup hx hb dX1_add_94 rfl ?_
                refine mg_size hx hb hts hown hK hP dX1_add_95 ?_
                refine ri_const hx hb dX1_add_98 ?_
                refine ri_add hx hb dX1_add_99 ?_
                refine mp_size hx hb hts hown hK hP hD hS dX1_add_100 (fun H locs hP hS => ?_)
                refine lv_aload_n hx hb dX1_add_103 rfl (lv_at hl 1 rfl) ?_
                refine mg_size hx hb hts hown hK hP dX1_add_104 ?_
                refine ri_const hx hb dX1_add_107 ?_
                refine ri_sub hx hb dX1_add_108 ?_
                refine gM_iret hx hb hr hlocks dX1_add_109 hS ?_
                refine ⟨sz + 1, rd_up Ka sz kd, rd_up Na sz 0, hP, Or.inr (Or.inr ⟨by unfold rd_bad; omega, by omega, ?_, rfl, rfl, ?_⟩)⟩
                · congr 1; omega
                · rw [if_neg (by omega)]
              · refine ri_push hx hb dX1_add_62 (by decide) ?_
                refine gM_iret hx hb hr hlocks dX1_add_64 hS ?_
                exact ⟨sz, Ka, Na, hP, Or.inr (Or.inl ⟨by unfold rd_bad; omega, by omega, rfl, rfl, rfl, rfl⟩)⟩
    · refine ri_const hx hb dX1_add_10 ?_
      refine lv_goto (tgt := 15) hx hb dX1_add_11 (by decide) ?_
      refine lv_istore_n (lv' := [(3, .int (iI 1)), (0, .ref (ad 0)), (1, .int (iI kd)), (2, .int (iI n))]) hx hb dX1_add_15 rfl hl (by decide) rfl (fun ls hl => ?_)
      refine lv_iload_n hx hb dX1_add_16 rfl (lv_at hl 2 rfl) ?_
      refine ri_if_lt (tgt := 51) hx hb dX1_add_17 (by decide) (by omega) (fun c17 => by omega) (fun c17 => ?_)
      refine lv_iload_n hx hb dX1_add_20 rfl (lv_at hl 2 rfl) ?_
      refine ri_const hx hb dX1_add_21 ?_
      refine ri_cmp_gt (tgt := 51) hx hb dX1_add_22 (by decide) (by omega) (fun c22 => by omega) (fun c22 => ?_)
      refine lv_iload_n hx hb dX1_add_25 rfl (lv_at hl 2 rfl) ?_
      refine ri_const hx hb dX1_add_26 ?_
      refine ri_cmp_ne (tgt := 37) hx hb dX1_add_27 (by decide) (by omega) (fun c27 => ?_) (fun c27 => by omega)
      refine lv_iload_n hx hb dX1_add_37 rfl (lv_at hl 0 rfl) ?_
      refine ri_if_eq (tgt := 53) hx hb dX1_add_38 (by decide) (by omega) (fun c38 => absurd c38 (by decide)) (fun c38 => ?_)
      refine lv_iload_n hx hb dX1_add_41 rfl (lv_at hl 3 rfl) ?_
      refine ri_if_lt (tgt := 51) hx hb dX1_add_42 (by decide) (by omega) (fun c42 => ?_) (fun c42 => ?_)
      · refine ri_const hx hb dX1_add_51 ?_
        refine gM_iret hx hb hr hlocks dX1_add_52 hS ?_
        exact ⟨sz, Ka, Na, hP, Or.inl ⟨by unfold rd_bad; omega, rfl, rfl, rfl, rfl⟩⟩
      · refine lv_iload_n hx hb dX1_add_45 rfl (lv_at hl 3 rfl) ?_
        refine ri_push hx hb dX1_add_46 (by decide) ?_
        refine ri_cmp_le (tgt := 53) hx hb dX1_add_48 (by decide) (by omega) (fun c48 => ?_) (fun c48 => ?_)
        · refine lv_aload_n hx hb dX1_add_53 rfl (lv_at hl 1 rfl) ?_
          refine mg_size hx hb hts hown hK hP dX1_add_54 ?_
          refine ri_push hx hb dX1_add_57 (by decide) ?_
          refine ri_cmp_lt (tgt := 65) hx hb dX1_add_59 (by decide) (by omega) (fun c59 => ?_) (fun c59 => ?_)
          · refine lv_aload_n hx hb dX1_add_65 rfl (lv_at hl 1 rfl) ?_
            refine mg_kinds hx hb hts hown hK hP dX1_add_66 ?_
            refine lv_aload_n hx hb dX1_add_69 rfl (lv_at hl 1 rfl) ?_
            refine mg_size hx hb hts hown hK hP dX1_add_70 ?_
            refine lv_iload_n hx hb dX1_add_73 rfl (lv_at hl 2 rfl) ?_
            refine ms_kinds hx hb hK hP hD hS (by omega) dX1_add_74 (fun H locs hP hS => ?_)
            refine lv_aload_n hx hb dX1_add_75 rfl (lv_at hl 1 rfl) ?_
            refine mg_names hx hb hts hown hK hP dX1_add_76 ?_
            refine lv_aload_n hx hb dX1_add_79 rfl (lv_at hl 1 rfl) ?_
            refine mg_size hx hb hts hown hK hP dX1_add_80 ?_
            refine lv_iload_n hx hb dX1_add_83 rfl (lv_at hl 0 rfl) ?_
            refine ri_if_eq (tgt := 91) hx hb dX1_add_84 (by decide) (by omega) (fun c84 => absurd c84 (by decide)) (fun c84 => ?_)
            refine lv_iload_n hx hb dX1_add_87 rfl (lv_at hl 3 rfl) ?_
            refine lv_goto (tgt := 92) hx hb dX1_add_88 (by decide) ?_
            refine ms_names hx hb hK hP hD hS (by omega) dX1_add_92 (fun H locs hP hS => ?_)
            refine lv_aload_n hx hb dX1_add_93 rfl (lv_at hl 1 rfl) ?_
            refine lv_dup hx hb dX1_add_94 rfl ?_
            refine mg_size hx hb hts hown hK hP dX1_add_95 ?_
            refine ri_const hx hb dX1_add_98 ?_
            refine ri_add hx hb dX1_add_99 ?_
            refine mp_size hx hb hts hown hK hP hD hS dX1_add_100 (fun H locs hP hS => ?_)
            refine lv_aload_n hx hb dX1_add_103 rfl (lv_at hl 1 rfl) ?_
            refine mg_size hx hb hts hown hK hP dX1_add_104 ?_
            refine ri_const hx hb dX1_add_107 ?_
            refine ri_sub hx hb dX1_add_108 ?_
            refine gM_iret hx hb hr hlocks dX1_add_109 hS ?_
            refine ⟨sz + 1, rd_up Ka sz kd, rd_up Na sz n, hP, Or.inr (Or.inr ⟨by unfold rd_bad; omega, by omega, ?_, rfl, rfl, ?_⟩)⟩
            · congr 1; omega
            · rw [if_pos (by omega)]
          · refine ri_push hx hb dX1_add_62 (by decide) ?_
            refine gM_iret hx hb hr hlocks dX1_add_64 hS ?_
            exact ⟨sz, Ka, Na, hP, Or.inr (Or.inl ⟨by unfold rd_bad; omega, by omega, rfl, rfl, rfl, rfl⟩)⟩
        · refine ri_const hx hb dX1_add_51 ?_
          refine gM_iret hx hb hr hlocks dX1_add_52 hS ?_
          exact ⟨sz, Ka, Na, hP, Or.inl ⟨by unfold rd_bad; omega, rfl, rfl, rfl, rfl⟩⟩
end
section
theorem rd_Bd_decl {K N : Int → Int} {u w : Int} (h : rd_Bd K N u w) (hw : 0 ≤ w) : K w = 2 := by
  rcases h with ⟨-, h⟩ | ⟨-, h⟩
  · exact (rd_Win_pos h hw).2.2.1
  · omega
/-- the reference's uses: it asks 'is' in the loop -/
theorem rd_Uses_of {sz : Int} {K N : Int → Int} {k x : Int} {r : Int32} (h : r = rd_set (fun u => rd_Bd K N u k) x) (h3 : (0 ≤ k ∧ k < sz) ∨ x = 0) (he : x = sz ∨ ¬ (0 ≤ k ∧ k < sz)) : rd_Uses sz K N k r := by
  by_cases p : 0 ≤ k ∧ k < sz
  · have e : x = sz := by omega
    by_cases q : K k = 2
    · exact Or.inl ⟨⟨p, q⟩, by rw [h, e]⟩
    · refine Or.inr ⟨fun g => q g.2, ?_⟩
      rw [h]
      exact rd_bs_none _ (fun j h1 h2 g => q (rd_Bd_decl g p.1))
  · have e : x = 0 := by omega
    exact Or.inr ⟨fun g => p g.1, by rw [h, e]; rfl⟩
/-- a move in the making -/
def rd_mvU (K : Int → Int) (b k x : Int) : Int → Int := fun i => if i = b then K k else if b < i ∧ i ≤ x then K (i - 1) else K i
theorem rd_mvU_0 (K : Int → Int) (b k : Int) : rd_up K b (K k) = rd_mvU K b k b := by
  funext i
  unfold rd_mvU
  by_cases e : i = b
  · rw [e, rd_up_s, if_pos rfl]
  · rw [rd_up_n e, if_neg e, if_neg (by omega)]
theorem rd_mvU_s {K : Int → Int} {b k x : Int} (h : b ≤ x) : rd_up (rd_mvU K b k x) (x + 1) (K x) = rd_mvU K b k (x + 1) := by
  funext i
  unfold rd_mvU
  by_cases e : i = x + 1
  · rw [e, rd_up_s, if_neg (by omega), if_pos (by omega)]
    congr 1
    omega
  · rw [rd_up_n e]
    by_cases e1 : i = b
    · rw [if_pos e1, if_pos e1]
    · rw [if_neg e1, if_neg e1]
      by_cases q : b < i ∧ i ≤ x
      · rw [if_pos q, if_pos (by omega)]
      · rw [if_neg q, if_neg (by omega)]
theorem rd_sw_pl (K : Int → Int) (k : Int) : rd_up (rd_up K (k + 1) (K k)) k (K (k + 1)) = rd_sw K k := by
  funext i
  by_cases e2 : i = k
  · rw [e2, rd_up_s, rd_sw_a]
  · rw [rd_up_n e2]
    by_cases e : i = k + 1
    · rw [e, rd_up_s, rd_sw_b]
    · rw [rd_up_n e, rd_sw_o e2 e]
set_option maxHeartbeats 4000000 in
set_option maxRecDepth 100000 in
theorem mm_bound (l : Launch) (G : va_G) (ad : Nat → Nat) (cA : ClassId) (sz : Int) (Ka Na Ca Ma Ra Va : Int → Int) (k : Int) (hk : -2147483648 ≤ k ∧ k ≤ 2147483647) (hD : mD ad) (hW : rd_WF sz Ka Na) : gMM l yX1_bound (ws_ yX1_bound cX1_bound 2 (some .int)) (rmL 4) G [(cA, .int)] (mP G ad cA sz Ka Na Ca Ma Ra Va) (ad 0) [.int (iI k)] (mA ad) (fun r H => mKp G ad cA sz Ka Na H ∧ rd_Bou sz Ka Na k r) := by
  refine gMM_of (by decide) (Nat.le_of_ble_eq_true rfl) ?_
  intro p e s m below meth c ls hx hb hr hml hown hlocks hts hP hK hl
  have hown : s.vm.findClass RX1 = some m.cls := hown
  have hl : lv_has ls 2 [(0, .ref (ad 0)), (1, .int (iI k))] := hl
  have hS : va_S (mA ad) s.heap s.heap [] := va_S.rf
  have hsz := hW.1
  refine lv_aload_n hx hb dX1_bound_0 rfl (lv_at hl 0 rfl) ?_
  refine gV_call (As := []) (rest := []) hx hb hml hown hts (mm_bindAll l G ad cA sz Ka Na Ca Ma Ra Va hD hW) (cwX1_bindAll hts 3 ⟨by decide, by decide⟩) (hP.recv hK) hP hK rfl hl.1 rfl (Nat.le_of_ble_eq_true rfl) dX1_bound_1 ⟨Nat.zero_le _, Nat.zero_le _⟩ (fun _ h => h) hS (fun H locs hr1 _ hS => ?_)
  obtain ⟨V1, hP, hT⟩ := hr1
  refine lv_aload_n hx hb dX1_bound_4 rfl (lv_at hl 0 rfl) ?_
  refine lv_iload_n hx hb dX1_bound_5 rfl (lv_at hl 1 rfl) ?_
  refine gR_call (As := [.int (iI k)]) (rest := []) hx hb hml hown hts (mm_is l G ad cA sz Ka Na Ka Na rd_id V1 k (by omega) hsz) (cwX1_is hts 0 ⟨by decide, by decide⟩) (hP.recv hK) hP hK rfl hl.1 rfl (Nat.le_of_ble_eq_true rfl) dX1_bound_6 ⟨Nat.zero_le _, Nat.zero_le _⟩ (fun r6 hr6 => ?_)
  rcases hr6 with ⟨c6, rfl⟩ | ⟨c6, rfl⟩
  · refine ri_if_eq (tgt := 21) hx hb dX1_bound_9 (by decide) (by omega) (fun c9 => absurd c9 (by decide)) (fun c9 => ?_)
    refine lv_aload_n hx hb dX1_bound_12 rfl (lv_at hl 0 rfl) ?_
    refine mg_was hx hb hts hown hK hP dX1_bound_13 ?_
    refine lv_iload_n hx hb dX1_bound_16 rfl (lv_at hl 1 rfl) ?_
    refine ml_was hx hb hK hP (by omega) dX1_bound_17 ?_
    have hf2 := rd_Bd_rng (hT k (by omega) (by omega)) (by omega)
    refine lv_goto (tgt := 22) hx hb dX1_bound_18 (by decide) ?_
    refine gM_iret hx hb hr hlocks dX1_bound_22 hS ?_
    exact ⟨⟨Ka, Na, rd_id, V1, hP⟩, Or.inl ⟨c6, V1 k, hT k (by omega) (by omega), rfl⟩⟩
  · refine ri_if_eq (tgt := 21) hx hb dX1_bound_9 (by decide) (by omega) (fun c9 => ?_) (fun c9 => absurd c9 (by decide))
    refine ri_const hx hb dX1_bound_21 ?_
    refine gM_iret hx hb hr hlocks dX1_bound_22 hS ?_
    exact ⟨⟨Ka, Na, rd_id, V1, hP⟩, Or.inr ⟨c6, rfl⟩⟩
set_option maxHeartbeats 4000000 in
set_option maxRecDepth 100000 in
theorem mm_uses (l : Launch) (G : va_G) (ad : Nat → Nat) (cA : ClassId) (sz : Int) (Ka Na Ca Ma Ra Va : Int → Int) (k : Int) (hk : -2147483648 ≤ k ∧ k ≤ 2147483647) (hD : mD ad) (hW : rd_WF sz Ka Na) : gMM l yX1_uses (ws_ yX1_uses cX1_uses 4 (some .int)) (rmL 4) G [(cA, .int)] (mP G ad cA sz Ka Na Ca Ma Ra Va) (ad 0) [.int (iI k)] (mA ad) (fun r H => mKp G ad cA sz Ka Na H ∧ rd_Uses sz Ka Na k r) := by
  refine gMM_of (by decide) (Nat.le_of_ble_eq_true rfl) ?_
  intro p e s m below meth c ls hx hb hr hml hown hlocks hts hP hK hl
  have hown : s.vm.findClass RX1 = some m.cls := hown
  have hl : lv_has ls 4 [(0, .ref (ad 0)), (1, .int (iI k))] := hl
  have hS : va_S (mA ad) s.heap s.heap [] := va_S.rf
  have hsz := hW.1
  refine lv_aload_n hx hb dX1_uses_0 rfl (lv_at hl 0 rfl) ?_
  refine gV_call (As := []) (rest := []) hx hb hml hown hts (mm_bindAll l G ad cA sz Ka Na Ca Ma Ra Va hD hW) (cwX1_bindAll hts 3 ⟨by decide, by decide⟩) (hP.recv hK) hP hK rfl hl.1 rfl (Nat.le_of_ble_eq_true rfl) dX1_uses_1 ⟨Nat.zero_le _, Nat.zero_le _⟩ (fun _ h => h) hS (fun H locs hr1 _ hS => ?_)
  obtain ⟨V1, hP, hT⟩ := hr1
  refine ri_const hx hb dX1_uses_4 ?_
  refine lv_istore_n (lv' := [(2, .int (iI 0)), (0, .ref (ad 0)), (1, .int (iI k))]) hx hb dX1_uses_5 rfl hl (by decide) rfl (fun ls hl => ?_)
  refine ri_const hx hb dX1_uses_6 ?_
  refine lv_istore_n (lv' := [(3, .int (iI 0)), (2, .int (iI 0)), (0, .ref (ad 0)), (1, .int (iI k))]) hx hb dX1_uses_7 rfl hl (by decide) rfl (fun ls hl => ?_)
  have loop8 : ∀ (n : Nat) (set : Int32) (x3 : Int) (ls : Array Slot), sz - x3 < (n : Int) → (0 ≤ x3 ∧ x3 ≤ sz) → (set = rd_set (fun u => rd_Bd Ka Na u k) x3) → ((0 ≤ k ∧ k < sz) ∨ x3 = 0) → lv_has ls 4 [(0, .ref (ad 0)), (1, .int (iI k)), (2, .int set), (3, .int (iI x3))] → W p l e (rmL 4) s m (Value.ref (ad 0) :: [.int (iI k)]).toArray below meth c H locs 0 0 (MQ below (qM (mA ad) (fun r H => mKp G ad cA sz Ka Na H ∧ rd_Uses sz Ka Na k r)) (Value.ref (ad 0) :: [.int (iI k)]).toArray s 0 0 (mA ad)) (F0 m 8 ls []) := by
    intro n
    induction n with
    | zero =>
      intro set x3 ls hm h1 h2 h3 hl
      exfalso
      omega
    | succ n ih =>
      intro set x3 ls hm h1 h2 h3 hl
      refine lv_iload_n hx hb dX1_uses_8 rfl (lv_at hl 3 rfl) ?_
      refine lv_aload_n hx hb dX1_uses_9 rfl (lv_at hl 0 rfl) ?_
      refine mg_size hx hb hts hown hK hP dX1_uses_10 ?_
      refine ri_cmp_ge (tgt := 50) hx hb dX1_uses_13 (by decide) (by omega) (fun c13 => ?_) (fun c13 => ?_)
      · refine lv_iload_n hx hb dX1_uses_50 rfl (lv_at hl 2 rfl) ?_
        refine gM_iret hx hb hr hlocks dX1_uses_51 hS ?_
        exact ⟨⟨Ka, Na, rd_id, V1, hP⟩, rd_Uses_of h2 h3 (by omega)⟩
      · refine lv_aload_n hx hb dX1_uses_16 rfl (lv_at hl 0 rfl) ?_
        refine lv_iload_n hx hb dX1_uses_17 rfl (lv_at hl 1 rfl) ?_
        refine gR_call (As := [.int (iI k)]) (rest := []) hx hb hml hown hts (mm_is l G ad cA sz Ka Na Ka Na rd_id V1 k (by omega) hsz) (cwX1_is hts 0 ⟨by decide, by decide⟩) (hP.recv hK) hP hK rfl hl.1 rfl (Nat.le_of_ble_eq_true rfl) dX1_uses_18 ⟨Nat.zero_le _, Nat.zero_le _⟩ (fun r18 hr18 => ?_)
        rcases hr18 with ⟨c18, rfl⟩ | ⟨c18, rfl⟩
        · refine ri_if_eq (tgt := 50) hx hb dX1_uses_21 (by decide) (by omega) (fun c21 => absurd c21 (by decide)) (fun c21 => ?_)
          refine lv_aload_n hx hb dX1_uses_24 rfl (lv_at hl 0 rfl) ?_
          refine mg_was hx hb hts hown hK hP dX1_uses_25 ?_
          refine lv_iload_n hx hb dX1_uses_28 rfl (lv_at hl 3 rfl) ?_
          refine ml_was hx hb hK hP (by omega) dX1_uses_29 ?_
          have hf2 := rd_Bd_rng (hT x3 (by omega) (by omega)) (by omega)
          refine lv_iload_n hx hb dX1_uses_30 rfl (lv_at hl 1 rfl) ?_
          refine ri_cmp_ne (tgt := 42) hx hb dX1_uses_31 (by decide) (by omega) (fun c31 => ?_) (fun c31 => ?_)
          · refine lv_iload_n hx hb dX1_uses_42 rfl (lv_at hl 2 rfl) ?_
            refine lv_istore_n (lv' := [(2, .int set), (0, .ref (ad 0)), (1, .int (iI k)), (3, .int (iI x3))]) hx hb dX1_uses_43 rfl hl (by decide) rfl (fun ls hl => ?_)
            refine ri_inc (k := 3) (lv1 := [(3, .int (iI (x3 + 1))), (2, .int set), (0, .ref (ad 0)), (1, .int (iI k))]) hx hb dX1_uses_44 hl rfl (by decide) rfl (fun ls hl => ?_)
            refine lv_goto (tgt := 8) hx hb dX1_uses_47 (by decide) ?_
            exact ih set (x3 + 1) ls (by omega) (by omega) (by rw [rd_set_f (f := fun u => rd_Bd Ka Na u k) (by omega) (fun q => c31 ((rd_Bds_iff hT (by omega) (by omega)).mp q)), h2]) (by omega) (lv_sub hl [2, 3, 1, 0] rfl)
          · refine lv_iload_n hx hb dX1_uses_34 rfl (lv_at hl 2 rfl) ?_
            refine ri_const hx hb dX1_uses_35 ?_
            refine lv_iload_n hx hb dX1_uses_36 rfl (lv_at hl 3 rfl) ?_
            refine lv_ishl hx hb dX1_uses_37 ?_
            refine lv_ior hx hb dX1_uses_38 ?_
            refine lv_goto (tgt := 43) hx hb dX1_uses_39 (by decide) ?_
            refine lv_istore_n (lv' := [(2, .int (set ||| (rd_bit x3))), (0, .ref (ad 0)), (1, .int (iI k)), (3, .int (iI x3))]) hx hb dX1_uses_43 rfl hl (by decide) rfl (fun ls hl => ?_)
            refine ri_inc (k := 3) (lv1 := [(3, .int (iI (x3 + 1))), (2, .int (set ||| (rd_bit x3))), (0, .ref (ad 0)), (1, .int (iI k))]) hx hb dX1_uses_44 hl rfl (by decide) rfl (fun ls hl => ?_)
            refine lv_goto (tgt := 8) hx hb dX1_uses_47 (by decide) ?_
            exact ih (set ||| (rd_bit x3)) (x3 + 1) ls (by omega) (by omega) (by rw [rd_set_t (f := fun u => rd_Bd Ka Na u k) (by omega) ((rd_Bds_iff hT (by omega) (by omega)).mpr c31), h2]) (by omega) (lv_sub hl [2, 3, 1, 0] rfl)
        · refine ri_if_eq (tgt := 50) hx hb dX1_uses_21 (by decide) (by omega) (fun c21 => ?_) (fun c21 => absurd c21 (by decide))
          refine lv_iload_n hx hb dX1_uses_50 rfl (lv_at hl 2 rfl) ?_
          refine gM_iret hx hb hr hlocks dX1_uses_51 hS ?_
          exact ⟨⟨Ka, Na, rd_id, V1, hP⟩, rd_Uses_of h2 h3 (by omega)⟩
  exact loop8 (Int.toNat ((sz - 0) + 1)) (iI 0) 0 ls (by omega) (by omega) (by exact (rd_set_0 _).symm) (by omega) (lv_sub hl [2, 3, 1, 0] rfl)
set_option maxHeartbeats 4000000 in
set_option maxRecDepth 100000 in
theorem mm_free (l : Launch) (G : va_G) (ad : Nat → Nat) (cA : ClassId) (sz : Int) (Ka Na Ca Ma Ra Va : Int → Int) (hD : mD ad) (hW : rd_WF sz Ka Na) : gMM l yX1_free (ws_ yX1_free cX1_free 3 (some .int)) (rmL 4) G [(cA, .int)] (mP G ad cA sz Ka Na Ca Ma Ra Va) (ad 0) [] (mA ad) (fun r H => mKp G ad cA sz Ka Na H ∧ rd_Fre sz Ka Na r) := by
  refine gMM_of (by decide) (Nat.le_of_ble_eq_true rfl) ?_
  intro p e s m below meth c ls hx hb hr hml hown hlocks hts hP hK hl
  have hown : s.vm.findClass RX1 = some m.cls := hown
  have hl : lv_has ls 3 [(0, .ref (ad 0))] := hl
  have hS : va_S (mA ad) s.heap s.heap [] := va_S.rf
  have hsz := hW.1
  refine lv_aload_n hx hb dX1_free_0 rfl (lv_at hl 0 rfl) ?_
  refine gV_call (As := []) (rest := []) hx hb hml hown hts (mm_bindAll l G ad cA sz Ka Na Ca Ma Ra Va hD hW) (cwX1_bindAll hts 3 ⟨by decide, by decide⟩) (hP.recv hK) hP hK rfl hl.1 rfl (Nat.le_of_ble_eq_true rfl) dX1_free_1 ⟨Nat.zero_le _, Nat.zero_le _⟩ (fun _ h => h) hS (fun H locs hr1 _ hS => ?_)
  obtain ⟨V1, hP, hT⟩ := hr1
  refine ri_const hx hb dX1_free_4 ?_
  refine lv_istore_n (lv' := [(1, .int (iI 0)), (0, .ref (ad 0))]) hx hb dX1_free_5 rfl hl (by decide) rfl (fun ls hl => ?_)
  refine ri_const hx hb dX1_free_6 ?_
  refine lv_istore_n (lv' := [(2, .int (iI 0)), (1, .int (iI 0)), (0, .ref (ad 0))]) hx hb dX1_free_7 rfl hl (by decide) rfl (fun ls hl => ?_)
  have loop8 : ∀ (n : Nat) (set : Int32) (x2 : Int) (ls : Array Slot), sz - x2 < (n : Int) → (0 ≤ x2 ∧ x2 ≤ sz) → (set = rd_set (fun u => Ka u = 3 ∧ rd_Bd Ka Na u (-1)) x2) → lv_has ls 3 [(0, .ref (ad 0)), (1, .int set), (2, .int (iI x2))] → W p l e (rmL 4) s m (Value.ref (ad 0) :: []).toArray below meth c H locs 0 0 (MQ below (qM (mA ad) (fun r H => mKp G ad cA sz Ka Na H ∧ rd_Fre sz Ka Na r)) (Value.ref (ad 0) :: []).toArray s 0 0 (mA ad)) (F0 m 8 ls []) := by
    intro n
    induction n with
    | zero =>
      intro set x2 ls hm h1 h2 hl
      exfalso
      omega
    | succ n ih =>
      intro set x2 ls hm h1 h2 hl
      refine lv_iload_n hx hb dX1_free_8 rfl (lv_at hl 2 rfl) ?_
      refine lv_aload_n hx hb dX1_free_9 rfl (lv_at hl 0 rfl) ?_
      refine mg_size hx hb hts hown hK hP dX1_free_10 ?_
      refine ri_cmp_ge (tgt := 51) hx hb dX1_free_13 (by decide) (by omega) (fun c13 => ?_) (fun c13 => ?_)
      · refine lv_iload_n hx hb dX1_free_51 rfl (lv_at hl 1 rfl) ?_
        refine gM_iret hx hb hr hlocks dX1_free_52 hS ?_
        have e : x2 = sz := by omega
        refine ⟨⟨Ka, Na, rd_id, V1, hP⟩, ?_⟩
        show set = _
        rw [h2, e]
      · refine lv_aload_n hx hb dX1_free_16 rfl (lv_at hl 0 rfl) ?_
        refine mg_kinds hx hb hts hown hK hP dX1_free_17 ?_
        refine lv_iload_n hx hb dX1_free_20 rfl (lv_at hl 2 rfl) ?_
        refine ml_kinds hx hb hK hP (by omega) dX1_free_21 ?_
        have hf2 := hW.2.1 x2 (by omega) (by omega)
        refine ri_const hx hb dX1_free_22 ?_
        refine ri_cmp_ne (tgt := 43) hx hb dX1_free_23 (by decide) (by omega) (fun c23 => ?_) (fun c23 => ?_)
        · refine lv_iload_n hx hb dX1_free_43 rfl (lv_at hl 1 rfl) ?_
          refine lv_istore_n (lv' := [(1, .int set), (0, .ref (ad 0)), (2, .int (iI x2))]) hx hb dX1_free_44 rfl hl (by decide) rfl (fun ls hl => ?_)
          refine ri_inc (k := 2) (lv1 := [(2, .int (iI (x2 + 1))), (1, .int set), (0, .ref (ad 0))]) hx hb dX1_free_45 hl rfl (by decide) rfl (fun ls hl => ?_)
          refine lv_goto (tgt := 8) hx hb dX1_free_48 (by decide) ?_
          exact ih set (x2 + 1) ls (by omega) (by omega) (by rw [rd_set_f (f := fun u => Ka u = 3 ∧ rd_Bd Ka Na u (-1)) (by omega) (fun q => c23 q.1), h2]) (lv_sub hl [2, 1, 0] rfl)
        · refine lv_aload_n hx hb dX1_free_26 rfl (lv_at hl 0 rfl) ?_
          refine mg_was hx hb hts hown hK hP dX1_free_27 ?_
          refine lv_iload_n hx hb dX1_free_30 rfl (lv_at hl 2 rfl) ?_
          refine ml_was hx hb hK hP (by omega) dX1_free_31 ?_
          have hf3 := rd_Bd_rng (hT x2 (by omega) (by omega)) (by omega)
          refine ri_if_ge (tgt := 43) hx hb dX1_free_32 (by decide) (by omega) (fun c32 => ?_) (fun c32 => ?_)
          · refine lv_iload_n hx hb dX1_free_43 rfl (lv_at hl 1 rfl) ?_
            refine lv_istore_n (lv' := [(1, .int set), (0, .ref (ad 0)), (2, .int (iI x2))]) hx hb dX1_free_44 rfl hl (by decide) rfl (fun ls hl => ?_)
            refine ri_inc (k := 2) (lv1 := [(2, .int (iI (x2 + 1))), (1, .int set), (0, .ref (ad 0))]) hx hb dX1_free_45 hl rfl (by decide) rfl (fun ls hl => ?_)
            refine lv_goto (tgt := 8) hx hb dX1_free_48 (by decide) ?_
            exact ih set (x2 + 1) ls (by omega) (by omega) (by rw [rd_set_f (f := fun u => Ka u = 3 ∧ rd_Bd Ka Na u (-1)) (by omega) (fun q => by have := (rd_Bds_iff hT (by omega) (by omega)).mp q.2; omega), h2]) (lv_sub hl [2, 1, 0] rfl)
          · refine lv_iload_n hx hb dX1_free_35 rfl (lv_at hl 1 rfl) ?_
            refine ri_const hx hb dX1_free_36 ?_
            refine lv_iload_n hx hb dX1_free_37 rfl (lv_at hl 2 rfl) ?_
            refine lv_ishl hx hb dX1_free_38 ?_
            refine lv_ior hx hb dX1_free_39 ?_
            refine lv_goto (tgt := 44) hx hb dX1_free_40 (by decide) ?_
            refine lv_istore_n (lv' := [(1, .int (set ||| (rd_bit x2))), (0, .ref (ad 0)), (2, .int (iI x2))]) hx hb dX1_free_44 rfl hl (by decide) rfl (fun ls hl => ?_)
            refine ri_inc (k := 2) (lv1 := [(2, .int (iI (x2 + 1))), (1, .int (set ||| (rd_bit x2))), (0, .ref (ad 0))]) hx hb dX1_free_45 hl rfl (by decide) rfl (fun ls hl => ?_)
            refine lv_goto (tgt := 8) hx hb dX1_free_48 (by decide) ?_
            exact ih (set ||| (rd_bit x2)) (x2 + 1) ls (by omega) (by omega) (by rw [rd_set_t (f := fun u => Ka u = 3 ∧ rd_Bd Ka Na u (-1)) (by omega) ⟨c23, (rd_Bds_iff hT (by omega) (by omega)).mpr (by omega)⟩, h2]) (lv_sub hl [2, 1, 0] rfl)
  exact loop8 (Int.toNat ((sz - 0) + 1)) (iI 0) 0 ls (by omega) (by omega) (by exact (rd_set_0 _).symm) (lv_sub hl [2, 1, 0] rfl)
set_option maxHeartbeats 4000000 in
set_option maxRecDepth 100000 in
theorem mm_unused (l : Launch) (G : va_G) (ad : Nat → Nat) (cA : ClassId) (sz : Int) (Ka Na Ca Ma Ra Va : Int → Int) (hD : mD ad) (hW : rd_WF sz Ka Na) : gMM l yX1_unused (ws_ yX1_unused cX1_unused 3 (some .int)) (rmL 5) G [(cA, .int)] (mP G ad cA sz Ka Na Ca Ma Ra Va) (ad 0) [] (mA ad) (fun r H => mKp G ad cA sz Ka Na H ∧ rd_Unu sz Ka Na r) := by
  refine gMM_of (by decide) (Nat.le_of_ble_eq_true rfl) ?_
  intro p e s m below meth c ls hx hb hr hml hown hlocks hts hP hK hl
  have hown : s.vm.findClass RX1 = some m.cls := hown
  have hl : lv_has ls 3 [(0, .ref (ad 0))] := hl
  have hS : va_S (mA ad) s.heap s.heap [] := va_S.rf
  have hsz := hW.1
  refine ri_const hx hb dX1_unused_0 ?_
  refine lv_istore_n (lv' := [(1, .int (iI 0)), (0, .ref (ad 0))]) hx hb dX1_unused_1 rfl hl (by decide) rfl (fun ls hl => ?_)
  refine ri_const hx hb dX1_unused_2 ?_
  refine lv_istore_n (lv' := [(2, .int (iI 0)), (1, .int (iI 0)), (0, .ref (ad 0))]) hx hb dX1_unused_3 rfl hl (by decide) rfl (fun ls hl => ?_)
  have loop4 : ∀ (n : Nat) (set : Int32) (x2 : Int) (Ca_4 : Int → Int) (Ma_4 : Int → Int) (Ra_4 : Int → Int) (Va_4 : Int → Int) (H : Heap) (locs : List Loc) (ls : Array Slot), sz - x2 < (n : Int) → (0 ≤ x2 ∧ x2 ≤ sz) → (set = rd_set (fun k => Ka k = 2 ∧ ∀ u, 0 ≤ u → u < sz → ¬ rd_Bd Ka Na u k) x2) → mP G ad cA sz Ka Na Ca_4 Ma_4 Ra_4 Va_4 H → va_S (mA ad) s.heap H locs → lv_has ls 3 [(0, .ref (ad 0)), (1, .int set), (2, .int (iI x2))] → W p l e (rmL 5) s m (Value.ref (ad 0) :: []).toArray below meth c H locs 0 0 (MQ below (qM (mA ad) (fun r H => mKp G ad cA sz Ka Na H ∧ rd_Unu sz Ka Na r)) (Value.ref (ad 0) :: []).toArray s 0 0 (mA ad)) (F0 m 4 ls []) := by
    intro n
    induction n with
    | zero =>
      intro set x2 Ca_4 Ma_4 Ra_4 Va_4 H locs ls hm h1 h2 hP hS hl
      exfalso
      omega
    | succ n ih =>
      intro set x2 Ca_4 Ma_4 Ra_4 Va_4 H locs ls hm h1 h2 hP hS hl
      refine lv_iload_n hx hb dX1_unused_4 rfl (lv_at hl 2 rfl) ?_
      refine lv_aload_n hx hb dX1_unused_5 rfl (lv_at hl 0 rfl) ?_
      refine mg_size hx hb hts hown hK hP dX1_unused_6 ?_
      refine ri_cmp_ge (tgt := 46) hx hb dX1_unused_9 (by decide) (by omega) (fun c9 => ?_) (fun c9 => ?_)
      · refine lv_iload_n hx hb dX1_unused_46 rfl (lv_at hl 1 rfl) ?_
        refine gM_iret hx hb hr hlocks dX1_unused_47 hS ?_
        have e : x2 = sz := by omega
        refine ⟨⟨Ca_4, Ma_4, Ra_4, Va_4, hP⟩, ?_⟩
        show set = _
        rw [h2, e]
      · refine lv_aload_n hx hb dX1_unused_12 rfl (lv_at hl 0 rfl) ?_
        refine mg_kinds hx hb hts hown hK hP dX1_unused_13 ?_
        refine lv_iload_n hx hb dX1_unused_16 rfl (lv_at hl 2 rfl) ?_
        refine ml_kinds hx hb hK hP (by omega) dX1_unused_17 ?_
        have hf1 := hW.2.1 x2 (by omega) (by omega)
        refine ri_const hx hb dX1_unused_18 ?_
        refine ri_cmp_ne (tgt := 38) hx hb dX1_unused_19 (by decide) (by omega) (fun c19 => ?_) (fun c19 => ?_)
        · refine lv_iload_n hx hb dX1_unused_38 rfl (lv_at hl 1 rfl) ?_
          refine lv_istore_n (lv' := [(1, .int set), (0, .ref (ad 0)), (2, .int (iI x2))]) hx hb dX1_unused_39 rfl hl (by decide) rfl (fun ls hl => ?_)
          refine ri_inc (k := 2) (lv1 := [(2, .int (iI (x2 + 1))), (1, .int set), (0, .ref (ad 0))]) hx hb dX1_unused_40 hl rfl (by decide) rfl (fun ls hl => ?_)
          refine lv_goto (tgt := 4) hx hb dX1_unused_43 (by decide) ?_
          exact ih set (x2 + 1) Ca_4 Ma_4 Ra_4 Va_4 H locs ls (by omega) (by omega) (by rw [rd_set_f (f := fun k => Ka k = 2 ∧ ∀ u, 0 ≤ u → u < sz → ¬ rd_Bd Ka Na u k) (by omega) (fun q => c19 q.1), h2]) hP hS (lv_sub hl [2, 1, 0] rfl)
        · refine lv_aload_n hx hb dX1_unused_22 rfl (lv_at hl 0 rfl) ?_
          refine lv_iload_n hx hb dX1_unused_23 rfl (lv_at hl 2 rfl) ?_
          refine gM_call (As := [.int (iI x2)]) (rest := []) hx hb hml hown hts (mm_uses l G ad cA sz Ka Na Ca_4 Ma_4 Ra_4 Va_4 x2 (by omega) hD hW) (cwX1_uses hts 4 ⟨by decide, by decide⟩) (hP.recv hK) hP hK rfl hl.1 rfl (Nat.le_of_ble_eq_true rfl) dX1_unused_24 ⟨Nat.zero_le _, Nat.zero_le _⟩ (fun _ h => h) hS (fun r24 H locs hr24 _ hS => ?_)
          obtain ⟨⟨C1, M1, R1, V1, hP⟩, hus⟩ := hr24
          refine lv_if_ne (tgt := 38) hx hb dX1_unused_27 (by decide) (fun c27 => ?_) (fun c27 => ?_)
          · refine lv_iload_n hx hb dX1_unused_38 rfl (lv_at hl 1 rfl) ?_
            refine lv_istore_n (lv' := [(1, .int set), (0, .ref (ad 0)), (2, .int (iI x2))]) hx hb dX1_unused_39 rfl hl (by decide) rfl (fun ls hl => ?_)
            refine ri_inc (k := 2) (lv1 := [(2, .int (iI (x2 + 1))), (1, .int set), (0, .ref (ad 0))]) hx hb dX1_unused_40 hl rfl (by decide) rfl (fun ls hl => ?_)
            refine lv_goto (tgt := 4) hx hb dX1_unused_43 (by decide) ?_
            exact ih set (x2 + 1) C1 M1 R1 V1 H locs ls (by omega) (by omega) (by rw [rd_set_f (f := fun k => Ka k = 2 ∧ ∀ u, 0 ≤ u → u < sz → ¬ rd_Bd Ka Na u k) (by omega) (fun q => c27 ((rd_Uses_0 hus ⟨by omega, c19⟩ (by omega)).mpr q.2)), h2]) hP hS (lv_sub hl [2, 1, 0] rfl)
          · refine lv_iload_n hx hb dX1_unused_30 rfl (lv_at hl 1 rfl) ?_
            refine ri_const hx hb dX1_unused_31 ?_
            refine lv_iload_n hx hb dX1_unused_32 rfl (lv_at hl 2 rfl) ?_
            refine lv_ishl hx hb dX1_unused_33 ?_
            refine lv_ior hx hb dX1_unused_34 ?_
            refine lv_goto (tgt := 39) hx hb dX1_unused_35 (by decide) ?_
            refine lv_istore_n (lv' := [(1, .int (set ||| (rd_bit x2))), (0, .ref (ad 0)), (2, .int (iI x2))]) hx hb dX1_unused_39 rfl hl (by decide) rfl (fun ls hl => ?_)
            refine ri_inc (k := 2) (lv1 := [(2, .int (iI (x2 + 1))), (1, .int (set ||| (rd_bit x2))), (0, .ref (ad 0))]) hx hb dX1_unused_40 hl rfl (by decide) rfl (fun ls hl => ?_)
            refine lv_goto (tgt := 4) hx hb dX1_unused_43 (by decide) ?_
            exact ih (set ||| (rd_bit x2)) (x2 + 1) C1 M1 R1 V1 H locs ls (by omega) (by omega) (by rw [rd_set_t (f := fun k => Ka k = 2 ∧ ∀ u, 0 ≤ u → u < sz → ¬ rd_Bd Ka Na u k) (by omega) ⟨c19, (rd_Uses_0 hus ⟨by omega, c19⟩ (by omega)).mp c27⟩, h2]) hP hS (lv_sub hl [2, 1, 0] rfl)
  exact loop4 (Int.toNat ((sz - 0) + 1)) (iI 0) 0 Ca Ma Ra Va s.heap [] ls (by omega) (by omega) (by exact (rd_set_0 _).symm) hP hS (lv_sub hl [2, 1, 0] rfl)
set_option maxHeartbeats 4000000 in
set_option maxRecDepth 100000 in
theorem mm_renamed (l : Launch) (G : va_G) (ad : Nat → Nat) (cA : ClassId) (sz : Int) (Ka Na Ca Ma Ra Va : Int → Int) (k m0 : Int) (hm0 : 0 ≤ m0 ∧ m0 < 8) (hk : 0 ≤ k ∧ k < sz) (hD : mD ad) (hW : rd_WF sz Ka Na) : gMM l yX1_renamed (ws_ yX1_renamed cX1_renamed 4 (some .boolean)) (rmL 4) G [(cA, .int)] (mP G ad cA sz Ka Na Ca Ma Ra Va) (ad 0) [.int (iI k), .int (iI m0)] (mA ad) (fun r H => ∃ V1 : Int → Int, rd_Bds sz Ka Na V1 ∧ mP G ad cA sz Ka Na Ka (rd_rn sz Na V1 k m0) rd_id V1 H ∧ rd_BP (rd_okN sz Ka Na k m0) r) := by
  refine gMM_of (by decide) (Nat.le_of_ble_eq_true rfl) ?_
  intro p e s m below meth c ls hx hb hr hml hown hlocks hts hP hK hl
  have hown : s.vm.findClass RX1 = some m.cls := hown
  have hl : lv_has ls 4 [(0, .ref (ad 0)), (1, .int (iI k)), (2, .int (iI m0))] := hl
  have hS : va_S (mA ad) s.heap s.heap [] := va_S.rf
  have hsz := hW.1
  refine lv_aload_n hx hb dX1_renamed_0 rfl (lv_at hl 0 rfl) ?_
  refine gV_call (As := []) (rest := []) hx hb hml hown hts (mm_bindAll l G ad cA sz Ka Na Ca Ma Ra Va hD hW) (cwX1_bindAll hts 3 ⟨by decide, by decide⟩) (hP.recv hK) hP hK rfl hl.1 rfl (Nat.le_of_ble_eq_true rfl) dX1_renamed_1 ⟨Nat.zero_le _, Nat.zero_le _⟩ (fun _ h => h) hS (fun H locs hr1 _ hS => ?_)
  obtain ⟨V1, hP, hT⟩ := hr1
  refine ri_const hx hb dX1_renamed_4 ?_
  refine lv_istore_n (lv' := [(3, .int (iI 0)), (0, .ref (ad 0)), (1, .int (iI k)), (2, .int (iI m0))]) hx hb dX1_renamed_5 rfl hl (by decide) rfl (fun ls hl => ?_)
  have loop6 : ∀ (n : Nat) (x3 : Int) (Ma_6 : Int → Int) (H : Heap) (locs : List Loc) (ls : Array Slot), sz - x3 < (n : Int) → (0 ≤ x3 ∧ x3 ≤ sz) → (∀ i, Ma_6 i = if i < x3 then rd_rn sz Na V1 k m0 i else Na i) → mP G ad cA sz Ka Na Ka Ma_6 rd_id V1 H → va_S (mA ad) s.heap H locs → lv_has ls 4 [(0, .ref (ad 0)), (1, .int (iI k)), (2, .int (iI m0)), (3, .int (iI x3))] → W p l e (rmL 4) s m (Value.ref (ad 0) :: [.int (iI k), .int (iI m0)]).toArray below meth c H locs 0 0 (MQ below (qM (mA ad) (fun r H => ∃ V1 : Int → Int, rd_Bds sz Ka Na V1 ∧ mP G ad cA sz Ka Na Ka (rd_rn sz Na V1 k m0) rd_id V1 H ∧ rd_BP (rd_okN sz Ka Na k m0) r)) (Value.ref (ad 0) :: [.int (iI k), .int (iI m0)]).toArray s 0 0 (mA ad)) (F0 m 6 ls []) := by
    intro n
    induction n with
    | zero =>
      intro x3 Ma_6 H locs ls hm h1 h2 hP hS hl
      exfalso
      omega
    | succ n ih =>
      intro x3 Ma_6 H locs ls hm h1 h2 hP hS hl
      refine lv_iload_n hx hb dX1_renamed_6 rfl (lv_at hl 3 rfl) ?_
      refine lv_aload_n hx hb dX1_renamed_7 rfl (lv_at hl 0 rfl) ?_
      refine mg_size hx hb hts hown hK hP dX1_renamed_8 ?_
      refine ri_cmp_ge (tgt := 51) hx hb dX1_renamed_11 (by decide) (by omega) (fun c11 => ?_) (fun c11 => ?_)
      · have e6 : x3 = sz := by omega
        have eM : Ma_6 = rd_rn sz Na V1 k m0 := by
          funext i
          rw [h2 i]
          by_cases q : i < x3
          · rw [if_pos q]
          · rw [if_neg q]
            exact (if_neg (by omega)).symm
        rw [eM] at hP
        refine lv_aload_n hx hb dX1_renamed_51 rfl (lv_at hl 0 rfl) ?_
        refine gR_call (As := []) (rest := []) hx hb hml hown hts (mm_legal l G ad cA sz Ka Na Ka (rd_rn sz Na V1 k m0) rd_id V1 (rd_WF_rn hW (by omega)) (fun i a b => ⟨a, b⟩) (fun i a b => by have := rd_Bd_rng (hT i a b) a; omega)) (cwX1_legal hts 3 ⟨by decide, by decide⟩) (hP.recv hK) hP hK rfl hl.1 rfl (Nat.le_of_ble_eq_true rfl) dX1_renamed_52 ⟨Nat.zero_le _, Nat.zero_le _⟩ (fun r52 hr52 => ?_)
        rcases hr52 with ⟨c52, rfl⟩ | ⟨c52, rfl⟩
        · refine gM_zret hx hb hr hlocks dX1_renamed_55 hS (by omega) ?_
          exact ⟨V1, hT, hP, Or.inl ⟨(rd_okN_iff hT).mpr c52, rfl⟩⟩
        · refine gM_zret hx hb hr hlocks dX1_renamed_55 hS (by omega) ?_
          exact ⟨V1, hT, hP, Or.inr ⟨fun q => c52 ((rd_okN_iff hT).mp q), rfl⟩⟩
      · refine lv_aload_n hx hb dX1_renamed_14 rfl (lv_at hl 0 rfl) ?_
        refine mg_name hx hb hts hown hK hP dX1_renamed_15 ?_
        refine lv_iload_n hx hb dX1_renamed_18 rfl (lv_at hl 3 rfl) ?_
        refine lv_iload_n hx hb dX1_renamed_19 rfl (lv_at hl 3 rfl) ?_
        refine lv_iload_n hx hb dX1_renamed_20 rfl (lv_at hl 1 rfl) ?_
        refine ri_cmp_eq (tgt := 34) hx hb dX1_renamed_21 (by decide) (by omega) (fun c21 => ?_) (fun c21 => ?_)
        · refine lv_iload_n hx hb dX1_renamed_34 rfl (lv_at hl 2 rfl) ?_
          refine lv_goto (tgt := 44) hx hb dX1_renamed_35 (by decide) ?_
          refine ms_name hx hb hK hP hD hS (by omega) dX1_renamed_44 (fun H locs hP hS => ?_)
          refine ri_inc (k := 3) (lv1 := [(3, .int (iI (x3 + 1))), (0, .ref (ad 0)), (1, .int (iI k)), (2, .int (iI m0))]) hx hb dX1_renamed_45 hl rfl (by decide) rfl (fun ls hl => ?_)
          refine lv_goto (tgt := 6) hx hb dX1_renamed_48 (by decide) ?_
          have hrn : rd_rn sz Na V1 k m0 x3 = m0 := if_pos (by omega)
          exact ih (x3 + 1) (rd_up Ma_6 x3 m0) H locs ls (by omega) (by omega) (by exact rd_rn_s h2 hrn.symm) hP hS (lv_sub hl [1, 2, 3, 0] rfl)
        · refine lv_aload_n hx hb dX1_renamed_24 rfl (lv_at hl 0 rfl) ?_
          refine mg_was hx hb hts hown hK hP dX1_renamed_25 ?_
          refine lv_iload_n hx hb dX1_renamed_28 rfl (lv_at hl 3 rfl) ?_
          refine ml_was hx hb hK hP (by omega) dX1_renamed_29 ?_
          have hf2 := rd_Bd_rng (hT x3 (by omega) (by omega)) (by omega)
          refine lv_iload_n hx hb dX1_renamed_30 rfl (lv_at hl 1 rfl) ?_
          refine ri_cmp_ne (tgt := 38) hx hb dX1_renamed_31 (by decide) (by omega) (fun c31 => ?_) (fun c31 => ?_)
          · refine lv_aload_n hx hb dX1_renamed_38 rfl (lv_at hl 0 rfl) ?_
            refine mg_name hx hb hts hown hK hP dX1_renamed_39 ?_
            refine lv_iload_n hx hb dX1_renamed_42 rfl (lv_at hl 3 rfl) ?_
            refine ml_name hx hb hK hP (by omega) dX1_renamed_43 ?_
            refine ms_name hx hb hK hP hD hS (by omega) dX1_renamed_44 (fun H locs hP hS => ?_)
            refine ri_inc (k := 3) (lv1 := [(3, .int (iI (x3 + 1))), (0, .ref (ad 0)), (1, .int (iI k)), (2, .int (iI m0))]) hx hb dX1_renamed_45 hl rfl (by decide) rfl (fun ls hl => ?_)
            refine lv_goto (tgt := 6) hx hb dX1_renamed_48 (by decide) ?_
            have hrn : rd_rn sz Na V1 k m0 x3 = Na x3 := if_neg (by omega)
            have hne : Ma_6 x3 = Na x3 := by rw [h2 x3, if_neg (by omega)]
            exact ih (x3 + 1) (rd_up Ma_6 x3 (Ma_6 x3)) H locs ls (by omega) (by omega) (by exact rd_rn_s h2 (by rw [hrn, hne])) hP hS (lv_sub hl [1, 2, 3, 0] rfl)
          · refine lv_iload_n hx hb dX1_renamed_34 rfl (lv_at hl 2 rfl) ?_
            refine lv_goto (tgt := 44) hx hb dX1_renamed_35 (by decide) ?_
            refine ms_name hx hb hK hP hD hS (by omega) dX1_renamed_44 (fun H locs hP hS => ?_)
            refine ri_inc (k := 3) (lv1 := [(3, .int (iI (x3 + 1))), (0, .ref (ad 0)), (1, .int (iI k)), (2, .int (iI m0))]) hx hb dX1_renamed_45 hl rfl (by decide) rfl (fun ls hl => ?_)
            refine lv_goto (tgt := 6) hx hb dX1_renamed_48 (by decide) ?_
            have hrn : rd_rn sz Na V1 k m0 x3 = m0 := if_pos (by omega)
            exact ih (x3 + 1) (rd_up Ma_6 x3 m0) H locs ls (by omega) (by omega) (by exact rd_rn_s h2 hrn.symm) hP hS (lv_sub hl [1, 2, 3, 0] rfl)
  exact loop6 (Int.toNat ((sz - 0) + 1)) 0 Na H locs ls (by omega) (by omega) (by intro i; by_cases q : i < 0; rw [if_pos q]; exact (if_neg (by omega)).symm; rw [if_neg q]) hP hS (lv_sub hl [1, 2, 3, 0] rfl)
set_option maxHeartbeats 4000000 in
set_option maxRecDepth 100000 in
theorem mm_declares (l : Launch) (G : va_G) (ad : Nat → Nat) (cA : ClassId) (sz : Int) (Ka Na Ca Ma Ra Va : Int → Int) (k : Int) (hk : -2147483648 ≤ k ∧ k ≤ 2147483647) (hW : rd_WF sz Ka Na) : gMR l yX1_declares (ws_ yX1_declares cX1_declares 2 (some .boolean)) (rmL 1) G [(cA, .int)] (mP G ad cA sz Ka Na Ca Ma Ra Va) (ad 0) [.int (iI k)] (rd_BP (rd_A2 sz Ka k)) := by
  refine gMR_of (by decide) (Nat.le_of_ble_eq_true rfl) ?_
  intro p e s m below meth c ls hx hb hr hml hown hlocks hts hP hK hl
  have hown : s.vm.findClass RX1 = some m.cls := hown
  have hl : lv_has ls 2 [(0, .ref (ad 0)), (1, .int (iI k))] := hl
  have hsz := hW.1
  refine lv_aload_n hx hb dX1_declares_0 rfl (lv_at hl 0 rfl) ?_
  refine lv_iload_n hx hb dX1_declares_1 rfl (lv_at hl 1 rfl) ?_
  refine gR_call (As := [.int (iI k)]) (rest := []) hx hb hml hown hts (mm_is l G ad cA sz Ka Na Ca Ma Ra Va k (by omega) hsz) (cwX1_is hts 0 ⟨by decide, by decide⟩) (hP.recv hK) hP hK rfl hl.1 rfl (Nat.le_of_ble_eq_true rfl) dX1_declares_2 ⟨Nat.zero_le _, Nat.zero_le _⟩ (fun r2 hr2 => ?_)
  rcases hr2 with ⟨c2, rfl⟩ | ⟨c2, rfl⟩
  · refine ri_if_eq (tgt := 22) hx hb dX1_declares_5 (by decide) (by omega) (fun c5 => absurd c5 (by decide)) (fun c5 => ?_)
    refine lv_aload_n hx hb dX1_declares_8 rfl (lv_at hl 0 rfl) ?_
    refine mg_kinds hx hb hts hown hK hP dX1_declares_9 ?_
    refine lv_iload_n hx hb dX1_declares_12 rfl (lv_at hl 1 rfl) ?_
    refine ml_kinds hx hb hK hP (by omega) dX1_declares_13 ?_
    have hf1 := hW.2.1 k (by omega) (by omega)
    refine ri_const hx hb dX1_declares_14 ?_
    refine ri_cmp_ne (tgt := 22) hx hb dX1_declares_15 (by decide) (by omega) (fun c15 => ?_) (fun c15 => ?_)
    · refine ri_const hx hb dX1_declares_22 ?_
      refine gR_zret hx hb hr hlocks dX1_declares_23 (by omega) ?_
      exact Or.inr ⟨fun q => c15 q.2, rfl⟩
    · refine ri_const hx hb dX1_declares_18 ?_
      refine lv_goto (tgt := 23) hx hb dX1_declares_19 (by decide) ?_
      refine gR_zret hx hb hr hlocks dX1_declares_23 (by omega) ?_
      exact Or.inl ⟨⟨c2, c15⟩, rfl⟩
  · refine ri_if_eq (tgt := 22) hx hb dX1_declares_5 (by decide) (by omega) (fun c5 => ?_) (fun c5 => absurd c5 (by decide))
    refine ri_const hx hb dX1_declares_22 ?_
    refine gR_zret hx hb hr hlocks dX1_declares_23 (by omega) ?_
    exact Or.inr ⟨fun q => c2 q.1, rfl⟩
set_option maxHeartbeats 4000000 in
set_option maxRecDepth 100000 in
theorem mm_names (l : Launch) (G : va_G) (ad : Nat → Nat) (cA : ClassId) (sz : Int) (Ka Na Ca Ma Ra Va : Int → Int) (k : Int) (hk : -2147483648 ≤ k ∧ k ≤ 2147483647) (hD : mD ad) (hW : rd_WF sz Ka Na) : gMM l yX1_names (ws_ yX1_names cX1_names 4 (some .int)) (rmL 5) G [(cA, .int)] (mP G ad cA sz Ka Na Ca Ma Ra Va) (ad 0) [.int (iI k)] (mA ad) (fun r H => mKp G ad cA sz Ka Na H ∧ rd_Names sz Ka Na k r) := by
  refine gMM_of (by decide) (Nat.le_of_ble_eq_true rfl) ?_
  intro p e s m below meth c ls hx hb hr hml hown hlocks hts hP hK hl
  have hown : s.vm.findClass RX1 = some m.cls := hown
  have hl : lv_has ls 4 [(0, .ref (ad 0)), (1, .int (iI k))] := hl
  have hS : va_S (mA ad) s.heap s.heap [] := va_S.rf
  have hsz := hW.1
  refine ri_const hx hb dX1_names_0 ?_
  refine lv_istore_n (lv' := [(2, .int (iI 0)), (0, .ref (ad 0)), (1, .int (iI k))]) hx hb dX1_names_1 rfl hl (by decide) rfl (fun ls hl => ?_)
  refine ri_const hx hb dX1_names_2 ?_
  refine lv_istore_n (lv' := [(3, .int (iI 0)), (2, .int (iI 0)), (0, .ref (ad 0)), (1, .int (iI k))]) hx hb dX1_names_3 rfl hl (by decide) rfl (fun ls hl => ?_)
  have loop4 : ∀ (n : Nat) (set : Int32) (x3 : Int) (Ca_4 : Int → Int) (Ma_4 : Int → Int) (Ra_4 : Int → Int) (Va_4 : Int → Int) (H : Heap) (locs : List Loc) (ls : Array Slot), 8 - x3 < (n : Int) → (0 ≤ x3 ∧ x3 ≤ 8) → (set = rd_set (rd_okN sz Ka Na k) x3) → (rd_A2 sz Ka k ∨ x3 = 0) → mP G ad cA sz Ka Na Ca_4 Ma_4 Ra_4 Va_4 H → va_S (mA ad) s.heap H locs → lv_has ls 4 [(0, .ref (ad 0)), (1, .int (iI k)), (2, .int set), (3, .int (iI x3))] → W p l e (rmL 5) s m (Value.ref (ad 0) :: [.int (iI k)]).toArray below meth c H locs 0 0 (MQ below (qM (mA ad) (fun r H => mKp G ad cA sz Ka Na H ∧ rd_Names sz Ka Na k r)) (Value.ref (ad 0) :: [.int (iI k)]).toArray s 0 0 (mA ad)) (F0 m 4 ls []) := by
    intro n
    induction n with
    | zero =>
      intro set x3 Ca_4 Ma_4 Ra_4 Va_4 H locs ls hm h1 h2 h3 hP hS hl
      exfalso
      omega
    | succ n ih =>
      intro set x3 Ca_4 Ma_4 Ra_4 Va_4 H locs ls hm h1 h2 h3 hP hS hl
      refine lv_iload_n hx hb dX1_names_4 rfl (lv_at hl 3 rfl) ?_
      refine ri_push hx hb dX1_names_5 (by decide) ?_
      refine ri_cmp_ge (tgt := 43) hx hb dX1_names_7 (by decide) (by omega) (fun c7 => ?_) (fun c7 => ?_)
      · refine lv_iload_n hx hb dX1_names_43 rfl (lv_at hl 2 rfl) ?_
        refine gM_iret hx hb hr hlocks dX1_names_44 hS ?_
        refine ⟨⟨Ca_4, Ma_4, Ra_4, Va_4, hP⟩, ?_⟩
        rcases h3 with q | q
        · exact Or.inl ⟨q, by rw [h2, show x3 = 8 by omega]⟩
        · omega
      · refine lv_aload_n hx hb dX1_names_10 rfl (lv_at hl 0 rfl) ?_
        refine lv_iload_n hx hb dX1_names_11 rfl (lv_at hl 1 rfl) ?_
        refine gR_call (As := [.int (iI k)]) (rest := []) hx hb hml hown hts (mm_declares l G ad cA sz Ka Na Ca_4 Ma_4 Ra_4 Va_4 k (by omega) hW) (cwX1_declares hts 1 ⟨by decide, by decide⟩) (hP.recv hK) hP hK rfl hl.1 rfl (Nat.le_of_ble_eq_true rfl) dX1_names_12 ⟨Nat.zero_le _, Nat.zero_le _⟩ (fun r12 hr12 => ?_)
        rcases hr12 with ⟨c12, rfl⟩ | ⟨c12, rfl⟩
        · refine ri_if_eq (tgt := 43) hx hb dX1_names_15 (by decide) (by omega) (fun c15 => absurd c15 (by decide)) (fun c15 => ?_)
          refine lv_aload_n hx hb dX1_names_18 rfl (lv_at hl 0 rfl) ?_
          refine lv_iload_n hx hb dX1_names_19 rfl (lv_at hl 1 rfl) ?_
          refine lv_iload_n hx hb dX1_names_20 rfl (lv_at hl 3 rfl) ?_
          refine gM_call (As := [.int (iI k), .int (iI x3)]) (rest := []) hx hb hml hown hts (mm_renamed l G ad cA sz Ka Na Ca_4 Ma_4 Ra_4 Va_4 k x3 (by omega) c12.1 hD hW) (cwX1_renamed hts 4 ⟨by decide, by decide⟩) (hP.recv hK) hP hK rfl hl.1 rfl (Nat.le_of_ble_eq_true rfl) dX1_names_21 ⟨Nat.zero_le _, Nat.zero_le _⟩ (fun _ h => h) hS (fun r21 H locs hr21 _ hS => ?_)
          rcases hr21 with ⟨V1, hT, hP, ⟨c21, rfl⟩ | ⟨c21, rfl⟩⟩
          · refine ri_if_eq (tgt := 35) hx hb dX1_names_24 (by decide) (by omega) (fun c24 => absurd c24 (by decide)) (fun c24 => ?_)
            refine lv_iload_n hx hb dX1_names_27 rfl (lv_at hl 2 rfl) ?_
            refine ri_const hx hb dX1_names_28 ?_
            refine lv_iload_n hx hb dX1_names_29 rfl (lv_at hl 3 rfl) ?_
            refine lv_ishl hx hb dX1_names_30 ?_
            refine lv_ior hx hb dX1_names_31 ?_
            refine lv_goto (tgt := 36) hx hb dX1_names_32 (by decide) ?_
            refine lv_istore_n (lv' := [(2, .int (set ||| (rd_bit x3))), (0, .ref (ad 0)), (1, .int (iI k)), (3, .int (iI x3))]) hx hb dX1_names_36 rfl hl (by decide) rfl (fun ls hl => ?_)
            refine ri_inc (k := 3) (lv1 := [(3, .int (iI (x3 + 1))), (2, .int (set ||| (rd_bit x3))), (0, .ref (ad 0)), (1, .int (iI k))]) hx hb dX1_names_37 hl rfl (by decide) rfl (fun ls hl => ?_)
            refine lv_goto (tgt := 4) hx hb dX1_names_40 (by decide) ?_
            exact ih (set ||| (rd_bit x3)) (x3 + 1) Ka (rd_rn sz Na V1 k x3) rd_id V1 H locs ls (by omega) (by omega) (by rw [rd_set_t (f := rd_okN sz Ka Na k) (by omega) c21, h2]) (by exact Or.inl c12) hP hS (lv_sub hl [2, 3, 1, 0] rfl)
          · refine ri_if_eq (tgt := 35) hx hb dX1_names_24 (by decide) (by omega) (fun c24 => ?_) (fun c24 => absurd c24 (by decide))
            refine lv_iload_n hx hb dX1_names_35 rfl (lv_at hl 2 rfl) ?_
            refine lv_istore_n (lv' := [(2, .int set), (0, .ref (ad 0)), (1, .int (iI k)), (3, .int (iI x3))]) hx hb dX1_names_36 rfl hl (by decide) rfl (fun ls hl => ?_)
            refine ri_inc (k := 3) (lv1 := [(3, .int (iI (x3 + 1))), (2, .int set), (0, .ref (ad 0)), (1, .int (iI k))]) hx hb dX1_names_37 hl rfl (by decide) rfl (fun ls hl => ?_)
            refine lv_goto (tgt := 4) hx hb dX1_names_40 (by decide) ?_
            exact ih set (x3 + 1) Ka (rd_rn sz Na V1 k x3) rd_id V1 H locs ls (by omega) (by omega) (by rw [rd_set_f (f := rd_okN sz Ka Na k) (by omega) c21, h2]) (by exact Or.inl c12) hP hS (lv_sub hl [2, 3, 1, 0] rfl)
        · refine ri_if_eq (tgt := 43) hx hb dX1_names_15 (by decide) (by omega) (fun c15 => ?_) (fun c15 => absurd c15 (by decide))
          refine lv_iload_n hx hb dX1_names_43 rfl (lv_at hl 2 rfl) ?_
          refine gM_iret hx hb hr hlocks dX1_names_44 hS ?_
          refine ⟨⟨Ca_4, Ma_4, Ra_4, Va_4, hP⟩, ?_⟩
          rcases h3 with q | q
          · exact absurd q c12
          · exact Or.inr ⟨c12, by rw [h2, q]; rfl⟩
  exact loop4 (Int.toNat ((8 - 0) + 1)) (iI 0) 0 Ca Ma Ra Va s.heap [] ls (by omega) (by omega) (by exact (rd_set_0 _).symm) (by exact Or.inr rfl) hP hS (lv_sub hl [2, 3, 1, 0] rfl)
set_option maxHeartbeats 4000000 in
set_option maxRecDepth 100000 in
theorem mm_rename (l : Launch) (G : va_G) (ad : Nat → Nat) (cA : ClassId) (sz : Int) (Ka Na Ca Ma Ra Va : Int → Int) (k m0 : Int) (hk : -2147483648 ≤ k ∧ k ≤ 2147483647) (hm0 : -2147483648 ≤ m0 ∧ m0 ≤ 2147483647) (hD : mD ad) (hW : rd_WF sz Ka Na) : gMM l yX1_rename (ws_ yX1_rename cX1_rename 5 (some .int)) (rmL 5) G [(cA, .int)] (mP G ad cA sz Ka Na Ca Ma Ra Va) (ad 0) [.int (iI k), .int (iI m0)] (mA ad) (fun r H => ∃ N1 C1 M1 R1 V1 : Int → Int, mP G ad cA sz Ka N1 C1 M1 R1 V1 H ∧ rd_Ren sz Ka Na k m0 r N1) := by
  refine gMM_of (by decide) (Nat.le_of_ble_eq_true rfl) ?_
  intro p e s m below meth c ls hx hb hr hml hown hlocks hts hP hK hl
  have hown : s.vm.findClass RX1 = some m.cls := hown
  have hl : lv_has ls 5 [(0, .ref (ad 0)), (1, .int (iI k)), (2, .int (iI m0))] := hl
  have hS : va_S (mA ad) s.heap s.heap [] := va_S.rf
  have hsz := hW.1
  refine lv_aload_n hx hb dX1_rename_0 rfl (lv_at hl 0 rfl) ?_
  refine lv_iload_n hx hb dX1_rename_1 rfl (lv_at hl 1 rfl) ?_
  refine gR_call (As := [.int (iI k)]) (rest := []) hx hb hml hown hts (mm_declares l G ad cA sz Ka Na Ca Ma Ra Va k (by omega) hW) (cwX1_declares hts 1 ⟨by decide, by decide⟩) (hP.recv hK) hP hK rfl hl.1 rfl (Nat.le_of_ble_eq_true rfl) dX1_rename_2 ⟨Nat.zero_le _, Nat.zero_le _⟩ (fun r2 hr2 => ?_)
  rcases hr2 with ⟨c2, rfl⟩ | ⟨c2, rfl⟩
  · refine ri_if_eq (tgt := 18) hx hb dX1_rename_5 (by decide) (by omega) (fun c5 => absurd c5 (by decide)) (fun c5 => ?_)
    refine lv_iload_n hx hb dX1_rename_8 rfl (lv_at hl 2 rfl) ?_
    refine ri_if_lt (tgt := 18) hx hb dX1_rename_9 (by decide) (by omega) (fun c9 => ?_) (fun c9 => ?_)
    · refine ri_const hx hb dX1_rename_18 ?_
      refine gM_iret hx hb hr hlocks dX1_rename_19 hS ?_
      exact ⟨Na, Ca, Ma, Ra, Va, hP, Or.inl ⟨fun q => by omega, rfl, rfl⟩⟩
    · refine lv_iload_n hx hb dX1_rename_12 rfl (lv_at hl 2 rfl) ?_
      refine ri_push hx hb dX1_rename_13 (by decide) ?_
      refine ri_cmp_le (tgt := 20) hx hb dX1_rename_15 (by decide) (by omega) (fun c15 => ?_) (fun c15 => ?_)
      · refine lv_aload_n hx hb dX1_rename_20 rfl (lv_at hl 0 rfl) ?_
        refine lv_iload_n hx hb dX1_rename_21 rfl (lv_at hl 1 rfl) ?_
        refine lv_iload_n hx hb dX1_rename_22 rfl (lv_at hl 2 rfl) ?_
        refine gM_call (As := [.int (iI k), .int (iI m0)]) (rest := []) hx hb hml hown hts (mm_renamed l G ad cA sz Ka Na Ca Ma Ra Va k m0 (by omega) c2.1 hD hW) (cwX1_renamed hts 4 ⟨by decide, by decide⟩) (hP.recv hK) hP hK rfl hl.1 rfl (Nat.le_of_ble_eq_true rfl) dX1_rename_23 ⟨Nat.zero_le _, Nat.zero_le _⟩ (fun _ h => h) hS (fun r23 H locs hr23 _ hS => ?_)
        rcases hr23 with ⟨V1, hT, hP, ⟨c23, rfl⟩ | ⟨c23, rfl⟩⟩
        · refine ri_if_ne (tgt := 32) hx hb dX1_rename_26 (by decide) (by omega) (fun c26 => ?_) (fun c26 => absurd c26 (by decide))
          refine ri_const hx hb dX1_rename_32 ?_
          refine lv_istore_n (lv' := [(3, .int (iI 0)), (0, .ref (ad 0)), (1, .int (iI k)), (2, .int (iI m0))]) hx hb dX1_rename_33 rfl hl (by decide) rfl (fun ls hl => ?_)
          refine ri_const hx hb dX1_rename_34 ?_
          refine lv_istore (lv' := [(4, .int (iI 0)), (3, .int (iI 0)), (0, .ref (ad 0)), (1, .int (iI k)), (2, .int (iI m0))]) hx hb dX1_rename_35 hl (by decide) rfl (fun ls hl => ?_)
          have loop37 : ∀ (n : Nat) (x3 : Int) (x4 : Int) (ls : Array Slot), sz - x4 < (n : Int) → (0 ≤ x4 ∧ x4 ≤ sz) → (x3 = rd_cnt (fun u => rd_rn sz Na V1 k m0 u ≠ Na u) x4) → lv_has ls 5 [(0, .ref (ad 0)), (1, .int (iI k)), (2, .int (iI m0)), (3, .int (iI x3)), (4, .int (iI x4))] → W p l e (rmL 5) s m (Value.ref (ad 0) :: [.int (iI k), .int (iI m0)]).toArray below meth c H locs 0 0 (MQ below (qM (mA ad) (fun r H => ∃ N1 C1 M1 R1 V1 : Int → Int, mP G ad cA sz Ka N1 C1 M1 R1 V1 H ∧ rd_Ren sz Ka Na k m0 r N1)) (Value.ref (ad 0) :: [.int (iI k), .int (iI m0)]).toArray s 0 0 (mA ad)) (F0 m 37 ls []) := by
            intro n
            induction n with
            | zero =>
              intro x3 x4 ls hm h1 h2 hl
              exfalso
              omega
            | succ n ih =>
              intro x3 x4 ls hm h1 h2 hl
              refine lv_iload hx hb dX1_rename_37 (lv_at hl 4 rfl) ?_
              refine lv_aload_n hx hb dX1_rename_39 rfl (lv_at hl 0 rfl) ?_
              refine mg_size hx hb hts hown hK hP dX1_rename_40 ?_
              refine ri_cmp_ge (tgt := 77) hx hb dX1_rename_43 (by decide) (by omega) (fun c43 => ?_) (fun c43 => ?_)
              · refine lv_aload_n hx hb dX1_rename_77 rfl (lv_at hl 0 rfl) ?_
                refine gV_call (As := []) (rest := []) hx hb hml hown hts (mm_accept l G ad cA sz Ka Na Ka (rd_rn sz Na V1 k m0) rd_id V1 hD hsz) (cwX1_accept hts 0 ⟨by decide, by decide⟩) (hP.recv hK) hP hK rfl hl.1 rfl (Nat.le_of_ble_eq_true rfl) dX1_rename_78 ⟨Nat.zero_le _, Nat.zero_le _⟩ (fun _ h => h) hS (fun H locs hr78 _ hS => ?_)
                have hP : mP G ad cA sz (rd_ac sz Ka Ka) (rd_ac sz (rd_rn sz Na V1 k m0) Na) Ka (rd_rn sz Na V1 k m0) rd_id V1 H := hr78
                refine lv_iload_n hx hb dX1_rename_81 rfl (lv_at hl 3 rfl) ?_
                refine gM_iret hx hb hr hlocks dX1_rename_82 hS ?_
                rw [rd_ac_eq (C := Ka) (fun _ _ => rfl), rd_ac_eq (C := rd_rn sz Na V1 k m0) (fun i q => if_neg (fun g => q ⟨g.1, g.2.1⟩))] at hP
                exact ⟨_, _, _, _, _, hP, Or.inr (Or.inr ⟨⟨c2, by omega, by omega⟩, c23, by rw [h2, show x4 = sz by omega], V1, hT, rfl⟩)⟩
              · refine lv_aload_n hx hb dX1_rename_46 rfl (lv_at hl 0 rfl) ?_
                refine mg_name hx hb hts hown hK hP dX1_rename_47 ?_
                refine lv_iload hx hb dX1_rename_50 (lv_at hl 4 rfl) ?_
                refine ml_name hx hb hK hP (by omega) dX1_rename_52 ?_
                have hf2 := (rd_WF_rn (T := V1) (k := k) hW (show 0 ≤ m0 ∧ m0 ≤ 7 by omega)).2.1 x4 (by omega) (by omega)
                refine lv_aload_n hx hb dX1_rename_53 rfl (lv_at hl 0 rfl) ?_
                refine mg_names hx hb hts hown hK hP dX1_rename_54 ?_
                refine lv_iload hx hb dX1_rename_57 (lv_at hl 4 rfl) ?_
                refine ml_names hx hb hK hP (by omega) dX1_rename_59 ?_
                have hf3 := hW.2.1 x4 (by omega) (by omega)
                refine ri_cmp_eq (tgt := 69) hx hb dX1_rename_60 (by decide) (by omega) (fun c60 => ?_) (fun c60 => ?_)
                · refine lv_iload_n hx hb dX1_rename_69 rfl (lv_at hl 3 rfl) ?_
                  refine lv_istore_n (lv' := [(3, .int (iI x3)), (0, .ref (ad 0)), (1, .int (iI k)), (2, .int (iI m0)), (4, .int (iI x4))]) hx hb dX1_rename_70 rfl hl (by decide) rfl (fun ls hl => ?_)
                  refine ri_inc (k := 4) (lv1 := [(4, .int (iI (x4 + 1))), (3, .int (iI x3)), (0, .ref (ad 0)), (1, .int (iI k)), (2, .int (iI m0))]) hx hb dX1_rename_71 hl rfl (by decide) rfl (fun ls hl => ?_)
                  refine lv_goto (tgt := 37) hx hb dX1_rename_74 (by decide) ?_
                  exact ih x3 (x4 + 1) ls (by omega) (by omega) (by rw [rd_cnt_f (f := fun u => rd_rn sz Na V1 k m0 u ≠ Na u) (by omega) (fun q => q c60), h2]) (lv_sub hl [2, 3, 4, 1, 0] rfl)
                · refine lv_iload_n hx hb dX1_rename_63 rfl (lv_at hl 3 rfl) ?_
                  refine ri_const hx hb dX1_rename_64 ?_
                  refine ri_add hx hb dX1_rename_65 ?_
                  refine lv_goto (tgt := 70) hx hb dX1_rename_66 (by decide) ?_
                  refine lv_istore_n (lv' := [(3, .int (iI (x3 + 1))), (0, .ref (ad 0)), (1, .int (iI k)), (2, .int (iI m0)), (4, .int (iI x4))]) hx hb dX1_rename_70 rfl hl (by decide) rfl (fun ls hl => ?_)
                  refine ri_inc (k := 4) (lv1 := [(4, .int (iI (x4 + 1))), (3, .int (iI (x3 + 1))), (0, .ref (ad 0)), (1, .int (iI k)), (2, .int (iI m0))]) hx hb dX1_rename_71 hl rfl (by decide) rfl (fun ls hl => ?_)
                  refine lv_goto (tgt := 37) hx hb dX1_rename_74 (by decide) ?_
                  exact ih (x3 + 1) (x4 + 1) ls (by omega) (by omega) (by rw [rd_cnt_t (f := fun u => rd_rn sz Na V1 k m0 u ≠ Na u) (by omega) c60, h2]) (lv_sub hl [2, 3, 4, 1, 0] rfl)
          exact loop37 (Int.toNat ((sz - 0) + 1)) 0 0 ls (by omega) (by omega) (by exact (rd_cnt_0 _).symm) (lv_sub hl [2, 3, 4, 1, 0] rfl)
        · refine ri_if_ne (tgt := 32) hx hb dX1_rename_26 (by decide) (by omega) (fun c26 => absurd c26 (by decide)) (fun c26 => ?_)
          refine ri_push hx hb dX1_rename_29 (by decide) ?_
          refine gM_iret hx hb hr hlocks dX1_rename_31 hS ?_
          exact ⟨Na, _, _, _, _, hP, Or.inr (Or.inl ⟨⟨c2, by omega, by omega⟩, c23, rfl, rfl⟩)⟩
      · refine ri_const hx hb dX1_rename_18 ?_
        refine gM_iret hx hb hr hlocks dX1_rename_19 hS ?_
        exact ⟨Na, Ca, Ma, Ra, Va, hP, Or.inl ⟨fun q => by omega, rfl, rfl⟩⟩
  · refine ri_if_eq (tgt := 18) hx hb dX1_rename_5 (by decide) (by omega) (fun c5 => ?_) (fun c5 => absurd c5 (by decide))
    refine ri_const hx hb dX1_rename_18 ?_
    refine gM_iret hx hb hr hlocks dX1_rename_19 hS ?_
    exact ⟨Na, Ca, Ma, Ra, Va, hP, Or.inl ⟨fun q => c2 q.1, rfl, rfl⟩⟩
set_option maxHeartbeats 4000000 in
set_option maxRecDepth 100000 in
theorem mm_place (l : Launch) (G : va_G) (ad : Nat → Nat) (cA : ClassId) (sz : Int) (Ka Na Ca Ma Ra Va : Int → Int) (k p0 : Int) (hk : 0 ≤ k ∧ k < 28) (hp0 : 0 ≤ p0 ∧ p0 < 28) (hD : mD ad) : gMV l yX1_place (ws_ yX1_place cX1_place 3 none) (rmL 0) G [(cA, .int)] (mP G ad cA sz Ka Na Ca Ma Ra Va) (ad 0) [.int (iI k), .int (iI p0)] (mA ad) (fun H => mP G ad cA sz Ka Na (rd_up Ca p0 (Ka k)) (rd_up Ma p0 (Na k)) (rd_up Ra p0 k) Va H) := by
  refine gMV_of (by decide) (Nat.le_of_ble_eq_true rfl) ?_
  intro p e s m below meth c ls hx hb hr hml hown hlocks hts hP hK hl
  have hown : s.vm.findClass RX1 = some m.cls := hown
  have hl : lv_has ls 3 [(0, .ref (ad 0)), (1, .int (iI k)), (2, .int (iI p0))] := hl
  have hS : va_S (mA ad) s.heap s.heap [] := va_S.rf
  refine lv_aload_n hx hb dX1_place_0 rfl (lv_at hl 0 rfl) ?_
  refine mg_kind hx hb hts hown hK hP dX1_place_1 ?_
  refine lv_iload_n hx hb dX1_place_4 rfl (lv_at hl 2 rfl) ?_
  refine lv_aload_n hx hb dX1_place_5 rfl (lv_at hl 0 rfl) ?_
  refine mg_kinds hx hb hts hown hK hP dX1_place_6 ?_
  refine lv_iload_n hx hb dX1_place_9 rfl (lv_at hl 1 rfl) ?_
  refine ml_kinds hx hb hK hP (by omega) dX1_place_10 ?_
  refine ms_kind hx hb hK hP hD hS (by omega) dX1_place_11 (fun H locs hP hS => ?_)
  refine lv_aload_n hx hb dX1_place_12 rfl (lv_at hl 0 rfl) ?_
  refine mg_name hx hb hts hown hK hP dX1_place_13 ?_
  refine lv_iload_n hx hb dX1_place_16 rfl (lv_at hl 2 rfl) ?_
  refine lv_aload_n hx hb dX1_place_17 rfl (lv_at hl 0 rfl) ?_
  refine mg_names hx hb hts hown hK hP dX1_place_18 ?_
  refine lv_iload_n hx hb dX1_place_21 rfl (lv_at hl 1 rfl) ?_
  refine ml_names hx hb hK hP (by omega) dX1_place_22 ?_
  refine ms_name hx hb hK hP hD hS (by omega) dX1_place_23 (fun H locs hP hS => ?_)
  refine lv_aload_n hx hb dX1_place_24 rfl (lv_at hl 0 rfl) ?_
  refine mg_origin hx hb hts hown hK hP dX1_place_25 ?_
  refine lv_iload_n hx hb dX1_place_28 rfl (lv_at hl 2 rfl) ?_
  refine lv_iload_n hx hb dX1_place_29 rfl (lv_at hl 1 rfl) ?_
  refine ms_origin hx hb hK hP hD hS (by omega) dX1_place_30 (fun H locs hP hS => ?_)
  refine gV_vret hx hb hr hlocks dX1_place_31 hS ?_
  exact hP
set_option maxHeartbeats 4000000 in
set_option maxRecDepth 100000 in
theorem mm_swap (l : Launch) (G : va_G) (ad : Nat → Nat) (cA : ClassId) (sz : Int) (Ka Na Ca Ma Ra Va : Int → Int) (k : Int) (hk : -2147483648 ≤ k ∧ k ≤ 2147483647) (hD : mD ad) (hW : rd_WF sz Ka Na) : gMM l yX1_swap (ws_ yX1_swap cX1_swap 2 (some .int)) (rmL 4) G [(cA, .int)] (mP G ad cA sz Ka Na Ca Ma Ra Va) (ad 0) [.int (iI k)] (mA ad) (fun r H => ∃ K1 N1 C1 M1 R1 V1 : Int → Int, mP G ad cA sz K1 N1 C1 M1 R1 V1 H ∧ rd_Swp sz Ka Na k r K1 N1) := by
  refine gMM_of (by decide) (Nat.le_of_ble_eq_true rfl) ?_
  intro p e s m below meth c ls hx hb hr hml hown hlocks hts hP hK hl
  have hown : s.vm.findClass RX1 = some m.cls := hown
  have hl : lv_has ls 2 [(0, .ref (ad 0)), (1, .int (iI k))] := hl
  have hS : va_S (mA ad) s.heap s.heap [] := va_S.rf
  have hsz := hW.1
  refine lv_aload_n hx hb dX1_swap_0 rfl (lv_at hl 0 rfl) ?_
  refine lv_iload_n hx hb dX1_swap_1 rfl (lv_at hl 1 rfl) ?_
  refine gR_call (As := [.int (iI k)]) (rest := []) hx hb hml hown hts (mm_is l G ad cA sz Ka Na Ca Ma Ra Va k (by omega) hsz) (cwX1_is hts 0 ⟨by decide, by decide⟩) (hP.recv hK) hP hK rfl hl.1 rfl (Nat.le_of_ble_eq_true rfl) dX1_swap_2 ⟨Nat.zero_le _, Nat.zero_le _⟩ (fun r2 hr2 => ?_)
  rcases hr2 with ⟨c2, rfl⟩ | ⟨c2, rfl⟩
  · refine ri_if_eq (tgt := 40) hx hb dX1_swap_5 (by decide) (by omega) (fun c5 => absurd c5 (by decide)) (fun c5 => ?_)
    refine lv_aload_n hx hb dX1_swap_8 rfl (lv_at hl 0 rfl) ?_
    refine lv_iload_n hx hb dX1_swap_9 rfl (lv_at hl 1 rfl) ?_
    refine ri_const hx hb dX1_swap_10 ?_
    refine ri_add hx hb dX1_swap_11 ?_
    refine gR_call (As := [.int (iI (k + 1))]) (rest := []) hx hb hml hown hts (mm_is l G ad cA sz Ka Na Ca Ma Ra Va (k + 1) (by omega) hsz) (cwX1_is hts 0 ⟨by decide, by decide⟩) (hP.recv hK) hP hK rfl hl.1 rfl (Nat.le_of_ble_eq_true rfl) dX1_swap_12 ⟨Nat.zero_le _, Nat.zero_le _⟩ (fun r12 hr12 => ?_)
    rcases hr12 with ⟨c12, rfl⟩ | ⟨c12, rfl⟩
    · refine ri_if_eq (tgt := 40) hx hb dX1_swap_15 (by decide) (by omega) (fun c15 => absurd c15 (by decide)) (fun c15 => ?_)
      refine lv_aload_n hx hb dX1_swap_18 rfl (lv_at hl 0 rfl) ?_
      refine mg_kinds hx hb hts hown hK hP dX1_swap_19 ?_
      refine lv_iload_n hx hb dX1_swap_22 rfl (lv_at hl 1 rfl) ?_
      refine ml_kinds hx hb hK hP (by omega) dX1_swap_23 ?_
      have hf1 := hW.2.1 k (by omega) (by omega)
      refine ri_const hx hb dX1_swap_24 ?_
      refine ri_cmp_lt (tgt := 40) hx hb dX1_swap_25 (by decide) (by omega) (fun c25 => ?_) (fun c25 => ?_)
      · refine ri_const hx hb dX1_swap_40 ?_
        refine gM_iret hx hb hr hlocks dX1_swap_41 hS ?_
        exact ⟨Ka, Na, Ca, Ma, Ra, Va, hP, Or.inl ⟨fun q => by obtain ⟨q1, q2, q3, q4⟩ := q; omega, rfl, rfl, rfl⟩⟩
      · refine lv_aload_n hx hb dX1_swap_28 rfl (lv_at hl 0 rfl) ?_
        refine mg_kinds hx hb hts hown hK hP dX1_swap_29 ?_
        refine lv_iload_n hx hb dX1_swap_32 rfl (lv_at hl 1 rfl) ?_
        refine ri_const hx hb dX1_swap_33 ?_
        refine ri_add hx hb dX1_swap_34 ?_
        refine ml_kinds hx hb hK hP (by omega) dX1_swap_35 ?_
        have hf2 := hW.2.1 (k + 1) (by omega) (by omega)
        refine ri_const hx hb dX1_swap_36 ?_
        refine ri_cmp_ge (tgt := 42) hx hb dX1_swap_37 (by decide) (by omega) (fun c37 => ?_) (fun c37 => ?_)
        · refine lv_aload_n hx hb dX1_swap_42 rfl (lv_at hl 0 rfl) ?_
          refine gV_call (As := []) (rest := []) hx hb hml hown hts (mm_bindAll l G ad cA sz Ka Na Ca Ma Ra Va hD hW) (cwX1_bindAll hts 3 ⟨by decide, by decide⟩) (hP.recv hK) hP hK rfl hl.1 rfl (Nat.le_of_ble_eq_true rfl) dX1_swap_43 ⟨Nat.zero_le _, Nat.zero_le _⟩ (fun _ h => h) hS (fun H locs hr43 _ hS => ?_)
          obtain ⟨V1, hP, hT⟩ := hr43
          refine lv_aload_n hx hb dX1_swap_46 rfl (lv_at hl 0 rfl) ?_
          refine lv_iload_n hx hb dX1_swap_47 rfl (lv_at hl 1 rfl) ?_
          refine lv_iload_n hx hb dX1_swap_48 rfl (lv_at hl 1 rfl) ?_
          refine ri_const hx hb dX1_swap_49 ?_
          refine ri_add hx hb dX1_swap_50 ?_
          refine gV_call (As := [.int (iI k), .int (iI (k + 1))]) (rest := []) hx hb hml hown hts (mm_place l G ad cA sz Ka Na Ka Na rd_id V1 k (k + 1) (by omega) (by omega) hD) (cwX1_place hts 0 ⟨by decide, by decide⟩) (hP.recv hK) hP hK rfl hl.1 rfl (Nat.le_of_ble_eq_true rfl) dX1_swap_51 ⟨Nat.zero_le _, Nat.zero_le _⟩ (fun _ h => h) hS (fun H locs hr51 _ hS => ?_)
          have hP : mP G ad cA sz Ka Na (rd_up Ka (k + 1) (Ka k)) (rd_up Na (k + 1) (Na k)) (rd_up rd_id (k + 1) k) V1 H := hr51
          refine lv_aload_n hx hb dX1_swap_54 rfl (lv_at hl 0 rfl) ?_
          refine lv_iload_n hx hb dX1_swap_55 rfl (lv_at hl 1 rfl) ?_
          refine ri_const hx hb dX1_swap_56 ?_
          refine ri_add hx hb dX1_swap_57 ?_
          refine lv_iload_n hx hb dX1_swap_58 rfl (lv_at hl 1 rfl) ?_
          refine gV_call (As := [.int (iI (k + 1)), .int (iI k)]) (rest := []) hx hb hml hown hts (mm_place l G ad cA sz Ka Na (rd_up Ka (k + 1) (Ka k)) (rd_up Na (k + 1) (Na k)) (rd_up rd_id (k + 1) k) V1 (k + 1) k (by omega) (by omega) hD) (cwX1_place hts 0 ⟨by decide, by decide⟩) (hP.recv hK) hP hK rfl hl.1 rfl (Nat.le_of_ble_eq_true rfl) dX1_swap_59 ⟨Nat.zero_le _, Nat.zero_le _⟩ (fun _ h => h) hS (fun H locs hr59 _ hS => ?_)
          have hP : mP G ad cA sz Ka Na (rd_up (rd_up Ka (k + 1) (Ka k)) k (Ka (k + 1))) (rd_up (rd_up Na (k + 1) (Na k)) k (Na (k + 1))) (rd_up (rd_up rd_id (k + 1) k) k (k + 1)) V1 H := hr59
          have hP : mP G ad cA sz Ka Na (rd_sw Ka k) (rd_sw Na k) (rd_sw rd_id k) V1 H := by
            rw [← rd_sw_pl Ka k, ← rd_sw_pl Na k, ← rd_sw_pl rd_id k]
            exact hP
          refine lv_aload_n hx hb dX1_swap_62 rfl (lv_at hl 0 rfl) ?_
          refine gR_call (As := []) (rest := []) hx hb hml hown hts (mm_legal l G ad cA sz Ka Na (rd_sw Ka k) (rd_sw Na k) (rd_sw rd_id k) V1 (rd_WF_sw hW (by omega) (by omega) (by omega) (by omega)) (fun i a b => rd_sw_rng (by omega) (by omega) a b) (fun i a b => by have := rd_Bd_rng (hT i a b) a; omega)) (cwX1_legal hts 3 ⟨by decide, by decide⟩) (hP.recv hK) hP hK rfl hl.1 rfl (Nat.le_of_ble_eq_true rfl) dX1_swap_63 ⟨Nat.zero_le _, Nat.zero_le _⟩ (fun r63 hr63 => ?_)
          rcases hr63 with ⟨c63, rfl⟩ | ⟨c63, rfl⟩
          · refine ri_if_ne (tgt := 72) hx hb dX1_swap_66 (by decide) (by omega) (fun c66 => ?_) (fun c66 => absurd c66 (by decide))
            refine lv_aload_n hx hb dX1_swap_72 rfl (lv_at hl 0 rfl) ?_
            refine gV_call (As := []) (rest := []) hx hb hml hown hts (mm_accept l G ad cA sz Ka Na (rd_sw Ka k) (rd_sw Na k) (rd_sw rd_id k) V1 hD hsz) (cwX1_accept hts 0 ⟨by decide, by decide⟩) (hP.recv hK) hP hK rfl hl.1 rfl (Nat.le_of_ble_eq_true rfl) dX1_swap_73 ⟨Nat.zero_le _, Nat.zero_le _⟩ (fun _ h => h) hS (fun H locs hr73 _ hS => ?_)
            have hP : mP G ad cA sz (rd_ac sz (rd_sw Ka k) Ka) (rd_ac sz (rd_sw Na k) Na) (rd_sw Ka k) (rd_sw Na k) (rd_sw rd_id k) V1 H := hr73
            refine lv_iload_n hx hb dX1_swap_76 rfl (lv_at hl 1 rfl) ?_
            refine gM_iret hx hb hr hlocks dX1_swap_77 hS ?_
            rw [rd_ac_eq (C := rd_sw Ka k) (fun i q => rd_sw_o (by omega) (by omega)), rd_ac_eq (C := rd_sw Na k) (fun i q => rd_sw_o (by omega) (by omega))] at hP
            exact ⟨_, _, _, _, _, _, hP, Or.inr (Or.inr ⟨⟨c2, c12, by omega, by omega⟩, (rd_okS_iff hT (by omega) (by omega)).mpr c63, rfl, rfl, rfl⟩)⟩
          · refine ri_if_ne (tgt := 72) hx hb dX1_swap_66 (by decide) (by omega) (fun c66 => absurd c66 (by decide)) (fun c66 => ?_)
            refine ri_push hx hb dX1_swap_69 (by decide) ?_
            refine gM_iret hx hb hr hlocks dX1_swap_71 hS ?_
            exact ⟨Ka, Na, _, _, _, _, hP, Or.inr (Or.inl ⟨⟨c2, c12, by omega, by omega⟩, fun q => c63 ((rd_okS_iff hT (by omega) (by omega)).mp q), rfl, rfl, rfl⟩)⟩
        · refine ri_const hx hb dX1_swap_40 ?_
          refine gM_iret hx hb hr hlocks dX1_swap_41 hS ?_
          exact ⟨Ka, Na, Ca, Ma, Ra, Va, hP, Or.inl ⟨fun q => by obtain ⟨q1, q2, q3, q4⟩ := q; omega, rfl, rfl, rfl⟩⟩
    · refine ri_if_eq (tgt := 40) hx hb dX1_swap_15 (by decide) (by omega) (fun c15 => ?_) (fun c15 => absurd c15 (by decide))
      refine ri_const hx hb dX1_swap_40 ?_
      refine gM_iret hx hb hr hlocks dX1_swap_41 hS ?_
      exact ⟨Ka, Na, Ca, Ma, Ra, Va, hP, Or.inl ⟨fun q => by obtain ⟨q1, q2, q3, q4⟩ := q; omega, rfl, rfl, rfl⟩⟩
  · refine ri_if_eq (tgt := 40) hx hb dX1_swap_5 (by decide) (by omega) (fun c5 => ?_) (fun c5 => absurd c5 (by decide))
    refine ri_const hx hb dX1_swap_40 ?_
    refine gM_iret hx hb hr hlocks dX1_swap_41 hS ?_
    exact ⟨Ka, Na, Ca, Ma, Ra, Va, hP, Or.inl ⟨fun q => by obtain ⟨q1, q2, q3, q4⟩ := q; omega, rfl, rfl, rfl⟩⟩
set_option maxHeartbeats 4000000 in
set_option maxRecDepth 100000 in
theorem mm_moveOut (l : Launch) (G : va_G) (ad : Nat → Nat) (cA : ClassId) (sz : Int) (Ka Na Ca Ma Ra Va : Int → Int) (k : Int) (hk : -2147483648 ≤ k ∧ k ≤ 2147483647) (hD : mD ad) (hW : rd_WF sz Ka Na) : gMM l yX1_moveOut (ws_ yX1_moveOut cX1_moveOut 4 (some .int)) (rmL 4) G [(cA, .int)] (mP G ad cA sz Ka Na Ca Ma Ra Va) (ad 0) [.int (iI k)] (mA ad) (fun r H => ∃ K1 N1 C1 M1 R1 V1 : Int → Int, mP G ad cA sz K1 N1 C1 M1 R1 V1 H ∧ rd_Mov sz Ka Na k r K1 N1) := by
  refine gMM_of (by decide) (Nat.le_of_ble_eq_true rfl) ?_
  intro p e s m below meth c ls hx hb hr hml hown hlocks hts hP hK hl
  have hown : s.vm.findClass RX1 = some m.cls := hown
  have hl : lv_has ls 4 [(0, .ref (ad 0)), (1, .int (iI k))] := hl
  have hS : va_S (mA ad) s.heap s.heap [] := va_S.rf
  have hsz := hW.1
  refine lv_aload_n hx hb dX1_moveOut_0 rfl (lv_at hl 0 rfl) ?_
  refine gV_call (As := []) (rest := []) hx hb hml hown hts (mm_bindAll l G ad cA sz Ka Na Ca Ma Ra Va hD hW) (cwX1_bindAll hts 3 ⟨by decide, by decide⟩) (hP.recv hK) hP hK rfl hl.1 rfl (Nat.le_of_ble_eq_true rfl) dX1_moveOut_1 ⟨Nat.zero_le _, Nat.zero_le _⟩ (fun _ h => h) hS (fun H locs hr1 _ hS => ?_)
  obtain ⟨V1, hP, hT⟩ := hr1
  refine lv_aload_n hx hb dX1_moveOut_4 rfl (lv_at hl 0 rfl) ?_
  refine lv_iload_n hx hb dX1_moveOut_5 rfl (lv_at hl 1 rfl) ?_
  refine gR_call (As := [.int (iI k)]) (rest := []) hx hb hml hown hts (mm_declares l G ad cA sz Ka Na Ka Na rd_id V1 k (by omega) hW) (cwX1_declares hts 1 ⟨by decide, by decide⟩) (hP.recv hK) hP hK rfl hl.1 rfl (Nat.le_of_ble_eq_true rfl) dX1_moveOut_6 ⟨Nat.zero_le _, Nat.zero_le _⟩ (fun r6 hr6 => ?_)
  rcases hr6 with ⟨c6, rfl⟩ | ⟨c6, rfl⟩
  · refine ri_if_eq (tgt := 20) hx hb dX1_moveOut_9 (by decide) (by omega) (fun c9 => absurd c9 (by decide)) (fun c9 => ?_)
    have hk6 := c6.1
    refine lv_aload_n hx hb dX1_moveOut_12 rfl (lv_at hl 0 rfl) ?_
    refine lv_iload_n hx hb dX1_moveOut_13 rfl (lv_at hl 1 rfl) ?_
    refine gR_call (As := [.int (iI k)]) (rest := []) hx hb hml hown hts (mm_around l G ad cA sz Ka Na Ka Na rd_id V1 k (by omega) hW) (cwX1_around hts 0 ⟨by decide, by decide⟩) (hP.recv hK) hP hK rfl hl.1 rfl (Nat.le_of_ble_eq_true rfl) dX1_moveOut_14 ⟨Nat.zero_le _, Nat.zero_le _⟩ (fun r14 hr14 => ?_)
    obtain ⟨w14, rfl, hw14⟩ := hr14
    have hr14 := hw14.1
    have hs14 := hw14.2.1
    refine lv_goto (tgt := 21) hx hb dX1_moveOut_17 (by decide) ?_
    refine lv_istore_n (lv' := [(2, .int (iI w14)), (0, .ref (ad 0)), (1, .int (iI k))]) hx hb dX1_moveOut_21 rfl hl (by decide) rfl (fun ls hl => ?_)
    refine lv_iload_n hx hb dX1_moveOut_22 rfl (lv_at hl 0 rfl) ?_
    refine ri_if_ge (tgt := 28) hx hb dX1_moveOut_23 (by decide) (by omega) (fun c23 => ?_) (fun c23 => ?_)
    · refine lv_aload_n hx hb dX1_moveOut_28 rfl (lv_at hl 1 rfl) ?_
      refine lv_iload_n hx hb dX1_moveOut_29 rfl (lv_at hl 2 rfl) ?_
      refine lv_iload_n hx hb dX1_moveOut_30 rfl (lv_at hl 0 rfl) ?_
      refine gV_call (As := [.int (iI k), .int (iI w14)]) (rest := []) hx hb hml hown hts (mm_place l G ad cA sz Ka Na Ka Na rd_id V1 k w14 (by omega) (by omega) hD) (cwX1_place hts 0 ⟨by decide, by decide⟩) (hP.recv hK) hP hK rfl hl.1 rfl (Nat.le_of_ble_eq_true rfl) dX1_moveOut_31 ⟨Nat.zero_le _, Nat.zero_le _⟩ (fun _ h => h) hS (fun H locs hr31 _ hS => ?_)
      have hP : mP G ad cA sz Ka Na (rd_up Ka w14 (Ka k)) (rd_up Na w14 (Na k)) (rd_up rd_id w14 k) V1 H := hr31
      refine lv_iload_n hx hb dX1_moveOut_34 rfl (lv_at hl 0 rfl) ?_
      refine lv_istore_n (lv' := [(3, .int (iI w14)), (2, .int (iI w14)), (0, .ref (ad 0)), (1, .int (iI k))]) hx hb dX1_moveOut_35 rfl hl (by decide) rfl (fun ls hl => ?_)
      have loop36 : ∀ (n : Nat) (x3 : Int) (Ca_36 : Int → Int) (Ma_36 : Int → Int) (Ra_36 : Int → Int) (H : Heap) (locs : List Loc) (ls : Array Slot), k - x3 < (n : Int) → (w14 ≤ x3 ∧ x3 ≤ k) → (Ca_36 = rd_mvU Ka w14 k x3) → (Ma_36 = rd_mvU Na w14 k x3) → (Ra_36 = rd_mvU rd_id w14 k x3) → mP G ad cA sz Ka Na Ca_36 Ma_36 Ra_36 V1 H → va_S (mA ad) s.heap H locs → lv_has ls 4 [(2, .int (iI w14)), (0, .ref (ad 0)), (1, .int (iI k)), (3, .int (iI x3))] → W p l e (rmL 4) s m (Value.ref (ad 0) :: [.int (iI k)]).toArray below meth c H locs 0 0 (MQ below (qM (mA ad) (fun r H => ∃ K1 N1 C1 M1 R1 V1 : Int → Int, mP G ad cA sz K1 N1 C1 M1 R1 V1 H ∧ rd_Mov sz Ka Na k r K1 N1)) (Value.ref (ad 0) :: [.int (iI k)]).toArray s 0 0 (mA ad)) (F0 m 36 ls []) := by
        intro n
        induction n with
        | zero =>
          intro x3 Ca_36 Ma_36 Ra_36 H locs ls hm h1 h2 h3 h4 hP hS hl
          exfalso
          omega
        | succ n ih =>
          intro x3 Ca_36 Ma_36 Ra_36 H locs ls hm h1 h2 h3 h4 hP hS hl
          refine lv_iload_n hx hb dX1_moveOut_36 rfl (lv_at hl 3 rfl) ?_
          refine lv_iload_n hx hb dX1_moveOut_37 rfl (lv_at hl 2 rfl) ?_
          refine ri_cmp_ge (tgt := 55) hx hb dX1_moveOut_38 (by decide) (by omega) (fun c38 => ?_) (fun c38 => ?_)
          · have e3 : x3 = k := by omega
            have hP : mP G ad cA sz Ka Na (rd_mv Ka w14 k) (rd_mv Na w14 k) (rd_mv rd_id w14 k) V1 H := by
              rw [h2, h3, h4, e3] at hP
              exact hP
            refine lv_aload_n hx hb dX1_moveOut_55 rfl (lv_at hl 1 rfl) ?_
            refine gR_call (As := []) (rest := []) hx hb hml hown hts (mm_legal l G ad cA sz Ka Na (rd_mv Ka w14 k) (rd_mv Na w14 k) (rd_mv rd_id w14 k) V1 (rd_WF_mv hW (by omega) (by omega) (by omega) c6.2) (fun i a b => rd_mv_rng (by omega) (by omega) (by omega) a b) (fun i a b => by have := rd_Bd_rng (hT i a b) a; omega)) (cwX1_legal hts 3 ⟨by decide, by decide⟩) (hP.recv hK) hP hK rfl hl.1 rfl (Nat.le_of_ble_eq_true rfl) dX1_moveOut_56 ⟨Nat.zero_le _, Nat.zero_le _⟩ (fun r56 hr56 => ?_)
            rcases hr56 with ⟨c56, rfl⟩ | ⟨c56, rfl⟩
            · refine ri_if_ne (tgt := 65) hx hb dX1_moveOut_59 (by decide) (by omega) (fun c59 => ?_) (fun c59 => absurd c59 (by decide))
              refine lv_aload_n hx hb dX1_moveOut_65 rfl (lv_at hl 1 rfl) ?_
              refine gV_call (As := []) (rest := []) hx hb hml hown hts (mm_accept l G ad cA sz Ka Na (rd_mv Ka w14 k) (rd_mv Na w14 k) (rd_mv rd_id w14 k) V1 hD hsz) (cwX1_accept hts 0 ⟨by decide, by decide⟩) (hP.recv hK) hP hK rfl hl.1 rfl (Nat.le_of_ble_eq_true rfl) dX1_moveOut_66 ⟨Nat.zero_le _, Nat.zero_le _⟩ (fun _ h => h) hS (fun H locs hr66 _ hS => ?_)
              have hP : mP G ad cA sz (rd_ac sz (rd_mv Ka w14 k) Ka) (rd_ac sz (rd_mv Na w14 k) Na) (rd_mv Ka w14 k) (rd_mv Na w14 k) (rd_mv rd_id w14 k) V1 H := hr66
              refine lv_iload_n hx hb dX1_moveOut_69 rfl (lv_at hl 0 rfl) ?_
              refine gM_iret hx hb hr hlocks dX1_moveOut_70 hS ?_
              rw [rd_ac_eq (C := rd_mv Ka w14 k) (fun i q => by rcases Int.lt_or_le i w14 with g | g; exact rd_mv_lo g; exact rd_mv_hi (by omega) (by omega)), rd_ac_eq (C := rd_mv Na w14 k) (fun i q => by rcases Int.lt_or_le i w14 with g | g; exact rd_mv_lo g; exact rd_mv_hi (by omega) (by omega))] at hP
              exact ⟨_, _, _, _, _, _, hP, Or.inr (Or.inr ⟨w14, ⟨c6, by omega, hw14⟩, (rd_okO_iff hT (by omega) (by omega) (by omega)).mpr c56, rfl, rfl, rfl⟩)⟩
            · refine ri_if_ne (tgt := 65) hx hb dX1_moveOut_59 (by decide) (by omega) (fun c59 => absurd c59 (by decide)) (fun c59 => ?_)
              refine ri_push hx hb dX1_moveOut_62 (by decide) ?_
              refine gM_iret hx hb hr hlocks dX1_moveOut_64 hS ?_
              exact ⟨Ka, Na, _, _, _, _, hP, Or.inr (Or.inl ⟨w14, ⟨c6, by omega, hw14⟩, fun q => c56 ((rd_okO_iff hT (by omega) (by omega) (by omega)).mp q), rfl, rfl, rfl⟩)⟩
          · refine lv_aload_n hx hb dX1_moveOut_41 rfl (lv_at hl 1 rfl) ?_
            refine lv_iload_n hx hb dX1_moveOut_42 rfl (lv_at hl 3 rfl) ?_
            refine lv_iload_n hx hb dX1_moveOut_43 rfl (lv_at hl 3 rfl) ?_
            refine ri_const hx hb dX1_moveOut_44 ?_
            refine ri_add hx hb dX1_moveOut_45 ?_
            refine gV_call (As := [.int (iI x3), .int (iI (x3 + 1))]) (rest := []) hx hb hml hown hts (mm_place l G ad cA sz Ka Na Ca_36 Ma_36 Ra_36 V1 x3 (x3 + 1) (by omega) (by omega) hD) (cwX1_place hts 0 ⟨by decide, by decide⟩) (hP.recv hK) hP hK rfl hl.1 rfl (Nat.le_of_ble_eq_true rfl) dX1_moveOut_46 ⟨Nat.zero_le _, Nat.zero_le _⟩ (fun _ h => h) hS (fun H locs hr46 _ hS => ?_)
            have hP : mP G ad cA sz Ka Na (rd_up Ca_36 (x3 + 1) (Ka x3)) (rd_up Ma_36 (x3 + 1) (Na x3)) (rd_up Ra_36 (x3 + 1) x3) V1 H := hr46
            refine ri_inc (k := 3) (lv1 := [(3, .int (iI (x3 + 1))), (2, .int (iI w14)), (0, .ref (ad 0)), (1, .int (iI k))]) hx hb dX1_moveOut_49 hl rfl (by decide) rfl (fun ls hl => ?_)
            refine lv_goto (tgt := 36) hx hb dX1_moveOut_52 (by decide) ?_
            exact ih (x3 + 1) (rd_up Ca_36 (x3 + 1) (Ka x3)) (rd_up Ma_36 (x3 + 1) (Na x3)) (rd_up Ra_36 (x3 + 1) x3) H locs ls (by omega) (by omega) (by rw [h2]; exact rd_mvU_s (by omega)) (by rw [h3]; exact rd_mvU_s (by omega)) (by rw [h4]; exact rd_mvU_s (by omega)) hP hS (lv_sub hl [1, 2, 3, 0] rfl)
      exact loop36 (Int.toNat ((k - w14) + 1)) w14 (rd_up Ka w14 (Ka k)) (rd_up Na w14 (Na k)) (rd_up rd_id w14 k) H locs ls (by omega) (by omega) (by exact rd_mvU_0 Ka w14 k) (by exact rd_mvU_0 Na w14 k) (by exact rd_mvU_0 rd_id w14 k) hP hS (lv_sub hl [1, 2, 3, 0] rfl)
    · refine ri_const hx hb dX1_moveOut_26 ?_
      refine gM_iret hx hb hr hlocks dX1_moveOut_27 hS ?_
      exact ⟨Ka, Na, _, _, _, _, hP, Or.inl ⟨fun q => by obtain ⟨b, q⟩ := q; have e := rd_Blk_uniq q.2.2 hw14; have := q.2.1; omega, rfl, rfl, rfl⟩⟩
  · refine ri_if_eq (tgt := 20) hx hb dX1_moveOut_9 (by decide) (by omega) (fun c9 => ?_) (fun c9 => absurd c9 (by decide))
    refine ri_const hx hb dX1_moveOut_20 ?_
    refine lv_istore_n (lv' := [(2, .int (iI (-1))), (0, .ref (ad 0)), (1, .int (iI k))]) hx hb dX1_moveOut_21 rfl hl (by decide) rfl (fun ls hl => ?_)
    refine lv_iload_n hx hb dX1_moveOut_22 rfl (lv_at hl 0 rfl) ?_
    refine ri_if_ge (tgt := 28) hx hb dX1_moveOut_23 (by decide) (by omega) (fun c23 => absurd c23 (by decide)) (fun c23 => ?_)
    refine ri_const hx hb dX1_moveOut_26 ?_
    refine gM_iret hx hb hr hlocks dX1_moveOut_27 hS ?_
    exact ⟨Ka, Na, _, _, _, _, hP, Or.inl ⟨fun q => by obtain ⟨b, q⟩ := q; exact c6 q.1, rfl, rfl, rfl⟩⟩
set_option maxHeartbeats 4000000 in
set_option maxRecDepth 100000 in
theorem mm_canMoveOut (l : Launch) (G : va_G) (ad : Nat → Nat) (cA : ClassId) (sz : Int) (Ka Na Ca Ma Ra Va : Int → Int) (k : Int) (hk : -2147483648 ≤ k ∧ k ≤ 2147483647) (hD : mD ad) (hW : rd_WF sz Ka Na) : gMM l yX1_canMoveOut (ws_ yX1_canMoveOut cX1_canMoveOut 4 (some .boolean)) (rmL 4) G [(cA, .int)] (mP G ad cA sz Ka Na Ca Ma Ra Va) (ad 0) [.int (iI k)] (mA ad) (fun r H => mKp G ad cA sz Ka Na H ∧ rd_BP (rd_Can sz Ka Na k) r) := by
  refine gMM_of (by decide) (Nat.le_of_ble_eq_true rfl) ?_
  intro p e s m below meth c ls hx hb hr hml hown hlocks hts hP hK hl
  have hown : s.vm.findClass RX1 = some m.cls := hown
  have hl : lv_has ls 4 [(0, .ref (ad 0)), (1, .int (iI k))] := hl
  have hS : va_S (mA ad) s.heap s.heap [] := va_S.rf
  have hsz := hW.1
  refine lv_aload_n hx hb dX1_canMoveOut_0 rfl (lv_at hl 0 rfl) ?_
  refine gV_call (As := []) (rest := []) hx hb hml hown hts (mm_bindAll l G ad cA sz Ka Na Ca Ma Ra Va hD hW) (cwX1_bindAll hts 3 ⟨by decide, by decide⟩) (hP.recv hK) hP hK rfl hl.1 rfl (Nat.le_of_ble_eq_true rfl) dX1_canMoveOut_1 ⟨Nat.zero_le _, Nat.zero_le _⟩ (fun _ h => h) hS (fun H locs hr1 _ hS => ?_)
  obtain ⟨V1, hP, hT⟩ := hr1
  refine lv_aload_n hx hb dX1_canMoveOut_4 rfl (lv_at hl 0 rfl) ?_
  refine lv_iload_n hx hb dX1_canMoveOut_5 rfl (lv_at hl 1 rfl) ?_
  refine gR_call (As := [.int (iI k)]) (rest := []) hx hb hml hown hts (mm_declares l G ad cA sz Ka Na Ka Na rd_id V1 k (by omega) hW) (cwX1_declares hts 1 ⟨by decide, by decide⟩) (hP.recv hK) hP hK rfl hl.1 rfl (Nat.le_of_ble_eq_true rfl) dX1_canMoveOut_6 ⟨Nat.zero_le _, Nat.zero_le _⟩ (fun r6 hr6 => ?_)
  rcases hr6 with ⟨c6, rfl⟩ | ⟨c6, rfl⟩
  · refine ri_if_eq (tgt := 20) hx hb dX1_canMoveOut_9 (by decide) (by omega) (fun c9 => absurd c9 (by decide)) (fun c9 => ?_)
    have hk6 := c6.1
    refine lv_aload_n hx hb dX1_canMoveOut_12 rfl (lv_at hl 0 rfl) ?_
    refine lv_iload_n hx hb dX1_canMoveOut_13 rfl (lv_at hl 1 rfl) ?_
    refine gR_call (As := [.int (iI k)]) (rest := []) hx hb hml hown hts (mm_around l G ad cA sz Ka Na Ka Na rd_id V1 k (by omega) hW) (cwX1_around hts 0 ⟨by decide, by decide⟩) (hP.recv hK) hP hK rfl hl.1 rfl (Nat.le_of_ble_eq_true rfl) dX1_canMoveOut_14 ⟨Nat.zero_le _, Nat.zero_le _⟩ (fun r14 hr14 => ?_)
    obtain ⟨w14, rfl, hw14⟩ := hr14
    have hr14 := hw14.1
    have hs14 := hw14.2.1
    refine lv_goto (tgt := 21) hx hb dX1_canMoveOut_17 (by decide) ?_
    refine lv_istore_n (lv' := [(2, .int (iI w14)), (0, .ref (ad 0)), (1, .int (iI k))]) hx hb dX1_canMoveOut_21 rfl hl (by decide) rfl (fun ls hl => ?_)
    refine lv_iload_n hx hb dX1_canMoveOut_22 rfl (lv_at hl 0 rfl) ?_
    refine ri_if_ge (tgt := 28) hx hb dX1_canMoveOut_23 (by decide) (by omega) (fun c23 => ?_) (fun c23 => ?_)
    · refine lv_aload_n hx hb dX1_canMoveOut_28 rfl (lv_at hl 1 rfl) ?_
      refine lv_iload_n hx hb dX1_canMoveOut_29 rfl (lv_at hl 2 rfl) ?_
      refine lv_iload_n hx hb dX1_canMoveOut_30 rfl (lv_at hl 0 rfl) ?_
      refine gV_call (As := [.int (iI k), .int (iI w14)]) (rest := []) hx hb hml hown hts (mm_place l G ad cA sz Ka Na Ka Na rd_id V1 k w14 (by omega) (by omega) hD) (cwX1_place hts 0 ⟨by decide, by decide⟩) (hP.recv hK) hP hK rfl hl.1 rfl (Nat.le_of_ble_eq_true rfl) dX1_canMoveOut_31 ⟨Nat.zero_le _, Nat.zero_le _⟩ (fun _ h => h) hS (fun H locs hr31 _ hS => ?_)
      have hP : mP G ad cA sz Ka Na (rd_up Ka w14 (Ka k)) (rd_up Na w14 (Na k)) (rd_up rd_id w14 k) V1 H := hr31
      refine lv_iload_n hx hb dX1_canMoveOut_34 rfl (lv_at hl 0 rfl) ?_
      refine lv_istore_n (lv' := [(3, .int (iI w14)), (2, .int (iI w14)), (0, .ref (ad 0)), (1, .int (iI k))]) hx hb dX1_canMoveOut_35 rfl hl (by decide) rfl (fun ls hl => ?_)
      have loop36 : ∀ (n : Nat) (x3 : Int) (Ca_36 : Int → Int) (Ma_36 : Int → Int) (Ra_36 : Int → Int) (H : Heap) (locs : List Loc) (ls : Array Slot), k - x3 < (n : Int) → (w14 ≤ x3 ∧ x3 ≤ k) → (Ca_36 = rd_mvU Ka w14 k x3) → (Ma_36 = rd_mvU Na w14 k x3) → (Ra_36 = rd_mvU rd_id w14 k x3) → mP G ad cA sz Ka Na Ca_36 Ma_36 Ra_36 V1 H → va_S (mA ad) s.heap H locs → lv_has ls 4 [(2, .int (iI w14)), (0, .ref (ad 0)), (1, .int (iI k)), (3, .int (iI x3))] → W p l e (rmL 4) s m (Value.ref (ad 0) :: [.int (iI k)]).toArray below meth c H locs 0 0 (MQ below (qM (mA ad) (fun r H => mKp G ad cA sz Ka Na H ∧ rd_BP (rd_Can sz Ka Na k) r)) (Value.ref (ad 0) :: [.int (iI k)]).toArray s 0 0 (mA ad)) (F0 m 36 ls []) := by
        intro n
        induction n with
        | zero =>
          intro x3 Ca_36 Ma_36 Ra_36 H locs ls hm h1 h2 h3 h4 hP hS hl
          exfalso
          omega
        | succ n ih =>
          intro x3 Ca_36 Ma_36 Ra_36 H locs ls hm h1 h2 h3 h4 hP hS hl
          refine lv_iload_n hx hb dX1_canMoveOut_36 rfl (lv_at hl 3 rfl) ?_
          refine lv_iload_n hx hb dX1_canMoveOut_37 rfl (lv_at hl 2 rfl) ?_
          refine ri_cmp_ge (tgt := 55) hx hb dX1_canMoveOut_38 (by decide) (by omega) (fun c38 => ?_) (fun c38 => ?_)
          · have e3 : x3 = k := by omega
            have hP : mP G ad cA sz Ka Na (rd_mv Ka w14 k) (rd_mv Na w14 k) (rd_mv rd_id w14 k) V1 H := by
              rw [h2, h3, h4, e3] at hP
              exact hP
            refine lv_aload_n hx hb dX1_canMoveOut_55 rfl (lv_at hl 1 rfl) ?_
            refine gR_call (As := []) (rest := []) hx hb hml hown hts (mm_legal l G ad cA sz Ka Na (rd_mv Ka w14 k) (rd_mv Na w14 k) (rd_mv rd_id w14 k) V1 (rd_WF_mv hW (by omega) (by omega) (by omega) c6.2) (fun i a b => rd_mv_rng (by omega) (by omega) (by omega) a b) (fun i a b => by have := rd_Bd_rng (hT i a b) a; omega)) (cwX1_legal hts 3 ⟨by decide, by decide⟩) (hP.recv hK) hP hK rfl hl.1 rfl (Nat.le_of_ble_eq_true rfl) dX1_canMoveOut_56 ⟨Nat.zero_le _, Nat.zero_le _⟩ (fun r56 hr56 => ?_)
            rcases hr56 with ⟨c56, rfl⟩ | ⟨c56, rfl⟩
            · refine gM_zret hx hb hr hlocks dX1_canMoveOut_59 hS (by omega) ?_
              exact ⟨⟨_, _, _, _, hP⟩, Or.inl ⟨⟨w14, ⟨c6, by omega, hw14⟩, (rd_okO_iff hT (by omega) (by omega) (by omega)).mpr c56⟩, rfl⟩⟩
            · refine gM_zret hx hb hr hlocks dX1_canMoveOut_59 hS (by omega) ?_
              exact ⟨⟨_, _, _, _, hP⟩, Or.inr ⟨fun q => by obtain ⟨b, q, q2⟩ := q; rw [rd_Blk_uniq q.2.2 hw14] at q2; exact c56 ((rd_okO_iff hT (by omega) (by omega) (by omega)).mp q2), rfl⟩⟩
          · refine lv_aload_n hx hb dX1_canMoveOut_41 rfl (lv_at hl 1 rfl) ?_
            refine lv_iload_n hx hb dX1_canMoveOut_42 rfl (lv_at hl 3 rfl) ?_
            refine lv_iload_n hx hb dX1_canMoveOut_43 rfl (lv_at hl 3 rfl) ?_
            refine ri_const hx hb dX1_canMoveOut_44 ?_
            refine ri_add hx hb dX1_canMoveOut_45 ?_
            refine gV_call (As := [.int (iI x3), .int (iI (x3 + 1))]) (rest := []) hx hb hml hown hts (mm_place l G ad cA sz Ka Na Ca_36 Ma_36 Ra_36 V1 x3 (x3 + 1) (by omega) (by omega) hD) (cwX1_place hts 0 ⟨by decide, by decide⟩) (hP.recv hK) hP hK rfl hl.1 rfl (Nat.le_of_ble_eq_true rfl) dX1_canMoveOut_46 ⟨Nat.zero_le _, Nat.zero_le _⟩ (fun _ h => h) hS (fun H locs hr46 _ hS => ?_)
            have hP : mP G ad cA sz Ka Na (rd_up Ca_36 (x3 + 1) (Ka x3)) (rd_up Ma_36 (x3 + 1) (Na x3)) (rd_up Ra_36 (x3 + 1) x3) V1 H := hr46
            refine ri_inc (k := 3) (lv1 := [(3, .int (iI (x3 + 1))), (2, .int (iI w14)), (0, .ref (ad 0)), (1, .int (iI k))]) hx hb dX1_canMoveOut_49 hl rfl (by decide) rfl (fun ls hl => ?_)
            refine lv_goto (tgt := 36) hx hb dX1_canMoveOut_52 (by decide) ?_
            exact ih (x3 + 1) (rd_up Ca_36 (x3 + 1) (Ka x3)) (rd_up Ma_36 (x3 + 1) (Na x3)) (rd_up Ra_36 (x3 + 1) x3) H locs ls (by omega) (by omega) (by rw [h2]; exact rd_mvU_s (by omega)) (by rw [h3]; exact rd_mvU_s (by omega)) (by rw [h4]; exact rd_mvU_s (by omega)) hP hS (lv_sub hl [1, 2, 3, 0] rfl)
      exact loop36 (Int.toNat ((k - w14) + 1)) w14 (rd_up Ka w14 (Ka k)) (rd_up Na w14 (Na k)) (rd_up rd_id w14 k) H locs ls (by omega) (by omega) (by exact rd_mvU_0 Ka w14 k) (by exact rd_mvU_0 Na w14 k) (by exact rd_mvU_0 rd_id w14 k) hP hS (lv_sub hl [1, 2, 3, 0] rfl)
    · refine ri_const hx hb dX1_canMoveOut_26 ?_
      refine gM_zret hx hb hr hlocks dX1_canMoveOut_27 hS (by omega) ?_
      exact ⟨⟨_, _, _, _, hP⟩, Or.inr ⟨fun q => by obtain ⟨b, q, -⟩ := q; have e := rd_Blk_uniq q.2.2 hw14; have := q.2.1; omega, rfl⟩⟩
  · refine ri_if_eq (tgt := 20) hx hb dX1_canMoveOut_9 (by decide) (by omega) (fun c9 => ?_) (fun c9 => absurd c9 (by decide))
    refine ri_const hx hb dX1_canMoveOut_20 ?_
    refine lv_istore_n (lv' := [(2, .int (iI (-1))), (0, .ref (ad 0)), (1, .int (iI k))]) hx hb dX1_canMoveOut_21 rfl hl (by decide) rfl (fun ls hl => ?_)
    refine lv_iload_n hx hb dX1_canMoveOut_22 rfl (lv_at hl 0 rfl) ?_
    refine ri_if_ge (tgt := 28) hx hb dX1_canMoveOut_23 (by decide) (by omega) (fun c23 => absurd c23 (by decide)) (fun c23 => ?_)
    refine ri_const hx hb dX1_canMoveOut_26 ?_
    refine gM_zret hx hb hr hlocks dX1_canMoveOut_27 hS (by omega) ?_
    exact ⟨⟨_, _, _, _, hP⟩, Or.inr ⟨fun q => by obtain ⟨b, q, -⟩ := q; exact c6 q.1, rfl⟩⟩
set_option maxHeartbeats 4000000 in
set_option maxRecDepth 100000 in
theorem mm_depth (l : Launch) (G : va_G) (ad : Nat → Nat) (cA : ClassId) (sz : Int) (Ka Na Ca Ma Ra Va : Int → Int) (k : Int) (hk : -2147483648 ≤ k ∧ k ≤ 2147483647) (hD : mD ad) (hW : rd_WF sz Ka Na) : gMM l yX1_depth (ws_ yX1_depth cX1_depth 4 (some .int)) (rmL 1) G [(cA, .int)] (mP G ad cA sz Ka Na Ca Ma Ra Va) (ad 0) [.int (iI k)] (mA ad) (fun r H => mKp G ad cA sz Ka Na H ∧ rd_Dpt sz Ka k r) := by
  refine gMM_of (by decide) (Nat.le_of_ble_eq_true rfl) ?_
  intro p e s m below meth c ls hx hb hr hml hown hlocks hts hP hK hl
  have hown : s.vm.findClass RX1 = some m.cls := hown
  have hl : lv_has ls 4 [(0, .ref (ad 0)), (1, .int (iI k))] := hl
  have hS : va_S (mA ad) s.heap s.heap [] := va_S.rf
  have hsz := hW.1
  refine lv_aload_n hx hb dX1_depth_0 rfl (lv_at hl 0 rfl) ?_
  refine lv_iload_n hx hb dX1_depth_1 rfl (lv_at hl 1 rfl) ?_
  refine gR_call (As := [.int (iI k)]) (rest := []) hx hb hml hown hts (mm_is l G ad cA sz Ka Na Ca Ma Ra Va k (by omega) hsz) (cwX1_is hts 0 ⟨by decide, by decide⟩) (hP.recv hK) hP hK rfl hl.1 rfl (Nat.le_of_ble_eq_true rfl) dX1_depth_2 ⟨Nat.zero_le _, Nat.zero_le _⟩ (fun r2 hr2 => ?_)
  rcases hr2 with ⟨c2, rfl⟩ | ⟨c2, rfl⟩
  · refine ri_if_ne (tgt := 10) hx hb dX1_depth_5 (by decide) (by omega) (fun c5 => ?_) (fun c5 => absurd c5 (by decide))
    refine lv_aload_n hx hb dX1_depth_10 rfl (lv_at hl 0 rfl) ?_
    refine gV_call (As := []) (rest := []) hx hb hml hown hts (mm_copy l G ad cA sz Ka Na Ca Ma Ra Va hD) (cwX1_copy hts 0 ⟨by decide, by decide⟩) (hP.recv hK) hP hK rfl hl.1 rfl (Nat.le_of_ble_eq_true rfl) dX1_depth_11 ⟨Nat.zero_le _, Nat.zero_le _⟩ (fun _ h => h) hS (fun H locs hr11 _ hS => ?_)
    have hP : mP G ad cA sz Ka Na Ka Na rd_id Va H := hr11
    refine ri_const hx hb dX1_depth_14 ?_
    refine lv_istore_n (lv' := [(2, .int (iI 0)), (0, .ref (ad 0)), (1, .int (iI k))]) hx hb dX1_depth_15 rfl hl (by decide) rfl (fun ls hl => ?_)
    refine lv_aload_n hx hb dX1_depth_16 rfl (lv_at hl 1 rfl) ?_
    refine lv_iload_n hx hb dX1_depth_17 rfl (lv_at hl 2 rfl) ?_
    refine gR_call (As := [.int (iI k)]) (rest := []) hx hb hml hown hts (mm_around l G ad cA sz Ka Na Ka Na rd_id Va k (by omega) hW) (cwX1_around hts 0 ⟨by decide, by decide⟩) (hP.recv hK) hP hK rfl hl.1 rfl (Nat.le_of_ble_eq_true rfl) dX1_depth_18 ⟨Nat.zero_le _, Nat.zero_le _⟩ (fun r18 hr18 => ?_)
    obtain ⟨w18, rfl, hw18⟩ := hr18
    have hr18 := hw18.1
    have hs18 := hw18.2.1
    refine lv_istore_n (lv' := [(3, .int (iI w18)), (2, .int (iI 0)), (0, .ref (ad 0)), (1, .int (iI k))]) hx hb dX1_depth_21 rfl hl (by decide) rfl (fun ls hl => ?_)
    have loop22 : ∀ (n : Nat) (x2 : Int) (x3 : Int) (ls : Array Slot), x3 + 1 < (n : Int) → (0 ≤ x2 ∧ -1 ≤ x3 ∧ x3 < k) → (rd_dpb Ka x3 = rd_dep Ka k - 1 - x2) → lv_has ls 4 [(0, .ref (ad 0)), (1, .int (iI k)), (2, .int (iI x2)), (3, .int (iI x3))] → W p l e (rmL 1) s m (Value.ref (ad 0) :: [.int (iI k)]).toArray below meth c H locs 0 0 (MQ below (qM (mA ad) (fun r H => mKp G ad cA sz Ka Na H ∧ rd_Dpt sz Ka k r)) (Value.ref (ad 0) :: [.int (iI k)]).toArray s 0 0 (mA ad)) (F0 m 22 ls []) := by
      intro n
      induction n with
      | zero =>
        intro x2 x3 ls hm h1 h2 hl
        exfalso
        omega
      | succ n ih =>
        intro x2 x3 ls hm h1 h2 hl
        refine lv_iload_n hx hb dX1_depth_22 rfl (lv_at hl 3 rfl) ?_
        refine ri_if_lt (tgt := 44) hx hb dX1_depth_23 (by decide) (by omega) (fun c23 => ?_) (fun c23 => ?_)
        · refine lv_iload_n hx hb dX1_depth_44 rfl (lv_at hl 2 rfl) ?_
          refine gM_iret hx hb hr hlocks dX1_depth_45 hS ?_
          have hd1 := rd_dpb_n (K := Ka) (b := x3) (by omega)
          exact ⟨⟨_, _, _, _, hP⟩, Or.inl ⟨c2, by rw [show x2 = rd_dep Ka k by omega]⟩⟩
        · have hd1 := rd_dpb_p (K := Ka) (b := x3) (by omega)
          have hd2 := hW.2.2 x3 (by omega) (by omega)
          have hd3 := rd_dep_le Ka (i := k) (by omega)
          refine lv_iload_n hx hb dX1_depth_26 rfl (lv_at hl 2 rfl) ?_
          refine ri_push hx hb dX1_depth_27 (by decide) ?_
          refine ri_cmp_ge (tgt := 44) hx hb dX1_depth_29 (by decide) (by omega) (fun c29 => by omega) (fun c29 => ?_)
          refine ri_inc (k := 2) (lv1 := [(2, .int (iI (x2 + 1))), (0, .ref (ad 0)), (1, .int (iI k)), (3, .int (iI x3))]) hx hb dX1_depth_32 hl rfl (by decide) rfl (fun ls hl => ?_)
          refine lv_aload_n hx hb dX1_depth_35 rfl (lv_at hl 1 rfl) ?_
          refine lv_iload_n hx hb dX1_depth_36 rfl (lv_at hl 3 rfl) ?_
          refine gR_call (As := [.int (iI x3)]) (rest := []) hx hb hml hown hts (mm_around l G ad cA sz Ka Na Ka Na rd_id Va x3 (by omega) hW) (cwX1_around hts 0 ⟨by decide, by decide⟩) (hP.recv hK) hP hK rfl hl.1 rfl (Nat.le_of_ble_eq_true rfl) dX1_depth_37 ⟨Nat.zero_le _, Nat.zero_le _⟩ (fun r37 hr37 => ?_)
          obtain ⟨w37, rfl, hw37⟩ := hr37
          have hr37 := hw37.1
          have hs37 := hw37.2.1
          refine lv_istore_n (lv' := [(3, .int (iI w37)), (2, .int (iI (x2 + 1))), (0, .ref (ad 0)), (1, .int (iI k))]) hx hb dX1_depth_40 rfl hl (by decide) rfl (fun ls hl => ?_)
          refine lv_goto (tgt := 22) hx hb dX1_depth_41 (by decide) ?_
          exact ih (x2 + 1) w37 ls (by omega) (by omega) (by have := rd_Blk_dpb hw37 (by omega) (hW.2.2 x3 (by omega) (by omega)); omega) (lv_sub hl [2, 3, 1, 0] rfl)
    exact loop22 (Int.toNat ((w18 + 1) + 1)) 0 w18 ls (by omega) (by omega) (by have := rd_Blk_dpb hw18 (by omega) (hW.2.2 k (by omega) (by omega)); omega) (lv_sub hl [2, 3, 1, 0] rfl)
  · refine ri_if_ne (tgt := 10) hx hb dX1_depth_5 (by decide) (by omega) (fun c5 => absurd c5 (by decide)) (fun c5 => ?_)
    refine ri_const hx hb dX1_depth_8 ?_
    refine gM_iret hx hb hr hlocks dX1_depth_9 hS ?_
    exact ⟨⟨_, _, _, _, hP⟩, Or.inr ⟨c2, rfl⟩⟩
set_option maxHeartbeats 4000000 in
set_option maxRecDepth 100000 in
theorem mm_visible (l : Launch) (G : va_G) (ad : Nat → Nat) (cA : ClassId) (sz : Int) (Ka Na Ca Ma Ra Va : Int → Int) (k : Int) (hk : -2147483648 ≤ k ∧ k ≤ 2147483647) (hD : mD ad) (hW : rd_WF sz Ka Na) : gMM l yX1_visible (ws_ yX1_visible cX1_visible 4 (some .int)) (rmL 3) G [(cA, .int)] (mP G ad cA sz Ka Na Ca Ma Ra Va) (ad 0) [.int (iI k)] (mA ad) (fun r H => mKp G ad cA sz Ka Na H ∧ rd_Vib sz Ka Na k r) := by
  refine gMM_of (by decide) (Nat.le_of_ble_eq_true rfl) ?_
  intro p e s m below meth c ls hx hb hr hml hown hlocks hts hP hK hl
  have hown : s.vm.findClass RX1 = some m.cls := hown
  have hl : lv_has ls 4 [(0, .ref (ad 0)), (1, .int (iI k))] := hl
  have hS : va_S (mA ad) s.heap s.heap [] := va_S.rf
  have hsz := hW.1
  refine lv_aload_n hx hb dX1_visible_0 rfl (lv_at hl 0 rfl) ?_
  refine gV_call (As := []) (rest := []) hx hb hml hown hts (mm_copy l G ad cA sz Ka Na Ca Ma Ra Va hD) (cwX1_copy hts 0 ⟨by decide, by decide⟩) (hP.recv hK) hP hK rfl hl.1 rfl (Nat.le_of_ble_eq_true rfl) dX1_visible_1 ⟨Nat.zero_le _, Nat.zero_le _⟩ (fun _ h => h) hS (fun H locs hr1 _ hS => ?_)
  have hP : mP G ad cA sz Ka Na Ka Na rd_id Va H := hr1
  refine ri_const hx hb dX1_visible_4 ?_
  refine lv_istore_n (lv' := [(2, .int (iI 0)), (0, .ref (ad 0)), (1, .int (iI k))]) hx hb dX1_visible_5 rfl hl (by decide) rfl (fun ls hl => ?_)
  refine ri_const hx hb dX1_visible_6 ?_
  refine lv_istore_n (lv' := [(3, .int (iI 0)), (2, .int (iI 0)), (0, .ref (ad 0)), (1, .int (iI k))]) hx hb dX1_visible_7 rfl hl (by decide) rfl (fun ls hl => ?_)
  have loop8 : ∀ (n : Nat) (set : Int32) (x3 : Int) (ls : Array Slot), 8 - x3 < (n : Int) → (0 ≤ x3 ∧ x3 ≤ 8) → (set = rd_set (fun n => ∃ d, rd_Cand Ka Na n k d) x3) → ((0 ≤ k ∧ k < sz) ∨ x3 = 0) → lv_has ls 4 [(0, .ref (ad 0)), (1, .int (iI k)), (2, .int set), (3, .int (iI x3))] → W p l e (rmL 3) s m (Value.ref (ad 0) :: [.int (iI k)]).toArray below meth c H locs 0 0 (MQ below (qM (mA ad) (fun r H => mKp G ad cA sz Ka Na H ∧ rd_Vib sz Ka Na k r)) (Value.ref (ad 0) :: [.int (iI k)]).toArray s 0 0 (mA ad)) (F0 m 8 ls []) := by
    intro n
    induction n with
    | zero =>
      intro set x3 ls hm h1 h2 h3 hl
      exfalso
      omega
    | succ n ih =>
      intro set x3 ls hm h1 h2 h3 hl
      refine lv_iload_n hx hb dX1_visible_8 rfl (lv_at hl 3 rfl) ?_
      refine ri_push hx hb dX1_visible_9 (by decide) ?_
      refine ri_cmp_ge (tgt := 47) hx hb dX1_visible_11 (by decide) (by omega) (fun c11 => ?_) (fun c11 => ?_)
      · refine lv_iload_n hx hb dX1_visible_47 rfl (lv_at hl 2 rfl) ?_
        refine gM_iret hx hb hr hlocks dX1_visible_48 hS ?_
        refine ⟨⟨_, _, _, _, hP⟩, ?_⟩
        exact Or.inl ⟨by omega, by rw [h2, show x3 = 8 by omega]⟩
      · refine lv_aload_n hx hb dX1_visible_14 rfl (lv_at hl 0 rfl) ?_
        refine lv_iload_n hx hb dX1_visible_15 rfl (lv_at hl 1 rfl) ?_
        refine gR_call (As := [.int (iI k)]) (rest := []) hx hb hml hown hts (mm_is l G ad cA sz Ka Na Ka Na rd_id Va k (by omega) hsz) (cwX1_is hts 0 ⟨by decide, by decide⟩) (hP.recv hK) hP hK rfl hl.1 rfl (Nat.le_of_ble_eq_true rfl) dX1_visible_16 ⟨Nat.zero_le _, Nat.zero_le _⟩ (fun r16 hr16 => ?_)
        rcases hr16 with ⟨c16, rfl⟩ | ⟨c16, rfl⟩
        · refine ri_if_eq (tgt := 47) hx hb dX1_visible_19 (by decide) (by omega) (fun c19 => absurd c19 (by decide)) (fun c19 => ?_)
          refine lv_aload_n hx hb dX1_visible_22 rfl (lv_at hl 0 rfl) ?_
          refine lv_iload_n hx hb dX1_visible_23 rfl (lv_at hl 1 rfl) ?_
          refine lv_iload_n hx hb dX1_visible_24 rfl (lv_at hl 3 rfl) ?_
          refine gR_call (As := [.int (iI k), .int (iI x3)]) (rest := []) hx hb hml hown hts (mm_bind l G ad cA sz Ka Na Ka Na rd_id Va k x3 (by omega) (by omega) hW) (cwX1_bind hts 2 ⟨by decide, by decide⟩) (hP.recv hK) hP hK rfl hl.1 rfl (Nat.le_of_ble_eq_true rfl) dX1_visible_25 ⟨Nat.zero_le _, Nat.zero_le _⟩ (fun r25 hr25 => ?_)
          obtain ⟨w25, rfl, hw25⟩ := hr25
          have hr25 := rd_Win_rng hw25 (by omega)
          refine ri_if_lt (tgt := 39) hx hb dX1_visible_28 (by decide) (by omega) (fun c28 => ?_) (fun c28 => ?_)
          · refine lv_iload_n hx hb dX1_visible_39 rfl (lv_at hl 2 rfl) ?_
            refine lv_istore_n (lv' := [(2, .int set), (0, .ref (ad 0)), (1, .int (iI k)), (3, .int (iI x3))]) hx hb dX1_visible_40 rfl hl (by decide) rfl (fun ls hl => ?_)
            refine ri_inc (k := 3) (lv1 := [(3, .int (iI (x3 + 1))), (2, .int set), (0, .ref (ad 0)), (1, .int (iI k))]) hx hb dX1_visible_41 hl rfl (by decide) rfl (fun ls hl => ?_)
            refine lv_goto (tgt := 8) hx hb dX1_visible_44 (by decide) ?_
            exact ih set (x3 + 1) ls (by omega) (by omega) (by rw [rd_set_f (f := fun n => ∃ d, rd_Cand Ka Na n k d) (by omega) (fun q => by obtain ⟨d, q⟩ := q; exact rd_Win_neg hw25 c28 q), h2]) (by omega) (lv_sub hl [2, 3, 1, 0] rfl)
          · refine lv_iload_n hx hb dX1_visible_31 rfl (lv_at hl 2 rfl) ?_
            refine ri_const hx hb dX1_visible_32 ?_
            refine lv_iload_n hx hb dX1_visible_33 rfl (lv_at hl 3 rfl) ?_
            refine lv_ishl hx hb dX1_visible_34 ?_
            refine lv_ior hx hb dX1_visible_35 ?_
            refine lv_goto (tgt := 40) hx hb dX1_visible_36 (by decide) ?_
            refine lv_istore_n (lv' := [(2, .int (set ||| (rd_bit x3))), (0, .ref (ad 0)), (1, .int (iI k)), (3, .int (iI x3))]) hx hb dX1_visible_40 rfl hl (by decide) rfl (fun ls hl => ?_)
            refine ri_inc (k := 3) (lv1 := [(3, .int (iI (x3 + 1))), (2, .int (set ||| (rd_bit x3))), (0, .ref (ad 0)), (1, .int (iI k))]) hx hb dX1_visible_41 hl rfl (by decide) rfl (fun ls hl => ?_)
            refine lv_goto (tgt := 8) hx hb dX1_visible_44 (by decide) ?_
            exact ih (set ||| (rd_bit x3)) (x3 + 1) ls (by omega) (by omega) (by rw [rd_set_t (f := fun n => ∃ d, rd_Cand Ka Na n k d) (by omega) ⟨w25, rd_Win_pos hw25 c28⟩, h2]) (by omega) (lv_sub hl [2, 3, 1, 0] rfl)
        · refine ri_if_eq (tgt := 47) hx hb dX1_visible_19 (by decide) (by omega) (fun c19 => ?_) (fun c19 => absurd c19 (by decide))
          refine lv_iload_n hx hb dX1_visible_47 rfl (lv_at hl 2 rfl) ?_
          refine gM_iret hx hb hr hlocks dX1_visible_48 hS ?_
          refine ⟨⟨_, _, _, _, hP⟩, ?_⟩
          exact Or.inr ⟨c16, by rw [h2, show x3 = 0 by omega]; rfl⟩
  exact loop8 (Int.toNat ((8 - 0) + 1)) (iI 0) 0 ls (by omega) (by omega) (by exact (rd_set_0 _).symm) (by omega) (lv_sub hl [2, 3, 1, 0] rfl)
end
section
def rd_zz : Int → Int := fun _ => 0
theorem init_D {A : Nat → Prop} {ws : va_W} {n : Nat} {ad : Nat → Nat} (hD : va_D A ws) (h : ∀ i, i < n → ∃ e : va_E, ws[i]? = some (ad i, e)) : ∀ i j, i < n → j < n → ad i = ad j → i = j := by
  intro i j hi hj e
  obtain ⟨e1, h1⟩ := h i hi
  obtain ⟨e2, h2⟩ := h j hj
  exact hD.1 i j _ _ h1 h2 e
set_option maxHeartbeats 4000000 in
set_option maxRecDepth 100000 in
/-- RenameDesk(): its arrays are made, all zero -/
theorem dm_init (l : Launch) (G : va_G) (h0 z : Nat) : Met l yX0_init (ws_ yX0_init cX0_init 1 none) ({ frames := 1, cells := 7, slots := 198, locals := 12 }) (va_Pc [.ref h0] (fun U => U.heap.size = z ∧ va_P G vwCl [(h0, .inr (0, [.null, .null, .int (iI 0), .int (iI 0), .null, .null, .null, .null, .null]))] U.heap ∧ va_K G vwCl [] U ∧ va_D (fun _ => True) [(h0, .inr (0, [.null, .null, .int (iI 0), .int (iI 0), .null, .null, .null, .null, .null]))])) (va_Qv (fun _ : Unit => True) (fun _ t => ∃ (ad : Nat → Nat) (cA : ClassId), ad 0 = h0 ∧ dD ad ∧ (∀ q, dA ad q → va_A [(h0, .inr (0, [.null, .null, .int (iI 0), .int (iI 0), .null, .null, .null, .null, .null]))] z q) ∧ dP G ad cA 0 0 rd_zz rd_zz rd_zz rd_zz rd_zz rd_zz rd_zz t.heap ∧ va_K G vwCl [(cA, .byte)] t) (va_A [(h0, .inr (0, [.null, .null, .int (iI 0), .int (iI 0), .null, .null, .null, .null, .null]))] z)) 7 198 (va_A [(h0, .inr (0, [.null, .null, .int (iI 0), .int (iI 0), .null, .null, .null, .null, .null]))] z) := by
  refine Met.ofW (cc := cX0_init) (maxL := 1) (ret := none) (by decide) rfl ?_
  intro p e s m args below meth c s₁ B hml hv
  obtain ⟨rfl, hsz, hP, hK, hD0⟩ := hv
  have hx := B.exec
  have hb := B.bytes
  have hr := B.returns
  have hts := atoms_spec (ws := ws_ yX0_init cX0_init 1 none) B.pre
  have hts : ∀ w ∈ lw_all, w.before _ s = true := fun w h => hts w (List.mem_cons_of_mem _ h)
  have hown : s.vm.findClass RX0 = some m.cls := findClass_of_methodNamed B.named
  have hlocks := B.notSynchronized
  have hin : meth.name = "<init>" := (name_of_methodNamed B.named B.method).1
  subst hsz
  have hD := hD0.self (sz := s.heap.size)
  generalize hAe : va_A [(h0, .inr (0, [.null, .null, .int (iI 0), .int (iI 0), .null, .null, .null, .null, .null]))] s.heap.size = A at hD ⊢
  have hA : ∀ q : Nat, s.heap.size ≤ q → A q := fun q h => by rw [← hAe]; exact Or.inr h
  have hS : va_S A s.heap s.heap [] := va_S.rf
  have hP : va_P G vwCl [(h0, .inr (0, [.null, .null, .int (iI 0), .int (iI 0), .null, .null, .null, .null, .null]))] s.heap := hP
  have hl := lv_entry ([.ref h0]) (n := 1) (Nat.le_of_ble_eq_true rfl)
  rw [lg_entry_eq]
  generalize (lg_sl ([.ref h0]) ++ List.replicate (1 - (lg_sl ([.ref h0])).length) Slot.unset).toArray = ls at hl ⊢
  have hl : lv_has ls 1 [(0, .ref h0)] := hl
  refine lv_aload_n hx hb dX0_init_0 rfl (lv_at hl 0 rfl) ?_
  refine W.objInit hx hb hown (hts _ q31) (hts _ q32) (hts _ q33) rfl (by rw [hml]; exact hl.1) rfl dX0_init_1 (Nat.le_of_ble_eq_true rfl) (Nat.le_of_ble_eq_true rfl) ?_
  refine W.eq (g2 := F0 m 4 ls []) rfl ?_
  refine lv_aload_n hx hb dX0_init_4 rfl (lv_at hl 0 rfl) ?_
  refine ri_push hx hb dX0_init_5 (by decide) ?_
  refine va_newa (atype := .byte) (ty := .byte) (n := iI 28) (N' := 28) (a0 := (28, .inl (cI rd_zz))) hx hb (hts _ q62) rfl hK hP hD hS hA (fun _ => rfl) (by decide) (by decide) (by decide) (Nat.le_of_ble_eq_true rfl) (Nat.le_of_ble_eq_true rfl) dX0_init_7 (fun q1 b1 H hK hP hD hS => ?_)
  have hK : va_K G vwCl [(b1, .byte)] s := hK
  have hP : va_P G vwCl [(h0, .inr (0, [.null, .null, .int (iI 0), .int (iI 0), .null, .null, .null, .null, .null])), (q1, .inl (b1, 28, .inl (cI rd_zz)))] H := hP
  have hD : va_D A [(h0, .inr (0, [.null, .null, .int (iI 0), .int (iI 0), .null, .null, .null, .null, .null])), (q1, .inl (b1, 28, .inl (cI rd_zz)))] := hD
  refine W.widen (k := 1) (n := 28) (Nat.le_of_ble_eq_true rfl) (Nat.le_of_ble_eq_true rfl) ?_
  refine va_putF (D := G) (ci := 0) (v := .ref q1) (ty := .array .byte) (C := RX0) (T := TX0) (N := 9) hx hb hts in_X0 tyX0 tyX0_ok nmX0 hown hK hP hD hS 0 rfl rfl 0 (by decide) (hts _ q34) (fun _ h9 => h9) rfl hin rfl (by decide +kernel) rfl rfl (Nat.le_of_ble_eq_true rfl) dX0_init_9 (fun H locs hP hD hS => ?_)
  have hP : va_P G vwCl [(h0, .inr (0, [.ref q1, .null, .int (iI 0), .int (iI 0), .null, .null, .null, .null, .null])), (q1, .inl (b1, 28, .inl (cI rd_zz)))] H := hP
  have hD : va_D A [(h0, .inr (0, [.ref q1, .null, .int (iI 0), .int (iI 0), .null, .null, .null, .null, .null])), (q1, .inl (b1, 28, .inl (cI rd_zz)))] := hD
  refine lv_aload_n hx hb dX0_init_12 rfl (lv_at hl 0 rfl) ?_
  refine ri_push hx hb dX0_init_13 (by decide) ?_
  refine va_newa (atype := .byte) (ty := .byte) (n := iI 28) (N' := 28) (a0 := (28, .inl (cI rd_zz))) hx hb (hts _ q62) rfl hK hP hD hS hA (fun _ => rfl) (by decide) (by decide) (by decide) (Nat.le_of_ble_eq_true rfl) (Nat.le_of_ble_eq_true rfl) dX0_init_15 (fun q2 b2 H hK hP hD hS => ?_)
  have hK : va_K G vwCl [(b1, .byte), (b2, .byte)] s := hK
  have hP : va_P G vwCl [(h0, .inr (0, [.ref q1, .null, .int (iI 0), .int (iI 0), .null, .null, .null, .null, .null])), (q1, .inl (b1, 28, .inl (cI rd_zz))), (q2, .inl (b2, 28, .inl (cI rd_zz)))] H := hP
  have hD : va_D A [(h0, .inr (0, [.ref q1, .null, .int (iI 0), .int (iI 0), .null, .null, .null, .null, .null])), (q1, .inl (b1, 28, .inl (cI rd_zz))), (q2, .inl (b2, 28, .inl (cI rd_zz)))] := hD
  refine W.widen (k := 2) (n := 56) (Nat.le_of_ble_eq_true rfl) (Nat.le_of_ble_eq_true rfl) ?_
  refine va_putF (D := G) (ci := 0) (v := .ref q2) (ty := .array .byte) (C := RX0) (T := TX0) (N := 9) hx hb hts in_X0 tyX0 tyX0_ok nmX0 hown hK hP hD hS 0 rfl rfl 1 (by decide) (hts _ q35) (fun _ h9 => h9) rfl hin rfl (by decide +kernel) rfl rfl (Nat.le_of_ble_eq_true rfl) dX0_init_17 (fun H locs hP hD hS => ?_)
  have hP : va_P G vwCl [(h0, .inr (0, [.ref q1, .ref q2, .int (iI 0), .int (iI 0), .null, .null, .null, .null, .null])), (q1, .inl (b1, 28, .inl (cI rd_zz))), (q2, .inl (b2, 28, .inl (cI rd_zz)))] H := hP
  have hD : va_D A [(h0, .inr (0, [.ref q1, .ref q2, .int (iI 0), .int (iI 0), .null, .null, .null, .null, .null])), (q1, .inl (b1, 28, .inl (cI rd_zz))), (q2, .inl (b2, 28, .inl (cI rd_zz)))] := hD
  refine lv_aload_n hx hb dX0_init_20 rfl (lv_at hl 0 rfl) ?_
  refine ri_push hx hb dX0_init_21 (by decide) ?_
  refine va_newa (atype := .byte) (ty := .byte) (n := iI 28) (N' := 28) (a0 := (28, .inl (cI rd_zz))) hx hb (hts _ q62) rfl hK hP hD hS hA (fun _ => rfl) (by decide) (by decide) (by decide) (Nat.le_of_ble_eq_true rfl) (Nat.le_of_ble_eq_true rfl) dX0_init_23 (fun q3 b3 H hK hP hD hS => ?_)
  have hK : va_K G vwCl [(b1, .byte), (b2, .byte), (b3, .byte)] s := hK
  have hP : va_P G vwCl [(h0, .inr (0, [.ref q1, .ref q2, .int (iI 0), .int (iI 0), .null, .null, .null, .null, .null])), (q1, .inl (b1, 28, .inl (cI rd_zz))), (q2, .inl (b2, 28, .inl (cI rd_zz))), (q3, .inl (b3, 28, .inl (cI rd_zz)))] H := hP
  have hD : va_D A [(h0, .inr (0, [.ref q1, .ref q2, .int (iI 0), .int (iI 0), .null, .null, .null, .null, .null])), (q1, .inl (b1, 28, .inl (cI rd_zz))), (q2, .inl (b2, 28, .inl (cI rd_zz))), (q3, .inl (b3, 28, .inl (cI rd_zz)))] := hD
  refine W.widen (k := 3) (n := 84) (Nat.le_of_ble_eq_true rfl) (Nat.le_of_ble_eq_true rfl) ?_
  refine va_putF (D := G) (ci := 0) (v := .ref q3) (ty := .array .byte) (C := RX0) (T := TX0) (N := 9) hx hb hts in_X0 tyX0 tyX0_ok nmX0 hown hK hP hD hS 0 rfl rfl 4 (by decide) (hts _ q38) (fun _ h9 => h9) rfl hin rfl (by decide +kernel) rfl rfl (Nat.le_of_ble_eq_true rfl) dX0_init_25 (fun H locs hP hD hS => ?_)
  have hP : va_P G vwCl [(h0, .inr (0, [.ref q1, .ref q2, .int (iI 0), .int (iI 0), .ref q3, .null, .null, .null, .null])), (q1, .inl (b1, 28, .inl (cI rd_zz))), (q2, .inl (b2, 28, .inl (cI rd_zz))), (q3, .inl (b3, 28, .inl (cI rd_zz)))] H := hP
  have hD : va_D A [(h0, .inr (0, [.ref q1, .ref q2, .int (iI 0), .int (iI 0), .ref q3, .null, .null, .null, .null])), (q1, .inl (b1, 28, .inl (cI rd_zz))), (q2, .inl (b2, 28, .inl (cI rd_zz))), (q3, .inl (b3, 28, .inl (cI rd_zz)))] := hD
  refine lv_aload_n hx hb dX0_init_28 rfl (lv_at hl 0 rfl) ?_
  refine ri_push hx hb dX0_init_29 (by decide) ?_
  refine va_newa (atype := .byte) (ty := .byte) (n := iI 28) (N' := 28) (a0 := (28, .inl (cI rd_zz))) hx hb (hts _ q62) rfl hK hP hD hS hA (fun _ => rfl) (by decide) (by decide) (by decide) (Nat.le_of_ble_eq_true rfl) (Nat.le_of_ble_eq_true rfl) dX0_init_31 (fun q4 b4 H hK hP hD hS => ?_)
  have hK : va_K G vwCl [(b1, .byte), (b2, .byte), (b3, .byte), (b4, .byte)] s := hK
  have hP : va_P G vwCl [(h0, .inr (0, [.ref q1, .ref q2, .int (iI 0), .int (iI 0), .ref q3, .null, .null, .null, .null])), (q1, .inl (b1, 28, .inl (cI rd_zz))), (q2, .inl (b2, 28, .inl (cI rd_zz))), (q3, .inl (b3, 28, .inl (cI rd_zz))), (q4, .inl (b4, 28, .inl (cI rd_zz)))] H := hP
  have hD : va_D A [(h0, .inr (0, [.ref q1, .ref q2, .int (iI 0), .int (iI 0), .ref q3, .null, .null, .null, .null])), (q1, .inl (b1, 28, .inl (cI rd_zz))), (q2, .inl (b2, 28, .inl (cI rd_zz))), (q3, .inl (b3, 28, .inl (cI rd_zz))), (q4, .inl (b4, 28, .inl (cI rd_zz)))] := hD
  refine W.widen (k := 4) (n := 112) (Nat.le_of_ble_eq_true rfl) (Nat.le_of_ble_eq_true rfl) ?_
  refine va_putF (D := G) (ci := 0) (v := .ref q4) (ty := .array .byte) (C := RX0) (T := TX0) (N := 9) hx hb hts in_X0 tyX0 tyX0_ok nmX0 hown hK hP hD hS 0 rfl rfl 5 (by decide) (hts _ q39) (fun _ h9 => h9) rfl hin rfl (by decide +kernel) rfl rfl (Nat.le_of_ble_eq_true rfl) dX0_init_33 (fun H locs hP hD hS => ?_)
  have hP : va_P G vwCl [(h0, .inr (0, [.ref q1, .ref q2, .int (iI 0), .int (iI 0), .ref q3, .ref q4, .null, .null, .null])), (q1, .inl (b1, 28, .inl (cI rd_zz))), (q2, .inl (b2, 28, .inl (cI rd_zz))), (q3, .inl (b3, 28, .inl (cI rd_zz))), (q4, .inl (b4, 28, .inl (cI rd_zz)))] H := hP
  have hD : va_D A [(h0, .inr (0, [.ref q1, .ref q2, .int (iI 0), .int (iI 0), .ref q3, .ref q4, .null, .null, .null])), (q1, .inl (b1, 28, .inl (cI rd_zz))), (q2, .inl (b2, 28, .inl (cI rd_zz))), (q3, .inl (b3, 28, .inl (cI rd_zz))), (q4, .inl (b4, 28, .inl (cI rd_zz)))] := hD
  refine lv_aload_n hx hb dX0_init_36 rfl (lv_at hl 0 rfl) ?_
  refine ri_push hx hb dX0_init_37 (by decide) ?_
  refine va_newa (atype := .byte) (ty := .byte) (n := iI 28) (N' := 28) (a0 := (28, .inl (cI rd_zz))) hx hb (hts _ q62) rfl hK hP hD hS hA (fun _ => rfl) (by decide) (by decide) (by decide) (Nat.le_of_ble_eq_true rfl) (Nat.le_of_ble_eq_true rfl) dX0_init_39 (fun q5 b5 H hK hP hD hS => ?_)
  have hK : va_K G vwCl [(b1, .byte), (b2, .byte), (b3, .byte), (b4, .byte), (b5, .byte)] s := hK
  have hP : va_P G vwCl [(h0, .inr (0, [.ref q1, .ref q2, .int (iI 0), .int (iI 0), .ref q3, .ref q4, .null, .null, .null])), (q1, .inl (b1, 28, .inl (cI rd_zz))), (q2, .inl (b2, 28, .inl (cI rd_zz))), (q3, .inl (b3, 28, .inl (cI rd_zz))), (q4, .inl (b4, 28, .inl (cI rd_zz))), (q5, .inl (b5, 28, .inl (cI rd_zz)))] H := hP
  have hD : va_D A [(h0, .inr (0, [.ref q1, .ref q2, .int (iI 0), .int (iI 0), .ref q3, .ref q4, .null, .null, .null])), (q1, .inl (b1, 28, .inl (cI rd_zz))), (q2, .inl (b2, 28, .inl (cI rd_zz))), (q3, .inl (b3, 28, .inl (cI rd_zz))), (q4, .inl (b4, 28, .inl (cI rd_zz))), (q5, .inl (b5, 28, .inl (cI rd_zz)))] := hD
  refine W.widen (k := 5) (n := 140) (Nat.le_of_ble_eq_true rfl) (Nat.le_of_ble_eq_true rfl) ?_
  refine va_putF (D := G) (ci := 0) (v := .ref q5) (ty := .array .byte) (C := RX0) (T := TX0) (N := 9) hx hb hts in_X0 tyX0 tyX0_ok nmX0 hown hK hP hD hS 0 rfl rfl 6 (by decide) (hts _ q40) (fun _ h9 => h9) rfl hin rfl (by decide +kernel) rfl rfl (Nat.le_of_ble_eq_true rfl) dX0_init_41 (fun H locs hP hD hS => ?_)
  have hP : va_P G vwCl [(h0, .inr (0, [.ref q1, .ref q2, .int (iI 0), .int (iI 0), .ref q3, .ref q4, .ref q5, .null, .null])), (q1, .inl (b1, 28, .inl (cI rd_zz))), (q2, .inl (b2, 28, .inl (cI rd_zz))), (q3, .inl (b3, 28, .inl (cI rd_zz))), (q4, .inl (b4, 28, .inl (cI rd_zz))), (q5, .inl (b5, 28, .inl (cI rd_zz)))] H := hP
  have hD : va_D A [(h0, .inr (0, [.ref q1, .ref q2, .int (iI 0), .int (iI 0), .ref q3, .ref q4, .ref q5, .null, .null])), (q1, .inl (b1, 28, .inl (cI rd_zz))), (q2, .inl (b2, 28, .inl (cI rd_zz))), (q3, .inl (b3, 28, .inl (cI rd_zz))), (q4, .inl (b4, 28, .inl (cI rd_zz))), (q5, .inl (b5, 28, .inl (cI rd_zz)))] := hD
  refine lv_aload_n hx hb dX0_init_44 rfl (lv_at hl 0 rfl) ?_
  refine ri_push hx hb dX0_init_45 (by decide) ?_
  refine va_newa (atype := .byte) (ty := .byte) (n := iI 28) (N' := 28) (a0 := (28, .inl (cI rd_zz))) hx hb (hts _ q62) rfl hK hP hD hS hA (fun _ => rfl) (by decide) (by decide) (by decide) (Nat.le_of_ble_eq_true rfl) (Nat.le_of_ble_eq_true rfl) dX0_init_47 (fun q6 b6 H hK hP hD hS => ?_)
  have hK : va_K G vwCl [(b1, .byte), (b2, .byte), (b3, .byte), (b4, .byte), (b5, .byte), (b6, .byte)] s := hK
  have hP : va_P G vwCl [(h0, .inr (0, [.ref q1, .ref q2, .int (iI 0), .int (iI 0), .ref q3, .ref q4, .ref q5, .null, .null])), (q1, .inl (b1, 28, .inl (cI rd_zz))), (q2, .inl (b2, 28, .inl (cI rd_zz))), (q3, .inl (b3, 28, .inl (cI rd_zz))), (q4, .inl (b4, 28, .inl (cI rd_zz))), (q5, .inl (b5, 28, .inl (cI rd_zz))), (q6, .inl (b6, 28, .inl (cI rd_zz)))] H := hP
  have hD : va_D A [(h0, .inr (0, [.ref q1, .ref q2, .int (iI 0), .int (iI 0), .ref q3, .ref q4, .ref q5, .null, .null])), (q1, .inl (b1, 28, .inl (cI rd_zz))), (q2, .inl (b2, 28, .inl (cI rd_zz))), (q3, .inl (b3, 28, .inl (cI rd_zz))), (q4, .inl (b4, 28, .inl (cI rd_zz))), (q5, .inl (b5, 28, .inl (cI rd_zz))), (q6, .inl (b6, 28, .inl (cI rd_zz)))] := hD
  refine W.widen (k := 6) (n := 168) (Nat.le_of_ble_eq_true rfl) (Nat.le_of_ble_eq_true rfl) ?_
  refine va_putF (D := G) (ci := 0) (v := .ref q6) (ty := .array .byte) (C := RX0) (T := TX0) (N := 9) hx hb hts in_X0 tyX0 tyX0_ok nmX0 hown hK hP hD hS 0 rfl rfl 7 (by decide) (hts _ q41) (fun _ h9 => h9) rfl hin rfl (by decide +kernel) rfl rfl (Nat.le_of_ble_eq_true rfl) dX0_init_49 (fun H locs hP hD hS => ?_)
  have hP : va_P G vwCl [(h0, .inr (0, [.ref q1, .ref q2, .int (iI 0), .int (iI 0), .ref q3, .ref q4, .ref q5, .ref q6, .null])), (q1, .inl (b1, 28, .inl (cI rd_zz))), (q2, .inl (b2, 28, .inl (cI rd_zz))), (q3, .inl (b3, 28, .inl (cI rd_zz))), (q4, .inl (b4, 28, .inl (cI rd_zz))), (q5, .inl (b5, 28, .inl (cI rd_zz))), (q6, .inl (b6, 28, .inl (cI rd_zz)))] H := hP
  have hD : va_D A [(h0, .inr (0, [.ref q1, .ref q2, .int (iI 0), .int (iI 0), .ref q3, .ref q4, .ref q5, .ref q6, .null])), (q1, .inl (b1, 28, .inl (cI rd_zz))), (q2, .inl (b2, 28, .inl (cI rd_zz))), (q3, .inl (b3, 28, .inl (cI rd_zz))), (q4, .inl (b4, 28, .inl (cI rd_zz))), (q5, .inl (b5, 28, .inl (cI rd_zz))), (q6, .inl (b6, 28, .inl (cI rd_zz)))] := hD
  refine lv_aload_n hx hb dX0_init_52 rfl (lv_at hl 0 rfl) ?_
  refine ri_push hx hb dX0_init_53 (by decide) ?_
  refine va_newa (atype := .byte) (ty := .byte) (n := iI 30) (N' := 30) (a0 := (30, .inl (cI rd_zz))) hx hb (hts _ q62) rfl hK hP hD hS hA (fun _ => rfl) (by decide) (by decide) (by decide) (Nat.le_of_ble_eq_true rfl) (Nat.le_of_ble_eq_true rfl) dX0_init_55 (fun q7 b7 H hK hP hD hS => ?_)
  have hK : va_K G vwCl [(b1, .byte), (b2, .byte), (b3, .byte), (b4, .byte), (b5, .byte), (b6, .byte), (b7, .byte)] s := hK
  have hP : va_P G vwCl [(h0, .inr (0, [.ref q1, .ref q2, .int (iI 0), .int (iI 0), .ref q3, .ref q4, .ref q5, .ref q6, .null])), (q1, .inl (b1, 28, .inl (cI rd_zz))), (q2, .inl (b2, 28, .inl (cI rd_zz))), (q3, .inl (b3, 28, .inl (cI rd_zz))), (q4, .inl (b4, 28, .inl (cI rd_zz))), (q5, .inl (b5, 28, .inl (cI rd_zz))), (q6, .inl (b6, 28, .inl (cI rd_zz))), (q7, .inl (b7, 30, .inl (cI rd_zz)))] H := hP
  have hD : va_D A [(h0, .inr (0, [.ref q1, .ref q2, .int (iI 0), .int (iI 0), .ref q3, .ref q4, .ref q5, .ref q6, .null])), (q1, .inl (b1, 28, .inl (cI rd_zz))), (q2, .inl (b2, 28, .inl (cI rd_zz))), (q3, .inl (b3, 28, .inl (cI rd_zz))), (q4, .inl (b4, 28, .inl (cI rd_zz))), (q5, .inl (b5, 28, .inl (cI rd_zz))), (q6, .inl (b6, 28, .inl (cI rd_zz))), (q7, .inl (b7, 30, .inl (cI rd_zz)))] := hD
  refine W.widen (k := 7) (n := 198) (Nat.le_of_ble_eq_true rfl) (Nat.le_of_ble_eq_true rfl) ?_
  refine va_putF (D := G) (ci := 0) (v := .ref q7) (ty := .array .byte) (C := RX0) (T := TX0) (N := 9) hx hb hts in_X0 tyX0 tyX0_ok nmX0 hown hK hP hD hS 0 rfl rfl 8 (by decide) (hts _ q42) (fun _ h9 => h9) rfl hin rfl (by decide +kernel) rfl rfl (Nat.le_of_ble_eq_true rfl) dX0_init_57 (fun H locs hP hD hS => ?_)
  have hP : va_P G vwCl [(h0, .inr (0, [.ref q1, .ref q2, .int (iI 0), .int (iI 0), .ref q3, .ref q4, .ref q5, .ref q6, .ref q7])), (q1, .inl (b1, 28, .inl (cI rd_zz))), (q2, .inl (b2, 28, .inl (cI rd_zz))), (q3, .inl (b3, 28, .inl (cI rd_zz))), (q4, .inl (b4, 28, .inl (cI rd_zz))), (q5, .inl (b5, 28, .inl (cI rd_zz))), (q6, .inl (b6, 28, .inl (cI rd_zz))), (q7, .inl (b7, 30, .inl (cI rd_zz)))] H := hP
  have hD : va_D A [(h0, .inr (0, [.ref q1, .ref q2, .int (iI 0), .int (iI 0), .ref q3, .ref q4, .ref q5, .ref q6, .ref q7])), (q1, .inl (b1, 28, .inl (cI rd_zz))), (q2, .inl (b2, 28, .inl (cI rd_zz))), (q3, .inl (b3, 28, .inl (cI rd_zz))), (q4, .inl (b4, 28, .inl (cI rd_zz))), (q5, .inl (b5, 28, .inl (cI rd_zz))), (q6, .inl (b6, 28, .inl (cI rd_zz))), (q7, .inl (b7, 30, .inl (cI rd_zz)))] := hD
  have hb2 : b2 = b1 := Option.some.inj ((hK.2 1 _ rfl).2.symm.trans (hK.2 0 _ rfl).2)
  have hb3 : b3 = b1 := Option.some.inj ((hK.2 2 _ rfl).2.symm.trans (hK.2 0 _ rfl).2)
  have hb4 : b4 = b1 := Option.some.inj ((hK.2 3 _ rfl).2.symm.trans (hK.2 0 _ rfl).2)
  have hb5 : b5 = b1 := Option.some.inj ((hK.2 4 _ rfl).2.symm.trans (hK.2 0 _ rfl).2)
  have hb6 : b6 = b1 := Option.some.inj ((hK.2 5 _ rfl).2.symm.trans (hK.2 0 _ rfl).2)
  have hb7 : b7 = b1 := Option.some.inj ((hK.2 6 _ rfl).2.symm.trans (hK.2 0 _ rfl).2)
  subst hb2
  subst hb3
  subst hb4
  subst hb5
  subst hb6
  subst hb7
  have hK9 := hK.sub [0] rfl
  have key : ∃ (ad : Nat → Nat) (cA : ClassId), ad 0 = h0 ∧ dD ad ∧ (∀ q, dA ad q → A q) ∧ dP G ad cA 0 0 rd_zz rd_zz rd_zz rd_zz rd_zz rd_zz rd_zz H ∧ va_K G vwCl [(cA, .byte)] s := by
    refine ⟨fun i => ([h0, q1, q2, q3, q4, q5, q6, q7] : List Nat).getD i 0, _, rfl, ?_, ?_, hP, hK9⟩
    · exact init_D hD (fun i hi => by match i, hi with
                                   | 0, _ => exact ⟨_, rfl⟩
                                   | 1, _ => exact ⟨_, rfl⟩
                                   | 2, _ => exact ⟨_, rfl⟩
                                   | 3, _ => exact ⟨_, rfl⟩
                                   | 4, _ => exact ⟨_, rfl⟩
                                   | 5, _ => exact ⟨_, rfl⟩
                                   | 6, _ => exact ⟨_, rfl⟩
                                   | 7, _ => exact ⟨_, rfl⟩
                                   | i + 8, h => omega)
    · rintro q ⟨i, hi, rfl⟩
      match i, hi with
      | 0, _ => exact hD.2 0 _ rfl
      | 1, _ => exact hD.2 1 _ rfl
      | 2, _ => exact hD.2 2 _ rfl
      | 3, _ => exact hD.2 3 _ rfl
      | 4, _ => exact hD.2 4 _ rfl
      | 5, _ => exact hD.2 5 _ rfl
      | 6, _ => exact hD.2 6 _ rfl
      | 7, _ => exact hD.2 7 _ rfl
      | i + 8, h => omega
  obtain ⟨ad, cA, k1, k2, k3, k4, k5⟩ := key
  exact W.vret hx hb hr (fun t ht hW => ⟨⟨(), rfl, trivial, ad, cA, k1, k2, k3, by rw [ht]; exact k4, va_K.moved hW.alike k5⟩, hS.F ht⟩) hS.2.2 dX0_init_60
set_option maxHeartbeats 4000000 in
set_option maxRecDepth 100000 in
/-- RenameDeskModel(): its arrays are made, all zero -/
theorem mm_init (l : Launch) (G : va_G) (h0 z : Nat) : Met l yX1_init (ws_ yX1_init cX1_init 1 none) ({ frames := 1, cells := 6, slots := 168, locals := 12 }) (va_Pc [.ref h0] (fun U => U.heap.size = z ∧ va_P G vwCl [(h0, .inr (1, [.int (iI 0), .null, .null, .null, .null, .null, .null]))] U.heap ∧ va_K G vwCl [] U ∧ va_D (fun _ => True) [(h0, .inr (1, [.int (iI 0), .null, .null, .null, .null, .null, .null]))])) (va_Qv (fun _ : Unit => True) (fun _ t => ∃ (ad : Nat → Nat) (cA : ClassId), ad 0 = h0 ∧ mD ad ∧ (∀ q, mA ad q → va_A [(h0, .inr (1, [.int (iI 0), .null, .null, .null, .null, .null, .null]))] z q) ∧ mP G ad cA 0 rd_zz rd_zz rd_zz rd_zz rd_zz rd_zz t.heap ∧ va_K G vwCl [(cA, .int)] t) (va_A [(h0, .inr (1, [.int (iI 0), .null, .null, .null, .null, .null, .null]))] z)) 6 168 (va_A [(h0, .inr (1, [.int (iI 0), .null, .null, .null, .null, .null, .null]))] z) := by
  refine Met.ofW (cc := cX1_init) (maxL := 1) (ret := none) (by decide) rfl ?_
  intro p e s m args below meth c s₁ B hml hv
  obtain ⟨rfl, hsz, hP, hK, hD0⟩ := hv
  have hx := B.exec
  have hb := B.bytes
  have hr := B.returns
  have hts := atoms_spec (ws := ws_ yX1_init cX1_init 1 none) B.pre
  have hts : ∀ w ∈ lw_all, w.before _ s = true := fun w h => hts w (List.mem_cons_of_mem _ h)
  have hown : s.vm.findClass RX1 = some m.cls := findClass_of_methodNamed B.named
  have hlocks := B.notSynchronized
  have hin : meth.name = "<init>" := (name_of_methodNamed B.named B.method).1
  subst hsz
  have hD := hD0.self (sz := s.heap.size)
  generalize hAe : va_A [(h0, .inr (1, [.int (iI 0), .null, .null, .null, .null, .null, .null]))] s.heap.size = A at hD ⊢
  have hA : ∀ q : Nat, s.heap.size ≤ q → A q := fun q h => by rw [← hAe]; exact Or.inr h
  have hS : va_S A s.heap s.heap [] := va_S.rf
  have hP : va_P G vwCl [(h0, .inr (1, [.int (iI 0), .null, .null, .null, .null, .null, .null]))] s.heap := hP
  have hl := lv_entry ([.ref h0]) (n := 1) (Nat.le_of_ble_eq_true rfl)
  rw [lg_entry_eq]
  generalize (lg_sl ([.ref h0]) ++ List.replicate (1 - (lg_sl ([.ref h0])).length) Slot.unset).toArray = ls at hl ⊢
  have hl : lv_has ls 1 [(0, .ref h0)] := hl
  refine lv_aload_n hx hb dX1_init_0 rfl (lv_at hl 0 rfl) ?_
  refine W.objInit hx hb hown (hts _ q173) (hts _ q32) (hts _ q33) rfl (by rw [hml]; exact hl.1) rfl dX1_init_1 (Nat.le_of_ble_eq_true rfl) (Nat.le_of_ble_eq_true rfl) ?_
  refine W.eq (g2 := F0 m 4 ls []) rfl ?_
  refine lv_aload_n hx hb dX1_init_4 rfl (lv_at hl 0 rfl) ?_
  refine ri_push hx hb dX1_init_5 (by decide) ?_
  refine va_newa (atype := .int) (ty := .int) (n := iI 28) (N' := 28) (a0 := (28, .inl (cI rd_zz))) hx hb (hts _ q196) rfl hK hP hD hS hA (fun _ => rfl) (by decide) (by decide) (by decide) (Nat.le_of_ble_eq_true rfl) (Nat.le_of_ble_eq_true rfl) dX1_init_7 (fun q1 b1 H hK hP hD hS => ?_)
  have hK : va_K G vwCl [(b1, .int)] s := hK
  have hP : va_P G vwCl [(h0, .inr (1, [.int (iI 0), .null, .null, .null, .null, .null, .null])), (q1, .inl (b1, 28, .inl (cI rd_zz)))] H := hP
  have hD : va_D A [(h0, .inr (1, [.int (iI 0), .null, .null, .null, .null, .null, .null])), (q1, .inl (b1, 28, .inl (cI rd_zz)))] := hD
  refine W.widen (k := 1) (n := 28) (Nat.le_of_ble_eq_true rfl) (Nat.le_of_ble_eq_true rfl) ?_
  refine va_put (D := G) (ci := 1) (v := .ref q1) (ty := .array .int) (C := RX1) (T := TX1) (N := 7) hx hb hts in_X1 tyX1 tyX1_ok nmX1 hown hK hP hD hS 0 rfl rfl 1 (by decide) (hts _ q175) (fun _ h9 => h9) rfl (by decide +kernel) rfl rfl (Nat.le_of_ble_eq_true rfl) dX1_init_9 (fun H locs hP hD hS => ?_)
  have hP : va_P G vwCl [(h0, .inr (1, [.int (iI 0), .ref q1, .null, .null, .null, .null, .null])), (q1, .inl (b1, 28, .inl (cI rd_zz)))] H := hP
  have hD : va_D A [(h0, .inr (1, [.int (iI 0), .ref q1, .null, .null, .null, .null, .null])), (q1, .inl (b1, 28, .inl (cI rd_zz)))] := hD
  refine lv_aload_n hx hb dX1_init_12 rfl (lv_at hl 0 rfl) ?_
  refine ri_push hx hb dX1_init_13 (by decide) ?_
  refine va_newa (atype := .int) (ty := .int) (n := iI 28) (N' := 28) (a0 := (28, .inl (cI rd_zz))) hx hb (hts _ q196) rfl hK hP hD hS hA (fun _ => rfl) (by decide) (by decide) (by decide) (Nat.le_of_ble_eq_true rfl) (Nat.le_of_ble_eq_true rfl) dX1_init_15 (fun q2 b2 H hK hP hD hS => ?_)
  have hK : va_K G vwCl [(b1, .int), (b2, .int)] s := hK
  have hP : va_P G vwCl [(h0, .inr (1, [.int (iI 0), .ref q1, .null, .null, .null, .null, .null])), (q1, .inl (b1, 28, .inl (cI rd_zz))), (q2, .inl (b2, 28, .inl (cI rd_zz)))] H := hP
  have hD : va_D A [(h0, .inr (1, [.int (iI 0), .ref q1, .null, .null, .null, .null, .null])), (q1, .inl (b1, 28, .inl (cI rd_zz))), (q2, .inl (b2, 28, .inl (cI rd_zz)))] := hD
  refine W.widen (k := 2) (n := 56) (Nat.le_of_ble_eq_true rfl) (Nat.le_of_ble_eq_true rfl) ?_
  refine va_put (D := G) (ci := 1) (v := .ref q2) (ty := .array .int) (C := RX1) (T := TX1) (N := 7) hx hb hts in_X1 tyX1 tyX1_ok nmX1 hown hK hP hD hS 0 rfl rfl 2 (by decide) (hts _ q176) (fun _ h9 => h9) rfl (by decide +kernel) rfl rfl (Nat.le_of_ble_eq_true rfl) dX1_init_17 (fun H locs hP hD hS => ?_)
  have hP : va_P G vwCl [(h0, .inr (1, [.int (iI 0), .ref q1, .ref q2, .null, .null, .null, .null])), (q1, .inl (b1, 28, .inl (cI rd_zz))), (q2, .inl (b2, 28, .inl (cI rd_zz)))] H := hP
  have hD : va_D A [(h0, .inr (1, [.int (iI 0), .ref q1, .ref q2, .null, .null, .null, .null])), (q1, .inl (b1, 28, .inl (cI rd_zz))), (q2, .inl (b2, 28, .inl (cI rd_zz)))] := hD
  refine lv_aload_n hx hb dX1_init_20 rfl (lv_at hl 0 rfl) ?_
  refine ri_push hx hb dX1_init_21 (by decide) ?_
  refine va_newa (atype := .int) (ty := .int) (n := iI 28) (N' := 28) (a0 := (28, .inl (cI rd_zz))) hx hb (hts _ q196) rfl hK hP hD hS hA (fun _ => rfl) (by decide) (by decide) (by decide) (Nat.le_of_ble_eq_true rfl) (Nat.le_of_ble_eq_true rfl) dX1_init_23 (fun q3 b3 H hK hP hD hS => ?_)
  have hK : va_K G vwCl [(b1, .int), (b2, .int), (b3, .int)] s := hK
  have hP : va_P G vwCl [(h0, .inr (1, [.int (iI 0), .ref q1, .ref q2, .null, .null, .null, .null])), (q1, .inl (b1, 28, .inl (cI rd_zz))), (q2, .inl (b2, 28, .inl (cI rd_zz))), (q3, .inl (b3, 28, .inl (cI rd_zz)))] H := hP
  have hD : va_D A [(h0, .inr (1, [.int (iI 0), .ref q1, .ref q2, .null, .null, .null, .null])), (q1, .inl (b1, 28, .inl (cI rd_zz))), (q2, .inl (b2, 28, .inl (cI rd_zz))), (q3, .inl (b3, 28, .inl (cI rd_zz)))] := hD
  refine W.widen (k := 3) (n := 84) (Nat.le_of_ble_eq_true rfl) (Nat.le_of_ble_eq_true rfl) ?_
  refine va_put (D := G) (ci := 1) (v := .ref q3) (ty := .array .int) (C := RX1) (T := TX1) (N := 7) hx hb hts in_X1 tyX1 tyX1_ok nmX1 hown hK hP hD hS 0 rfl rfl 3 (by decide) (hts _ q177) (fun _ h9 => h9) rfl (by decide +kernel) rfl rfl (Nat.le_of_ble_eq_true rfl) dX1_init_25 (fun H locs hP hD hS => ?_)
  have hP : va_P G vwCl [(h0, .inr (1, [.int (iI 0), .ref q1, .ref q2, .ref q3, .null, .null, .null])), (q1, .inl (b1, 28, .inl (cI rd_zz))), (q2, .inl (b2, 28, .inl (cI rd_zz))), (q3, .inl (b3, 28, .inl (cI rd_zz)))] H := hP
  have hD : va_D A [(h0, .inr (1, [.int (iI 0), .ref q1, .ref q2, .ref q3, .null, .null, .null])), (q1, .inl (b1, 28, .inl (cI rd_zz))), (q2, .inl (b2, 28, .inl (cI rd_zz))), (q3, .inl (b3, 28, .inl (cI rd_zz)))] := hD
  refine lv_aload_n hx hb dX1_init_28 rfl (lv_at hl 0 rfl) ?_
  refine ri_push hx hb dX1_init_29 (by decide) ?_
  refine va_newa (atype := .int) (ty := .int) (n := iI 28) (N' := 28) (a0 := (28, .inl (cI rd_zz))) hx hb (hts _ q196) rfl hK hP hD hS hA (fun _ => rfl) (by decide) (by decide) (by decide) (Nat.le_of_ble_eq_true rfl) (Nat.le_of_ble_eq_true rfl) dX1_init_31 (fun q4 b4 H hK hP hD hS => ?_)
  have hK : va_K G vwCl [(b1, .int), (b2, .int), (b3, .int), (b4, .int)] s := hK
  have hP : va_P G vwCl [(h0, .inr (1, [.int (iI 0), .ref q1, .ref q2, .ref q3, .null, .null, .null])), (q1, .inl (b1, 28, .inl (cI rd_zz))), (q2, .inl (b2, 28, .inl (cI rd_zz))), (q3, .inl (b3, 28, .inl (cI rd_zz))), (q4, .inl (b4, 28, .inl (cI rd_zz)))] H := hP
  have hD : va_D A [(h0, .inr (1, [.int (iI 0), .ref q1, .ref q2, .ref q3, .null, .null, .null])), (q1, .inl (b1, 28, .inl (cI rd_zz))), (q2, .inl (b2, 28, .inl (cI rd_zz))), (q3, .inl (b3, 28, .inl (cI rd_zz))), (q4, .inl (b4, 28, .inl (cI rd_zz)))] := hD
  refine W.widen (k := 4) (n := 112) (Nat.le_of_ble_eq_true rfl) (Nat.le_of_ble_eq_true rfl) ?_
  refine va_put (D := G) (ci := 1) (v := .ref q4) (ty := .array .int) (C := RX1) (T := TX1) (N := 7) hx hb hts in_X1 tyX1 tyX1_ok nmX1 hown hK hP hD hS 0 rfl rfl 4 (by decide) (hts _ q178) (fun _ h9 => h9) rfl (by decide +kernel) rfl rfl (Nat.le_of_ble_eq_true rfl) dX1_init_33 (fun H locs hP hD hS => ?_)
  have hP : va_P G vwCl [(h0, .inr (1, [.int (iI 0), .ref q1, .ref q2, .ref q3, .ref q4, .null, .null])), (q1, .inl (b1, 28, .inl (cI rd_zz))), (q2, .inl (b2, 28, .inl (cI rd_zz))), (q3, .inl (b3, 28, .inl (cI rd_zz))), (q4, .inl (b4, 28, .inl (cI rd_zz)))] H := hP
  have hD : va_D A [(h0, .inr (1, [.int (iI 0), .ref q1, .ref q2, .ref q3, .ref q4, .null, .null])), (q1, .inl (b1, 28, .inl (cI rd_zz))), (q2, .inl (b2, 28, .inl (cI rd_zz))), (q3, .inl (b3, 28, .inl (cI rd_zz))), (q4, .inl (b4, 28, .inl (cI rd_zz)))] := hD
  refine lv_aload_n hx hb dX1_init_36 rfl (lv_at hl 0 rfl) ?_
  refine ri_push hx hb dX1_init_37 (by decide) ?_
  refine va_newa (atype := .int) (ty := .int) (n := iI 28) (N' := 28) (a0 := (28, .inl (cI rd_zz))) hx hb (hts _ q196) rfl hK hP hD hS hA (fun _ => rfl) (by decide) (by decide) (by decide) (Nat.le_of_ble_eq_true rfl) (Nat.le_of_ble_eq_true rfl) dX1_init_39 (fun q5 b5 H hK hP hD hS => ?_)
  have hK : va_K G vwCl [(b1, .int), (b2, .int), (b3, .int), (b4, .int), (b5, .int)] s := hK
  have hP : va_P G vwCl [(h0, .inr (1, [.int (iI 0), .ref q1, .ref q2, .ref q3, .ref q4, .null, .null])), (q1, .inl (b1, 28, .inl (cI rd_zz))), (q2, .inl (b2, 28, .inl (cI rd_zz))), (q3, .inl (b3, 28, .inl (cI rd_zz))), (q4, .inl (b4, 28, .inl (cI rd_zz))), (q5, .inl (b5, 28, .inl (cI rd_zz)))] H := hP
  have hD : va_D A [(h0, .inr (1, [.int (iI 0), .ref q1, .ref q2, .ref q3, .ref q4, .null, .null])), (q1, .inl (b1, 28, .inl (cI rd_zz))), (q2, .inl (b2, 28, .inl (cI rd_zz))), (q3, .inl (b3, 28, .inl (cI rd_zz))), (q4, .inl (b4, 28, .inl (cI rd_zz))), (q5, .inl (b5, 28, .inl (cI rd_zz)))] := hD
  refine W.widen (k := 5) (n := 140) (Nat.le_of_ble_eq_true rfl) (Nat.le_of_ble_eq_true rfl) ?_
  refine va_put (D := G) (ci := 1) (v := .ref q5) (ty := .array .int) (C := RX1) (T := TX1) (N := 7) hx hb hts in_X1 tyX1 tyX1_ok nmX1 hown hK hP hD hS 0 rfl rfl 5 (by decide) (hts _ q179) (fun _ h9 => h9) rfl (by decide +kernel) rfl rfl (Nat.le_of_ble_eq_true rfl) dX1_init_41 (fun H locs hP hD hS => ?_)
  have hP : va_P G vwCl [(h0, .inr (1, [.int (iI 0), .ref q1, .ref q2, .ref q3, .ref q4, .ref q5, .null])), (q1, .inl (b1, 28, .inl (cI rd_zz))), (q2, .inl (b2, 28, .inl (cI rd_zz))), (q3, .inl (b3, 28, .inl (cI rd_zz))), (q4, .inl (b4, 28, .inl (cI rd_zz))), (q5, .inl (b5, 28, .inl (cI rd_zz)))] H := hP
  have hD : va_D A [(h0, .inr (1, [.int (iI 0), .ref q1, .ref q2, .ref q3, .ref q4, .ref q5, .null])), (q1, .inl (b1, 28, .inl (cI rd_zz))), (q2, .inl (b2, 28, .inl (cI rd_zz))), (q3, .inl (b3, 28, .inl (cI rd_zz))), (q4, .inl (b4, 28, .inl (cI rd_zz))), (q5, .inl (b5, 28, .inl (cI rd_zz)))] := hD
  refine lv_aload_n hx hb dX1_init_44 rfl (lv_at hl 0 rfl) ?_
  refine ri_push hx hb dX1_init_45 (by decide) ?_
  refine va_newa (atype := .int) (ty := .int) (n := iI 28) (N' := 28) (a0 := (28, .inl (cI rd_zz))) hx hb (hts _ q196) rfl hK hP hD hS hA (fun _ => rfl) (by decide) (by decide) (by decide) (Nat.le_of_ble_eq_true rfl) (Nat.le_of_ble_eq_true rfl) dX1_init_47 (fun q6 b6 H hK hP hD hS => ?_)
  have hK : va_K G vwCl [(b1, .int), (b2, .int), (b3, .int), (b4, .int), (b5, .int), (b6, .int)] s := hK
  have hP : va_P G vwCl [(h0, .inr (1, [.int (iI 0), .ref q1, .ref q2, .ref q3, .ref q4, .ref q5, .null])), (q1, .inl (b1, 28, .inl (cI rd_zz))), (q2, .inl (b2, 28, .inl (cI rd_zz))), (q3, .inl (b3, 28, .inl (cI rd_zz))), (q4, .inl (b4, 28, .inl (cI rd_zz))), (q5, .inl (b5, 28, .inl (cI rd_zz))), (q6, .inl (b6, 28, .inl (cI rd_zz)))] H := hP
  have hD : va_D A [(h0, .inr (1, [.int (iI 0), .ref q1, .ref q2, .ref q3, .ref q4, .ref q5, .null])), (q1, .inl (b1, 28, .inl (cI rd_zz))), (q2, .inl (b2, 28, .inl (cI rd_zz))), (q3, .inl (b3, 28, .inl (cI rd_zz))), (q4, .inl (b4, 28, .inl (cI rd_zz))), (q5, .inl (b5, 28, .inl (cI rd_zz))), (q6, .inl (b6, 28, .inl (cI rd_zz)))] := hD
  refine W.widen (k := 6) (n := 168) (Nat.le_of_ble_eq_true rfl) (Nat.le_of_ble_eq_true rfl) ?_
  refine va_put (D := G) (ci := 1) (v := .ref q6) (ty := .array .int) (C := RX1) (T := TX1) (N := 7) hx hb hts in_X1 tyX1 tyX1_ok nmX1 hown hK hP hD hS 0 rfl rfl 6 (by decide) (hts _ q180) (fun _ h9 => h9) rfl (by decide +kernel) rfl rfl (Nat.le_of_ble_eq_true rfl) dX1_init_49 (fun H locs hP hD hS => ?_)
  have hP : va_P G vwCl [(h0, .inr (1, [.int (iI 0), .ref q1, .ref q2, .ref q3, .ref q4, .ref q5, .ref q6])), (q1, .inl (b1, 28, .inl (cI rd_zz))), (q2, .inl (b2, 28, .inl (cI rd_zz))), (q3, .inl (b3, 28, .inl (cI rd_zz))), (q4, .inl (b4, 28, .inl (cI rd_zz))), (q5, .inl (b5, 28, .inl (cI rd_zz))), (q6, .inl (b6, 28, .inl (cI rd_zz)))] H := hP
  have hD : va_D A [(h0, .inr (1, [.int (iI 0), .ref q1, .ref q2, .ref q3, .ref q4, .ref q5, .ref q6])), (q1, .inl (b1, 28, .inl (cI rd_zz))), (q2, .inl (b2, 28, .inl (cI rd_zz))), (q3, .inl (b3, 28, .inl (cI rd_zz))), (q4, .inl (b4, 28, .inl (cI rd_zz))), (q5, .inl (b5, 28, .inl (cI rd_zz))), (q6, .inl (b6, 28, .inl (cI rd_zz)))] := hD
  have hb2 : b2 = b1 := Option.some.inj ((hK.2 1 _ rfl).2.symm.trans (hK.2 0 _ rfl).2)
  have hb3 : b3 = b1 := Option.some.inj ((hK.2 2 _ rfl).2.symm.trans (hK.2 0 _ rfl).2)
  have hb4 : b4 = b1 := Option.some.inj ((hK.2 3 _ rfl).2.symm.trans (hK.2 0 _ rfl).2)
  have hb5 : b5 = b1 := Option.some.inj ((hK.2 4 _ rfl).2.symm.trans (hK.2 0 _ rfl).2)
  have hb6 : b6 = b1 := Option.some.inj ((hK.2 5 _ rfl).2.symm.trans (hK.2 0 _ rfl).2)
  subst hb2
  subst hb3
  subst hb4
  subst hb5
  subst hb6
  have hK9 := hK.sub [0] rfl
  have key : ∃ (ad : Nat → Nat) (cA : ClassId), ad 0 = h0 ∧ mD ad ∧ (∀ q, mA ad q → A q) ∧ mP G ad cA 0 rd_zz rd_zz rd_zz rd_zz rd_zz rd_zz H ∧ va_K G vwCl [(cA, .int)] s := by
    refine ⟨fun i => ([h0, q1, q2, q3, q4, q5, q6] : List Nat).getD i 0, _, rfl, ?_, ?_, hP, hK9⟩
    · exact init_D hD (fun i hi => by match i, hi with
                                   | 0, _ => exact ⟨_, rfl⟩
                                   | 1, _ => exact ⟨_, rfl⟩
                                   | 2, _ => exact ⟨_, rfl⟩
                                   | 3, _ => exact ⟨_, rfl⟩
                                   | 4, _ => exact ⟨_, rfl⟩
                                   | 5, _ => exact ⟨_, rfl⟩
                                   | 6, _ => exact ⟨_, rfl⟩
                                   | i + 7, h => omega)
    · rintro q ⟨i, hi, rfl⟩
      match i, hi with
      | 0, _ => exact hD.2 0 _ rfl
      | 1, _ => exact hD.2 1 _ rfl
      | 2, _ => exact hD.2 2 _ rfl
      | 3, _ => exact hD.2 3 _ rfl
      | 4, _ => exact hD.2 4 _ rfl
      | 5, _ => exact hD.2 5 _ rfl
      | 6, _ => exact hD.2 6 _ rfl
      | i + 7, h => omega
  obtain ⟨ad, cA, k1, k2, k3, k4, k5⟩ := key
  exact W.vret hx hb hr (fun t ht hW => ⟨⟨(), rfl, trivial, ad, cA, k1, k2, k3, by rw [ht]; exact k4, va_K.moved hW.alike k5⟩, hS.F ht⟩) hS.2.2 dX1_init_52
end
section
/-! the law's own entry -/
set_option maxRecDepth 100000
abbrev cL_law : ByteArray := code
theorem dL_law_0 : decode cL_law 0 = .ok (.new 7, 3) := by decide +kernel
theorem dL_law_3 : decode cL_law 3 = .ok (.dup, 1) := by decide +kernel
theorem dL_law_4 : decode cL_law 4 = .ok (.invokespecial 9, 3) := by decide +kernel
theorem dL_law_7 : decode cL_law 7 = .ok (.astore_n 1, 1) := by decide +kernel
theorem dL_law_8 : decode cL_law 8 = .ok (.new 10, 3) := by decide +kernel
theorem dL_law_11 : decode cL_law 11 = .ok (.dup, 1) := by decide +kernel
theorem dL_law_12 : decode cL_law 12 = .ok (.invokespecial 12, 3) := by decide +kernel
theorem dL_law_15 : decode cL_law 15 = .ok (.astore_n 2, 1) := by decide +kernel
theorem dL_law_16 : decode cL_law 16 = .ok (.iconst 0, 1) := by decide +kernel
theorem dL_law_17 : decode cL_law 17 = .ok (.istore_n 3, 1) := by decide +kernel
theorem dL_law_18 : decode cL_law 18 = .ok (.iload_n 3, 1) := by decide +kernel
theorem dL_law_19 : decode cL_law 19 = .ok (.aload_n 0, 1) := by decide +kernel
theorem dL_law_20 : decode cL_law 20 = .ok (.arraylength, 1) := by decide +kernel
theorem dL_law_21 : decode cL_law 21 = .ok (.iconst 3, 1) := by decide +kernel
theorem dL_law_22 : decode cL_law 22 = .ok (.isub, 1) := by decide +kernel
theorem dL_law_23 : decode cL_law 23 = .ok (.if_icmp .gt 416, 3) := by decide +kernel
theorem dL_law_26 : decode cL_law 26 = .ok (.aload_n 0, 1) := by decide +kernel
theorem dL_law_27 : decode cL_law 27 = .ok (.iload_n 3, 1) := by decide +kernel
theorem dL_law_28 : decode cL_law 28 = .ok (.iaload, 1) := by decide +kernel
theorem dL_law_29 : decode cL_law 29 = .ok (.bipush 15, 2) := by decide +kernel
theorem dL_law_31 : decode cL_law 31 = .ok (.iand, 1) := by decide +kernel
theorem dL_law_32 : decode cL_law 32 = .ok (.tableswitch 401 0 14 #[76, 109, 122, 135, 158, 181, 204, 217, 230, 253, 286, 309, 332, 355, 378], 76) := by decide +kernel
theorem dL_law_108 : decode cL_law 108 = .ok (.aload_n 1, 1) := by decide +kernel
theorem dL_law_109 : decode cL_law 109 = .ok (.aload_n 0, 1) := by decide +kernel
theorem dL_law_110 : decode cL_law 110 = .ok (.iload_n 3, 1) := by decide +kernel
theorem dL_law_111 : decode cL_law 111 = .ok (.iconst 1, 1) := by decide +kernel
theorem dL_law_112 : decode cL_law 112 = .ok (.iadd, 1) := by decide +kernel
theorem dL_law_113 : decode cL_law 113 = .ok (.iaload, 1) := by decide +kernel
theorem dL_law_114 : decode cL_law 114 = .ok (.aload_n 0, 1) := by decide +kernel
theorem dL_law_115 : decode cL_law 115 = .ok (.iload_n 3, 1) := by decide +kernel
theorem dL_law_116 : decode cL_law 116 = .ok (.iconst 2, 1) := by decide +kernel
theorem dL_law_117 : decode cL_law 117 = .ok (.iadd, 1) := by decide +kernel
theorem dL_law_118 : decode cL_law 118 = .ok (.iaload, 1) := by decide +kernel
theorem dL_law_119 : decode cL_law 119 = .ok (.invokevirtual 13, 3) := by decide +kernel
theorem dL_law_122 : decode cL_law 122 = .ok (.aload_n 2, 1) := by decide +kernel
theorem dL_law_123 : decode cL_law 123 = .ok (.aload_n 0, 1) := by decide +kernel
theorem dL_law_124 : decode cL_law 124 = .ok (.iload_n 3, 1) := by decide +kernel
theorem dL_law_125 : decode cL_law 125 = .ok (.iconst 1, 1) := by decide +kernel
theorem dL_law_126 : decode cL_law 126 = .ok (.iadd, 1) := by decide +kernel
theorem dL_law_127 : decode cL_law 127 = .ok (.iaload, 1) := by decide +kernel
theorem dL_law_128 : decode cL_law 128 = .ok (.aload_n 0, 1) := by decide +kernel
theorem dL_law_129 : decode cL_law 129 = .ok (.iload_n 3, 1) := by decide +kernel
theorem dL_law_130 : decode cL_law 130 = .ok (.iconst 2, 1) := by decide +kernel
theorem dL_law_131 : decode cL_law 131 = .ok (.iadd, 1) := by decide +kernel
theorem dL_law_132 : decode cL_law 132 = .ok (.iaload, 1) := by decide +kernel
theorem dL_law_133 : decode cL_law 133 = .ok (.invokevirtual 17, 3) := by decide +kernel
theorem dL_law_136 : decode cL_law 136 = .ok (.if_icmp .eq 297, 3) := by decide +kernel
theorem dL_law_139 : decode cL_law 139 = .ok (.iconst 0, 1) := by decide +kernel
theorem dL_law_140 : decode cL_law 140 = .ok (.ireturn, 1) := by decide +kernel
theorem dL_law_141 : decode cL_law 141 = .ok (.aload_n 1, 1) := by decide +kernel
theorem dL_law_142 : decode cL_law 142 = .ok (.invokevirtual 18, 3) := by decide +kernel
theorem dL_law_145 : decode cL_law 145 = .ok (.aload_n 2, 1) := by decide +kernel
theorem dL_law_146 : decode cL_law 146 = .ok (.invokevirtual 22, 3) := by decide +kernel
theorem dL_law_149 : decode cL_law 149 = .ok (.if_icmp .eq 284, 3) := by decide +kernel
theorem dL_law_152 : decode cL_law 152 = .ok (.iconst 0, 1) := by decide +kernel
theorem dL_law_153 : decode cL_law 153 = .ok (.ireturn, 1) := by decide +kernel
theorem dL_law_154 : decode cL_law 154 = .ok (.aload_n 1, 1) := by decide +kernel
theorem dL_law_155 : decode cL_law 155 = .ok (.invokevirtual 23, 3) := by decide +kernel
theorem dL_law_158 : decode cL_law 158 = .ok (.aload_n 2, 1) := by decide +kernel
theorem dL_law_159 : decode cL_law 159 = .ok (.invokevirtual 26, 3) := by decide +kernel
theorem dL_law_162 : decode cL_law 162 = .ok (.if_icmp .eq 271, 3) := by decide +kernel
theorem dL_law_165 : decode cL_law 165 = .ok (.iconst 0, 1) := by decide +kernel
theorem dL_law_166 : decode cL_law 166 = .ok (.ireturn, 1) := by decide +kernel
theorem dL_law_167 : decode cL_law 167 = .ok (.aload_n 1, 1) := by decide +kernel
theorem dL_law_168 : decode cL_law 168 = .ok (.aload_n 0, 1) := by decide +kernel
theorem dL_law_169 : decode cL_law 169 = .ok (.iload_n 3, 1) := by decide +kernel
theorem dL_law_170 : decode cL_law 170 = .ok (.iconst 1, 1) := by decide +kernel
theorem dL_law_171 : decode cL_law 171 = .ok (.iadd, 1) := by decide +kernel
theorem dL_law_172 : decode cL_law 172 = .ok (.iaload, 1) := by decide +kernel
theorem dL_law_173 : decode cL_law 173 = .ok (.invokevirtual 27, 3) := by decide +kernel
theorem dL_law_176 : decode cL_law 176 = .ok (.aload_n 2, 1) := by decide +kernel
theorem dL_law_177 : decode cL_law 177 = .ok (.aload_n 0, 1) := by decide +kernel
theorem dL_law_178 : decode cL_law 178 = .ok (.iload_n 3, 1) := by decide +kernel
theorem dL_law_179 : decode cL_law 179 = .ok (.iconst 1, 1) := by decide +kernel
theorem dL_law_180 : decode cL_law 180 = .ok (.iadd, 1) := by decide +kernel
theorem dL_law_181 : decode cL_law 181 = .ok (.iaload, 1) := by decide +kernel
theorem dL_law_182 : decode cL_law 182 = .ok (.invokevirtual 31, 3) := by decide +kernel
theorem dL_law_185 : decode cL_law 185 = .ok (.if_icmp .eq 248, 3) := by decide +kernel
theorem dL_law_188 : decode cL_law 188 = .ok (.iconst 0, 1) := by decide +kernel
theorem dL_law_189 : decode cL_law 189 = .ok (.ireturn, 1) := by decide +kernel
theorem dL_law_190 : decode cL_law 190 = .ok (.aload_n 1, 1) := by decide +kernel
theorem dL_law_191 : decode cL_law 191 = .ok (.aload_n 0, 1) := by decide +kernel
theorem dL_law_192 : decode cL_law 192 = .ok (.iload_n 3, 1) := by decide +kernel
theorem dL_law_193 : decode cL_law 193 = .ok (.iconst 1, 1) := by decide +kernel
theorem dL_law_194 : decode cL_law 194 = .ok (.iadd, 1) := by decide +kernel
theorem dL_law_195 : decode cL_law 195 = .ok (.iaload, 1) := by decide +kernel
theorem dL_law_196 : decode cL_law 196 = .ok (.invokevirtual 32, 3) := by decide +kernel
theorem dL_law_199 : decode cL_law 199 = .ok (.aload_n 2, 1) := by decide +kernel
theorem dL_law_200 : decode cL_law 200 = .ok (.aload_n 0, 1) := by decide +kernel
theorem dL_law_201 : decode cL_law 201 = .ok (.iload_n 3, 1) := by decide +kernel
theorem dL_law_202 : decode cL_law 202 = .ok (.iconst 1, 1) := by decide +kernel
theorem dL_law_203 : decode cL_law 203 = .ok (.iadd, 1) := by decide +kernel
theorem dL_law_204 : decode cL_law 204 = .ok (.iaload, 1) := by decide +kernel
theorem dL_law_205 : decode cL_law 205 = .ok (.invokevirtual 35, 3) := by decide +kernel
theorem dL_law_208 : decode cL_law 208 = .ok (.if_icmp .eq 225, 3) := by decide +kernel
theorem dL_law_211 : decode cL_law 211 = .ok (.iconst 0, 1) := by decide +kernel
theorem dL_law_212 : decode cL_law 212 = .ok (.ireturn, 1) := by decide +kernel
theorem dL_law_213 : decode cL_law 213 = .ok (.aload_n 1, 1) := by decide +kernel
theorem dL_law_214 : decode cL_law 214 = .ok (.aload_n 0, 1) := by decide +kernel
theorem dL_law_215 : decode cL_law 215 = .ok (.iload_n 3, 1) := by decide +kernel
theorem dL_law_216 : decode cL_law 216 = .ok (.iconst 1, 1) := by decide +kernel
theorem dL_law_217 : decode cL_law 217 = .ok (.iadd, 1) := by decide +kernel
theorem dL_law_218 : decode cL_law 218 = .ok (.iaload, 1) := by decide +kernel
theorem dL_law_219 : decode cL_law 219 = .ok (.invokevirtual 36, 3) := by decide +kernel
theorem dL_law_222 : decode cL_law 222 = .ok (.aload_n 2, 1) := by decide +kernel
theorem dL_law_223 : decode cL_law 223 = .ok (.aload_n 0, 1) := by decide +kernel
theorem dL_law_224 : decode cL_law 224 = .ok (.iload_n 3, 1) := by decide +kernel
theorem dL_law_225 : decode cL_law 225 = .ok (.iconst 1, 1) := by decide +kernel
theorem dL_law_226 : decode cL_law 226 = .ok (.iadd, 1) := by decide +kernel
theorem dL_law_227 : decode cL_law 227 = .ok (.iaload, 1) := by decide +kernel
theorem dL_law_228 : decode cL_law 228 = .ok (.invokevirtual 39, 3) := by decide +kernel
theorem dL_law_231 : decode cL_law 231 = .ok (.if_icmp .eq 202, 3) := by decide +kernel
theorem dL_law_234 : decode cL_law 234 = .ok (.iconst 0, 1) := by decide +kernel
theorem dL_law_235 : decode cL_law 235 = .ok (.ireturn, 1) := by decide +kernel
theorem dL_law_236 : decode cL_law 236 = .ok (.aload_n 1, 1) := by decide +kernel
theorem dL_law_237 : decode cL_law 237 = .ok (.invokevirtual 40, 3) := by decide +kernel
theorem dL_law_240 : decode cL_law 240 = .ok (.aload_n 2, 1) := by decide +kernel
theorem dL_law_241 : decode cL_law 241 = .ok (.invokevirtual 43, 3) := by decide +kernel
theorem dL_law_244 : decode cL_law 244 = .ok (.if_icmp .eq 189, 3) := by decide +kernel
theorem dL_law_247 : decode cL_law 247 = .ok (.iconst 0, 1) := by decide +kernel
theorem dL_law_248 : decode cL_law 248 = .ok (.ireturn, 1) := by decide +kernel
theorem dL_law_249 : decode cL_law 249 = .ok (.aload_n 1, 1) := by decide +kernel
theorem dL_law_250 : decode cL_law 250 = .ok (.invokevirtual 44, 3) := by decide +kernel
theorem dL_law_253 : decode cL_law 253 = .ok (.aload_n 2, 1) := by decide +kernel
theorem dL_law_254 : decode cL_law 254 = .ok (.invokevirtual 47, 3) := by decide +kernel
theorem dL_law_257 : decode cL_law 257 = .ok (.if_icmp .eq 176, 3) := by decide +kernel
theorem dL_law_260 : decode cL_law 260 = .ok (.iconst 0, 1) := by decide +kernel
theorem dL_law_261 : decode cL_law 261 = .ok (.ireturn, 1) := by decide +kernel
theorem dL_law_262 : decode cL_law 262 = .ok (.aload_n 1, 1) := by decide +kernel
theorem dL_law_263 : decode cL_law 263 = .ok (.aload_n 0, 1) := by decide +kernel
theorem dL_law_264 : decode cL_law 264 = .ok (.iload_n 3, 1) := by decide +kernel
theorem dL_law_265 : decode cL_law 265 = .ok (.iconst 1, 1) := by decide +kernel
theorem dL_law_266 : decode cL_law 266 = .ok (.iadd, 1) := by decide +kernel
theorem dL_law_267 : decode cL_law 267 = .ok (.iaload, 1) := by decide +kernel
theorem dL_law_268 : decode cL_law 268 = .ok (.invokevirtual 48, 3) := by decide +kernel
theorem dL_law_271 : decode cL_law 271 = .ok (.aload_n 2, 1) := by decide +kernel
theorem dL_law_272 : decode cL_law 272 = .ok (.aload_n 0, 1) := by decide +kernel
theorem dL_law_273 : decode cL_law 273 = .ok (.iload_n 3, 1) := by decide +kernel
theorem dL_law_274 : decode cL_law 274 = .ok (.iconst 1, 1) := by decide +kernel
theorem dL_law_275 : decode cL_law 275 = .ok (.iadd, 1) := by decide +kernel
theorem dL_law_276 : decode cL_law 276 = .ok (.iaload, 1) := by decide +kernel
theorem dL_law_277 : decode cL_law 277 = .ok (.invokevirtual 51, 3) := by decide +kernel
theorem dL_law_280 : decode cL_law 280 = .ok (.if_icmp .eq 153, 3) := by decide +kernel
theorem dL_law_283 : decode cL_law 283 = .ok (.iconst 0, 1) := by decide +kernel
theorem dL_law_284 : decode cL_law 284 = .ok (.ireturn, 1) := by decide +kernel
theorem dL_law_285 : decode cL_law 285 = .ok (.aload_n 1, 1) := by decide +kernel
theorem dL_law_286 : decode cL_law 286 = .ok (.aload_n 0, 1) := by decide +kernel
theorem dL_law_287 : decode cL_law 287 = .ok (.iload_n 3, 1) := by decide +kernel
theorem dL_law_288 : decode cL_law 288 = .ok (.iconst 1, 1) := by decide +kernel
theorem dL_law_289 : decode cL_law 289 = .ok (.iadd, 1) := by decide +kernel
theorem dL_law_290 : decode cL_law 290 = .ok (.iaload, 1) := by decide +kernel
theorem dL_law_291 : decode cL_law 291 = .ok (.aload_n 0, 1) := by decide +kernel
theorem dL_law_292 : decode cL_law 292 = .ok (.iload_n 3, 1) := by decide +kernel
theorem dL_law_293 : decode cL_law 293 = .ok (.iconst 2, 1) := by decide +kernel
theorem dL_law_294 : decode cL_law 294 = .ok (.iadd, 1) := by decide +kernel
theorem dL_law_295 : decode cL_law 295 = .ok (.iaload, 1) := by decide +kernel
theorem dL_law_296 : decode cL_law 296 = .ok (.invokevirtual 52, 3) := by decide +kernel
theorem dL_law_299 : decode cL_law 299 = .ok (.aload_n 2, 1) := by decide +kernel
theorem dL_law_300 : decode cL_law 300 = .ok (.aload_n 0, 1) := by decide +kernel
theorem dL_law_301 : decode cL_law 301 = .ok (.iload_n 3, 1) := by decide +kernel
theorem dL_law_302 : decode cL_law 302 = .ok (.iconst 1, 1) := by decide +kernel
theorem dL_law_303 : decode cL_law 303 = .ok (.iadd, 1) := by decide +kernel
theorem dL_law_304 : decode cL_law 304 = .ok (.iaload, 1) := by decide +kernel
theorem dL_law_305 : decode cL_law 305 = .ok (.aload_n 0, 1) := by decide +kernel
theorem dL_law_306 : decode cL_law 306 = .ok (.iload_n 3, 1) := by decide +kernel
theorem dL_law_307 : decode cL_law 307 = .ok (.iconst 2, 1) := by decide +kernel
theorem dL_law_308 : decode cL_law 308 = .ok (.iadd, 1) := by decide +kernel
theorem dL_law_309 : decode cL_law 309 = .ok (.iaload, 1) := by decide +kernel
theorem dL_law_310 : decode cL_law 310 = .ok (.invokevirtual 55, 3) := by decide +kernel
theorem dL_law_313 : decode cL_law 313 = .ok (.if_icmp .eq 120, 3) := by decide +kernel
theorem dL_law_316 : decode cL_law 316 = .ok (.iconst 0, 1) := by decide +kernel
theorem dL_law_317 : decode cL_law 317 = .ok (.ireturn, 1) := by decide +kernel
theorem dL_law_318 : decode cL_law 318 = .ok (.aload_n 1, 1) := by decide +kernel
theorem dL_law_319 : decode cL_law 319 = .ok (.aload_n 0, 1) := by decide +kernel
theorem dL_law_320 : decode cL_law 320 = .ok (.iload_n 3, 1) := by decide +kernel
theorem dL_law_321 : decode cL_law 321 = .ok (.iconst 1, 1) := by decide +kernel
theorem dL_law_322 : decode cL_law 322 = .ok (.iadd, 1) := by decide +kernel
theorem dL_law_323 : decode cL_law 323 = .ok (.iaload, 1) := by decide +kernel
theorem dL_law_324 : decode cL_law 324 = .ok (.invokevirtual 56, 3) := by decide +kernel
theorem dL_law_327 : decode cL_law 327 = .ok (.aload_n 2, 1) := by decide +kernel
theorem dL_law_328 : decode cL_law 328 = .ok (.aload_n 0, 1) := by decide +kernel
theorem dL_law_329 : decode cL_law 329 = .ok (.iload_n 3, 1) := by decide +kernel
theorem dL_law_330 : decode cL_law 330 = .ok (.iconst 1, 1) := by decide +kernel
theorem dL_law_331 : decode cL_law 331 = .ok (.iadd, 1) := by decide +kernel
theorem dL_law_332 : decode cL_law 332 = .ok (.iaload, 1) := by decide +kernel
theorem dL_law_333 : decode cL_law 333 = .ok (.invokevirtual 59, 3) := by decide +kernel
theorem dL_law_336 : decode cL_law 336 = .ok (.if_icmp .eq 97, 3) := by decide +kernel
theorem dL_law_339 : decode cL_law 339 = .ok (.iconst 0, 1) := by decide +kernel
theorem dL_law_340 : decode cL_law 340 = .ok (.ireturn, 1) := by decide +kernel
theorem dL_law_341 : decode cL_law 341 = .ok (.aload_n 1, 1) := by decide +kernel
theorem dL_law_342 : decode cL_law 342 = .ok (.aload_n 0, 1) := by decide +kernel
theorem dL_law_343 : decode cL_law 343 = .ok (.iload_n 3, 1) := by decide +kernel
theorem dL_law_344 : decode cL_law 344 = .ok (.iconst 1, 1) := by decide +kernel
theorem dL_law_345 : decode cL_law 345 = .ok (.iadd, 1) := by decide +kernel
theorem dL_law_346 : decode cL_law 346 = .ok (.iaload, 1) := by decide +kernel
theorem dL_law_347 : decode cL_law 347 = .ok (.invokevirtual 60, 3) := by decide +kernel
theorem dL_law_350 : decode cL_law 350 = .ok (.aload_n 2, 1) := by decide +kernel
theorem dL_law_351 : decode cL_law 351 = .ok (.aload_n 0, 1) := by decide +kernel
theorem dL_law_352 : decode cL_law 352 = .ok (.iload_n 3, 1) := by decide +kernel
theorem dL_law_353 : decode cL_law 353 = .ok (.iconst 1, 1) := by decide +kernel
theorem dL_law_354 : decode cL_law 354 = .ok (.iadd, 1) := by decide +kernel
theorem dL_law_355 : decode cL_law 355 = .ok (.iaload, 1) := by decide +kernel
theorem dL_law_356 : decode cL_law 356 = .ok (.invokevirtual 63, 3) := by decide +kernel
theorem dL_law_359 : decode cL_law 359 = .ok (.if_icmp .eq 74, 3) := by decide +kernel
theorem dL_law_362 : decode cL_law 362 = .ok (.iconst 0, 1) := by decide +kernel
theorem dL_law_363 : decode cL_law 363 = .ok (.ireturn, 1) := by decide +kernel
theorem dL_law_364 : decode cL_law 364 = .ok (.aload_n 1, 1) := by decide +kernel
theorem dL_law_365 : decode cL_law 365 = .ok (.aload_n 0, 1) := by decide +kernel
theorem dL_law_366 : decode cL_law 366 = .ok (.iload_n 3, 1) := by decide +kernel
theorem dL_law_367 : decode cL_law 367 = .ok (.iconst 1, 1) := by decide +kernel
theorem dL_law_368 : decode cL_law 368 = .ok (.iadd, 1) := by decide +kernel
theorem dL_law_369 : decode cL_law 369 = .ok (.iaload, 1) := by decide +kernel
theorem dL_law_370 : decode cL_law 370 = .ok (.invokevirtual 64, 3) := by decide +kernel
theorem dL_law_373 : decode cL_law 373 = .ok (.aload_n 2, 1) := by decide +kernel
theorem dL_law_374 : decode cL_law 374 = .ok (.aload_n 0, 1) := by decide +kernel
theorem dL_law_375 : decode cL_law 375 = .ok (.iload_n 3, 1) := by decide +kernel
theorem dL_law_376 : decode cL_law 376 = .ok (.iconst 1, 1) := by decide +kernel
theorem dL_law_377 : decode cL_law 377 = .ok (.iadd, 1) := by decide +kernel
theorem dL_law_378 : decode cL_law 378 = .ok (.iaload, 1) := by decide +kernel
theorem dL_law_379 : decode cL_law 379 = .ok (.invokevirtual 68, 3) := by decide +kernel
theorem dL_law_382 : decode cL_law 382 = .ok (.if_icmp .eq 51, 3) := by decide +kernel
theorem dL_law_385 : decode cL_law 385 = .ok (.iconst 0, 1) := by decide +kernel
theorem dL_law_386 : decode cL_law 386 = .ok (.ireturn, 1) := by decide +kernel
theorem dL_law_387 : decode cL_law 387 = .ok (.aload_n 1, 1) := by decide +kernel
theorem dL_law_388 : decode cL_law 388 = .ok (.aload_n 0, 1) := by decide +kernel
theorem dL_law_389 : decode cL_law 389 = .ok (.iload_n 3, 1) := by decide +kernel
theorem dL_law_390 : decode cL_law 390 = .ok (.iconst 1, 1) := by decide +kernel
theorem dL_law_391 : decode cL_law 391 = .ok (.iadd, 1) := by decide +kernel
theorem dL_law_392 : decode cL_law 392 = .ok (.iaload, 1) := by decide +kernel
theorem dL_law_393 : decode cL_law 393 = .ok (.invokevirtual 69, 3) := by decide +kernel
theorem dL_law_396 : decode cL_law 396 = .ok (.aload_n 2, 1) := by decide +kernel
theorem dL_law_397 : decode cL_law 397 = .ok (.aload_n 0, 1) := by decide +kernel
theorem dL_law_398 : decode cL_law 398 = .ok (.iload_n 3, 1) := by decide +kernel
theorem dL_law_399 : decode cL_law 399 = .ok (.iconst 1, 1) := by decide +kernel
theorem dL_law_400 : decode cL_law 400 = .ok (.iadd, 1) := by decide +kernel
theorem dL_law_401 : decode cL_law 401 = .ok (.iaload, 1) := by decide +kernel
theorem dL_law_402 : decode cL_law 402 = .ok (.invokevirtual 72, 3) := by decide +kernel
theorem dL_law_405 : decode cL_law 405 = .ok (.if_icmp .eq 28, 3) := by decide +kernel
theorem dL_law_408 : decode cL_law 408 = .ok (.iconst 0, 1) := by decide +kernel
theorem dL_law_409 : decode cL_law 409 = .ok (.ireturn, 1) := by decide +kernel
theorem dL_law_410 : decode cL_law 410 = .ok (.aload_n 1, 1) := by decide +kernel
theorem dL_law_411 : decode cL_law 411 = .ok (.aload_n 0, 1) := by decide +kernel
theorem dL_law_412 : decode cL_law 412 = .ok (.iload_n 3, 1) := by decide +kernel
theorem dL_law_413 : decode cL_law 413 = .ok (.iconst 1, 1) := by decide +kernel
theorem dL_law_414 : decode cL_law 414 = .ok (.iadd, 1) := by decide +kernel
theorem dL_law_415 : decode cL_law 415 = .ok (.iaload, 1) := by decide +kernel
theorem dL_law_416 : decode cL_law 416 = .ok (.invokevirtual 73, 3) := by decide +kernel
theorem dL_law_419 : decode cL_law 419 = .ok (.aload_n 2, 1) := by decide +kernel
theorem dL_law_420 : decode cL_law 420 = .ok (.aload_n 0, 1) := by decide +kernel
theorem dL_law_421 : decode cL_law 421 = .ok (.iload_n 3, 1) := by decide +kernel
theorem dL_law_422 : decode cL_law 422 = .ok (.iconst 1, 1) := by decide +kernel
theorem dL_law_423 : decode cL_law 423 = .ok (.iadd, 1) := by decide +kernel
theorem dL_law_424 : decode cL_law 424 = .ok (.iaload, 1) := by decide +kernel
theorem dL_law_425 : decode cL_law 425 = .ok (.invokevirtual 76, 3) := by decide +kernel
theorem dL_law_428 : decode cL_law 428 = .ok (.if_icmp .eq 5, 3) := by decide +kernel
theorem dL_law_431 : decode cL_law 431 = .ok (.iconst 0, 1) := by decide +kernel
theorem dL_law_432 : decode cL_law 432 = .ok (.ireturn, 1) := by decide +kernel
theorem dL_law_433 : decode cL_law 433 = .ok (.iinc 3 3, 3) := by decide +kernel
theorem dL_law_436 : decode cL_law 436 = .ok (.goto (-418), 3) := by decide +kernel
theorem dL_law_439 : decode cL_law 439 = .ok (.iconst 1, 1) := by decide +kernel
theorem dL_law_440 : decode cL_law 440 = .ok (.ireturn, 1) := by decide +kernel
end
section
set_option maxRecDepth 100000
/-! THE CLAIM OUT OF ONE WALK OF THE LAW'S BODY. Your part is whole_start (and what it stands on); all else here is the same for every law, but numbers. -/
def R_law : String := "RenameDeskLaw"
def lw_P (b : Addr) (xs : List Int32) (args : Array Value) (s : State) : Prop := args = #[.ref b] ∧ s.IntsAt b xs ∧ xs.length ≤ 192 ∧ (Jvm.Cond.and given_1 narrow_1).before args s = true
def lw_Q (_ : Array Value) (s : State) (o : Outcome) (t : State) : Prop := o = .returned (some (.int 1)) ∧ Framed s o t [] 600000 7290000
def lw_Z (below : List Frame) (a : Array Value) (s : State) : State → Prop := fun t => ∃ o, t.status = .running ∧ Ended t below o ∧ lw_Q a s o t
/-- the law's own end, with 1 on the stack, nothing written that was there before, its room as the claim has it -/
theorem lw_ret {p : Program} {l : Launch} {e : Env} {s : State} {m : MethodId} {below : List Frame} {meth : Method} {c : Code} {b : Nat} (hx : p.tables.exec = Jvm.exec) (hb : c.code = code) (hr : meth.sig.returnType = ret) (hlocks : meth.locks = false) {pc : Nat} {H : Heap} {ls : Array Slot} (hdg : decode code pc = .ok (.ireturn, 1)) : W p l e room_1 s m #[Value.ref b] below meth c H [] 600000 7290000 (lw_Z below #[Value.ref b] s) (F0 m pc ls [.int 1]) := by
  intro T hT X
  obtain ⟨fs, hret, hrun, hended, hW, hframe⟩ := X.leave (v := some (.int 1)) (hlocks := hlocks) (fun h => by rw [hr] at h; cases h)
  have hmeth' : T.vm.method? m = some meth := X.method'
  refine ⟨T.setFrames fs, ?_, .returned (some (.int 1)), hrun, hended, rfl, ⟨_, rfl⟩, hW, hframe⟩
  jvm_step X.here [X.here.top, hx, hb, hdg, hmeth', hr, ret, narrow_b1]
  (try refine ⟨rfl, ?_⟩); (try refine ⟨rfl, ?_⟩)
  first | (intro acts; rw [hret _ acts rfl rfl rfl]) | rw [hret _ _ rfl rfl rfl]
  exact Steps.refl _
/-- what holds at the law's entry: the machine, the code, the tables' words (any of lw_tbl by 'hts w (by decide +kernel)'), the script of L ints xs at the cell b, what the Statement gives of the start (any of its parts by flat_of_before) -/
def lw_At (p : Program) (s : State) (m : MethodId) (meth : Method) (c : Code) (b L : Nat) (xs : Nat → Int32) : Prop :=
  p.tables.exec = Jvm.exec ∧ c.code = code ∧ meth.sig.returnType = ret ∧ c.maxLocals = 4 ∧ s.vm.findClass R_law = some m.cls ∧ (∀ w ∈ lw_tbl, w.before #[Value.ref b] s = true) ∧ va_X b L xs s s.heap ∧ b < s.heap.size ∧ meth.locks = false ∧ (Jvm.Cond.and given_1 narrow_1).before #[Value.ref b] s = true
end
section
/-! THE LAW, part 1: its cases -/
set_option maxRecDepth 100000
/-- the int that the script holds at a place -/
def sx (xs : Nat → Int32) (j : Int) : Int := (xs j.toNat).toInt
theorem sx_r (xs : Nat → Int32) (j : Int) : -2147483648 ≤ sx xs j ∧ sx xs j ≤ 2147483647 := ⟨by have := (xs j.toNat).le_toInt; unfold sx; omega, by have := (xs j.toNat).toInt_lt; unfold sx; omega⟩
theorem sx_e {xs : Nat → Int32} {j : Int} (h : 0 ≤ j ∧ j ≤ 2147483647) : xs (iI j).toNatClampNeg = iI (sx xs j) := by
  rw [ii_cl h]
  exact (Int32.ofInt_toInt _).symm
/-- the law's cells, new since the entry -/
abbrev lwA (s : State) : Nat → Prop := fun q => s.heap.size ≤ q
/-- both objects, with the same tokens -/
def lwI (G : va_G) (adx adm : Nat → Nat) (cB cM : ClassId) (H : Heap) : Prop := ∃ (sz kn : Int) (K N B D E T O : Int → Int) (C M R V : Int → Int), dP G adx cB sz kn K N B D E T O H ∧ mP G adm cM sz K N C M R V H ∧ rd_DI sz kn K N B D E T
/-- what stays all through the law -/
def lwC (p : Program) (s : State) (m : MethodId) (meth : Method) (c : Code) (b L : Nat) (xs : Nat → Int32) (G : va_G) (adx adm : Nat → Nat) (cB cM : ClassId) : Prop :=
  p.tables.exec = Jvm.exec ∧ c.code = code ∧ meth.sig.returnType = ret ∧ c.maxLocals = 4 ∧ s.vm.findClass "RenameDeskLaw" = some m.cls ∧ (∀ w ∈ lw_all, w.before #[Value.ref b] s = true) ∧ va_X b L xs s s.heap ∧ b < s.heap.size ∧ meth.locks = false ∧ L ≤ 192 ∧
  dD adx ∧ mD adm ∧ (∀ q, dA adx q → lwA s q) ∧ (∀ q, mA adm q → lwA s q) ∧ (∀ q, dA adx q → ¬ mA adm q) ∧ va_K G vwCl [(cB, .byte)] s ∧ va_K G vwCl [(cM, .int)] s
section LAWR
variable {p : Program} {l : Launch} {e : Env} {R : Room} {s : State} {m : MethodId} {below : List Frame} {meth : Method} {c : Code} {H : Heap} {locs : List Loc} {cells slots : Nat} {Q : State → Prop}
variable {pc : Nat} {ls : Array Slot} {rest : List Value} {b L : Nat} {xs : Nat → Int32}
theorem lw_ld (hx : p.tables.exec = Jvm.exec) (hb : c.code = code) (hX : va_X b L xs s s.heap) (hbl : b < s.heap.size) (hL : L ≤ 192) (hS : va_S (lwA s) s.heap H locs) {j : Int} (hj : 0 ≤ j ∧ j < L) (hdg : decode code pc = .ok (.iaload, 1)) (kk : W p l e R s m #[Value.ref b] below meth c H locs cells slots Q (F0 m (pc + 1) ls (.int (iI (sx xs j)) :: rest))) : W p l e R s m #[Value.ref b] below meth c H locs cells slots Q (F0 m pc ls (.int (iI j) :: .ref b :: rest)) := by
  refine va_sld hx hb hX hbl (Nat.not_le.mpr hbl) hS (ii_in hj (by omega)) hdg ?_
  rw [sx_e (xs := xs) (j := j) (by omega)]
  exact kk
theorem lw_len (hx : p.tables.exec = Jvm.exec) (hb : c.code = code) (hX : va_X b L xs s s.heap) (hbl : b < s.heap.size) (hL : L ≤ 192) (hS : va_S (lwA s) s.heap H locs) (hdg : decode code pc = .ok (.arraylength, 1)) (kk : W p l e R s m #[Value.ref b] below meth c H locs cells slots Q (F0 m (pc + 1) ls (.int (iI L) :: rest))) : W p l e R s m #[Value.ref b] below meth c H locs cells slots Q (F0 m pc ls (.ref b :: rest)) := by
  refine va_slen hx hb hX hbl (Nat.not_le.mpr hbl) hS hdg ?_
  rw [show Int32.ofNat L = iI L from Int32.toInt_inj.mp (by rw [ii_T (by omega)]; exact nI_toInt (by omega))]
  exact kk
end LAWR
set_option maxHeartbeats 4000000 in
/-- case 0: add -/
theorem lw_case0 {p : Program} {l : Launch} {e : Env} {s : State} {m : MethodId} {below : List Frame} {meth : Method} {c : Code} {b L : Nat} {xs : Nat → Int32} {G : va_G} {adx adm : Nat → Nat} {cB cM : ClassId} (C0 : lwC p s m meth c b L xs G adx adm cB cM) {i : Int} (hi : 0 ≤ i ∧ i + 2 < L) {H : Heap} {locs : List Loc} (hI0 : lwI G adx adm cB cM H) (hS : va_S (lwA s) s.heap H locs) {ls : Array Slot} (hl : lv_has ls 4 [(0, .ref b), (1, .ref (adx 0)), (2, .ref (adm 0)), (3, .int (iI i))])
    (kk : ∀ (H1 : Heap) (locs1 : List Loc), lwI G adx adm cB cM H1 → va_S (lwA s) s.heap H1 locs1 → W p l e room_1 s m #[Value.ref b] below meth c H1 locs1 15 382 (lw_Z below #[Value.ref b] s) (F0 m 433 ls [])) : W p l e room_1 s m #[Value.ref b] below meth c H locs 15 382 (lw_Z below #[Value.ref b] s) (F0 m 108 ls []) := by
  obtain ⟨hx, hb, hr, hml, hown, hts, hX, hbl, hlocks, hL, hDx, hDm, hAx, hAm, hdis, hKx, hKm⟩ := C0
  obtain ⟨sz, kn, K, N, B, D, E, T, O, C, M, R, V, hP, hQ, hI⟩ := hI0
  refine lv_aload_n hx hb dL_law_108 rfl (lv_at hl 1 rfl) ?_
  refine lv_aload_n hx hb dL_law_109 rfl (lv_at hl 0 rfl) ?_
  refine lv_iload_n hx hb dL_law_110 rfl (lv_at hl 3 rfl) ?_
  refine ri_const hx hb dL_law_111 ?_
  refine ri_add hx hb dL_law_112 ?_
  refine lw_ld hx hb hX hbl hL hS (by omega) dL_law_113 ?_
  refine lv_aload_n hx hb dL_law_114 rfl (lv_at hl 0 rfl) ?_
  refine lv_iload_n hx hb dL_law_115 rfl (lv_at hl 3 rfl) ?_
  refine ri_const hx hb dL_law_116 ?_
  refine ri_add hx hb dL_law_117 ?_
  refine lw_ld hx hb hX hbl hL hS (by omega) dL_law_118 ?_
  refine gM_call (As := [.int (iI (sx xs (i + 1))), .int (iI (sx xs (i + 2)))]) (rest := []) hx hb hml hown hts (dm_add l G adx cB sz kn K N B D E T O (sx xs (i + 1)) (sx xs (i + 2)) (sx_r xs (i + 1)) (sx_r xs (i + 2)) hDx hI) (cwX0_add_L hts 1 ⟨by decide, by decide⟩) (hP.recv hKx) hP hKx rfl hl.1 rfl (Nat.le_of_ble_eq_true rfl) dL_law_119 ⟨by decide, by decide⟩ hAx hS (fun rx H locs hx1 hfr hS => ?_)
  have hQ := hQ.kept (fun q h1 h2 => hfr q h1 (fun h3 => hdis q h3 h2))
  obtain ⟨sz1, kn1, K1, N1, hP, hI1, hxr⟩ := hx1
  refine lv_aload_n hx hb dL_law_122 rfl (lv_at hl 2 rfl) ?_
  refine lv_aload_n hx hb dL_law_123 rfl (lv_at hl 0 rfl) ?_
  refine lv_iload_n hx hb dL_law_124 rfl (lv_at hl 3 rfl) ?_
  refine ri_const hx hb dL_law_125 ?_
  refine ri_add hx hb dL_law_126 ?_
  refine lw_ld hx hb hX hbl hL hS (by omega) dL_law_127 ?_
  refine lv_aload_n hx hb dL_law_128 rfl (lv_at hl 0 rfl) ?_
  refine lv_iload_n hx hb dL_law_129 rfl (lv_at hl 3 rfl) ?_
  refine ri_const hx hb dL_law_130 ?_
  refine ri_add hx hb dL_law_131 ?_
  refine lw_ld hx hb hX hbl hL hS (by omega) dL_law_132 ?_
  refine gM_call (As := [.int (iI (sx xs (i + 1))), .int (iI (sx xs (i + 2)))]) (rest := [.int rx]) hx hb hml hown hts (mm_add l G adm cM sz K N C M R V (sx xs (i + 1)) (sx xs (i + 2)) (sx_r xs (i + 1)) (sx_r xs (i + 2)) hDm hI.1) (cwX1_add_L hts 1 ⟨by decide, by decide⟩) (hQ.recv hKm) hQ hKm rfl hl.1 rfl (Nat.le_of_ble_eq_true rfl) dL_law_133 ⟨by decide, by decide⟩ hAm hS (fun rm H locs hm1 hfr hS => ?_)
  have hP := hP.kept (fun q h1 h2 => hfr q h1 (fun h3 => hdis q h2 h3))
  obtain ⟨sz2, K2, N2, hQ, hmr⟩ := hm1
  obtain ⟨he, hs1, hs2, hs3⟩ := rd_Add_uniq hxr hmr
  subst hs1
  subst hs2
  subst hs3
  exact lv_icmp_eq (tgt := 433) hx hb dL_law_136 (by decide) (fun _ => kk _ _ ⟨sz1, kn1, K1, N1, B, D, E, T, O, C, M, R, V, hP, hQ, hI1⟩ hS) (fun q => absurd (he) q)
set_option maxHeartbeats 4000000 in
/-- case 1: drop -/
theorem lw_case1 {p : Program} {l : Launch} {e : Env} {s : State} {m : MethodId} {below : List Frame} {meth : Method} {c : Code} {b L : Nat} {xs : Nat → Int32} {G : va_G} {adx adm : Nat → Nat} {cB cM : ClassId} (C0 : lwC p s m meth c b L xs G adx adm cB cM) {i : Int} (hi : 0 ≤ i ∧ i + 2 < L) {H : Heap} {locs : List Loc} (hI0 : lwI G adx adm cB cM H) (hS : va_S (lwA s) s.heap H locs) {ls : Array Slot} (hl : lv_has ls 4 [(0, .ref b), (1, .ref (adx 0)), (2, .ref (adm 0)), (3, .int (iI i))])
    (kk : ∀ (H1 : Heap) (locs1 : List Loc), lwI G adx adm cB cM H1 → va_S (lwA s) s.heap H1 locs1 → W p l e room_1 s m #[Value.ref b] below meth c H1 locs1 15 382 (lw_Z below #[Value.ref b] s) (F0 m 433 ls [])) : W p l e room_1 s m #[Value.ref b] below meth c H locs 15 382 (lw_Z below #[Value.ref b] s) (F0 m 141 ls []) := by
  obtain ⟨hx, hb, hr, hml, hown, hts, hX, hbl, hlocks, hL, hDx, hDm, hAx, hAm, hdis, hKx, hKm⟩ := C0
  obtain ⟨sz, kn, K, N, B, D, E, T, O, C, M, R, V, hP, hQ, hI⟩ := hI0
  refine lv_aload_n hx hb dL_law_141 rfl (lv_at hl 1 rfl) ?_
  refine gM_call (As := []) (rest := []) hx hb hml hown hts (dm_drop l G adx cB sz kn K N B D E T O hDx hI.1) (cwX0_drop_L hts 0 ⟨by decide, by decide⟩) (hP.recv hKx) hP hKx rfl hl.1 rfl (Nat.le_of_ble_eq_true rfl) dL_law_142 ⟨by decide, by decide⟩ hAx hS (fun rx H locs hx1 hfr hS => ?_)
  have hQ := hQ.kept (fun q h1 h2 => hfr q h1 (fun h3 => hdis q h3 h2))
  have hx2 : ∃ sz1 kn1 : Int, dP G adx cB sz1 kn1 K N B D E T O H ∧ rd_DI sz1 kn1 K N B D E T ∧ rd_Drp sz rx sz1 := by
    rcases hx1 with ⟨q1, q2, q3⟩ | ⟨q1, q2, q3⟩
    · exact ⟨sz, kn, q3, hI, Or.inl ⟨q1, q2, rfl⟩⟩
    · exact ⟨sz - 1, 0, q3, ⟨rd_WF_drop hI.1 q1, Or.inl rfl⟩, Or.inr ⟨q1, q2, rfl⟩⟩
  obtain ⟨sz1, kn1, hP, hI1, hxr⟩ := hx2
  refine lv_aload_n hx hb dL_law_145 rfl (lv_at hl 2 rfl) ?_
  refine gM_call (As := []) (rest := [.int rx]) hx hb hml hown hts (mm_drop l G adm cM sz K N C M R V hDm hI.1.1) (cwX1_drop_L hts 0 ⟨by decide, by decide⟩) (hQ.recv hKm) hQ hKm rfl hl.1 rfl (Nat.le_of_ble_eq_true rfl) dL_law_146 ⟨by decide, by decide⟩ hAm hS (fun rm H locs hm1 hfr hS => ?_)
  have hP := hP.kept (fun q h1 h2 => hfr q h1 (fun h3 => hdis q h2 h3))
  obtain ⟨sz2, hQ, hmr⟩ := hm1
  obtain ⟨he, hs⟩ := rd_Drp_uniq hxr hmr
  subst hs
  exact lv_icmp_eq (tgt := 433) hx hb dL_law_149 (by decide) (fun _ => kk _ _ ⟨sz1, kn1, K, N, B, D, E, T, O, C, M, R, V, hP, hQ, hI1⟩ hS) (fun q => absurd (he) q)
set_option maxHeartbeats 4000000 in
/-- case 2: length -/
theorem lw_case2 {p : Program} {l : Launch} {e : Env} {s : State} {m : MethodId} {below : List Frame} {meth : Method} {c : Code} {b L : Nat} {xs : Nat → Int32} {G : va_G} {adx adm : Nat → Nat} {cB cM : ClassId} (C0 : lwC p s m meth c b L xs G adx adm cB cM) {i : Int} (hi : 0 ≤ i ∧ i + 2 < L) {H : Heap} {locs : List Loc} (hI0 : lwI G adx adm cB cM H) (hS : va_S (lwA s) s.heap H locs) {ls : Array Slot} (hl : lv_has ls 4 [(0, .ref b), (1, .ref (adx 0)), (2, .ref (adm 0)), (3, .int (iI i))])
    (kk : ∀ (H1 : Heap) (locs1 : List Loc), lwI G adx adm cB cM H1 → va_S (lwA s) s.heap H1 locs1 → W p l e room_1 s m #[Value.ref b] below meth c H1 locs1 15 382 (lw_Z below #[Value.ref b] s) (F0 m 433 ls [])) : W p l e room_1 s m #[Value.ref b] below meth c H locs 15 382 (lw_Z below #[Value.ref b] s) (F0 m 154 ls []) := by
  obtain ⟨hx, hb, hr, hml, hown, hts, hX, hbl, hlocks, hL, hDx, hDm, hAx, hAm, hdis, hKx, hKm⟩ := C0
  obtain ⟨sz, kn, K, N, B, D, E, T, O, C, M, R, V, hP, hQ, hI⟩ := hI0
  refine lv_aload_n hx hb dL_law_154 rfl (lv_at hl 1 rfl) ?_
  refine gR_call (As := []) (rest := []) hx hb hml hown hts (dm_length l G adx cB sz kn K N B D E T O) (cwX0_length_L hts 0 ⟨by decide, by decide⟩) (hP.recv hKx) hP hKx rfl hl.1 rfl (Nat.le_of_ble_eq_true rfl) dL_law_155 ⟨by decide, by decide⟩ (fun rx hx1 => ?_)
  refine lv_aload_n hx hb dL_law_158 rfl (lv_at hl 2 rfl) ?_
  refine gR_call (As := []) (rest := [.int rx]) hx hb hml hown hts (mm_length l G adm cM sz K N C M R V) (cwX1_length_L hts 0 ⟨by decide, by decide⟩) (hQ.recv hKm) hQ hKm rfl hl.1 rfl (Nat.le_of_ble_eq_true rfl) dL_law_159 ⟨by decide, by decide⟩ (fun rm hm1 => ?_)
  exact lv_icmp_eq (tgt := 433) hx hb dL_law_162 (by decide) (fun _ => kk _ _ ⟨sz, kn, K, N, B, D, E, T, O, C, M, R, V, hP, hQ, hI⟩ hS) (fun q => absurd (hx1.trans hm1.symm) q)
set_option maxHeartbeats 4000000 in
/-- case 3: token -/
theorem lw_case3 {p : Program} {l : Launch} {e : Env} {s : State} {m : MethodId} {below : List Frame} {meth : Method} {c : Code} {b L : Nat} {xs : Nat → Int32} {G : va_G} {adx adm : Nat → Nat} {cB cM : ClassId} (C0 : lwC p s m meth c b L xs G adx adm cB cM) {i : Int} (hi : 0 ≤ i ∧ i + 2 < L) {H : Heap} {locs : List Loc} (hI0 : lwI G adx adm cB cM H) (hS : va_S (lwA s) s.heap H locs) {ls : Array Slot} (hl : lv_has ls 4 [(0, .ref b), (1, .ref (adx 0)), (2, .ref (adm 0)), (3, .int (iI i))])
    (kk : ∀ (H1 : Heap) (locs1 : List Loc), lwI G adx adm cB cM H1 → va_S (lwA s) s.heap H1 locs1 → W p l e room_1 s m #[Value.ref b] below meth c H1 locs1 15 382 (lw_Z below #[Value.ref b] s) (F0 m 433 ls [])) : W p l e room_1 s m #[Value.ref b] below meth c H locs 15 382 (lw_Z below #[Value.ref b] s) (F0 m 167 ls []) := by
  obtain ⟨hx, hb, hr, hml, hown, hts, hX, hbl, hlocks, hL, hDx, hDm, hAx, hAm, hdis, hKx, hKm⟩ := C0
  obtain ⟨sz, kn, K, N, B, D, E, T, O, C, M, R, V, hP, hQ, hI⟩ := hI0
  refine lv_aload_n hx hb dL_law_167 rfl (lv_at hl 1 rfl) ?_
  refine lv_aload_n hx hb dL_law_168 rfl (lv_at hl 0 rfl) ?_
  refine lv_iload_n hx hb dL_law_169 rfl (lv_at hl 3 rfl) ?_
  refine ri_const hx hb dL_law_170 ?_
  refine ri_add hx hb dL_law_171 ?_
  refine lw_ld hx hb hX hbl hL hS (by omega) dL_law_172 ?_
  refine gR_call (As := [.int (iI (sx xs (i + 1)))]) (rest := []) hx hb hml hown hts (dm_token l G adx cB sz kn K N B D E T O (sx xs (i + 1)) (sx_r xs (i + 1)) hI.1) (cwX0_token_L hts 1 ⟨by decide, by decide⟩) (hP.recv hKx) hP hKx rfl hl.1 rfl (Nat.le_of_ble_eq_true rfl) dL_law_173 ⟨by decide, by decide⟩ (fun rx hx1 => ?_)
  refine lv_aload_n hx hb dL_law_176 rfl (lv_at hl 2 rfl) ?_
  refine lv_aload_n hx hb dL_law_177 rfl (lv_at hl 0 rfl) ?_
  refine lv_iload_n hx hb dL_law_178 rfl (lv_at hl 3 rfl) ?_
  refine ri_const hx hb dL_law_179 ?_
  refine ri_add hx hb dL_law_180 ?_
  refine lw_ld hx hb hX hbl hL hS (by omega) dL_law_181 ?_
  refine gR_call (As := [.int (iI (sx xs (i + 1)))]) (rest := [.int rx]) hx hb hml hown hts (mm_token l G adm cM sz K N C M R V (sx xs (i + 1)) (sx_r xs (i + 1)) hI.1.1) (cwX1_token_L hts 1 ⟨by decide, by decide⟩) (hQ.recv hKm) hQ hKm rfl hl.1 rfl (Nat.le_of_ble_eq_true rfl) dL_law_182 ⟨by decide, by decide⟩ (fun rm hm1 => ?_)
  exact lv_icmp_eq (tgt := 433) hx hb dL_law_185 (by decide) (fun _ => kk _ _ ⟨sz, kn, K, N, B, D, E, T, O, C, M, R, V, hP, hQ, hI⟩ hS) (fun q => absurd (rd_or_uniq hx1 hm1) q)
set_option maxHeartbeats 4000000 in
/-- case 4: bound -/
theorem lw_case4 {p : Program} {l : Launch} {e : Env} {s : State} {m : MethodId} {below : List Frame} {meth : Method} {c : Code} {b L : Nat} {xs : Nat → Int32} {G : va_G} {adx adm : Nat → Nat} {cB cM : ClassId} (C0 : lwC p s m meth c b L xs G adx adm cB cM) {i : Int} (hi : 0 ≤ i ∧ i + 2 < L) {H : Heap} {locs : List Loc} (hI0 : lwI G adx adm cB cM H) (hS : va_S (lwA s) s.heap H locs) {ls : Array Slot} (hl : lv_has ls 4 [(0, .ref b), (1, .ref (adx 0)), (2, .ref (adm 0)), (3, .int (iI i))])
    (kk : ∀ (H1 : Heap) (locs1 : List Loc), lwI G adx adm cB cM H1 → va_S (lwA s) s.heap H1 locs1 → W p l e room_1 s m #[Value.ref b] below meth c H1 locs1 15 382 (lw_Z below #[Value.ref b] s) (F0 m 433 ls [])) : W p l e room_1 s m #[Value.ref b] below meth c H locs 15 382 (lw_Z below #[Value.ref b] s) (F0 m 190 ls []) := by
  obtain ⟨hx, hb, hr, hml, hown, hts, hX, hbl, hlocks, hL, hDx, hDm, hAx, hAm, hdis, hKx, hKm⟩ := C0
  obtain ⟨sz, kn, K, N, B, D, E, T, O, C, M, R, V, hP, hQ, hI⟩ := hI0
  refine lv_aload_n hx hb dL_law_190 rfl (lv_at hl 1 rfl) ?_
  refine lv_aload_n hx hb dL_law_191 rfl (lv_at hl 0 rfl) ?_
  refine lv_iload_n hx hb dL_law_192 rfl (lv_at hl 3 rfl) ?_
  refine ri_const hx hb dL_law_193 ?_
  refine ri_add hx hb dL_law_194 ?_
  refine lw_ld hx hb hX hbl hL hS (by omega) dL_law_195 ?_
  refine gM_call (As := [.int (iI (sx xs (i + 1)))]) (rest := []) hx hb hml hown hts (dm_bound l G adx cB sz kn K N B D E T O (sx xs (i + 1)) (sx_r xs (i + 1)) hDx hI) (cwX0_bound_L hts 4 ⟨by decide, by decide⟩) (hP.recv hKx) hP hKx rfl hl.1 rfl (Nat.le_of_ble_eq_true rfl) dL_law_196 ⟨by decide, by decide⟩ hAx hS (fun rx H locs hx1 hfr hS => ?_)
  have hQ := hQ.kept (fun q h1 h2 => hfr q h1 (fun h3 => hdis q h3 h2))
  obtain ⟨⟨kn1, B1, D1, E1, T1, O1, hP, hI1⟩, hxr⟩ := hx1
  refine lv_aload_n hx hb dL_law_199 rfl (lv_at hl 2 rfl) ?_
  refine lv_aload_n hx hb dL_law_200 rfl (lv_at hl 0 rfl) ?_
  refine lv_iload_n hx hb dL_law_201 rfl (lv_at hl 3 rfl) ?_
  refine ri_const hx hb dL_law_202 ?_
  refine ri_add hx hb dL_law_203 ?_
  refine lw_ld hx hb hX hbl hL hS (by omega) dL_law_204 ?_
  refine gM_call (As := [.int (iI (sx xs (i + 1)))]) (rest := [.int rx]) hx hb hml hown hts (mm_bound l G adm cM sz K N C M R V (sx xs (i + 1)) (sx_r xs (i + 1)) hDm hI.1) (cwX1_bound_L hts 4 ⟨by decide, by decide⟩) (hQ.recv hKm) hQ hKm rfl hl.1 rfl (Nat.le_of_ble_eq_true rfl) dL_law_205 ⟨by decide, by decide⟩ hAm hS (fun rm H locs hm1 hfr hS => ?_)
  have hP := hP.kept (fun q h1 h2 => hfr q h1 (fun h3 => hdis q h2 h3))
  obtain ⟨⟨C1, M1, R1, V1, hQ⟩, hmr⟩ := hm1
  exact lv_icmp_eq (tgt := 433) hx hb dL_law_208 (by decide) (fun _ => kk _ _ ⟨sz, kn1, K, N, B1, D1, E1, T1, O1, C1, M1, R1, V1, hP, hQ, hI1⟩ hS) (fun q => absurd (rd_Bou_uniq hxr hmr) q)
set_option maxHeartbeats 4000000 in
/-- case 5: uses -/
theorem lw_case5 {p : Program} {l : Launch} {e : Env} {s : State} {m : MethodId} {below : List Frame} {meth : Method} {c : Code} {b L : Nat} {xs : Nat → Int32} {G : va_G} {adx adm : Nat → Nat} {cB cM : ClassId} (C0 : lwC p s m meth c b L xs G adx adm cB cM) {i : Int} (hi : 0 ≤ i ∧ i + 2 < L) {H : Heap} {locs : List Loc} (hI0 : lwI G adx adm cB cM H) (hS : va_S (lwA s) s.heap H locs) {ls : Array Slot} (hl : lv_has ls 4 [(0, .ref b), (1, .ref (adx 0)), (2, .ref (adm 0)), (3, .int (iI i))])
    (kk : ∀ (H1 : Heap) (locs1 : List Loc), lwI G adx adm cB cM H1 → va_S (lwA s) s.heap H1 locs1 → W p l e room_1 s m #[Value.ref b] below meth c H1 locs1 15 382 (lw_Z below #[Value.ref b] s) (F0 m 433 ls [])) : W p l e room_1 s m #[Value.ref b] below meth c H locs 15 382 (lw_Z below #[Value.ref b] s) (F0 m 213 ls []) := by
  obtain ⟨hx, hb, hr, hml, hown, hts, hX, hbl, hlocks, hL, hDx, hDm, hAx, hAm, hdis, hKx, hKm⟩ := C0
  obtain ⟨sz, kn, K, N, B, D, E, T, O, C, M, R, V, hP, hQ, hI⟩ := hI0
  refine lv_aload_n hx hb dL_law_213 rfl (lv_at hl 1 rfl) ?_
  refine lv_aload_n hx hb dL_law_214 rfl (lv_at hl 0 rfl) ?_
  refine lv_iload_n hx hb dL_law_215 rfl (lv_at hl 3 rfl) ?_
  refine ri_const hx hb dL_law_216 ?_
  refine ri_add hx hb dL_law_217 ?_
  refine lw_ld hx hb hX hbl hL hS (by omega) dL_law_218 ?_
  refine gM_call (As := [.int (iI (sx xs (i + 1)))]) (rest := []) hx hb hml hown hts (dm_uses l G adx cB sz kn K N B D E T O (sx xs (i + 1)) (sx_r xs (i + 1)) hDx hI) (cwX0_uses_L hts 4 ⟨by decide, by decide⟩) (hP.recv hKx) hP hKx rfl hl.1 rfl (Nat.le_of_ble_eq_true rfl) dL_law_219 ⟨by decide, by decide⟩ hAx hS (fun rx H locs hx1 hfr hS => ?_)
  have hQ := hQ.kept (fun q h1 h2 => hfr q h1 (fun h3 => hdis q h3 h2))
  obtain ⟨kn1, B1, D1, E1, T1, O1, hP, hI1, -, hxr⟩ := hx1
  refine lv_aload_n hx hb dL_law_222 rfl (lv_at hl 2 rfl) ?_
  refine lv_aload_n hx hb dL_law_223 rfl (lv_at hl 0 rfl) ?_
  refine lv_iload_n hx hb dL_law_224 rfl (lv_at hl 3 rfl) ?_
  refine ri_const hx hb dL_law_225 ?_
  refine ri_add hx hb dL_law_226 ?_
  refine lw_ld hx hb hX hbl hL hS (by omega) dL_law_227 ?_
  refine gM_call (As := [.int (iI (sx xs (i + 1)))]) (rest := [.int rx]) hx hb hml hown hts (mm_uses l G adm cM sz K N C M R V (sx xs (i + 1)) (sx_r xs (i + 1)) hDm hI.1) (cwX1_uses_L hts 4 ⟨by decide, by decide⟩) (hQ.recv hKm) hQ hKm rfl hl.1 rfl (Nat.le_of_ble_eq_true rfl) dL_law_228 ⟨by decide, by decide⟩ hAm hS (fun rm H locs hm1 hfr hS => ?_)
  have hP := hP.kept (fun q h1 h2 => hfr q h1 (fun h3 => hdis q h2 h3))
  obtain ⟨⟨C1, M1, R1, V1, hQ⟩, hmr⟩ := hm1
  exact lv_icmp_eq (tgt := 433) hx hb dL_law_231 (by decide) (fun _ => kk _ _ ⟨sz, kn1, K, N, B1, D1, E1, T1, O1, C1, M1, R1, V1, hP, hQ, hI1⟩ hS) (fun q => absurd (rd_Uses_uniq hxr hmr) q)
set_option maxHeartbeats 4000000 in
/-- case 6: free -/
theorem lw_case6 {p : Program} {l : Launch} {e : Env} {s : State} {m : MethodId} {below : List Frame} {meth : Method} {c : Code} {b L : Nat} {xs : Nat → Int32} {G : va_G} {adx adm : Nat → Nat} {cB cM : ClassId} (C0 : lwC p s m meth c b L xs G adx adm cB cM) {i : Int} (hi : 0 ≤ i ∧ i + 2 < L) {H : Heap} {locs : List Loc} (hI0 : lwI G adx adm cB cM H) (hS : va_S (lwA s) s.heap H locs) {ls : Array Slot} (hl : lv_has ls 4 [(0, .ref b), (1, .ref (adx 0)), (2, .ref (adm 0)), (3, .int (iI i))])
    (kk : ∀ (H1 : Heap) (locs1 : List Loc), lwI G adx adm cB cM H1 → va_S (lwA s) s.heap H1 locs1 → W p l e room_1 s m #[Value.ref b] below meth c H1 locs1 15 382 (lw_Z below #[Value.ref b] s) (F0 m 433 ls [])) : W p l e room_1 s m #[Value.ref b] below meth c H locs 15 382 (lw_Z below #[Value.ref b] s) (F0 m 236 ls []) := by
  obtain ⟨hx, hb, hr, hml, hown, hts, hX, hbl, hlocks, hL, hDx, hDm, hAx, hAm, hdis, hKx, hKm⟩ := C0
  obtain ⟨sz, kn, K, N, B, D, E, T, O, C, M, R, V, hP, hQ, hI⟩ := hI0
  refine lv_aload_n hx hb dL_law_236 rfl (lv_at hl 1 rfl) ?_
  refine gM_call (As := []) (rest := []) hx hb hml hown hts (dm_free l G adx cB sz kn K N B D E T O hDx hI) (cwX0_free_L hts 4 ⟨by decide, by decide⟩) (hP.recv hKx) hP hKx rfl hl.1 rfl (Nat.le_of_ble_eq_true rfl) dL_law_237 ⟨by decide, by decide⟩ hAx hS (fun rx H locs hx1 hfr hS => ?_)
  have hQ := hQ.kept (fun q h1 h2 => hfr q h1 (fun h3 => hdis q h3 h2))
  obtain ⟨⟨kn1, B1, D1, E1, T1, O1, hP, hI1⟩, hxr⟩ := hx1
  refine lv_aload_n hx hb dL_law_240 rfl (lv_at hl 2 rfl) ?_
  refine gM_call (As := []) (rest := [.int rx]) hx hb hml hown hts (mm_free l G adm cM sz K N C M R V hDm hI.1) (cwX1_free_L hts 4 ⟨by decide, by decide⟩) (hQ.recv hKm) hQ hKm rfl hl.1 rfl (Nat.le_of_ble_eq_true rfl) dL_law_241 ⟨by decide, by decide⟩ hAm hS (fun rm H locs hm1 hfr hS => ?_)
  have hP := hP.kept (fun q h1 h2 => hfr q h1 (fun h3 => hdis q h2 h3))
  obtain ⟨⟨C1, M1, R1, V1, hQ⟩, hmr⟩ := hm1
  exact lv_icmp_eq (tgt := 433) hx hb dL_law_244 (by decide) (fun _ => kk _ _ ⟨sz, kn1, K, N, B1, D1, E1, T1, O1, C1, M1, R1, V1, hP, hQ, hI1⟩ hS) (fun q => absurd (Eq.trans hxr (Eq.symm hmr)) q)
set_option maxHeartbeats 4000000 in
/-- case 7: unused -/
theorem lw_case7 {p : Program} {l : Launch} {e : Env} {s : State} {m : MethodId} {below : List Frame} {meth : Method} {c : Code} {b L : Nat} {xs : Nat → Int32} {G : va_G} {adx adm : Nat → Nat} {cB cM : ClassId} (C0 : lwC p s m meth c b L xs G adx adm cB cM) {i : Int} (hi : 0 ≤ i ∧ i + 2 < L) {H : Heap} {locs : List Loc} (hI0 : lwI G adx adm cB cM H) (hS : va_S (lwA s) s.heap H locs) {ls : Array Slot} (hl : lv_has ls 4 [(0, .ref b), (1, .ref (adx 0)), (2, .ref (adm 0)), (3, .int (iI i))])
    (kk : ∀ (H1 : Heap) (locs1 : List Loc), lwI G adx adm cB cM H1 → va_S (lwA s) s.heap H1 locs1 → W p l e room_1 s m #[Value.ref b] below meth c H1 locs1 15 382 (lw_Z below #[Value.ref b] s) (F0 m 433 ls [])) : W p l e room_1 s m #[Value.ref b] below meth c H locs 15 382 (lw_Z below #[Value.ref b] s) (F0 m 249 ls []) := by
  obtain ⟨hx, hb, hr, hml, hown, hts, hX, hbl, hlocks, hL, hDx, hDm, hAx, hAm, hdis, hKx, hKm⟩ := C0
  obtain ⟨sz, kn, K, N, B, D, E, T, O, C, M, R, V, hP, hQ, hI⟩ := hI0
  refine lv_aload_n hx hb dL_law_249 rfl (lv_at hl 1 rfl) ?_
  refine gM_call (As := []) (rest := []) hx hb hml hown hts (dm_unused l G adx cB sz kn K N B D E T O hDx hI) (cwX0_unused_L hts 5 ⟨by decide, by decide⟩) (hP.recv hKx) hP hKx rfl hl.1 rfl (Nat.le_of_ble_eq_true rfl) dL_law_250 ⟨by decide, by decide⟩ hAx hS (fun rx H locs hx1 hfr hS => ?_)
  have hQ := hQ.kept (fun q h1 h2 => hfr q h1 (fun h3 => hdis q h3 h2))
  obtain ⟨⟨kn1, B1, D1, E1, T1, O1, hP, hI1⟩, hxr⟩ := hx1
  refine lv_aload_n hx hb dL_law_253 rfl (lv_at hl 2 rfl) ?_
  refine gM_call (As := []) (rest := [.int rx]) hx hb hml hown hts (mm_unused l G adm cM sz K N C M R V hDm hI.1) (cwX1_unused_L hts 5 ⟨by decide, by decide⟩) (hQ.recv hKm) hQ hKm rfl hl.1 rfl (Nat.le_of_ble_eq_true rfl) dL_law_254 ⟨by decide, by decide⟩ hAm hS (fun rm H locs hm1 hfr hS => ?_)
  have hP := hP.kept (fun q h1 h2 => hfr q h1 (fun h3 => hdis q h2 h3))
  obtain ⟨⟨C1, M1, R1, V1, hQ⟩, hmr⟩ := hm1
  exact lv_icmp_eq (tgt := 433) hx hb dL_law_257 (by decide) (fun _ => kk _ _ ⟨sz, kn1, K, N, B1, D1, E1, T1, O1, C1, M1, R1, V1, hP, hQ, hI1⟩ hS) (fun q => absurd (Eq.trans hxr (Eq.symm hmr)) q)
set_option maxHeartbeats 4000000 in
/-- case 8: names -/
theorem lw_case8 {p : Program} {l : Launch} {e : Env} {s : State} {m : MethodId} {below : List Frame} {meth : Method} {c : Code} {b L : Nat} {xs : Nat → Int32} {G : va_G} {adx adm : Nat → Nat} {cB cM : ClassId} (C0 : lwC p s m meth c b L xs G adx adm cB cM) {i : Int} (hi : 0 ≤ i ∧ i + 2 < L) {H : Heap} {locs : List Loc} (hI0 : lwI G adx adm cB cM H) (hS : va_S (lwA s) s.heap H locs) {ls : Array Slot} (hl : lv_has ls 4 [(0, .ref b), (1, .ref (adx 0)), (2, .ref (adm 0)), (3, .int (iI i))])
    (kk : ∀ (H1 : Heap) (locs1 : List Loc), lwI G adx adm cB cM H1 → va_S (lwA s) s.heap H1 locs1 → W p l e room_1 s m #[Value.ref b] below meth c H1 locs1 15 382 (lw_Z below #[Value.ref b] s) (F0 m 433 ls [])) : W p l e room_1 s m #[Value.ref b] below meth c H locs 15 382 (lw_Z below #[Value.ref b] s) (F0 m 262 ls []) := by
  obtain ⟨hx, hb, hr, hml, hown, hts, hX, hbl, hlocks, hL, hDx, hDm, hAx, hAm, hdis, hKx, hKm⟩ := C0
  obtain ⟨sz, kn, K, N, B, D, E, T, O, C, M, R, V, hP, hQ, hI⟩ := hI0
  refine lv_aload_n hx hb dL_law_262 rfl (lv_at hl 1 rfl) ?_
  refine lv_aload_n hx hb dL_law_263 rfl (lv_at hl 0 rfl) ?_
  refine lv_iload_n hx hb dL_law_264 rfl (lv_at hl 3 rfl) ?_
  refine ri_const hx hb dL_law_265 ?_
  refine ri_add hx hb dL_law_266 ?_
  refine lw_ld hx hb hX hbl hL hS (by omega) dL_law_267 ?_
  refine gM_call (As := [.int (iI (sx xs (i + 1)))]) (rest := []) hx hb hml hown hts (dm_names l G adx cB sz kn K N B D E T O (sx xs (i + 1)) (sx_r xs (i + 1)) hDx hI) (cwX0_names_L hts 4 ⟨by decide, by decide⟩) (hP.recv hKx) hP hKx rfl hl.1 rfl (Nat.le_of_ble_eq_true rfl) dL_law_268 ⟨by decide, by decide⟩ hAx hS (fun rx H locs hx1 hfr hS => ?_)
  have hQ := hQ.kept (fun q h1 h2 => hfr q h1 (fun h3 => hdis q h3 h2))
  obtain ⟨⟨kn1, B1, D1, E1, T1, O1, hP, hI1⟩, hxr⟩ := hx1
  refine lv_aload_n hx hb dL_law_271 rfl (lv_at hl 2 rfl) ?_
  refine lv_aload_n hx hb dL_law_272 rfl (lv_at hl 0 rfl) ?_
  refine lv_iload_n hx hb dL_law_273 rfl (lv_at hl 3 rfl) ?_
  refine ri_const hx hb dL_law_274 ?_
  refine ri_add hx hb dL_law_275 ?_
  refine lw_ld hx hb hX hbl hL hS (by omega) dL_law_276 ?_
  refine gM_call (As := [.int (iI (sx xs (i + 1)))]) (rest := [.int rx]) hx hb hml hown hts (mm_names l G adm cM sz K N C M R V (sx xs (i + 1)) (sx_r xs (i + 1)) hDm hI.1) (cwX1_names_L hts 5 ⟨by decide, by decide⟩) (hQ.recv hKm) hQ hKm rfl hl.1 rfl (Nat.le_of_ble_eq_true rfl) dL_law_277 ⟨by decide, by decide⟩ hAm hS (fun rm H locs hm1 hfr hS => ?_)
  have hP := hP.kept (fun q h1 h2 => hfr q h1 (fun h3 => hdis q h2 h3))
  obtain ⟨⟨C1, M1, R1, V1, hQ⟩, hmr⟩ := hm1
  exact lv_icmp_eq (tgt := 433) hx hb dL_law_280 (by decide) (fun _ => kk _ _ ⟨sz, kn1, K, N, B1, D1, E1, T1, O1, C1, M1, R1, V1, hP, hQ, hI1⟩ hS) (fun q => absurd (rd_Names_uniq hxr hmr) q)
set_option maxHeartbeats 4000000 in
/-- case 9: rename -/
theorem lw_case9 {p : Program} {l : Launch} {e : Env} {s : State} {m : MethodId} {below : List Frame} {meth : Method} {c : Code} {b L : Nat} {xs : Nat → Int32} {G : va_G} {adx adm : Nat → Nat} {cB cM : ClassId} (C0 : lwC p s m meth c b L xs G adx adm cB cM) {i : Int} (hi : 0 ≤ i ∧ i + 2 < L) {H : Heap} {locs : List Loc} (hI0 : lwI G adx adm cB cM H) (hS : va_S (lwA s) s.heap H locs) {ls : Array Slot} (hl : lv_has ls 4 [(0, .ref b), (1, .ref (adx 0)), (2, .ref (adm 0)), (3, .int (iI i))])
    (kk : ∀ (H1 : Heap) (locs1 : List Loc), lwI G adx adm cB cM H1 → va_S (lwA s) s.heap H1 locs1 → W p l e room_1 s m #[Value.ref b] below meth c H1 locs1 15 382 (lw_Z below #[Value.ref b] s) (F0 m 433 ls [])) : W p l e room_1 s m #[Value.ref b] below meth c H locs 15 382 (lw_Z below #[Value.ref b] s) (F0 m 285 ls []) := by
  obtain ⟨hx, hb, hr, hml, hown, hts, hX, hbl, hlocks, hL, hDx, hDm, hAx, hAm, hdis, hKx, hKm⟩ := C0
  obtain ⟨sz, kn, K, N, B, D, E, T, O, C, M, R, V, hP, hQ, hI⟩ := hI0
  refine lv_aload_n hx hb dL_law_285 rfl (lv_at hl 1 rfl) ?_
  refine lv_aload_n hx hb dL_law_286 rfl (lv_at hl 0 rfl) ?_
  refine lv_iload_n hx hb dL_law_287 rfl (lv_at hl 3 rfl) ?_
  refine ri_const hx hb dL_law_288 ?_
  refine ri_add hx hb dL_law_289 ?_
  refine lw_ld hx hb hX hbl hL hS (by omega) dL_law_290 ?_
  refine lv_aload_n hx hb dL_law_291 rfl (lv_at hl 0 rfl) ?_
  refine lv_iload_n hx hb dL_law_292 rfl (lv_at hl 3 rfl) ?_
  refine ri_const hx hb dL_law_293 ?_
  refine ri_add hx hb dL_law_294 ?_
  refine lw_ld hx hb hX hbl hL hS (by omega) dL_law_295 ?_
  refine gM_call (As := [.int (iI (sx xs (i + 1))), .int (iI (sx xs (i + 2)))]) (rest := []) hx hb hml hown hts (dm_rename l G adx cB sz kn K N B D E T O (sx xs (i + 1)) (sx xs (i + 2)) (sx_r xs (i + 1)) (sx_r xs (i + 2)) hDx hI) (cwX0_rename_L hts 4 ⟨by decide, by decide⟩) (hP.recv hKx) hP hKx rfl hl.1 rfl (Nat.le_of_ble_eq_true rfl) dL_law_296 ⟨by decide, by decide⟩ hAx hS (fun rx H locs hx1 hfr hS => ?_)
  have hQ := hQ.kept (fun q h1 h2 => hfr q h1 (fun h3 => hdis q h3 h2))
  obtain ⟨kn1, N1, B1, D1, E1, T1, O1, hP, hI1, hxr⟩ := hx1
  refine lv_aload_n hx hb dL_law_299 rfl (lv_at hl 2 rfl) ?_
  refine lv_aload_n hx hb dL_law_300 rfl (lv_at hl 0 rfl) ?_
  refine lv_iload_n hx hb dL_law_301 rfl (lv_at hl 3 rfl) ?_
  refine ri_const hx hb dL_law_302 ?_
  refine ri_add hx hb dL_law_303 ?_
  refine lw_ld hx hb hX hbl hL hS (by omega) dL_law_304 ?_
  refine lv_aload_n hx hb dL_law_305 rfl (lv_at hl 0 rfl) ?_
  refine lv_iload_n hx hb dL_law_306 rfl (lv_at hl 3 rfl) ?_
  refine ri_const hx hb dL_law_307 ?_
  refine ri_add hx hb dL_law_308 ?_
  refine lw_ld hx hb hX hbl hL hS (by omega) dL_law_309 ?_
  refine gM_call (As := [.int (iI (sx xs (i + 1))), .int (iI (sx xs (i + 2)))]) (rest := [.int rx]) hx hb hml hown hts (mm_rename l G adm cM sz K N C M R V (sx xs (i + 1)) (sx xs (i + 2)) (sx_r xs (i + 1)) (sx_r xs (i + 2)) hDm hI.1) (cwX1_rename_L hts 5 ⟨by decide, by decide⟩) (hQ.recv hKm) hQ hKm rfl hl.1 rfl (Nat.le_of_ble_eq_true rfl) dL_law_310 ⟨by decide, by decide⟩ hAm hS (fun rm H locs hm1 hfr hS => ?_)
  have hP := hP.kept (fun q h1 h2 => hfr q h1 (fun h3 => hdis q h2 h3))
  obtain ⟨N2, C1, M1, R1, V1, hQ, hmr⟩ := hm1
  obtain ⟨he, hs1⟩ := rd_Ren_uniq hxr hmr
  subst hs1
  exact lv_icmp_eq (tgt := 433) hx hb dL_law_313 (by decide) (fun _ => kk _ _ ⟨sz, kn1, K, N1, B1, D1, E1, T1, O1, C1, M1, R1, V1, hP, hQ, hI1⟩ hS) (fun q => absurd (he) q)
set_option maxHeartbeats 4000000 in
/-- case 10: swap -/
theorem lw_case10 {p : Program} {l : Launch} {e : Env} {s : State} {m : MethodId} {below : List Frame} {meth : Method} {c : Code} {b L : Nat} {xs : Nat → Int32} {G : va_G} {adx adm : Nat → Nat} {cB cM : ClassId} (C0 : lwC p s m meth c b L xs G adx adm cB cM) {i : Int} (hi : 0 ≤ i ∧ i + 2 < L) {H : Heap} {locs : List Loc} (hI0 : lwI G adx adm cB cM H) (hS : va_S (lwA s) s.heap H locs) {ls : Array Slot} (hl : lv_has ls 4 [(0, .ref b), (1, .ref (adx 0)), (2, .ref (adm 0)), (3, .int (iI i))])
    (kk : ∀ (H1 : Heap) (locs1 : List Loc), lwI G adx adm cB cM H1 → va_S (lwA s) s.heap H1 locs1 → W p l e room_1 s m #[Value.ref b] below meth c H1 locs1 15 382 (lw_Z below #[Value.ref b] s) (F0 m 433 ls [])) : W p l e room_1 s m #[Value.ref b] below meth c H locs 15 382 (lw_Z below #[Value.ref b] s) (F0 m 318 ls []) := by
  obtain ⟨hx, hb, hr, hml, hown, hts, hX, hbl, hlocks, hL, hDx, hDm, hAx, hAm, hdis, hKx, hKm⟩ := C0
  obtain ⟨sz, kn, K, N, B, D, E, T, O, C, M, R, V, hP, hQ, hI⟩ := hI0
  refine lv_aload_n hx hb dL_law_318 rfl (lv_at hl 1 rfl) ?_
  refine lv_aload_n hx hb dL_law_319 rfl (lv_at hl 0 rfl) ?_
  refine lv_iload_n hx hb dL_law_320 rfl (lv_at hl 3 rfl) ?_
  refine ri_const hx hb dL_law_321 ?_
  refine ri_add hx hb dL_law_322 ?_
  refine lw_ld hx hb hX hbl hL hS (by omega) dL_law_323 ?_
  refine gM_call (As := [.int (iI (sx xs (i + 1)))]) (rest := []) hx hb hml hown hts (dm_swap l G adx cB sz kn K N B D E T O (sx xs (i + 1)) (sx_r xs (i + 1)) hDx hI) (cwX0_swap_L hts 6 ⟨by decide, by decide⟩) (hP.recv hKx) hP hKx rfl hl.1 rfl (Nat.le_of_ble_eq_true rfl) dL_law_324 ⟨by decide, by decide⟩ hAx hS (fun rx H locs hx1 hfr hS => ?_)
  have hQ := hQ.kept (fun q h1 h2 => hfr q h1 (fun h3 => hdis q h3 h2))
  obtain ⟨kn1, K1, N1, B1, D1, E1, T1, O1, hP, hI1, hxr⟩ := hx1
  refine lv_aload_n hx hb dL_law_327 rfl (lv_at hl 2 rfl) ?_
  refine lv_aload_n hx hb dL_law_328 rfl (lv_at hl 0 rfl) ?_
  refine lv_iload_n hx hb dL_law_329 rfl (lv_at hl 3 rfl) ?_
  refine ri_const hx hb dL_law_330 ?_
  refine ri_add hx hb dL_law_331 ?_
  refine lw_ld hx hb hX hbl hL hS (by omega) dL_law_332 ?_
  refine gM_call (As := [.int (iI (sx xs (i + 1)))]) (rest := [.int rx]) hx hb hml hown hts (mm_swap l G adm cM sz K N C M R V (sx xs (i + 1)) (sx_r xs (i + 1)) hDm hI.1) (cwX1_swap_L hts 4 ⟨by decide, by decide⟩) (hQ.recv hKm) hQ hKm rfl hl.1 rfl (Nat.le_of_ble_eq_true rfl) dL_law_333 ⟨by decide, by decide⟩ hAm hS (fun rm H locs hm1 hfr hS => ?_)
  have hP := hP.kept (fun q h1 h2 => hfr q h1 (fun h3 => hdis q h2 h3))
  obtain ⟨K2, N2, C1, M1, R1, V1, hQ, hmr⟩ := hm1
  obtain ⟨he, hs1, hs2⟩ := rd_Swp_uniq hxr hmr
  subst hs1
  subst hs2
  exact lv_icmp_eq (tgt := 433) hx hb dL_law_336 (by decide) (fun _ => kk _ _ ⟨sz, kn1, K1, N1, B1, D1, E1, T1, O1, C1, M1, R1, V1, hP, hQ, hI1⟩ hS) (fun q => absurd (he) q)
set_option maxHeartbeats 4000000 in
/-- case 11: moveOut -/
theorem lw_case11 {p : Program} {l : Launch} {e : Env} {s : State} {m : MethodId} {below : List Frame} {meth : Method} {c : Code} {b L : Nat} {xs : Nat → Int32} {G : va_G} {adx adm : Nat → Nat} {cB cM : ClassId} (C0 : lwC p s m meth c b L xs G adx adm cB cM) {i : Int} (hi : 0 ≤ i ∧ i + 2 < L) {H : Heap} {locs : List Loc} (hI0 : lwI G adx adm cB cM H) (hS : va_S (lwA s) s.heap H locs) {ls : Array Slot} (hl : lv_has ls 4 [(0, .ref b), (1, .ref (adx 0)), (2, .ref (adm 0)), (3, .int (iI i))])
    (kk : ∀ (H1 : Heap) (locs1 : List Loc), lwI G adx adm cB cM H1 → va_S (lwA s) s.heap H1 locs1 → W p l e room_1 s m #[Value.ref b] below meth c H1 locs1 15 382 (lw_Z below #[Value.ref b] s) (F0 m 433 ls [])) : W p l e room_1 s m #[Value.ref b] below meth c H locs 15 382 (lw_Z below #[Value.ref b] s) (F0 m 341 ls []) := by
  obtain ⟨hx, hb, hr, hml, hown, hts, hX, hbl, hlocks, hL, hDx, hDm, hAx, hAm, hdis, hKx, hKm⟩ := C0
  obtain ⟨sz, kn, K, N, B, D, E, T, O, C, M, R, V, hP, hQ, hI⟩ := hI0
  refine lv_aload_n hx hb dL_law_341 rfl (lv_at hl 1 rfl) ?_
  refine lv_aload_n hx hb dL_law_342 rfl (lv_at hl 0 rfl) ?_
  refine lv_iload_n hx hb dL_law_343 rfl (lv_at hl 3 rfl) ?_
  refine ri_const hx hb dL_law_344 ?_
  refine ri_add hx hb dL_law_345 ?_
  refine lw_ld hx hb hX hbl hL hS (by omega) dL_law_346 ?_
  refine gM_call (As := [.int (iI (sx xs (i + 1)))]) (rest := []) hx hb hml hown hts (dm_moveOut l G adx cB sz kn K N B D E T O (sx xs (i + 1)) (sx_r xs (i + 1)) hDx hI) (cwX0_moveOut_L hts 6 ⟨by decide, by decide⟩) (hP.recv hKx) hP hKx rfl hl.1 rfl (Nat.le_of_ble_eq_true rfl) dL_law_347 ⟨by decide, by decide⟩ hAx hS (fun rx H locs hx1 hfr hS => ?_)
  have hQ := hQ.kept (fun q h1 h2 => hfr q h1 (fun h3 => hdis q h3 h2))
  obtain ⟨kn1, K1, N1, B1, D1, E1, T1, O1, hP, hI1, hxr⟩ := hx1
  refine lv_aload_n hx hb dL_law_350 rfl (lv_at hl 2 rfl) ?_
  refine lv_aload_n hx hb dL_law_351 rfl (lv_at hl 0 rfl) ?_
  refine lv_iload_n hx hb dL_law_352 rfl (lv_at hl 3 rfl) ?_
  refine ri_const hx hb dL_law_353 ?_
  refine ri_add hx hb dL_law_354 ?_
  refine lw_ld hx hb hX hbl hL hS (by omega) dL_law_355 ?_
  refine gM_call (As := [.int (iI (sx xs (i + 1)))]) (rest := [.int rx]) hx hb hml hown hts (mm_moveOut l G adm cM sz K N C M R V (sx xs (i + 1)) (sx_r xs (i + 1)) hDm hI.1) (cwX1_moveOut_L hts 4 ⟨by decide, by decide⟩) (hQ.recv hKm) hQ hKm rfl hl.1 rfl (Nat.le_of_ble_eq_true rfl) dL_law_356 ⟨by decide, by decide⟩ hAm hS (fun rm H locs hm1 hfr hS => ?_)
  have hP := hP.kept (fun q h1 h2 => hfr q h1 (fun h3 => hdis q h2 h3))
  obtain ⟨K2, N2, C1, M1, R1, V1, hQ, hmr⟩ := hm1
  obtain ⟨he, hs1, hs2⟩ := rd_Mov_uniq hxr hmr
  subst hs1
  subst hs2
  exact lv_icmp_eq (tgt := 433) hx hb dL_law_359 (by decide) (fun _ => kk _ _ ⟨sz, kn1, K1, N1, B1, D1, E1, T1, O1, C1, M1, R1, V1, hP, hQ, hI1⟩ hS) (fun q => absurd (he) q)
set_option maxHeartbeats 4000000 in
/-- case 12: canMoveOut -/
theorem lw_case12 {p : Program} {l : Launch} {e : Env} {s : State} {m : MethodId} {below : List Frame} {meth : Method} {c : Code} {b L : Nat} {xs : Nat → Int32} {G : va_G} {adx adm : Nat → Nat} {cB cM : ClassId} (C0 : lwC p s m meth c b L xs G adx adm cB cM) {i : Int} (hi : 0 ≤ i ∧ i + 2 < L) {H : Heap} {locs : List Loc} (hI0 : lwI G adx adm cB cM H) (hS : va_S (lwA s) s.heap H locs) {ls : Array Slot} (hl : lv_has ls 4 [(0, .ref b), (1, .ref (adx 0)), (2, .ref (adm 0)), (3, .int (iI i))])
    (kk : ∀ (H1 : Heap) (locs1 : List Loc), lwI G adx adm cB cM H1 → va_S (lwA s) s.heap H1 locs1 → W p l e room_1 s m #[Value.ref b] below meth c H1 locs1 15 382 (lw_Z below #[Value.ref b] s) (F0 m 433 ls [])) : W p l e room_1 s m #[Value.ref b] below meth c H locs 15 382 (lw_Z below #[Value.ref b] s) (F0 m 364 ls []) := by
  obtain ⟨hx, hb, hr, hml, hown, hts, hX, hbl, hlocks, hL, hDx, hDm, hAx, hAm, hdis, hKx, hKm⟩ := C0
  obtain ⟨sz, kn, K, N, B, D, E, T, O, C, M, R, V, hP, hQ, hI⟩ := hI0
  refine lv_aload_n hx hb dL_law_364 rfl (lv_at hl 1 rfl) ?_
  refine lv_aload_n hx hb dL_law_365 rfl (lv_at hl 0 rfl) ?_
  refine lv_iload_n hx hb dL_law_366 rfl (lv_at hl 3 rfl) ?_
  refine ri_const hx hb dL_law_367 ?_
  refine ri_add hx hb dL_law_368 ?_
  refine lw_ld hx hb hX hbl hL hS (by omega) dL_law_369 ?_
  refine gM_call (As := [.int (iI (sx xs (i + 1)))]) (rest := []) hx hb hml hown hts (dm_canMoveOut l G adx cB sz kn K N B D E T O (sx xs (i + 1)) (sx_r xs (i + 1)) hDx hI) (cwX0_canMoveOut_L hts 6 ⟨by decide, by decide⟩) (hP.recv hKx) hP hKx rfl hl.1 rfl (Nat.le_of_ble_eq_true rfl) dL_law_370 ⟨by decide, by decide⟩ hAx hS (fun rx H locs hx1 hfr hS => ?_)
  have hQ := hQ.kept (fun q h1 h2 => hfr q h1 (fun h3 => hdis q h3 h2))
  obtain ⟨⟨kn1, B1, D1, E1, T1, O1, hP, hI1⟩, hxr⟩ := hx1
  refine lv_aload_n hx hb dL_law_373 rfl (lv_at hl 2 rfl) ?_
  refine lv_aload_n hx hb dL_law_374 rfl (lv_at hl 0 rfl) ?_
  refine lv_iload_n hx hb dL_law_375 rfl (lv_at hl 3 rfl) ?_
  refine ri_const hx hb dL_law_376 ?_
  refine ri_add hx hb dL_law_377 ?_
  refine lw_ld hx hb hX hbl hL hS (by omega) dL_law_378 ?_
  refine gM_call (As := [.int (iI (sx xs (i + 1)))]) (rest := [.int rx]) hx hb hml hown hts (mm_canMoveOut l G adm cM sz K N C M R V (sx xs (i + 1)) (sx_r xs (i + 1)) hDm hI.1) (cwX1_canMoveOut_L hts 4 ⟨by decide, by decide⟩) (hQ.recv hKm) hQ hKm rfl hl.1 rfl (Nat.le_of_ble_eq_true rfl) dL_law_379 ⟨by decide, by decide⟩ hAm hS (fun rm H locs hm1 hfr hS => ?_)
  have hP := hP.kept (fun q h1 h2 => hfr q h1 (fun h3 => hdis q h2 h3))
  obtain ⟨⟨C1, M1, R1, V1, hQ⟩, hmr⟩ := hm1
  exact lv_icmp_eq (tgt := 433) hx hb dL_law_382 (by decide) (fun _ => kk _ _ ⟨sz, kn1, K, N, B1, D1, E1, T1, O1, C1, M1, R1, V1, hP, hQ, hI1⟩ hS) (fun q => absurd (rd_BP_uniq hxr hmr) q)
set_option maxHeartbeats 4000000 in
/-- case 13: depth -/
theorem lw_case13 {p : Program} {l : Launch} {e : Env} {s : State} {m : MethodId} {below : List Frame} {meth : Method} {c : Code} {b L : Nat} {xs : Nat → Int32} {G : va_G} {adx adm : Nat → Nat} {cB cM : ClassId} (C0 : lwC p s m meth c b L xs G adx adm cB cM) {i : Int} (hi : 0 ≤ i ∧ i + 2 < L) {H : Heap} {locs : List Loc} (hI0 : lwI G adx adm cB cM H) (hS : va_S (lwA s) s.heap H locs) {ls : Array Slot} (hl : lv_has ls 4 [(0, .ref b), (1, .ref (adx 0)), (2, .ref (adm 0)), (3, .int (iI i))])
    (kk : ∀ (H1 : Heap) (locs1 : List Loc), lwI G adx adm cB cM H1 → va_S (lwA s) s.heap H1 locs1 → W p l e room_1 s m #[Value.ref b] below meth c H1 locs1 15 382 (lw_Z below #[Value.ref b] s) (F0 m 433 ls [])) : W p l e room_1 s m #[Value.ref b] below meth c H locs 15 382 (lw_Z below #[Value.ref b] s) (F0 m 387 ls []) := by
  obtain ⟨hx, hb, hr, hml, hown, hts, hX, hbl, hlocks, hL, hDx, hDm, hAx, hAm, hdis, hKx, hKm⟩ := C0
  obtain ⟨sz, kn, K, N, B, D, E, T, O, C, M, R, V, hP, hQ, hI⟩ := hI0
  refine lv_aload_n hx hb dL_law_387 rfl (lv_at hl 1 rfl) ?_
  refine lv_aload_n hx hb dL_law_388 rfl (lv_at hl 0 rfl) ?_
  refine lv_iload_n hx hb dL_law_389 rfl (lv_at hl 3 rfl) ?_
  refine ri_const hx hb dL_law_390 ?_
  refine ri_add hx hb dL_law_391 ?_
  refine lw_ld hx hb hX hbl hL hS (by omega) dL_law_392 ?_
  refine gM_call (As := [.int (iI (sx xs (i + 1)))]) (rest := []) hx hb hml hown hts (dm_depth l G adx cB sz kn K N B D E T O (sx xs (i + 1)) (sx_r xs (i + 1)) hDx hI) (cwX0_depth_L hts 4 ⟨by decide, by decide⟩) (hP.recv hKx) hP hKx rfl hl.1 rfl (Nat.le_of_ble_eq_true rfl) dL_law_393 ⟨by decide, by decide⟩ hAx hS (fun rx H locs hx1 hfr hS => ?_)
  have hQ := hQ.kept (fun q h1 h2 => hfr q h1 (fun h3 => hdis q h3 h2))
  obtain ⟨⟨kn1, B1, D1, E1, T1, O1, hP, hI1⟩, hxr⟩ := hx1
  refine lv_aload_n hx hb dL_law_396 rfl (lv_at hl 2 rfl) ?_
  refine lv_aload_n hx hb dL_law_397 rfl (lv_at hl 0 rfl) ?_
  refine lv_iload_n hx hb dL_law_398 rfl (lv_at hl 3 rfl) ?_
  refine ri_const hx hb dL_law_399 ?_
  refine ri_add hx hb dL_law_400 ?_
  refine lw_ld hx hb hX hbl hL hS (by omega) dL_law_401 ?_
  refine gM_call (As := [.int (iI (sx xs (i + 1)))]) (rest := [.int rx]) hx hb hml hown hts (mm_depth l G adm cM sz K N C M R V (sx xs (i + 1)) (sx_r xs (i + 1)) hDm hI.1) (cwX1_depth_L hts 1 ⟨by decide, by decide⟩) (hQ.recv hKm) hQ hKm rfl hl.1 rfl (Nat.le_of_ble_eq_true rfl) dL_law_402 ⟨by decide, by decide⟩ hAm hS (fun rm H locs hm1 hfr hS => ?_)
  have hP := hP.kept (fun q h1 h2 => hfr q h1 (fun h3 => hdis q h2 h3))
  obtain ⟨⟨C1, M1, R1, V1, hQ⟩, hmr⟩ := hm1
  exact lv_icmp_eq (tgt := 433) hx hb dL_law_405 (by decide) (fun _ => kk _ _ ⟨sz, kn1, K, N, B1, D1, E1, T1, O1, C1, M1, R1, V1, hP, hQ, hI1⟩ hS) (fun q => absurd (rd_or_uniq hxr hmr) q)
set_option maxHeartbeats 4000000 in
/-- case 14: visible -/
theorem lw_case14 {p : Program} {l : Launch} {e : Env} {s : State} {m : MethodId} {below : List Frame} {meth : Method} {c : Code} {b L : Nat} {xs : Nat → Int32} {G : va_G} {adx adm : Nat → Nat} {cB cM : ClassId} (C0 : lwC p s m meth c b L xs G adx adm cB cM) {i : Int} (hi : 0 ≤ i ∧ i + 2 < L) {H : Heap} {locs : List Loc} (hI0 : lwI G adx adm cB cM H) (hS : va_S (lwA s) s.heap H locs) {ls : Array Slot} (hl : lv_has ls 4 [(0, .ref b), (1, .ref (adx 0)), (2, .ref (adm 0)), (3, .int (iI i))])
    (kk : ∀ (H1 : Heap) (locs1 : List Loc), lwI G adx adm cB cM H1 → va_S (lwA s) s.heap H1 locs1 → W p l e room_1 s m #[Value.ref b] below meth c H1 locs1 15 382 (lw_Z below #[Value.ref b] s) (F0 m 433 ls [])) : W p l e room_1 s m #[Value.ref b] below meth c H locs 15 382 (lw_Z below #[Value.ref b] s) (F0 m 410 ls []) := by
  obtain ⟨hx, hb, hr, hml, hown, hts, hX, hbl, hlocks, hL, hDx, hDm, hAx, hAm, hdis, hKx, hKm⟩ := C0
  obtain ⟨sz, kn, K, N, B, D, E, T, O, C, M, R, V, hP, hQ, hI⟩ := hI0
  refine lv_aload_n hx hb dL_law_410 rfl (lv_at hl 1 rfl) ?_
  refine lv_aload_n hx hb dL_law_411 rfl (lv_at hl 0 rfl) ?_
  refine lv_iload_n hx hb dL_law_412 rfl (lv_at hl 3 rfl) ?_
  refine ri_const hx hb dL_law_413 ?_
  refine ri_add hx hb dL_law_414 ?_
  refine lw_ld hx hb hX hbl hL hS (by omega) dL_law_415 ?_
  refine gM_call (As := [.int (iI (sx xs (i + 1)))]) (rest := []) hx hb hml hown hts (dm_visible l G adx cB sz kn K N B D E T O (sx xs (i + 1)) (sx_r xs (i + 1)) hDx hI) (cwX0_visible_L hts 4 ⟨by decide, by decide⟩) (hP.recv hKx) hP hKx rfl hl.1 rfl (Nat.le_of_ble_eq_true rfl) dL_law_416 ⟨by decide, by decide⟩ hAx hS (fun rx H locs hx1 hfr hS => ?_)
  have hQ := hQ.kept (fun q h1 h2 => hfr q h1 (fun h3 => hdis q h3 h2))
  obtain ⟨⟨kn1, B1, D1, E1, T1, O1, hP, hI1⟩, hxr⟩ := hx1
  refine lv_aload_n hx hb dL_law_419 rfl (lv_at hl 2 rfl) ?_
  refine lv_aload_n hx hb dL_law_420 rfl (lv_at hl 0 rfl) ?_
  refine lv_iload_n hx hb dL_law_421 rfl (lv_at hl 3 rfl) ?_
  refine ri_const hx hb dL_law_422 ?_
  refine ri_add hx hb dL_law_423 ?_
  refine lw_ld hx hb hX hbl hL hS (by omega) dL_law_424 ?_
  refine gM_call (As := [.int (iI (sx xs (i + 1)))]) (rest := [.int rx]) hx hb hml hown hts (mm_visible l G adm cM sz K N C M R V (sx xs (i + 1)) (sx_r xs (i + 1)) hDm hI.1) (cwX1_visible_L hts 3 ⟨by decide, by decide⟩) (hQ.recv hKm) hQ hKm rfl hl.1 rfl (Nat.le_of_ble_eq_true rfl) dL_law_425 ⟨by decide, by decide⟩ hAm hS (fun rm H locs hm1 hfr hS => ?_)
  have hP := hP.kept (fun q h1 h2 => hfr q h1 (fun h3 => hdis q h2 h3))
  obtain ⟨⟨C1, M1, R1, V1, hQ⟩, hmr⟩ := hm1
  exact lv_icmp_eq (tgt := 433) hx hb dL_law_428 (by decide) (fun _ => kk _ _ ⟨sz, kn1, K, N, B1, D1, E1, T1, O1, C1, M1, R1, V1, hP, hQ, hI1⟩ hS) (fun q => absurd (rd_or_uniq hxr hmr) q)
end
section
set_option maxRecDepth 100000
set_option maxHeartbeats 4000000 in
/-- the law's loop at its head -/
theorem lw_loop {p : Program} {l : Launch} {e : Env} {s : State} {m : MethodId} {below : List Frame} {meth : Method} {c : Code} {b L : Nat} {xs : Nat → Int32} {G : va_G} {adx adm : Nat → Nat} {cB cM : ClassId} (C0 : lwC p s m meth c b L xs G adx adm cB cM) :
    ∀ (n : Nat) (i : Int), 0 ≤ i → i ≤ L → L - i < (n : Int) → ∀ (H : Heap) (locs : List Loc), lwI G adx adm cB cM H → va_S (lwA s) s.heap H locs → ∀ (ls : Array Slot), lv_has ls 4 [(0, .ref b), (1, .ref (adx 0)), (2, .ref (adm 0)), (3, .int (iI i))] → W p l e room_1 s m #[Value.ref b] below meth c H locs 15 382 (lw_Z below #[Value.ref b] s) (F0 m 18 ls []) := by
  intro n
  induction n with
  | zero =>
    intro i h1 h2 h3
    exfalso
    omega
  | succ n ih =>
    intro i h1 h2 h3 H locs hI0 hS ls hl
    obtain ⟨hx, hb, hr, hml, hown, hts, hX, hbl, hlocks, hL, hDx, hDm, hAx, hAm, hdis, hKx, hKm⟩ := id C0
    refine lv_iload_n hx hb dL_law_18 rfl (lv_at hl 3 rfl) ?_
    refine lv_aload_n hx hb dL_law_19 rfl (lv_at hl 0 rfl) ?_
    refine lw_len hx hb hX hbl hL hS dL_law_20 ?_
    refine ri_const hx hb dL_law_21 ?_
    refine ri_sub hx hb dL_law_22 ?_
    refine ri_cmp_gt (tgt := 439) hx hb dL_law_23 (by decide) (by omega) (fun c23 => ?_) (fun c23 => ?_)
    · refine lv_iconst (v := 1) hx hb dL_law_439 (by decide) ?_
      refine va_forget (fun q h => hS.2.2 q h) ?_
      refine W.widen (k := 600000) (n := 7290000) (by decide) (by decide) ?_
      exact lw_ret hx hb hr hlocks dL_law_440
    · have kk : ∀ (H1 : Heap) (locs1 : List Loc), lwI G adx adm cB cM H1 → va_S (lwA s) s.heap H1 locs1 → W p l e room_1 s m #[Value.ref b] below meth c H1 locs1 15 382 (lw_Z below #[Value.ref b] s) (F0 m 433 ls []) := by
        intro H1 locs1 hI1 hS1
        refine ri_inc (k := 3) (lv1 := [(3, .int (iI (i + 3))), (0, .ref b), (1, .ref (adx 0)), (2, .ref (adm 0))]) hx hb dL_law_433 hl rfl (by decide) rfl (fun ls hl => ?_)
        refine lv_goto (tgt := 18) hx hb dL_law_436 (by decide) ?_
        exact ih (i + 3) (by omega) (by omega) (by omega) H1 locs1 hI1 hS1 ls (lv_sub hl [1, 2, 3, 0] rfl)
      refine lv_aload_n hx hb dL_law_26 rfl (lv_at hl 0 rfl) ?_
      refine lv_iload_n hx hb dL_law_27 rfl (lv_at hl 3 rfl) ?_
      refine lw_ld hx hb hX hbl hL hS (by omega) dL_law_28 ?_
      refine ri_push hx hb dL_law_29 (by decide) ?_
      refine lv_iand hx hb dL_law_31 ?_
      refine lv_topi (fun v ev => ?_)
      obtain ⟨j, hj, ej⟩ := pk_andE (iI (sx xs i)) (m := iI 15) 4 (by decide)
      rw [ej] at ev
      subst ev
      have hj16 : j = 0 ∨ j = 1 ∨ j = 2 ∨ j = 3 ∨ j = 4 ∨ j = 5 ∨ j = 6 ∨ j = 7 ∨ j = 8 ∨ j = 9 ∨ j = 10 ∨ j = 11 ∨ j = 12 ∨ j = 13 ∨ j = 14 ∨ j = 15 := by omega
      rcases hj16 with rfl | rfl | rfl | rfl | rfl | rfl | rfl | rfl | rfl | rfl | rfl | rfl | rfl | rfl | rfl | rfl
      · refine lv_tableIn (tgt := 108) hx hb dL_law_32 (by decide) (by decide) (by rfl) (by decide) ?_
        exact lw_case0 C0 (by omega) hI0 hS hl kk
      · refine lv_tableIn (tgt := 141) hx hb dL_law_32 (by decide) (by decide) (by rfl) (by decide) ?_
        exact lw_case1 C0 (by omega) hI0 hS hl kk
      · refine lv_tableIn (tgt := 154) hx hb dL_law_32 (by decide) (by decide) (by rfl) (by decide) ?_
        exact lw_case2 C0 (by omega) hI0 hS hl kk
      · refine lv_tableIn (tgt := 167) hx hb dL_law_32 (by decide) (by decide) (by rfl) (by decide) ?_
        exact lw_case3 C0 (by omega) hI0 hS hl kk
      · refine lv_tableIn (tgt := 190) hx hb dL_law_32 (by decide) (by decide) (by rfl) (by decide) ?_
        exact lw_case4 C0 (by omega) hI0 hS hl kk
      · refine lv_tableIn (tgt := 213) hx hb dL_law_32 (by decide) (by decide) (by rfl) (by decide) ?_
        exact lw_case5 C0 (by omega) hI0 hS hl kk
      · refine lv_tableIn (tgt := 236) hx hb dL_law_32 (by decide) (by decide) (by rfl) (by decide) ?_
        exact lw_case6 C0 (by omega) hI0 hS hl kk
      · refine lv_tableIn (tgt := 249) hx hb dL_law_32 (by decide) (by decide) (by rfl) (by decide) ?_
        exact lw_case7 C0 (by omega) hI0 hS hl kk
      · refine lv_tableIn (tgt := 262) hx hb dL_law_32 (by decide) (by decide) (by rfl) (by decide) ?_
        exact lw_case8 C0 (by omega) hI0 hS hl kk
      · refine lv_tableIn (tgt := 285) hx hb dL_law_32 (by decide) (by decide) (by rfl) (by decide) ?_
        exact lw_case9 C0 (by omega) hI0 hS hl kk
      · refine lv_tableIn (tgt := 318) hx hb dL_law_32 (by decide) (by decide) (by rfl) (by decide) ?_
        exact lw_case10 C0 (by omega) hI0 hS hl kk
      · refine lv_tableIn (tgt := 341) hx hb dL_law_32 (by decide) (by decide) (by rfl) (by decide) ?_
        exact lw_case11 C0 (by omega) hI0 hS hl kk
      · refine lv_tableIn (tgt := 364) hx hb dL_law_32 (by decide) (by decide) (by rfl) (by decide) ?_
        exact lw_case12 C0 (by omega) hI0 hS hl kk
      · refine lv_tableIn (tgt := 387) hx hb dL_law_32 (by decide) (by decide) (by rfl) (by decide) ?_
        exact lw_case13 C0 (by omega) hI0 hS hl kk
      · refine lv_tableIn (tgt := 410) hx hb dL_law_32 (by decide) (by decide) (by rfl) (by decide) ?_
        exact lw_case14 C0 (by omega) hI0 hS hl kk
      · refine lv_tableOut (tgt := 433) hx hb dL_law_32 (by decide) (by decide) ?_
        exact kk H locs hI0 hS
end
section
set_option maxRecDepth 100000
theorem st_A1 {a z q : Nat} {e : va_E} (h : va_A [(a, e)] z q) : q = a ∨ z ≤ q := by
  rcases h with ⟨k, e', h⟩ | h
  · match k, h with
    | 0, h => cases h; exact Or.inl rfl
    | k + 1, h => cases h
  · exact Or.inr h
theorem st_dW {ad : Nat → Nat} {cA : ClassId} {sz kn : Int} {K N B D E T O : Int → Int} : ∀ i, i < 8 → ∃ e : va_E, (dW ad cA sz kn K N B D E T O)[i]? = some (ad i, e) := by
  intro i hi
  match i, hi with
  | 0, _ => exact ⟨_, rfl⟩
  | 1, _ => exact ⟨_, rfl⟩
  | 2, _ => exact ⟨_, rfl⟩
  | 3, _ => exact ⟨_, rfl⟩
  | 4, _ => exact ⟨_, rfl⟩
  | 5, _ => exact ⟨_, rfl⟩
  | 6, _ => exact ⟨_, rfl⟩
  | 7, _ => exact ⟨_, rfl⟩
  | i + 8, h => omega
theorem st_lt {G : va_G} {ad : Nat → Nat} {cA : ClassId} {sz kn : Int} {K N B D E T O : Int → Int} {H : Heap} (h : dP G ad cA sz kn K N B D E T O H) {q : Nat} (hq : dA ad q) : q < H.size := by
  obtain ⟨i, hi, rfl⟩ := hq
  obtain ⟨e, he⟩ := st_dW (ad := ad) (cA := cA) (sz := sz) (kn := kn) (K := K) (N := N) (B := B) (D := D) (E := E) (T := T) (O := O) i hi
  exact (h i _ he).lt
theorem st_DI : rd_DI 0 0 rd_zz rd_zz rd_zz rd_zz rd_zz rd_zz :=
  ⟨⟨by omega, fun i h1 h2 => by omega, fun i h1 h2 => by rw [show i = 0 by omega, rd_dep_0]; omega⟩, Or.inl rfl⟩
set_option maxHeartbeats 4000000 in
/-- from the entry, for every script of at most 192 ints, the law comes to its end with true -/
theorem whole_start {p : Program} {e : Env} {s : State} {m : MethodId} {below : List Frame} {meth : Method} {c : Code} (l : Launch) {b L : Nat} {xs : Nat → Int32} (hL : L ≤ 192) (C0 : lw_At p s m meth c b L xs) : W p l e room_1 s m #[Value.ref b] below meth c s.heap [] 0 0 (lw_Z below #[Value.ref b] s) (entryFrame m ([Value.ref b] : List Value).toArray 4) := by
  obtain ⟨hx, hb, hr, hml, hown, hts0, hX, hbl, hlocks, hgv⟩ := C0
  have hts : ∀ w ∈ lw_all, w.before #[Value.ref b] s = true := fun w h => hts0 w (lw_all_tbl h)
  have hown : s.vm.findClass "RenameDeskLaw" = some m.cls := hown
  have hA : ∀ q : Nat, s.heap.size ≤ q → lwA s q := fun _ h => h
  obtain ⟨c0, iS0, hKn0⟩ := u_known (C := RX0) (T := TX0) (N := 9) (n := 9) hts in_X0 (hts _ q27)
  obtain ⟨c1, iS1, hKn1⟩ := u_known (C := RX1) (T := TX1) (N := 7) (n := 7) hts in_X1 (hts _ q169)
  obtain ⟨G, hKc⟩ : ∃ G : va_G, ∀ (k : Nat) (q : vw_C), vwCl[k]? = some q → u_Kn s q.1 q.2.1 q.2.2 (G.1 k) (G.2 k) := by
    refine ⟨(fun k => if k = 0 then c0 else c1, fun k => if k = 0 then iS0 else iS1), ?_⟩
    intro k q hq
    match k, hq with
    | 0, hq => cases hq; exact hKn0
    | 1, hq => cases hq; exact hKn1
    | k + 2, hq => simp [vwCl] at hq
  have hS : va_S (lwA s) s.heap s.heap [] := va_S.rf
  have hK : va_K G vwCl [] s := ⟨hKc, fun k q h => by simp at h⟩
  have hP : va_P G vwCl [] s.heap := fun k q h => by simp at h
  have hD : va_D (lwA s) [] := ⟨fun i j p q h => by simp at h, fun k q h => by simp at h⟩
  have hl := lv_entry ([.ref b]) (n := 4) (Nat.le_of_ble_eq_true rfl)
  rw [lg_entry_eq]
  generalize (lg_sl ([.ref b]) ++ List.replicate (4 - (lg_sl ([.ref b])).length) Slot.unset).toArray = ls at hl ⊢
  have hl : lv_has ls 4 [(0, .ref b)] := hl
  refine va_new (ci := 0) (fs := [.null, .null, .int (iI 0), .int (iI 0), .null, .null, .null, .null, .null]) (C := RX0) (T := TX0) (N := 9) hx hb hts in_X0 tyX0 tyX0_ok hown (hts _ q26) (hts _ q27) (hts _ q24) hK hP hD hS hA rfl (fun j hj => by rcases (show j = 0 ∨ j = 1 ∨ j = 2 ∨ j = 3 ∨ j = 4 ∨ j = 5 ∨ j = 6 ∨ j = 7 ∨ j = 8 by omega) with rfl | rfl | rfl | rfl | rfl | rfl | rfl | rfl | rfl <;> rfl) (Nat.le_of_ble_eq_true rfl) (Nat.le_of_ble_eq_true rfl) dL_law_0 (fun q0 H hP hD hS => ?_)
  have hP : va_P G vwCl [(q0, .inr (0, [.null, .null, .int (iI 0), .int (iI 0), .null, .null, .null, .null, .null]))] H := hP
  have hD : va_D (lwA s) [(q0, .inr (0, [.null, .null, .int (iI 0), .int (iI 0), .null, .null, .null, .null, .null]))] := hD
  refine W.widen (k := 1) (n := 9) (Nat.le_of_ble_eq_true rfl) (Nat.le_of_ble_eq_true rfl) ?_
  refine lv_dup hx hb dL_law_3 rfl ?_
  have hFc := va_free (wc := [(q0, .inr (0, [.null, .null, .int (iI 0), .int (iI 0), .null, .null, .null, .null, .null]))]) hD hS hA [0] rfl
  refine va_callv (va_runI (As := []) (rest := [.ref q0]) ⟨hx, hb, hml, hown, hts⟩ (dm_init l G q0 H.size) (cwI 0 hts (lw_meth q30) rfl rfl rfl (hts _ q24) (hts _ q28) (hts _ q29) rfl (by decide +kernel) ⟨Nat.le_of_ble_eq_true rfl, Nat.le_of_ble_eq_true rfl⟩) ⟨fun a U g mk q => by obtain ⟨z0, z1, zP, zK, zD⟩ := q; exact ⟨z0, z1, zP, va_K.moved (u := U) (U := U.calling g mk a) (Vm.Alike.refl U.vm) zK, zD⟩, fun U hU hW => ⟨rfl, by rw [hU], by rw [hU]; exact hP, va_K.moved hW.alike hK, hD.weaken (fun _ _ _ _ => trivial)⟩⟩ rfl rfl hl.1 rfl (lv_room (Nat.le_of_ble_eq_true rfl)) dL_law_4 ⟨Nat.le_of_ble_eq_true rfl, Nat.le_of_ble_eq_true rfl⟩) hS (fun q _ h => hFc q h) hFc (fun u t H1 locs ht hvm hw1 hB hz1 hk1 hS => ?_)
  obtain ⟨adx, cB, hx0, hDx, hAx0, hP1, hK1⟩ := hB
  rw [ht] at hP1
  have hKx : va_K G vwCl [(cB, .byte)] s := va_K.moved hvm.symm hK1
  have hAx : ∀ q, dA adx q → lwA s q := fun q h => hFc q (hAx0 q h)
  subst hx0
  refine W.widen (k := 8) (n := 207) (Nat.le_of_ble_eq_true rfl) (Nat.le_of_ble_eq_true rfl) ?_
  refine lv_astore_n (lv' := [(1, .ref (adx 0)), (0, .ref b)]) hx hb dL_law_7 rfl hl (by decide) rfl (fun ls hl => ?_)
  have hDw : va_D (lwA s) (dW adx cB 0 0 rd_zz rd_zz rd_zz rd_zz rd_zz rd_zz rd_zz) := hDx.va.weaken (fun _ q _ h => hAx q.1 h)
  refine va_new (ci := 1) (fs := [.int (iI 0), .null, .null, .null, .null, .null, .null]) (C := RX1) (T := TX1) (N := 7) hx hb hts in_X1 tyX1 tyX1_ok hown (hts _ q168) (hts _ q169) (hts _ q25) hK hP1 hDw hS hA rfl (fun j hj => by rcases (show j = 0 ∨ j = 1 ∨ j = 2 ∨ j = 3 ∨ j = 4 ∨ j = 5 ∨ j = 6 by omega) with rfl | rfl | rfl | rfl | rfl | rfl | rfl <;> rfl) (Nat.le_of_ble_eq_true rfl) (Nat.le_of_ble_eq_true rfl) dL_law_8 (fun q2 H hP2 hD2 hS => ?_)
  have hPx : dP G adx cB 0 0 rd_zz rd_zz rd_zz rd_zz rd_zz rd_zz rd_zz H := hP2.sub [0, 1, 2, 3, 4, 5, 6, 7] rfl
  have hPm : va_P G vwCl [(q2, .inr (1, [.int (iI 0), .null, .null, .null, .null, .null, .null]))] H := hP2.sub [8] rfl
  have hDm0 : va_D (lwA s) [(q2, .inr (1, [.int (iI 0), .null, .null, .null, .null, .null, .null]))] := hD2.sub [8] (by decide) rfl
  have hq2 : ∀ q, dA adx q → q ≠ q2 := by
    rintro q ⟨i, hi, rfl⟩ e
    obtain ⟨e1, he⟩ := st_dW (ad := adx) (cA := cB) (sz := 0) (kn := 0) (K := rd_zz) (N := rd_zz) (B := rd_zz) (D := rd_zz) (E := rd_zz) (T := rd_zz) (O := rd_zz) i hi
    have h8 := hD2.1 i 8 (adx i, e1) (q2, .inr (1, [.int (iI 0), .null, .null, .null, .null, .null, .null])) (by rw [List.getElem?_append_left (by exact hi)]; exact he) rfl e
    omega
  refine W.widen (k := 9) (n := 214) (Nat.le_of_ble_eq_true rfl) (Nat.le_of_ble_eq_true rfl) ?_
  refine lv_dup hx hb dL_law_11 rfl ?_
  have hFm := va_free (wc := [(q2, .inr (1, [.int (iI 0), .null, .null, .null, .null, .null, .null]))]) hDm0 hS hA [0] rfl
  refine va_callv (va_runI (As := []) (rest := [.ref q2]) ⟨hx, hb, hml, hown, hts⟩ (mm_init l G q2 H.size) (cwI 0 hts (lw_meth q172) rfl rfl rfl (hts _ q25) (hts _ q170) (hts _ q171) rfl (by decide +kernel) ⟨Nat.le_of_ble_eq_true rfl, Nat.le_of_ble_eq_true rfl⟩) ⟨fun a U g mk q => by obtain ⟨z0, z1, zP, zK, zD⟩ := q; exact ⟨z0, z1, zP, va_K.moved (u := U) (U := U.calling g mk a) (Vm.Alike.refl U.vm) zK, zD⟩, fun U hU hW => ⟨rfl, by rw [hU], by rw [hU]; exact hPm, va_K.moved hW.alike hK, hDm0.weaken (fun _ _ _ _ => trivial)⟩⟩ rfl rfl hl.1 rfl (lv_room (Nat.le_of_ble_eq_true rfl)) dL_law_12 ⟨Nat.le_of_ble_eq_true rfl, Nat.le_of_ble_eq_true rfl⟩) hS (fun q _ h => hFm q h) hFm (fun u t H1 locs ht hvm hw1 hB hz1 hk1 hS => ?_)
  obtain ⟨adm, cM, hx2, hDm, hAm0, hQ, hK2⟩ := hB
  rw [ht] at hQ
  have hKm : va_K G vwCl [(cM, .int)] s := va_K.moved hvm.symm hK2
  have hAm : ∀ q, mA adm q → lwA s q := fun q h => hFm q (hAm0 q h)
  have hno : ∀ q, dA adx q → ¬ va_A [(q2, .inr (1, [.int (iI 0), .null, .null, .null, .null, .null, .null]))] H.size q := by
    intro q h1 h2
    have h3 := st_lt hPx h1
    rcases st_A1 h2 with h4 | h4
    · exact hq2 q h1 h4
    · omega
  have hdis : ∀ q, dA adx q → ¬ mA adm q := fun q h1 h2 => hno q h1 (hAm0 q h2)
  have hP := hPx.kept (H1 := H1) (fun q h1 h2 => hk1 q h1 (hno q h2))
  subst hx2
  refine W.widen (k := 15) (n := 382) (Nat.le_of_ble_eq_true rfl) (Nat.le_of_ble_eq_true rfl) ?_
  refine lv_astore_n (lv' := [(2, .ref (adm 0)), (1, .ref (adx 0)), (0, .ref b)]) hx hb dL_law_15 rfl hl (by decide) rfl (fun ls hl => ?_)
  refine ri_const hx hb dL_law_16 ?_
  refine lv_istore_n (lv' := [(3, .int (iI 0)), (2, .ref (adm 0)), (1, .ref (adx 0)), (0, .ref b)]) hx hb dL_law_17 rfl hl (by decide) rfl (fun ls hl => ?_)
  exact lw_loop ⟨hx, hb, hr, hml, hown, hts, hX, hbl, hlocks, hL, hDx, hDm, hAx, hAm, hdis, hKx, hKm⟩ (L + 1) 0 (by omega) (by omega) (by omega) H1 locs ⟨0, 0, rd_zz, rd_zz, rd_zz, rd_zz, rd_zz, rd_zz, rd_zz, rd_zz, rd_zz, rd_zz, rd_zz, hP, hQ, st_DI⟩ hS ls (lv_sub hl [3, 2, 1, 0] rfl)
end
section
set_option maxRecDepth 100000
set_option maxHeartbeats 4000000 in
theorem lw_walk (l : Launch) (b : Addr) (xs : List Int32) : MetFree l x (headSpec (Jvm.Cond.code x code maxLocals ret :: tables_1) room_1) (lw_P b xs) (fun _ _ _ _ _ => True) lw_Q := by
  refine MetFree.of_bodyS (code := code) (maxLocals := maxLocals) (ret := ret) (by decide) ?_ ?_
  · intro args s m h hn
    obtain ⟨meth, c, h1, h2, h3, h4, h5, h6, -, -⟩ := Cond.code_spec hn (atoms_spec (ws := Jvm.Cond.code x code maxLocals ret :: tables_1) h _ List.mem_cons_self)
    exact ⟨meth, c, h1, h2, h3, h4, h5, h6⟩
  · intro p e s m args below meth c s₁ B hml0 hP _
    obtain ⟨rfl, hx, hbd, hgv⟩ := hP
    obtain ⟨scr, harrAt, hlist, hof, hsmall⟩ := hx
    obtain ⟨hcb, hkn, -, -⟩ := State.arrayAt?_spec harrAt
    have hown : s.vm.findClass R_law = some m.cls := findClass_of_methodNamed B.named
    have hts0 : ∀ c ∈ (Jvm.Cond.code x code maxLocals ret :: tables_1), c.before #[Value.ref b] s = true := atoms_spec (ws := Jvm.Cond.code x code maxLocals ret :: tables_1) B.pre
    have hts : ∀ w ∈ lw_tbl, w.before #[Value.ref b] s = true := k2_hts_sels lw_privs (fun w hw => hts0 w (List.mem_cons_of_mem _ hw)) lw_privs_ok
    have hml : c.maxLocals = 4 := B.maxLocals_eq (hts0 _ List.mem_cons_self)
    have X₀ : Stand p l e room_1 s m #[Value.ref b] below meth c s₁ [] 0 0 := Stand.of_body B
    have hh0 : s₁.heap = s.heap := by rw [B.state]; rfl
    have hsz : scr.slots.size = xs.length := by rw [← Array.length_toList, hlist, List.length_map]
    have hval : ∀ j : Nat, j < xs.length → scr.slots[j]? = some (.int (xs.getD j 0)) := fun j hj => by
      rw [← Array.getElem?_toList, hlist]
      simp [hj]
    have hbl : b < s.heap.size := (Array.getElem?_eq_some_iff.mp hcb).1
    have hX : va_X b xs.length (fun j => xs.getD j 0) s s.heap := ⟨scr, hcb, hof, hkn, hsz, hval⟩
    have K : W p l e room_1 s m #[Value.ref b] below meth c s₁.heap [] 0 0 (lw_Z below #[Value.ref b] s) (entryFrame m ([Value.ref b] : List Value).toArray 4) := by
      rw [hh0]
      exact whole_start l hbd ⟨B.exec, B.bytes, B.returns, hml, hown, hts, hX, hbl, B.notSynchronized, hgv⟩
    obtain ⟨t, a1, o, b1, b2, b3⟩ := K s₁ rfl X₀
    exact ⟨t, o, a1, b1, b2, b3⟩
theorem lw_pre_spec {args : Array Value} {s : State} (h : (Jvm.Cond.and given_1 narrow_1).before args s = true) (hr : rest_1_c.before args s = true) : ∃ (b : Addr) (xs : List Int32), lw_P b xs args s := by
  have hs := flat_of_before _ h
  have hq := flat_of_before _ hr
  have hc : (Cond.count 1).before args s = true := hs _ (by decide +kernel)
  have harr : (Cond.arrayOf (.arg 0) .int).before args s = true := hs _ (by decide +kernel)
  have hle : (Cond.le (.length (.arg 0)) (.int 192)).before args s = true := hs _ (by decide +kernel)
  have hlen : (Cond.isInt (.length (.arg 0))).before args s = true := hq _ (by decide +kernel)
  have hall : (Cond.all (.arg 0) (.isInt (.elem (.arg 0) (.index 0)))).before args s = true := hq _ (by decide +kernel)
  obtain ⟨b, xs, hb, hx⟩ := State.ints_of_pre rfl harr hlen hall
  have hsm : xs.length < 2 ^ 31 := hx.choose_spec.2.2.2
  have hev : (Term.length (.arg 0)).eval args s none [] s = some (.int xs.length.toInt32) := hx.length_eval hb
  have hv := Cond.le_ints hev (show (Term.int 192).eval args s none [] s = some (.int 192) from rfl)
  have hd : xs.length.toInt32 ≤ 192 := by
    simpa [Cond.before, Cond.holds, hv] using hle
  have hN : xs.length ≤ 192 := (Int32.ofNat_le_ofNat hsm (by decide)).mp (show Int32.ofNat xs.length ≤ Int32.ofNat 192 from hd)
  exact ⟨b, xs, Cond.one_arg hc (show args[0]? = some (.ref b) from hb), hx, hN, h⟩
theorem lw_comes (l : Launch) : Comes l x (Jvm.Cond.code x code maxLocals ret :: tables_1) room_1 (fun tb e args s => Calls_1 tb e args s ∧ rest_1 tb e args s ∧ Pre_1 tb e args s)
    (fun _ _ args s o t => lw_Q args s o t) := by
  intro p e ha hc hk s m args below hf hfit hheap happ hpre
  obtain ⟨b, xs, hP⟩ := lw_pre_spec hpre.2.2 hpre.2.1
  obtain ⟨k, o, h1, h2, h3, hQ⟩ := lw_walk l b xs p e ha hc hk s m args below hf ((Spec.applies_iff_loose hf).mp happ).1 hP trivial
  exact ⟨k, o, h1, h2, h3, hQ⟩
theorem lw_frame {s t : State} {o : Outcome} {args : Array Value} (h : Framed s o t [] 600000 7290000) :
    Framed s o t (fieldLocs frame_1_writes args s ++ arrayLocs frame_1_arrays args s ++ staticLocs frame_1_statics s) 600000 7290000 := h
theorem lw_limb (L : Cond) (hL : ∀ (args : Array Value) (s t : State), L.after args s (.returned (some (.int 1))) t = true) :
    ArmFor flags0 classFile x code maxLocals ret World_1 tables_1 room_1 Calls_1 rest_1 Pre_1
      (fun tb e a s o t => postC L tb e a s o t ∧ Framed s o t (fieldLocs frame_1_writes a s ++ arrayLocs frame_1_arrays a s ++ staticLocs frame_1_statics s) 600000 7290000) := by
  intro l _ _ _ p e ha hc hk s m args below hf hfit hheap happ hpre
  obtain ⟨k, o, h1, h2, h3, rfl, hF⟩ := lw_comes l p e ha hc hk s m args below hf hfit hheap happ hpre
  exact ⟨k, _, h1, h2, h3, hL args s _, lw_frame hF⟩
theorem i_vc : Claimed_1_1 ∧ Claimed_1_2 := ⟨lw_limb limb_1_1 (fun args s t => by simp [limb_1_1, Cond.after, Cond.holds, Cond.value]), lw_limb limb_1_2 (fun args s t => Cond.after_iff.mpr (by
  first | (rw [show limb_1_2 = Cond.eq .result (.int 1) from rfl, Cond.eq_ints (x := 1) (y := 1) rfl rfl]; simp; done) | (simp [limb_1_2, Cond.value, Term.eval]; done)))⟩
end
