section
-- ===== PART A: goes FIRST, ahead of the names: the tables' words, and 'selects' of the private methods out of them =====
/-- a private method of a class that the tables say can be made, by its rows of tables_1 -/
def lw_okq (q : MethodName × Nat) : Prop := (q.1.cls ≠ "java/lang/invoke/MethodHandle" ∧ q.1.cls ≠ "java/lang/invoke/VarHandle") ∧ Cond.instantiable q.1.cls q.2 ∈ tables_1 ∧ Cond.privateMethod q.1 ∈ tables_1 ∧ Cond.instanceMethod q.1 ∈ tables_1
set_option maxRecDepth 100000
theorem lw_t1 {w : Cond} (h : w ∈ tables_1_1) : w ∈ tables_1 := List.mem_append_left _ h
theorem lw_t2 {w : Cond} (h : w ∈ tables_1_2) : w ∈ tables_1 := List.mem_append_right _ h
theorem lw_p0 : lw_okq (⟨"RussianDoll", "badVariable", "(I)Z"⟩, 12) := ⟨⟨by decide +kernel, by decide +kernel⟩, lw_t1 (List.mem_of_getElem? (i := 4) rfl), lw_t1 (List.mem_of_getElem? (i := 54) rfl), lw_t1 (List.mem_of_getElem? (i := 55) rfl)⟩
theorem lw_p1 : lw_okq (⟨"RussianDoll", "badCost", "(I)Z"⟩, 12) := ⟨⟨by decide +kernel, by decide +kernel⟩, lw_t1 (List.mem_of_getElem? (i := 4) rfl), lw_t1 (List.mem_of_getElem? (i := 58) rfl), lw_t1 (List.mem_of_getElem? (i := 59) rfl)⟩
theorem lw_p2 : lw_okq (⟨"RussianDoll", "badPair", "(I)Z"⟩, 12) := ⟨⟨by decide +kernel, by decide +kernel⟩, lw_t1 (List.mem_of_getElem? (i := 4) rfl), lw_t1 (List.mem_of_getElem? (i := 66) rfl), lw_t1 (List.mem_of_getElem? (i := 67) rfl)⟩
theorem lw_p3 : lw_okq (⟨"RussianDoll", "solve", "()V"⟩, 12) := ⟨⟨by decide +kernel, by decide +kernel⟩, lw_t1 (List.mem_of_getElem? (i := 4) rfl), lw_t1 (List.mem_of_getElem? (i := 82) rfl), lw_t1 (List.mem_of_getElem? (i := 83) rfl)⟩
theorem lw_p4 : lw_okq (⟨"RussianDoll", "allowAll", "()V"⟩, 12) := ⟨⟨by decide +kernel, by decide +kernel⟩, lw_t1 (List.mem_of_getElem? (i := 4) rfl), lw_t1 (List.mem_of_getElem? (i := 86) rfl), lw_t1 (List.mem_of_getElem? (i := 87) rfl)⟩
theorem lw_p5 : lw_okq (⟨"RussianDoll", "search", "(I)V"⟩, 12) := ⟨⟨by decide +kernel, by decide +kernel⟩, lw_t1 (List.mem_of_getElem? (i := 4) rfl), lw_t1 (List.mem_of_getElem? (i := 90) rfl), lw_t1 (List.mem_of_getElem? (i := 91) rfl)⟩
theorem lw_p6 : lw_okq (⟨"RussianDoll", "nextValue", "(I)I"⟩, 12) := ⟨⟨by decide +kernel, by decide +kernel⟩, lw_t1 (List.mem_of_getElem? (i := 4) rfl), lw_t1 (List.mem_of_getElem? (i := 95) rfl), lw_t1 (List.mem_of_getElem? (i := 96) rfl)⟩
theorem lw_p7 : lw_okq (⟨"RussianDoll", "choose", "(II)V"⟩, 12) := ⟨⟨by decide +kernel, by decide +kernel⟩, lw_t1 (List.mem_of_getElem? (i := 4) rfl), lw_t1 (List.mem_of_getElem? (i := 99) rfl), lw_t1 (List.mem_of_getElem? (i := 100) rfl)⟩
theorem lw_p8 : lw_okq (⟨"RussianDoll", "real", "(I)I"⟩, 12) := ⟨⟨by decide +kernel, by decide +kernel⟩, lw_t1 (List.mem_of_getElem? (i := 4) rfl), lw_t1 (List.mem_of_getElem? (i := 103) rfl), lw_t1 (List.mem_of_getElem? (i := 104) rfl)⟩
theorem lw_p9 : lw_okq (⟨"RussianDoll", "capped", "(I)I"⟩, 12) := ⟨⟨by decide +kernel, by decide +kernel⟩, lw_t1 (List.mem_of_getElem? (i := 4) rfl), lw_t1 (List.mem_of_getElem? (i := 107) rfl), lw_t1 (List.mem_of_getElem? (i := 108) rfl)⟩
theorem lw_p10 : lw_okq (⟨"RussianDoll", "between", "(IIII)I"⟩, 12) := ⟨⟨by decide +kernel, by decide +kernel⟩, lw_t1 (List.mem_of_getElem? (i := 4) rfl), lw_t1 (List.mem_of_getElem? (i := 111) rfl), lw_t1 (List.mem_of_getElem? (i := 112) rfl)⟩
theorem lw_p11 : lw_okq (⟨"RussianDoll", "bound", "(I)I"⟩, 12) := ⟨⟨by decide +kernel, by decide +kernel⟩, lw_t1 (List.mem_of_getElem? (i := 4) rfl), lw_t1 (List.mem_of_getElem? (i := 115) rfl), lw_t1 (List.mem_of_getElem? (i := 116) rfl)⟩
theorem lw_p12 : lw_okq (⟨"RussianDoll", "keep", "(I)V"⟩, 12) := ⟨⟨by decide +kernel, by decide +kernel⟩, lw_t1 (List.mem_of_getElem? (i := 4) rfl), lw_t1 (List.mem_of_getElem? (i := 119) rfl), lw_t1 (List.mem_of_getElem? (i := 120) rfl)⟩
theorem lw_p13 : lw_okq (⟨"RussianDoll", "answer", "(I)I"⟩, 12) := ⟨⟨by decide +kernel, by decide +kernel⟩, lw_t1 (List.mem_of_getElem? (i := 4) rfl), lw_t1 (List.mem_of_getElem? (i := 123) rfl), lw_t1 (List.mem_of_getElem? (i := 124) rfl)⟩
theorem lw_p14 : lw_okq (⟨"RussianDollModel", "isVariable", "(I)Z"⟩, 2) := ⟨⟨by decide +kernel, by decide +kernel⟩, lw_t1 (List.mem_of_getElem? (i := 154) rfl), lw_t1 (List.mem_of_getElem? (i := 171) rfl), lw_t1 (List.mem_of_getElem? (i := 172) rfl)⟩
theorem lw_p15 : lw_okq (⟨"RussianDollModel", "isValue", "(I)Z"⟩, 2) := ⟨⟨by decide +kernel, by decide +kernel⟩, lw_t1 (List.mem_of_getElem? (i := 154) rfl), lw_t1 (List.mem_of_getElem? (i := 175) rfl), lw_t1 (List.mem_of_getElem? (i := 176) rfl)⟩
def lw_privs_1 : List (MethodName × Nat) := [(⟨"RussianDoll", "badVariable", "(I)Z"⟩, 12), (⟨"RussianDoll", "badCost", "(I)Z"⟩, 12), (⟨"RussianDoll", "badPair", "(I)Z"⟩, 12), (⟨"RussianDoll", "solve", "()V"⟩, 12), (⟨"RussianDoll", "allowAll", "()V"⟩, 12), (⟨"RussianDoll", "search", "(I)V"⟩, 12), (⟨"RussianDoll", "nextValue", "(I)I"⟩, 12), (⟨"RussianDoll", "choose", "(II)V"⟩, 12), (⟨"RussianDoll", "real", "(I)I"⟩, 12), (⟨"RussianDoll", "capped", "(I)I"⟩, 12), (⟨"RussianDoll", "between", "(IIII)I"⟩, 12), (⟨"RussianDoll", "bound", "(I)I"⟩, 12), (⟨"RussianDoll", "keep", "(I)V"⟩, 12), (⟨"RussianDoll", "answer", "(I)I"⟩, 12), (⟨"RussianDollModel", "isVariable", "(I)Z"⟩, 2), (⟨"RussianDollModel", "isValue", "(I)Z"⟩, 2)]
theorem lw_r1 : ∀ q ∈ lw_privs_1, lw_okq q := List.forall_mem_cons.mpr ⟨lw_p0, List.forall_mem_cons.mpr ⟨lw_p1, List.forall_mem_cons.mpr ⟨lw_p2, List.forall_mem_cons.mpr ⟨lw_p3, List.forall_mem_cons.mpr ⟨lw_p4, List.forall_mem_cons.mpr ⟨lw_p5, List.forall_mem_cons.mpr ⟨lw_p6, List.forall_mem_cons.mpr ⟨lw_p7, List.forall_mem_cons.mpr ⟨lw_p8, List.forall_mem_cons.mpr ⟨lw_p9, List.forall_mem_cons.mpr ⟨lw_p10, List.forall_mem_cons.mpr ⟨lw_p11, List.forall_mem_cons.mpr ⟨lw_p12, List.forall_mem_cons.mpr ⟨lw_p13, List.forall_mem_cons.mpr ⟨lw_p14, List.forall_mem_cons.mpr ⟨lw_p15, fun _ h => absurd h List.not_mem_nil⟩⟩⟩⟩⟩⟩⟩⟩⟩⟩⟩⟩⟩⟩⟩⟩
theorem lw_p16 : lw_okq (⟨"RussianDollModel", "isCost", "(I)Z"⟩, 2) := ⟨⟨by decide +kernel, by decide +kernel⟩, lw_t1 (List.mem_of_getElem? (i := 154) rfl), lw_t1 (List.mem_of_getElem? (i := 179) rfl), lw_t1 (List.mem_of_getElem? (i := 180) rfl)⟩
theorem lw_p17 : lw_okq (⟨"RussianDollModel", "isPair", "(I)Z"⟩, 2) := ⟨⟨by decide +kernel, by decide +kernel⟩, lw_t1 (List.mem_of_getElem? (i := 154) rfl), lw_t1 (List.mem_of_getElem? (i := 187) rfl), lw_t1 (List.mem_of_getElem? (i := 188) rfl)⟩
theorem lw_p18 : lw_okq (⟨"RussianDollModel", "cost", "(II)I"⟩, 2) := ⟨⟨by decide +kernel, by decide +kernel⟩, lw_t1 (List.mem_of_getElem? (i := 154) rfl), lw_t1 (List.mem_of_getElem? (i := 203) rfl), lw_t1 (List.mem_of_getElem? (i := 204) rfl)⟩
theorem lw_p19 : lw_okq (⟨"RussianDollModel", "digit", "(II)I"⟩, 2) := ⟨⟨by decide +kernel, by decide +kernel⟩, lw_t1 (List.mem_of_getElem? (i := 154) rfl), lw_t1 (List.mem_of_getElem? (i := 207) rfl), lw_t1 (List.mem_of_getElem? (i := 208) rfl)⟩
theorem lw_p20 : lw_okq (⟨"RussianDollModel", "isBetter", "(II)Z"⟩, 2) := ⟨⟨by decide +kernel, by decide +kernel⟩, lw_t1 (List.mem_of_getElem? (i := 154) rfl), lw_t1 (List.mem_of_getElem? (i := 211) rfl), lw_t1 (List.mem_of_getElem? (i := 212) rfl)⟩
theorem lw_p21 : lw_okq (⟨"RussianDollModel", "first", "()I"⟩, 2) := ⟨⟨by decide +kernel, by decide +kernel⟩, lw_t1 (List.mem_of_getElem? (i := 154) rfl), lw_t1 (List.mem_of_getElem? (i := 224) rfl), lw_t1 (List.mem_of_getElem? (i := 225) rfl)⟩
theorem lw_p22 : lw_okq (⟨"RussianDollModel", "isZigzag", "(I)Z"⟩, 2) := ⟨⟨by decide +kernel, by decide +kernel⟩, lw_t1 (List.mem_of_getElem? (i := 154) rfl), lw_t2 (List.mem_of_getElem? (i := 6) rfl), lw_t2 (List.mem_of_getElem? (i := 7) rfl)⟩
def lw_privs_2 : List (MethodName × Nat) := [(⟨"RussianDollModel", "isCost", "(I)Z"⟩, 2), (⟨"RussianDollModel", "isPair", "(I)Z"⟩, 2), (⟨"RussianDollModel", "cost", "(II)I"⟩, 2), (⟨"RussianDollModel", "digit", "(II)I"⟩, 2), (⟨"RussianDollModel", "isBetter", "(II)Z"⟩, 2), (⟨"RussianDollModel", "first", "()I"⟩, 2), (⟨"RussianDollModel", "isZigzag", "(I)Z"⟩, 2)]
theorem lw_r2 : ∀ q ∈ lw_privs_2, lw_okq q := List.forall_mem_cons.mpr ⟨lw_p16, List.forall_mem_cons.mpr ⟨lw_p17, List.forall_mem_cons.mpr ⟨lw_p18, List.forall_mem_cons.mpr ⟨lw_p19, List.forall_mem_cons.mpr ⟨lw_p20, List.forall_mem_cons.mpr ⟨lw_p21, List.forall_mem_cons.mpr ⟨lw_p22, fun _ h => absurd h List.not_mem_nil⟩⟩⟩⟩⟩⟩⟩
def lw_privs : List (MethodName × Nat) := lw_privs_1 ++ (lw_privs_2)
def lw_tbl : List Cond := k2_sels lw_privs ++ tables_1
theorem lw_privs_ok : ∀ q ∈ lw_privs, lw_okq q := by
  show ∀ q ∈ lw_privs_1 ++ (lw_privs_2), lw_okq q
  exact List.forall_mem_append.mpr ⟨lw_r1, lw_r2⟩
-- ===== ONE list of words for every method: the tables' words that hold all through a run =====
def lw_all : List Cond := lw_tbl.filter goodWord
/-- a word of the tables by its place: claim/WORDS.tsv -/
theorem lw_w {w : Cond} (i : Nat) (h : lw_tbl[i]? = some w) (g : goodWord w = true) : w ∈ lw_all := List.mem_filter.mpr ⟨List.mem_of_getElem? h, g⟩
theorem lw_all_tbl {w : Cond} (h : w ∈ lw_all) : w ∈ lw_tbl := (List.mem_filter.mp h).1
theorem lw_self : GoodIn lw_all lw_all := fun w h => ⟨h, good_of_word (List.mem_filter.mp h).2⟩
/-- a class's field words, by their places -/
theorem lw_in (ws : List Cond) (ps : List Nat) (hp : ws = ps.filterMap (fun i => lw_tbl[i]?)) (hg : ws.all goodWord = true) : ∀ w ∈ ws, w ∈ lw_all := by
  intro w h
  have h1 := List.all_eq_true.mp hg w h
  rw [hp] at h
  obtain ⟨i, -, hi⟩ := List.mem_filterMap.mp h
  exact lw_w i hi h1
/-- the words of a contract for the method y with code b, L locals, answer r -/
abbrev ws_ (y : MethodName) (b : ByteArray) (L : Nat) (r : Option FieldType) : List Cond := Cond.code y b L r :: lw_all
theorem lw_meth {y : MethodName} {b : ByteArray} {L : Nat} {r : Option FieldType} (h : Cond.code y b L r ∈ lw_all) : GoodIn lw_all (ws_ y b L r) := by
  intro w hw
  rcases List.mem_cons.mp hw with e | e
  · rw [e]
    exact lw_self _ h
  · exact lw_self _ e
theorem lw_app {a c : List Cond} (ha : ∀ w ∈ a, w ∈ lw_all) (hc : GoodIn lw_all c) : GoodIn lw_all (a ++ c) := by
  intro w hw
  rcases List.mem_append.mp hw with e | e
  · exact lw_self w (ha w e)
  · exact hc w e
/-- what a call through an object asks: cwV n hts (lw_V ..) -/
theorem lw_V {own : String} {idx : Nat} {C : String} {y : MethodName} {b : ByteArray} {L : Nat} {r : Option FieldType} (h1 : Cond.methodLink own idx y ∈ lw_all) (h2 : Cond.instanceMethod y ∈ lw_all) (h3 : Cond.selects C y y ∈ lw_all) (h4 : Cond.initialized C ∈ lw_all) (h5 : Cond.code y b L r ∈ lw_all) : GoodIn lw_all (wsV own idx C y (ws_ y b L r)) := by
  refine lw_app ?_ (lw_meth h5)
  intro w hw
  simp only [List.mem_cons, List.not_mem_nil, or_false] at hw
  rcases hw with e | e | e | e
  · rw [e]; exact h1
  · rw [e]; exact h2
  · rw [e]; exact h3
  · rw [e]; exact h4
/-- what a static call asks: va_cwS n hts (lw_S ..) -/
theorem lw_S {own : String} {idx : Nat} {y : MethodName} {b : ByteArray} {L : Nat} {r : Option FieldType} (h1 : Cond.methodLink own idx y ∈ lw_all) (h2 : Cond.static y ∈ lw_all) (h3 : Cond.initialized y.cls ∈ lw_all) (h4 : Cond.code y b L r ∈ lw_all) : GoodIn lw_all (va_wsS own idx y (ws_ y b L r)) := by
  refine lw_app ?_ (lw_meth h4)
  intro w hw
  simp only [List.mem_cons, List.not_mem_nil, or_false] at hw
  rcases hw with e | e | e
  · rw [e]; exact h1
  · rw [e]; exact h2
  · rw [e]; exact h3
/-- the words of a contract for a method WITH HANDLERS (hh: its table) -/
abbrev wsW_ (y : MethodName) (b : ByteArray) (L : Nat) (r : Option FieldType) (hh : List (Nat × Nat × Nat × Nat)) : List Cond := Cond.codeWith y b L r hh :: lw_all
theorem lw_methW {y : MethodName} {b : ByteArray} {L : Nat} {r : Option FieldType} {hh : List (Nat × Nat × Nat × Nat)} (h : Cond.codeWith y b L r hh ∈ lw_all) : GoodIn lw_all (wsW_ y b L r hh) := by
  intro w hw
  rcases List.mem_cons.mp hw with e | e
  · rw [e]
    exact lw_self _ h
  · exact lw_self _ e
/-- any list of words by their places (lw_in), good -/
theorem lw_good {ws : List Cond} (h : ∀ w ∈ ws, w ∈ lw_all) : GoodIn lw_all ws := fun w hw => lw_self w (h w hw)
/-- what a call of a method with handlers asks: vx_cwVW n hts (lw_VW ..), vx_cwSW n hts (lw_SW ..) -/
theorem lw_VW {own : String} {idx : Nat} {C : String} {y : MethodName} {b : ByteArray} {L : Nat} {r : Option FieldType} {hh : List (Nat × Nat × Nat × Nat)} (h1 : Cond.methodLink own idx y ∈ lw_all) (h2 : Cond.instanceMethod y ∈ lw_all) (h3 : Cond.selects C y y ∈ lw_all) (h4 : Cond.initialized C ∈ lw_all) (h5 : Cond.codeWith y b L r hh ∈ lw_all) : GoodIn lw_all (wsV own idx C y (wsW_ y b L r hh)) := by
  refine lw_app ?_ (lw_methW h5)
  intro w hw
  simp only [List.mem_cons, List.not_mem_nil, or_false] at hw
  rcases hw with e | e | e | e
  · rw [e]; exact h1
  · rw [e]; exact h2
  · rw [e]; exact h3
  · rw [e]; exact h4
theorem lw_SW {own : String} {idx : Nat} {y : MethodName} {b : ByteArray} {L : Nat} {r : Option FieldType} {hh : List (Nat × Nat × Nat × Nat)} (h1 : Cond.methodLink own idx y ∈ lw_all) (h2 : Cond.static y ∈ lw_all) (h3 : Cond.initialized y.cls ∈ lw_all) (h4 : Cond.codeWith y b L r hh ∈ lw_all) : GoodIn lw_all (va_wsS own idx y (wsW_ y b L r hh)) := by
  refine lw_app ?_ (lw_methW h4)
  intro w hw
  simp only [List.mem_cons, List.not_mem_nil, or_false] at hw
  rcases hw with e | e | e
  · rw [e]; exact h1
  · rw [e]; exact h2
  · rw [e]; exact h3
/-- a word by its place in its run of the tables -/
theorem lw_at {r : List Cond} (hr : ∀ w ∈ r, w ∈ lw_tbl) {w : Cond} (i : Nat) (h : r[i]? = some w) : w ∈ lw_tbl := hr w (List.mem_of_getElem? h)
theorem lw_g {w : Cond} (h : w ∈ lw_tbl) (g : goodWord w = true) : w ∈ lw_all := List.mem_filter.mpr ⟨h, g⟩
theorem lw_ms : ∀ w ∈ k2_sels lw_privs, w ∈ lw_tbl := fun w h => show w ∈ k2_sels lw_privs ++ tables_1 from List.mem_append_left _ h
theorem lw_m1 : ∀ w ∈ tables_1_1, w ∈ lw_tbl := fun w h => show w ∈ k2_sels lw_privs ++ tables_1 from List.mem_append_right (k2_sels lw_privs) (show w ∈ tables_1 from List.mem_append_left _ h)
theorem lw_m2 : ∀ w ∈ tables_1_2, w ∈ lw_tbl := fun w h => show w ∈ k2_sels lw_privs ++ tables_1 from List.mem_append_right (k2_sels lw_privs) (show w ∈ tables_1 from List.mem_append_right _ h)
theorem qs0 : (Cond.selects "RussianDoll" ⟨"RussianDoll", "badVariable", "(I)Z"⟩ ⟨"RussianDoll", "badVariable", "(I)Z"⟩) ∈ lw_all := lw_g (lw_at lw_ms 0 rfl) rfl
theorem qs1 : (Cond.selects "RussianDoll" ⟨"RussianDoll", "badCost", "(I)Z"⟩ ⟨"RussianDoll", "badCost", "(I)Z"⟩) ∈ lw_all := lw_g (lw_at lw_ms 1 rfl) rfl
theorem qs2 : (Cond.selects "RussianDoll" ⟨"RussianDoll", "badPair", "(I)Z"⟩ ⟨"RussianDoll", "badPair", "(I)Z"⟩) ∈ lw_all := lw_g (lw_at lw_ms 2 rfl) rfl
theorem qs3 : (Cond.selects "RussianDoll" ⟨"RussianDoll", "solve", "()V"⟩ ⟨"RussianDoll", "solve", "()V"⟩) ∈ lw_all := lw_g (lw_at lw_ms 3 rfl) rfl
theorem qs4 : (Cond.selects "RussianDoll" ⟨"RussianDoll", "allowAll", "()V"⟩ ⟨"RussianDoll", "allowAll", "()V"⟩) ∈ lw_all := lw_g (lw_at lw_ms 4 rfl) rfl
theorem qs5 : (Cond.selects "RussianDoll" ⟨"RussianDoll", "search", "(I)V"⟩ ⟨"RussianDoll", "search", "(I)V"⟩) ∈ lw_all := lw_g (lw_at lw_ms 5 rfl) rfl
theorem qs6 : (Cond.selects "RussianDoll" ⟨"RussianDoll", "nextValue", "(I)I"⟩ ⟨"RussianDoll", "nextValue", "(I)I"⟩) ∈ lw_all := lw_g (lw_at lw_ms 6 rfl) rfl
theorem qs7 : (Cond.selects "RussianDoll" ⟨"RussianDoll", "choose", "(II)V"⟩ ⟨"RussianDoll", "choose", "(II)V"⟩) ∈ lw_all := lw_g (lw_at lw_ms 7 rfl) rfl
theorem qs8 : (Cond.selects "RussianDoll" ⟨"RussianDoll", "real", "(I)I"⟩ ⟨"RussianDoll", "real", "(I)I"⟩) ∈ lw_all := lw_g (lw_at lw_ms 8 rfl) rfl
theorem qs9 : (Cond.selects "RussianDoll" ⟨"RussianDoll", "capped", "(I)I"⟩ ⟨"RussianDoll", "capped", "(I)I"⟩) ∈ lw_all := lw_g (lw_at lw_ms 9 rfl) rfl
theorem qs10 : (Cond.selects "RussianDoll" ⟨"RussianDoll", "between", "(IIII)I"⟩ ⟨"RussianDoll", "between", "(IIII)I"⟩) ∈ lw_all := lw_g (lw_at lw_ms 10 rfl) rfl
theorem qs11 : (Cond.selects "RussianDoll" ⟨"RussianDoll", "bound", "(I)I"⟩ ⟨"RussianDoll", "bound", "(I)I"⟩) ∈ lw_all := lw_g (lw_at lw_ms 11 rfl) rfl
theorem qs12 : (Cond.selects "RussianDoll" ⟨"RussianDoll", "keep", "(I)V"⟩ ⟨"RussianDoll", "keep", "(I)V"⟩) ∈ lw_all := lw_g (lw_at lw_ms 12 rfl) rfl
theorem qs13 : (Cond.selects "RussianDoll" ⟨"RussianDoll", "answer", "(I)I"⟩ ⟨"RussianDoll", "answer", "(I)I"⟩) ∈ lw_all := lw_g (lw_at lw_ms 13 rfl) rfl
theorem qs14 : (Cond.selects "RussianDollModel" ⟨"RussianDollModel", "isVariable", "(I)Z"⟩ ⟨"RussianDollModel", "isVariable", "(I)Z"⟩) ∈ lw_all := lw_g (lw_at lw_ms 14 rfl) rfl
theorem qs15 : (Cond.selects "RussianDollModel" ⟨"RussianDollModel", "isValue", "(I)Z"⟩ ⟨"RussianDollModel", "isValue", "(I)Z"⟩) ∈ lw_all := lw_g (lw_at lw_ms 15 rfl) rfl
theorem qs16 : (Cond.selects "RussianDollModel" ⟨"RussianDollModel", "isCost", "(I)Z"⟩ ⟨"RussianDollModel", "isCost", "(I)Z"⟩) ∈ lw_all := lw_g (lw_at lw_ms 16 rfl) rfl
theorem qs17 : (Cond.selects "RussianDollModel" ⟨"RussianDollModel", "isPair", "(I)Z"⟩ ⟨"RussianDollModel", "isPair", "(I)Z"⟩) ∈ lw_all := lw_g (lw_at lw_ms 17 rfl) rfl
theorem qs18 : (Cond.selects "RussianDollModel" ⟨"RussianDollModel", "cost", "(II)I"⟩ ⟨"RussianDollModel", "cost", "(II)I"⟩) ∈ lw_all := lw_g (lw_at lw_ms 18 rfl) rfl
theorem qs19 : (Cond.selects "RussianDollModel" ⟨"RussianDollModel", "digit", "(II)I"⟩ ⟨"RussianDollModel", "digit", "(II)I"⟩) ∈ lw_all := lw_g (lw_at lw_ms 19 rfl) rfl
theorem qs20 : (Cond.selects "RussianDollModel" ⟨"RussianDollModel", "isBetter", "(II)Z"⟩ ⟨"RussianDollModel", "isBetter", "(II)Z"⟩) ∈ lw_all := lw_g (lw_at lw_ms 20 rfl) rfl
theorem qs21 : (Cond.selects "RussianDollModel" ⟨"RussianDollModel", "first", "()I"⟩ ⟨"RussianDollModel", "first", "()I"⟩) ∈ lw_all := lw_g (lw_at lw_ms 21 rfl) rfl
theorem qs22 : (Cond.selects "RussianDollModel" ⟨"RussianDollModel", "isZigzag", "(I)Z"⟩ ⟨"RussianDollModel", "isZigzag", "(I)Z"⟩) ∈ lw_all := lw_g (lw_at lw_ms 22 rfl) rfl
end
section
/-! java/lang/Object -/
set_option maxRecDepth 100000
def RJ0 : String := "java/lang/Object"
abbrev cJ0_init : ByteArray := object_method_1_code
def yJ0_init : MethodName := ⟨RJ0, "<init>", "()V"⟩
theorem q32 : (Jvm.Cond.instanceMethod ({ cls := "java/lang/Object", name := "<init>", desc := "()V" } : Jvm.MethodName)) ∈ lw_all := lw_g (lw_at lw_m1 9 rfl) rfl
theorem q33 : (Jvm.Cond.code ({ cls := "java/lang/Object", name := "<init>", desc := "()V" } : Jvm.MethodName) object_method_1_code (1 : Nat) (Option.none : Option Jvm.ClassFile.FieldType)) ∈ lw_all := lw_g (lw_at lw_m1 10 rfl) rfl

theorem dJ0_init_0 : decode cJ0_init 0 = .ok (.return_, 1) := by decide +kernel
/-! RussianDoll -/
set_option maxRecDepth 100000
def RX0 : String := "RussianDoll"
def TX0 : u_T := fun k => match k with
  | 0 => ("RussianDoll", "ownCost", "[I", true)
  | 1 => ("RussianDoll", "pairCost", "[I", true)
  | 2 => ("RussianDoll", "solved", "Z", false)
  | 3 => ("RussianDoll", "dolls", "[I", true)
  | 4 => ("RussianDoll", "allowed", "[I", true)
  | 5 => ("RussianDoll", "differ", "Z", false)
  | 6 => ("RussianDoll", "chosen", "[I", true)
  | 7 => ("RussianDoll", "spent", "[I", true)
  | 8 => ("RussianDoll", "ahead", "[I", true)
  | 9 => ("RussianDoll", "best", "I", false)
  | 10 => ("RussianDoll", "bestValue", "[I", true)
  | _ => ("RussianDoll", "first", "[I", true)
def tyX0 : Nat → FieldType := fun k => match k with
  | 0 => .array .int
  | 1 => .array .int
  | 2 => .boolean
  | 3 => .array .int
  | 4 => .array .int
  | 5 => .boolean
  | 6 => .array .int
  | 7 => .array .int
  | 8 => .array .int
  | 9 => .int
  | 10 => .array .int
  | _ => .array .int
abbrev wsX00 : List Cond := u_ws RX0 TX0 12
theorem nmX0 : ∀ a, a < 12 → ∀ b, b < 12 → a ≠ b → (TX0 a).2.1 ≠ (TX0 b).2.1 := by decide +kernel
theorem tyX0_ok : ∀ k, k < 12 → parseFieldDescriptor (TX0 k).2.2.1 = some (tyX0 k) := by decide +kernel
abbrev cX0_init : ByteArray := prog_1_method_1_code
def yX0_init : MethodName := ⟨RX0, "<init>", "()V"⟩
abbrev cX0_own : ByteArray := prog_1_method_5_code
def yX0_own : MethodName := ⟨RX0, "own", "(III)I"⟩
abbrev cX0_badVariable : ByteArray := prog_1_method_3_code
def yX0_badVariable : MethodName := ⟨RX0, "badVariable", "(I)Z"⟩
abbrev cX0_badCost : ByteArray := prog_1_method_2_code
def yX0_badCost : MethodName := ⟨RX0, "badCost", "(I)Z"⟩
abbrev cX0_pair : ByteArray := prog_1_method_6_code
def yX0_pair : MethodName := ⟨RX0, "pair", "(III)I"⟩
abbrev cX0_badPair : ByteArray := prog_1_method_4_code
def yX0_badPair : MethodName := ⟨RX0, "badPair", "(I)Z"⟩
abbrev cX0_relate : ByteArray := prog_1_method_7_code
def yX0_relate : MethodName := ⟨RX0, "relate", "(III)I"⟩
abbrev cX0_clear : ByteArray := prog_1_method_8_code
def yX0_clear : MethodName := ⟨RX0, "clear", "()V"⟩
abbrev cX0_doll : ByteArray := prog_1_method_20_code
def yX0_doll : MethodName := ⟨RX0, "doll", "(I)I"⟩
abbrev cX0_solve : ByteArray := prog_1_method_18_code
def yX0_solve : MethodName := ⟨RX0, "solve", "()V"⟩
abbrev cX0_allowAll : ByteArray := prog_1_method_17_code
def yX0_allowAll : MethodName := ⟨RX0, "allowAll", "()V"⟩
abbrev cX0_search : ByteArray := prog_1_method_14_code
def yX0_search : MethodName := ⟨RX0, "search", "(I)V"⟩
abbrev cX0_nextValue : ByteArray := prog_1_method_15_code
def yX0_nextValue : MethodName := ⟨RX0, "nextValue", "(I)I"⟩
abbrev cX0_choose : ByteArray := prog_1_method_12_code
def yX0_choose : MethodName := ⟨RX0, "choose", "(II)V"⟩
abbrev cX0_real : ByteArray := prog_1_method_9_code
def yX0_real : MethodName := ⟨RX0, "real", "(I)I"⟩
abbrev cX0_capped : ByteArray := prog_1_method_10_code
def yX0_capped : MethodName := ⟨RX0, "capped", "(I)I"⟩
abbrev cX0_between : ByteArray := prog_1_method_11_code
def yX0_between : MethodName := ⟨RX0, "between", "(IIII)I"⟩
abbrev cX0_bound : ByteArray := prog_1_method_13_code
def yX0_bound : MethodName := ⟨RX0, "bound", "(I)I"⟩
abbrev cX0_keep : ByteArray := prog_1_method_16_code
def yX0_keep : MethodName := ⟨RX0, "keep", "(I)V"⟩
abbrev cX0_answer : ByteArray := prog_1_method_19_code
def yX0_answer : MethodName := ⟨RX0, "answer", "(I)I"⟩
abbrev cX0_cheapest : ByteArray := prog_1_method_21_code
def yX0_cheapest : MethodName := ⟨RX0, "cheapest", "()I"⟩
abbrev cX0_value : ByteArray := prog_1_method_22_code
def yX0_value : MethodName := ⟨RX0, "value", "(I)I"⟩
abbrev cX0_with : ByteArray := prog_1_method_23_code
def yX0_with : MethodName := ⟨RX0, "with", "(II)I"⟩
abbrev cX0_settled : ByteArray := prog_1_method_24_code
def yX0_settled : MethodName := ⟨RX0, "settled", "(I)Z"⟩
abbrev cX0_second : ByteArray := prog_1_method_25_code
def yX0_second : MethodName := ⟨RX0, "second", "()I"⟩
abbrev cX0_zigzag : ByteArray := prog_1_method_26_code
def yX0_zigzag : MethodName := ⟨RX0, "zigzag", "()I"⟩
theorem q24 : (Jvm.Cond.initialized "RussianDoll") ∈ lw_all := lw_g (lw_at lw_m1 1 rfl) rfl
theorem q27 : (Jvm.Cond.instantiable "RussianDoll" (12 : Nat)) ∈ lw_all := lw_g (lw_at lw_m1 4 rfl) rfl
theorem q29 : (Jvm.Cond.instanceMethod ({ cls := "RussianDoll", name := "<init>", desc := "()V" } : Jvm.MethodName)) ∈ lw_all := lw_g (lw_at lw_m1 6 rfl) rfl
theorem q30 : (Jvm.Cond.code ({ cls := "RussianDoll", name := "<init>", desc := "()V" } : Jvm.MethodName) prog_1_method_1_code (1 : Nat) (Option.none : Option Jvm.ClassFile.FieldType)) ∈ lw_all := lw_g (lw_at lw_m1 7 rfl) rfl
theorem q31 : (Jvm.Cond.methodLink "RussianDoll" (1 : Nat) ({ cls := "java/lang/Object", name := "<init>", desc := "()V" } : Jvm.MethodName)) ∈ lw_all := lw_g (lw_at lw_m1 8 rfl) rfl
theorem q34 : (Jvm.Cond.fieldLink "RussianDoll" (7 : Nat) "RussianDoll" "ownCost" "[I") ∈ lw_all := lw_g (lw_at lw_m1 11 rfl) rfl
theorem q35 : (Jvm.Cond.fieldLink "RussianDoll" (13 : Nat) "RussianDoll" "pairCost" "[I") ∈ lw_all := lw_g (lw_at lw_m1 12 rfl) rfl
theorem q36 : (Jvm.Cond.fieldLink "RussianDoll" (44 : Nat) "RussianDoll" "solved" "Z") ∈ lw_all := lw_g (lw_at lw_m1 13 rfl) rfl
theorem q37 : (Jvm.Cond.fieldLink "RussianDoll" (16 : Nat) "RussianDoll" "dolls" "[I") ∈ lw_all := lw_g (lw_at lw_m1 14 rfl) rfl
theorem q38 : (Jvm.Cond.fieldLink "RussianDoll" (19 : Nat) "RussianDoll" "allowed" "[I") ∈ lw_all := lw_g (lw_at lw_m1 15 rfl) rfl
theorem q39 : (Jvm.Cond.fieldLink "RussianDoll" (52 : Nat) "RussianDoll" "differ" "Z") ∈ lw_all := lw_g (lw_at lw_m1 16 rfl) rfl
theorem q40 : (Jvm.Cond.fieldLink "RussianDoll" (22 : Nat) "RussianDoll" "chosen" "[I") ∈ lw_all := lw_g (lw_at lw_m1 17 rfl) rfl
theorem q41 : (Jvm.Cond.fieldLink "RussianDoll" (25 : Nat) "RussianDoll" "spent" "[I") ∈ lw_all := lw_g (lw_at lw_m1 18 rfl) rfl
theorem q42 : (Jvm.Cond.fieldLink "RussianDoll" (28 : Nat) "RussianDoll" "ahead" "[I") ∈ lw_all := lw_g (lw_at lw_m1 19 rfl) rfl
theorem q43 : (Jvm.Cond.fieldLink "RussianDoll" (66 : Nat) "RussianDoll" "best" "I") ∈ lw_all := lw_g (lw_at lw_m1 20 rfl) rfl
theorem q44 : (Jvm.Cond.fieldLink "RussianDoll" (31 : Nat) "RussianDoll" "bestValue" "[I") ∈ lw_all := lw_g (lw_at lw_m1 21 rfl) rfl
theorem q45 : (Jvm.Cond.fieldLink "RussianDoll" (34 : Nat) "RussianDoll" "first" "[I") ∈ lw_all := lw_g (lw_at lw_m1 22 rfl) rfl
theorem q46 : (Jvm.Cond.laysFinal "RussianDoll" "RussianDoll" "ownCost" "[I") ∈ lw_all := lw_g (lw_at lw_m1 23 rfl) rfl
theorem q47 : (Jvm.Cond.soleField "RussianDoll" "ownCost") ∈ lw_all := lw_g (lw_at lw_m1 24 rfl) rfl
theorem q48 : (Jvm.Cond.laysFinal "RussianDoll" "RussianDoll" "pairCost" "[I") ∈ lw_all := lw_g (lw_at lw_m1 25 rfl) rfl
theorem q49 : (Jvm.Cond.soleField "RussianDoll" "pairCost") ∈ lw_all := lw_g (lw_at lw_m1 26 rfl) rfl
theorem q50 : (Jvm.Cond.lays "RussianDoll" "RussianDoll" "solved" "Z") ∈ lw_all := lw_g (lw_at lw_m1 27 rfl) rfl
theorem q51 : (Jvm.Cond.soleField "RussianDoll" "solved") ∈ lw_all := lw_g (lw_at lw_m1 28 rfl) rfl
theorem q52 : (Jvm.Cond.laysFinal "RussianDoll" "RussianDoll" "dolls" "[I") ∈ lw_all := lw_g (lw_at lw_m1 29 rfl) rfl
theorem q53 : (Jvm.Cond.soleField "RussianDoll" "dolls") ∈ lw_all := lw_g (lw_at lw_m1 30 rfl) rfl
theorem q54 : (Jvm.Cond.laysFinal "RussianDoll" "RussianDoll" "allowed" "[I") ∈ lw_all := lw_g (lw_at lw_m1 31 rfl) rfl
theorem q55 : (Jvm.Cond.soleField "RussianDoll" "allowed") ∈ lw_all := lw_g (lw_at lw_m1 32 rfl) rfl
theorem q56 : (Jvm.Cond.lays "RussianDoll" "RussianDoll" "differ" "Z") ∈ lw_all := lw_g (lw_at lw_m1 33 rfl) rfl
theorem q57 : (Jvm.Cond.soleField "RussianDoll" "differ") ∈ lw_all := lw_g (lw_at lw_m1 34 rfl) rfl
theorem q58 : (Jvm.Cond.laysFinal "RussianDoll" "RussianDoll" "chosen" "[I") ∈ lw_all := lw_g (lw_at lw_m1 35 rfl) rfl
theorem q59 : (Jvm.Cond.soleField "RussianDoll" "chosen") ∈ lw_all := lw_g (lw_at lw_m1 36 rfl) rfl
theorem q60 : (Jvm.Cond.laysFinal "RussianDoll" "RussianDoll" "spent" "[I") ∈ lw_all := lw_g (lw_at lw_m1 37 rfl) rfl
theorem q61 : (Jvm.Cond.soleField "RussianDoll" "spent") ∈ lw_all := lw_g (lw_at lw_m1 38 rfl) rfl
theorem q62 : (Jvm.Cond.laysFinal "RussianDoll" "RussianDoll" "ahead" "[I") ∈ lw_all := lw_g (lw_at lw_m1 39 rfl) rfl
theorem q63 : (Jvm.Cond.soleField "RussianDoll" "ahead") ∈ lw_all := lw_g (lw_at lw_m1 40 rfl) rfl
theorem q64 : (Jvm.Cond.lays "RussianDoll" "RussianDoll" "best" "I") ∈ lw_all := lw_g (lw_at lw_m1 41 rfl) rfl
theorem q65 : (Jvm.Cond.soleField "RussianDoll" "best") ∈ lw_all := lw_g (lw_at lw_m1 42 rfl) rfl
theorem q66 : (Jvm.Cond.laysFinal "RussianDoll" "RussianDoll" "bestValue" "[I") ∈ lw_all := lw_g (lw_at lw_m1 43 rfl) rfl
theorem q67 : (Jvm.Cond.soleField "RussianDoll" "bestValue") ∈ lw_all := lw_g (lw_at lw_m1 44 rfl) rfl
theorem q68 : (Jvm.Cond.laysFinal "RussianDoll" "RussianDoll" "first" "[I") ∈ lw_all := lw_g (lw_at lw_m1 45 rfl) rfl
theorem q69 : (Jvm.Cond.soleField "RussianDoll" "first") ∈ lw_all := lw_g (lw_at lw_m1 46 rfl) rfl
theorem q70 : (Jvm.Cond.superclass "RussianDoll" "java/lang/Object") ∈ lw_all := lw_g (lw_at lw_m1 47 rfl) rfl
theorem q73 : (Jvm.Cond.instanceMethod ({ cls := "RussianDoll", name := "own", desc := "(III)I" } : Jvm.MethodName)) ∈ lw_all := lw_g (lw_at lw_m1 50 rfl) rfl
theorem q74 : (Jvm.Cond.selects "RussianDoll" ({ cls := "RussianDoll", name := "own", desc := "(III)I" } : Jvm.MethodName) ({ cls := "RussianDoll", name := "own", desc := "(III)I" } : Jvm.MethodName)) ∈ lw_all := lw_g (lw_at lw_m1 51 rfl) rfl
theorem q75 : (Jvm.Cond.code ({ cls := "RussianDoll", name := "own", desc := "(III)I" } : Jvm.MethodName) prog_1_method_5_code (5 : Nat) (Option.some Jvm.ClassFile.FieldType.int)) ∈ lw_all := lw_g (lw_at lw_m1 52 rfl) rfl
theorem q76 : (Jvm.Cond.methodLink "RussianDoll" (37 : Nat) ({ cls := "RussianDoll", name := "badVariable", desc := "(I)Z" } : Jvm.MethodName)) ∈ lw_all := lw_g (lw_at lw_m1 53 rfl) rfl
theorem q77 : (Jvm.Cond.privateMethod ({ cls := "RussianDoll", name := "badVariable", desc := "(I)Z" } : Jvm.MethodName)) ∈ lw_tbl := lw_at lw_m1 54 rfl
theorem q78 : (Jvm.Cond.instanceMethod ({ cls := "RussianDoll", name := "badVariable", desc := "(I)Z" } : Jvm.MethodName)) ∈ lw_all := lw_g (lw_at lw_m1 55 rfl) rfl
theorem q79 : (Jvm.Cond.code ({ cls := "RussianDoll", name := "badVariable", desc := "(I)Z" } : Jvm.MethodName) prog_1_method_3_code (2 : Nat) (Option.some Jvm.ClassFile.FieldType.boolean)) ∈ lw_all := lw_g (lw_at lw_m1 56 rfl) rfl
theorem q80 : (Jvm.Cond.methodLink "RussianDoll" (41 : Nat) ({ cls := "RussianDoll", name := "badCost", desc := "(I)Z" } : Jvm.MethodName)) ∈ lw_all := lw_g (lw_at lw_m1 57 rfl) rfl
theorem q81 : (Jvm.Cond.privateMethod ({ cls := "RussianDoll", name := "badCost", desc := "(I)Z" } : Jvm.MethodName)) ∈ lw_tbl := lw_at lw_m1 58 rfl
theorem q82 : (Jvm.Cond.instanceMethod ({ cls := "RussianDoll", name := "badCost", desc := "(I)Z" } : Jvm.MethodName)) ∈ lw_all := lw_g (lw_at lw_m1 59 rfl) rfl
theorem q83 : (Jvm.Cond.code ({ cls := "RussianDoll", name := "badCost", desc := "(I)Z" } : Jvm.MethodName) prog_1_method_2_code (2 : Nat) (Option.some Jvm.ClassFile.FieldType.boolean)) ∈ lw_all := lw_g (lw_at lw_m1 60 rfl) rfl
theorem q85 : (Jvm.Cond.instanceMethod ({ cls := "RussianDoll", name := "pair", desc := "(III)I" } : Jvm.MethodName)) ∈ lw_all := lw_g (lw_at lw_m1 62 rfl) rfl
theorem q86 : (Jvm.Cond.selects "RussianDoll" ({ cls := "RussianDoll", name := "pair", desc := "(III)I" } : Jvm.MethodName) ({ cls := "RussianDoll", name := "pair", desc := "(III)I" } : Jvm.MethodName)) ∈ lw_all := lw_g (lw_at lw_m1 63 rfl) rfl
theorem q87 : (Jvm.Cond.code ({ cls := "RussianDoll", name := "pair", desc := "(III)I" } : Jvm.MethodName) prog_1_method_6_code (5 : Nat) (Option.some Jvm.ClassFile.FieldType.int)) ∈ lw_all := lw_g (lw_at lw_m1 64 rfl) rfl
theorem q88 : (Jvm.Cond.methodLink "RussianDoll" (48 : Nat) ({ cls := "RussianDoll", name := "badPair", desc := "(I)Z" } : Jvm.MethodName)) ∈ lw_all := lw_g (lw_at lw_m1 65 rfl) rfl
theorem q89 : (Jvm.Cond.privateMethod ({ cls := "RussianDoll", name := "badPair", desc := "(I)Z" } : Jvm.MethodName)) ∈ lw_tbl := lw_at lw_m1 66 rfl
theorem q90 : (Jvm.Cond.instanceMethod ({ cls := "RussianDoll", name := "badPair", desc := "(I)Z" } : Jvm.MethodName)) ∈ lw_all := lw_g (lw_at lw_m1 67 rfl) rfl
theorem q91 : (Jvm.Cond.code ({ cls := "RussianDoll", name := "badPair", desc := "(I)Z" } : Jvm.MethodName) prog_1_method_4_code (2 : Nat) (Option.some Jvm.ClassFile.FieldType.boolean)) ∈ lw_all := lw_g (lw_at lw_m1 68 rfl) rfl
theorem q93 : (Jvm.Cond.instanceMethod ({ cls := "RussianDoll", name := "relate", desc := "(III)I" } : Jvm.MethodName)) ∈ lw_all := lw_g (lw_at lw_m1 70 rfl) rfl
theorem q94 : (Jvm.Cond.selects "RussianDoll" ({ cls := "RussianDoll", name := "relate", desc := "(III)I" } : Jvm.MethodName) ({ cls := "RussianDoll", name := "relate", desc := "(III)I" } : Jvm.MethodName)) ∈ lw_all := lw_g (lw_at lw_m1 71 rfl) rfl
theorem q95 : (Jvm.Cond.code ({ cls := "RussianDoll", name := "relate", desc := "(III)I" } : Jvm.MethodName) prog_1_method_7_code (6 : Nat) (Option.some Jvm.ClassFile.FieldType.int)) ∈ lw_all := lw_g (lw_at lw_m1 72 rfl) rfl
theorem q97 : (Jvm.Cond.instanceMethod ({ cls := "RussianDoll", name := "clear", desc := "()V" } : Jvm.MethodName)) ∈ lw_all := lw_g (lw_at lw_m1 74 rfl) rfl
theorem q98 : (Jvm.Cond.selects "RussianDoll" ({ cls := "RussianDoll", name := "clear", desc := "()V" } : Jvm.MethodName) ({ cls := "RussianDoll", name := "clear", desc := "()V" } : Jvm.MethodName)) ∈ lw_all := lw_g (lw_at lw_m1 75 rfl) rfl
theorem q99 : (Jvm.Cond.code ({ cls := "RussianDoll", name := "clear", desc := "()V" } : Jvm.MethodName) prog_1_method_8_code (2 : Nat) (Option.none : Option Jvm.ClassFile.FieldType)) ∈ lw_all := lw_g (lw_at lw_m1 76 rfl) rfl
theorem q101 : (Jvm.Cond.instanceMethod ({ cls := "RussianDoll", name := "doll", desc := "(I)I" } : Jvm.MethodName)) ∈ lw_all := lw_g (lw_at lw_m1 78 rfl) rfl
theorem q102 : (Jvm.Cond.selects "RussianDoll" ({ cls := "RussianDoll", name := "doll", desc := "(I)I" } : Jvm.MethodName) ({ cls := "RussianDoll", name := "doll", desc := "(I)I" } : Jvm.MethodName)) ∈ lw_all := lw_g (lw_at lw_m1 79 rfl) rfl
theorem q103 : (Jvm.Cond.code ({ cls := "RussianDoll", name := "doll", desc := "(I)I" } : Jvm.MethodName) prog_1_method_20_code (2 : Nat) (Option.some Jvm.ClassFile.FieldType.int)) ∈ lw_all := lw_g (lw_at lw_m1 80 rfl) rfl
theorem q104 : (Jvm.Cond.methodLink "RussianDoll" (90 : Nat) ({ cls := "RussianDoll", name := "solve", desc := "()V" } : Jvm.MethodName)) ∈ lw_all := lw_g (lw_at lw_m1 81 rfl) rfl
theorem q105 : (Jvm.Cond.privateMethod ({ cls := "RussianDoll", name := "solve", desc := "()V" } : Jvm.MethodName)) ∈ lw_tbl := lw_at lw_m1 82 rfl
theorem q106 : (Jvm.Cond.instanceMethod ({ cls := "RussianDoll", name := "solve", desc := "()V" } : Jvm.MethodName)) ∈ lw_all := lw_g (lw_at lw_m1 83 rfl) rfl
theorem q107 : (Jvm.Cond.code ({ cls := "RussianDoll", name := "solve", desc := "()V" } : Jvm.MethodName) prog_1_method_18_code (2 : Nat) (Option.none : Option Jvm.ClassFile.FieldType)) ∈ lw_all := lw_g (lw_at lw_m1 84 rfl) rfl
theorem q108 : (Jvm.Cond.methodLink "RussianDoll" (84 : Nat) ({ cls := "RussianDoll", name := "allowAll", desc := "()V" } : Jvm.MethodName)) ∈ lw_all := lw_g (lw_at lw_m1 85 rfl) rfl
theorem q109 : (Jvm.Cond.privateMethod ({ cls := "RussianDoll", name := "allowAll", desc := "()V" } : Jvm.MethodName)) ∈ lw_tbl := lw_at lw_m1 86 rfl
theorem q110 : (Jvm.Cond.instanceMethod ({ cls := "RussianDoll", name := "allowAll", desc := "()V" } : Jvm.MethodName)) ∈ lw_all := lw_g (lw_at lw_m1 87 rfl) rfl
theorem q111 : (Jvm.Cond.code ({ cls := "RussianDoll", name := "allowAll", desc := "()V" } : Jvm.MethodName) prog_1_method_17_code (2 : Nat) (Option.none : Option Jvm.ClassFile.FieldType)) ∈ lw_all := lw_g (lw_at lw_m1 88 rfl) rfl
theorem q112 : (Jvm.Cond.methodLink "RussianDoll" (87 : Nat) ({ cls := "RussianDoll", name := "search", desc := "(I)V" } : Jvm.MethodName)) ∈ lw_all := lw_g (lw_at lw_m1 89 rfl) rfl
theorem q113 : (Jvm.Cond.privateMethod ({ cls := "RussianDoll", name := "search", desc := "(I)V" } : Jvm.MethodName)) ∈ lw_tbl := lw_at lw_m1 90 rfl
theorem q114 : (Jvm.Cond.instanceMethod ({ cls := "RussianDoll", name := "search", desc := "(I)V" } : Jvm.MethodName)) ∈ lw_all := lw_g (lw_at lw_m1 91 rfl) rfl
theorem q115 : (Jvm.Cond.code ({ cls := "RussianDoll", name := "search", desc := "(I)V" } : Jvm.MethodName) prog_1_method_14_code (6 : Nat) (Option.none : Option Jvm.ClassFile.FieldType)) ∈ lw_all := lw_g (lw_at lw_m1 92 rfl) rfl
theorem q116 : (Jvm.Cond.constant "RussianDoll" (51 : Nat) (100000 : Int32)) ∈ lw_all := lw_g (lw_at lw_m1 93 rfl) rfl
theorem q117 : (Jvm.Cond.methodLink "RussianDoll" (70 : Nat) ({ cls := "RussianDoll", name := "nextValue", desc := "(I)I" } : Jvm.MethodName)) ∈ lw_all := lw_g (lw_at lw_m1 94 rfl) rfl
theorem q118 : (Jvm.Cond.privateMethod ({ cls := "RussianDoll", name := "nextValue", desc := "(I)I" } : Jvm.MethodName)) ∈ lw_tbl := lw_at lw_m1 95 rfl
theorem q119 : (Jvm.Cond.instanceMethod ({ cls := "RussianDoll", name := "nextValue", desc := "(I)I" } : Jvm.MethodName)) ∈ lw_all := lw_g (lw_at lw_m1 96 rfl) rfl
theorem q120 : (Jvm.Cond.code ({ cls := "RussianDoll", name := "nextValue", desc := "(I)I" } : Jvm.MethodName) prog_1_method_15_code (4 : Nat) (Option.some Jvm.ClassFile.FieldType.int)) ∈ lw_all := lw_g (lw_at lw_m1 97 rfl) rfl
theorem q121 : (Jvm.Cond.methodLink "RussianDoll" (73 : Nat) ({ cls := "RussianDoll", name := "choose", desc := "(II)V" } : Jvm.MethodName)) ∈ lw_all := lw_g (lw_at lw_m1 98 rfl) rfl
theorem q122 : (Jvm.Cond.privateMethod ({ cls := "RussianDoll", name := "choose", desc := "(II)V" } : Jvm.MethodName)) ∈ lw_tbl := lw_at lw_m1 99 rfl
theorem q123 : (Jvm.Cond.instanceMethod ({ cls := "RussianDoll", name := "choose", desc := "(II)V" } : Jvm.MethodName)) ∈ lw_all := lw_g (lw_at lw_m1 100 rfl) rfl
theorem q124 : (Jvm.Cond.code ({ cls := "RussianDoll", name := "choose", desc := "(II)V" } : Jvm.MethodName) prog_1_method_12_code (8 : Nat) (Option.none : Option Jvm.ClassFile.FieldType)) ∈ lw_all := lw_g (lw_at lw_m1 101 rfl) rfl
theorem q125 : (Jvm.Cond.methodLink "RussianDoll" (55 : Nat) ({ cls := "RussianDoll", name := "real", desc := "(I)I" } : Jvm.MethodName)) ∈ lw_all := lw_g (lw_at lw_m1 102 rfl) rfl
theorem q126 : (Jvm.Cond.privateMethod ({ cls := "RussianDoll", name := "real", desc := "(I)I" } : Jvm.MethodName)) ∈ lw_tbl := lw_at lw_m1 103 rfl
theorem q127 : (Jvm.Cond.instanceMethod ({ cls := "RussianDoll", name := "real", desc := "(I)I" } : Jvm.MethodName)) ∈ lw_all := lw_g (lw_at lw_m1 104 rfl) rfl
theorem q128 : (Jvm.Cond.code ({ cls := "RussianDoll", name := "real", desc := "(I)I" } : Jvm.MethodName) prog_1_method_9_code (2 : Nat) (Option.some Jvm.ClassFile.FieldType.int)) ∈ lw_all := lw_g (lw_at lw_m1 105 rfl) rfl
theorem q129 : (Jvm.Cond.methodLink "RussianDoll" (59 : Nat) ({ cls := "RussianDoll", name := "capped", desc := "(I)I" } : Jvm.MethodName)) ∈ lw_all := lw_g (lw_at lw_m1 106 rfl) rfl
theorem q130 : (Jvm.Cond.privateMethod ({ cls := "RussianDoll", name := "capped", desc := "(I)I" } : Jvm.MethodName)) ∈ lw_tbl := lw_at lw_m1 107 rfl
theorem q131 : (Jvm.Cond.instanceMethod ({ cls := "RussianDoll", name := "capped", desc := "(I)I" } : Jvm.MethodName)) ∈ lw_all := lw_g (lw_at lw_m1 108 rfl) rfl
theorem q132 : (Jvm.Cond.code ({ cls := "RussianDoll", name := "capped", desc := "(I)I" } : Jvm.MethodName) prog_1_method_10_code (2 : Nat) (Option.some Jvm.ClassFile.FieldType.int)) ∈ lw_all := lw_g (lw_at lw_m1 109 rfl) rfl
theorem q133 : (Jvm.Cond.methodLink "RussianDoll" (62 : Nat) ({ cls := "RussianDoll", name := "between", desc := "(IIII)I" } : Jvm.MethodName)) ∈ lw_all := lw_g (lw_at lw_m1 110 rfl) rfl
theorem q134 : (Jvm.Cond.privateMethod ({ cls := "RussianDoll", name := "between", desc := "(IIII)I" } : Jvm.MethodName)) ∈ lw_tbl := lw_at lw_m1 111 rfl
theorem q135 : (Jvm.Cond.instanceMethod ({ cls := "RussianDoll", name := "between", desc := "(IIII)I" } : Jvm.MethodName)) ∈ lw_all := lw_g (lw_at lw_m1 112 rfl) rfl
theorem q136 : (Jvm.Cond.code ({ cls := "RussianDoll", name := "between", desc := "(IIII)I" } : Jvm.MethodName) prog_1_method_11_code (5 : Nat) (Option.some Jvm.ClassFile.FieldType.int)) ∈ lw_all := lw_g (lw_at lw_m1 113 rfl) rfl
theorem q137 : (Jvm.Cond.methodLink "RussianDoll" (77 : Nat) ({ cls := "RussianDoll", name := "bound", desc := "(I)I" } : Jvm.MethodName)) ∈ lw_all := lw_g (lw_at lw_m1 114 rfl) rfl
theorem q138 : (Jvm.Cond.privateMethod ({ cls := "RussianDoll", name := "bound", desc := "(I)I" } : Jvm.MethodName)) ∈ lw_tbl := lw_at lw_m1 115 rfl
theorem q139 : (Jvm.Cond.instanceMethod ({ cls := "RussianDoll", name := "bound", desc := "(I)I" } : Jvm.MethodName)) ∈ lw_all := lw_g (lw_at lw_m1 116 rfl) rfl
theorem q140 : (Jvm.Cond.code ({ cls := "RussianDoll", name := "bound", desc := "(I)I" } : Jvm.MethodName) prog_1_method_13_code (7 : Nat) (Option.some Jvm.ClassFile.FieldType.int)) ∈ lw_all := lw_g (lw_at lw_m1 117 rfl) rfl
theorem q141 : (Jvm.Cond.methodLink "RussianDoll" (80 : Nat) ({ cls := "RussianDoll", name := "keep", desc := "(I)V" } : Jvm.MethodName)) ∈ lw_all := lw_g (lw_at lw_m1 118 rfl) rfl
theorem q142 : (Jvm.Cond.privateMethod ({ cls := "RussianDoll", name := "keep", desc := "(I)V" } : Jvm.MethodName)) ∈ lw_tbl := lw_at lw_m1 119 rfl
theorem q143 : (Jvm.Cond.instanceMethod ({ cls := "RussianDoll", name := "keep", desc := "(I)V" } : Jvm.MethodName)) ∈ lw_all := lw_g (lw_at lw_m1 120 rfl) rfl
theorem q144 : (Jvm.Cond.code ({ cls := "RussianDoll", name := "keep", desc := "(I)V" } : Jvm.MethodName) prog_1_method_16_code (3 : Nat) (Option.none : Option Jvm.ClassFile.FieldType)) ∈ lw_all := lw_g (lw_at lw_m1 121 rfl) rfl
theorem q145 : (Jvm.Cond.methodLink "RussianDoll" (93 : Nat) ({ cls := "RussianDoll", name := "answer", desc := "(I)I" } : Jvm.MethodName)) ∈ lw_all := lw_g (lw_at lw_m1 122 rfl) rfl
theorem q146 : (Jvm.Cond.privateMethod ({ cls := "RussianDoll", name := "answer", desc := "(I)I" } : Jvm.MethodName)) ∈ lw_tbl := lw_at lw_m1 123 rfl
theorem q147 : (Jvm.Cond.instanceMethod ({ cls := "RussianDoll", name := "answer", desc := "(I)I" } : Jvm.MethodName)) ∈ lw_all := lw_g (lw_at lw_m1 124 rfl) rfl
theorem q148 : (Jvm.Cond.code ({ cls := "RussianDoll", name := "answer", desc := "(I)I" } : Jvm.MethodName) prog_1_method_19_code (2 : Nat) (Option.some Jvm.ClassFile.FieldType.int)) ∈ lw_all := lw_g (lw_at lw_m1 125 rfl) rfl
theorem q150 : (Jvm.Cond.instanceMethod ({ cls := "RussianDoll", name := "cheapest", desc := "()I" } : Jvm.MethodName)) ∈ lw_all := lw_g (lw_at lw_m1 127 rfl) rfl
theorem q151 : (Jvm.Cond.selects "RussianDoll" ({ cls := "RussianDoll", name := "cheapest", desc := "()I" } : Jvm.MethodName) ({ cls := "RussianDoll", name := "cheapest", desc := "()I" } : Jvm.MethodName)) ∈ lw_all := lw_g (lw_at lw_m1 128 rfl) rfl
theorem q152 : (Jvm.Cond.code ({ cls := "RussianDoll", name := "cheapest", desc := "()I" } : Jvm.MethodName) prog_1_method_21_code (1 : Nat) (Option.some Jvm.ClassFile.FieldType.int)) ∈ lw_all := lw_g (lw_at lw_m1 129 rfl) rfl
theorem q153 : (Jvm.Cond.methodLink "RussianDoll" (96 : Nat) ({ cls := "RussianDoll", name := "doll", desc := "(I)I" } : Jvm.MethodName)) ∈ lw_all := lw_g (lw_at lw_m1 130 rfl) rfl
theorem q155 : (Jvm.Cond.instanceMethod ({ cls := "RussianDoll", name := "value", desc := "(I)I" } : Jvm.MethodName)) ∈ lw_all := lw_g (lw_at lw_m1 132 rfl) rfl
theorem q156 : (Jvm.Cond.selects "RussianDoll" ({ cls := "RussianDoll", name := "value", desc := "(I)I" } : Jvm.MethodName) ({ cls := "RussianDoll", name := "value", desc := "(I)I" } : Jvm.MethodName)) ∈ lw_all := lw_g (lw_at lw_m1 133 rfl) rfl
theorem q157 : (Jvm.Cond.code ({ cls := "RussianDoll", name := "value", desc := "(I)I" } : Jvm.MethodName) prog_1_method_22_code (2 : Nat) (Option.some Jvm.ClassFile.FieldType.int)) ∈ lw_all := lw_g (lw_at lw_m1 134 rfl) rfl
theorem q159 : (Jvm.Cond.instanceMethod ({ cls := "RussianDoll", name := "with", desc := "(II)I" } : Jvm.MethodName)) ∈ lw_all := lw_g (lw_at lw_m1 136 rfl) rfl
theorem q160 : (Jvm.Cond.selects "RussianDoll" ({ cls := "RussianDoll", name := "with", desc := "(II)I" } : Jvm.MethodName) ({ cls := "RussianDoll", name := "with", desc := "(II)I" } : Jvm.MethodName)) ∈ lw_all := lw_g (lw_at lw_m1 137 rfl) rfl
theorem q161 : (Jvm.Cond.code ({ cls := "RussianDoll", name := "with", desc := "(II)I" } : Jvm.MethodName) prog_1_method_23_code (3 : Nat) (Option.some Jvm.ClassFile.FieldType.int)) ∈ lw_all := lw_g (lw_at lw_m1 138 rfl) rfl
theorem q163 : (Jvm.Cond.instanceMethod ({ cls := "RussianDoll", name := "settled", desc := "(I)Z" } : Jvm.MethodName)) ∈ lw_all := lw_g (lw_at lw_m1 140 rfl) rfl
theorem q164 : (Jvm.Cond.selects "RussianDoll" ({ cls := "RussianDoll", name := "settled", desc := "(I)Z" } : Jvm.MethodName) ({ cls := "RussianDoll", name := "settled", desc := "(I)Z" } : Jvm.MethodName)) ∈ lw_all := lw_g (lw_at lw_m1 141 rfl) rfl
theorem q165 : (Jvm.Cond.code ({ cls := "RussianDoll", name := "settled", desc := "(I)Z" } : Jvm.MethodName) prog_1_method_24_code (6 : Nat) (Option.some Jvm.ClassFile.FieldType.boolean)) ∈ lw_all := lw_g (lw_at lw_m1 142 rfl) rfl
theorem q166 : (Jvm.Cond.methodLink "RussianDoll" (99 : Nat) ({ cls := "RussianDoll", name := "cheapest", desc := "()I" } : Jvm.MethodName)) ∈ lw_all := lw_g (lw_at lw_m1 143 rfl) rfl
theorem q167 : (Jvm.Cond.methodLink "RussianDoll" (103 : Nat) ({ cls := "RussianDoll", name := "with", desc := "(II)I" } : Jvm.MethodName)) ∈ lw_all := lw_g (lw_at lw_m1 144 rfl) rfl
theorem q169 : (Jvm.Cond.instanceMethod ({ cls := "RussianDoll", name := "second", desc := "()I" } : Jvm.MethodName)) ∈ lw_all := lw_g (lw_at lw_m1 146 rfl) rfl
theorem q170 : (Jvm.Cond.selects "RussianDoll" ({ cls := "RussianDoll", name := "second", desc := "()I" } : Jvm.MethodName) ({ cls := "RussianDoll", name := "second", desc := "()I" } : Jvm.MethodName)) ∈ lw_all := lw_g (lw_at lw_m1 147 rfl) rfl
theorem q171 : (Jvm.Cond.code ({ cls := "RussianDoll", name := "second", desc := "()I" } : Jvm.MethodName) prog_1_method_25_code (4 : Nat) (Option.some Jvm.ClassFile.FieldType.int)) ∈ lw_all := lw_g (lw_at lw_m1 148 rfl) rfl
theorem q173 : (Jvm.Cond.instanceMethod ({ cls := "RussianDoll", name := "zigzag", desc := "()I" } : Jvm.MethodName)) ∈ lw_all := lw_g (lw_at lw_m1 150 rfl) rfl
theorem q174 : (Jvm.Cond.selects "RussianDoll" ({ cls := "RussianDoll", name := "zigzag", desc := "()I" } : Jvm.MethodName) ({ cls := "RussianDoll", name := "zigzag", desc := "()I" } : Jvm.MethodName)) ∈ lw_all := lw_g (lw_at lw_m1 151 rfl) rfl
theorem q175 : (Jvm.Cond.code ({ cls := "RussianDoll", name := "zigzag", desc := "()I" } : Jvm.MethodName) prog_1_method_26_code (1 : Nat) (Option.some Jvm.ClassFile.FieldType.int)) ∈ lw_all := lw_g (lw_at lw_m1 152 rfl) rfl
theorem in_X0 : ∀ w ∈ wsX00, w ∈ lw_all := lw_in wsX00 [46, 48, 50, 52, 54, 56, 58, 60, 62, 64, 66, 68] (by decide +kernel) (by decide +kernel)
end
section
/-! RussianDollModel -/
set_option maxRecDepth 100000
def RX1 : String := "RussianDollModel"
def TX1 : u_T := fun k => match k with
  | 0 => ("RussianDollModel", "owns", "[I", true)
  | _ => ("RussianDollModel", "pairs", "[I", true)
def tyX1 : Nat → FieldType := fun k => match k with
  | 0 => .array .int
  | _ => .array .int
abbrev wsX10 : List Cond := u_ws RX1 TX1 2
theorem nmX1 : ∀ a, a < 2 → ∀ b, b < 2 → a ≠ b → (TX1 a).2.1 ≠ (TX1 b).2.1 := by decide +kernel
theorem tyX1_ok : ∀ k, k < 2 → parseFieldDescriptor (TX1 k).2.2.1 = some (tyX1 k) := by decide +kernel
abbrev cX1_init : ByteArray := prog_3_method_1_code
def yX1_init : MethodName := ⟨RX1, "<init>", "()V"⟩
abbrev cX1_own : ByteArray := prog_3_method_6_code
def yX1_own : MethodName := ⟨RX1, "own", "(III)I"⟩
abbrev cX1_isVariable : ByteArray := prog_3_method_2_code
def yX1_isVariable : MethodName := ⟨RX1, "isVariable", "(I)Z"⟩
abbrev cX1_isValue : ByteArray := prog_3_method_3_code
def yX1_isValue : MethodName := ⟨RX1, "isValue", "(I)Z"⟩
abbrev cX1_isCost : ByteArray := prog_3_method_4_code
def yX1_isCost : MethodName := ⟨RX1, "isCost", "(I)Z"⟩
abbrev cX1_pair : ByteArray := prog_3_method_7_code
def yX1_pair : MethodName := ⟨RX1, "pair", "(III)I"⟩
abbrev cX1_isPair : ByteArray := prog_3_method_5_code
def yX1_isPair : MethodName := ⟨RX1, "isPair", "(I)Z"⟩
abbrev cX1_relate : ByteArray := prog_3_method_8_code
def yX1_relate : MethodName := ⟨RX1, "relate", "(III)I"⟩
abbrev cX1_clear : ByteArray := prog_3_method_9_code
def yX1_clear : MethodName := ⟨RX1, "clear", "()V"⟩
abbrev cX1_doll : ByteArray := prog_3_method_13_code
def yX1_doll : MethodName := ⟨RX1, "doll", "(I)I"⟩
abbrev cX1_cost : ByteArray := prog_3_method_11_code
def yX1_cost : MethodName := ⟨RX1, "cost", "(II)I"⟩
abbrev cX1_digit : ByteArray := prog_3_method_10_code
def yX1_digit : MethodName := ⟨RX1, "digit", "(II)I"⟩
abbrev cX1_isBetter : ByteArray := prog_3_method_12_code
def yX1_isBetter : MethodName := ⟨RX1, "isBetter", "(II)Z"⟩
abbrev cX1_cheapest : ByteArray := prog_3_method_14_code
def yX1_cheapest : MethodName := ⟨RX1, "cheapest", "()I"⟩
abbrev cX1_value : ByteArray := prog_3_method_16_code
def yX1_value : MethodName := ⟨RX1, "value", "(I)I"⟩
abbrev cX1_first : ByteArray := prog_3_method_15_code
def yX1_first : MethodName := ⟨RX1, "first", "()I"⟩
abbrev cX1_with : ByteArray := prog_3_method_17_code
def yX1_with : MethodName := ⟨RX1, "with", "(II)I"⟩
abbrev cX1_settled : ByteArray := prog_3_method_18_code
def yX1_settled : MethodName := ⟨RX1, "settled", "(I)Z"⟩
abbrev cX1_second : ByteArray := prog_3_method_19_code
def yX1_second : MethodName := ⟨RX1, "second", "()I"⟩
abbrev cX1_zigzag : ByteArray := prog_3_method_21_code
def yX1_zigzag : MethodName := ⟨RX1, "zigzag", "()I"⟩
abbrev cX1_isZigzag : ByteArray := prog_3_method_20_code
def yX1_isZigzag : MethodName := ⟨RX1, "isZigzag", "(I)Z"⟩
theorem q25 : (Jvm.Cond.initialized "RussianDollModel") ∈ lw_all := lw_g (lw_at lw_m1 2 rfl) rfl
theorem q177 : (Jvm.Cond.instantiable "RussianDollModel" (2 : Nat)) ∈ lw_all := lw_g (lw_at lw_m1 154 rfl) rfl
theorem q179 : (Jvm.Cond.instanceMethod ({ cls := "RussianDollModel", name := "<init>", desc := "()V" } : Jvm.MethodName)) ∈ lw_all := lw_g (lw_at lw_m1 156 rfl) rfl
theorem q180 : (Jvm.Cond.code ({ cls := "RussianDollModel", name := "<init>", desc := "()V" } : Jvm.MethodName) prog_3_method_1_code (1 : Nat) (Option.none : Option Jvm.ClassFile.FieldType)) ∈ lw_all := lw_g (lw_at lw_m1 157 rfl) rfl
theorem q181 : (Jvm.Cond.methodLink "RussianDollModel" (1 : Nat) ({ cls := "java/lang/Object", name := "<init>", desc := "()V" } : Jvm.MethodName)) ∈ lw_all := lw_g (lw_at lw_m1 158 rfl) rfl
theorem q182 : (Jvm.Cond.fieldLink "RussianDollModel" (7 : Nat) "RussianDollModel" "owns" "[I") ∈ lw_all := lw_g (lw_at lw_m1 159 rfl) rfl
theorem q183 : (Jvm.Cond.fieldLink "RussianDollModel" (13 : Nat) "RussianDollModel" "pairs" "[I") ∈ lw_all := lw_g (lw_at lw_m1 160 rfl) rfl
theorem q184 : (Jvm.Cond.laysFinal "RussianDollModel" "RussianDollModel" "owns" "[I") ∈ lw_all := lw_g (lw_at lw_m1 161 rfl) rfl
theorem q185 : (Jvm.Cond.soleField "RussianDollModel" "owns") ∈ lw_all := lw_g (lw_at lw_m1 162 rfl) rfl
theorem q186 : (Jvm.Cond.laysFinal "RussianDollModel" "RussianDollModel" "pairs" "[I") ∈ lw_all := lw_g (lw_at lw_m1 163 rfl) rfl
theorem q187 : (Jvm.Cond.soleField "RussianDollModel" "pairs") ∈ lw_all := lw_g (lw_at lw_m1 164 rfl) rfl
theorem q188 : (Jvm.Cond.superclass "RussianDollModel" "java/lang/Object") ∈ lw_all := lw_g (lw_at lw_m1 165 rfl) rfl
theorem q190 : (Jvm.Cond.instanceMethod ({ cls := "RussianDollModel", name := "own", desc := "(III)I" } : Jvm.MethodName)) ∈ lw_all := lw_g (lw_at lw_m1 167 rfl) rfl
theorem q191 : (Jvm.Cond.selects "RussianDollModel" ({ cls := "RussianDollModel", name := "own", desc := "(III)I" } : Jvm.MethodName) ({ cls := "RussianDollModel", name := "own", desc := "(III)I" } : Jvm.MethodName)) ∈ lw_all := lw_g (lw_at lw_m1 168 rfl) rfl
theorem q192 : (Jvm.Cond.code ({ cls := "RussianDollModel", name := "own", desc := "(III)I" } : Jvm.MethodName) prog_3_method_6_code (5 : Nat) (Option.some Jvm.ClassFile.FieldType.int)) ∈ lw_all := lw_g (lw_at lw_m1 169 rfl) rfl
theorem q193 : (Jvm.Cond.methodLink "RussianDollModel" (16 : Nat) ({ cls := "RussianDollModel", name := "isVariable", desc := "(I)Z" } : Jvm.MethodName)) ∈ lw_all := lw_g (lw_at lw_m1 170 rfl) rfl
theorem q194 : (Jvm.Cond.privateMethod ({ cls := "RussianDollModel", name := "isVariable", desc := "(I)Z" } : Jvm.MethodName)) ∈ lw_tbl := lw_at lw_m1 171 rfl
theorem q195 : (Jvm.Cond.instanceMethod ({ cls := "RussianDollModel", name := "isVariable", desc := "(I)Z" } : Jvm.MethodName)) ∈ lw_all := lw_g (lw_at lw_m1 172 rfl) rfl
theorem q196 : (Jvm.Cond.code ({ cls := "RussianDollModel", name := "isVariable", desc := "(I)Z" } : Jvm.MethodName) prog_3_method_2_code (2 : Nat) (Option.some Jvm.ClassFile.FieldType.boolean)) ∈ lw_all := lw_g (lw_at lw_m1 173 rfl) rfl
theorem q197 : (Jvm.Cond.methodLink "RussianDollModel" (20 : Nat) ({ cls := "RussianDollModel", name := "isValue", desc := "(I)Z" } : Jvm.MethodName)) ∈ lw_all := lw_g (lw_at lw_m1 174 rfl) rfl
theorem q198 : (Jvm.Cond.privateMethod ({ cls := "RussianDollModel", name := "isValue", desc := "(I)Z" } : Jvm.MethodName)) ∈ lw_tbl := lw_at lw_m1 175 rfl
theorem q199 : (Jvm.Cond.instanceMethod ({ cls := "RussianDollModel", name := "isValue", desc := "(I)Z" } : Jvm.MethodName)) ∈ lw_all := lw_g (lw_at lw_m1 176 rfl) rfl
theorem q200 : (Jvm.Cond.code ({ cls := "RussianDollModel", name := "isValue", desc := "(I)Z" } : Jvm.MethodName) prog_3_method_3_code (2 : Nat) (Option.some Jvm.ClassFile.FieldType.boolean)) ∈ lw_all := lw_g (lw_at lw_m1 177 rfl) rfl
theorem q201 : (Jvm.Cond.methodLink "RussianDollModel" (23 : Nat) ({ cls := "RussianDollModel", name := "isCost", desc := "(I)Z" } : Jvm.MethodName)) ∈ lw_all := lw_g (lw_at lw_m1 178 rfl) rfl
theorem q202 : (Jvm.Cond.privateMethod ({ cls := "RussianDollModel", name := "isCost", desc := "(I)Z" } : Jvm.MethodName)) ∈ lw_tbl := lw_at lw_m1 179 rfl
theorem q203 : (Jvm.Cond.instanceMethod ({ cls := "RussianDollModel", name := "isCost", desc := "(I)Z" } : Jvm.MethodName)) ∈ lw_all := lw_g (lw_at lw_m1 180 rfl) rfl
theorem q204 : (Jvm.Cond.code ({ cls := "RussianDollModel", name := "isCost", desc := "(I)Z" } : Jvm.MethodName) prog_3_method_4_code (2 : Nat) (Option.some Jvm.ClassFile.FieldType.boolean)) ∈ lw_all := lw_g (lw_at lw_m1 181 rfl) rfl
theorem q206 : (Jvm.Cond.instanceMethod ({ cls := "RussianDollModel", name := "pair", desc := "(III)I" } : Jvm.MethodName)) ∈ lw_all := lw_g (lw_at lw_m1 183 rfl) rfl
theorem q207 : (Jvm.Cond.selects "RussianDollModel" ({ cls := "RussianDollModel", name := "pair", desc := "(III)I" } : Jvm.MethodName) ({ cls := "RussianDollModel", name := "pair", desc := "(III)I" } : Jvm.MethodName)) ∈ lw_all := lw_g (lw_at lw_m1 184 rfl) rfl
theorem q208 : (Jvm.Cond.code ({ cls := "RussianDollModel", name := "pair", desc := "(III)I" } : Jvm.MethodName) prog_3_method_7_code (5 : Nat) (Option.some Jvm.ClassFile.FieldType.int)) ∈ lw_all := lw_g (lw_at lw_m1 185 rfl) rfl
theorem q209 : (Jvm.Cond.methodLink "RussianDollModel" (26 : Nat) ({ cls := "RussianDollModel", name := "isPair", desc := "(I)Z" } : Jvm.MethodName)) ∈ lw_all := lw_g (lw_at lw_m1 186 rfl) rfl
theorem q210 : (Jvm.Cond.privateMethod ({ cls := "RussianDollModel", name := "isPair", desc := "(I)Z" } : Jvm.MethodName)) ∈ lw_tbl := lw_at lw_m1 187 rfl
theorem q211 : (Jvm.Cond.instanceMethod ({ cls := "RussianDollModel", name := "isPair", desc := "(I)Z" } : Jvm.MethodName)) ∈ lw_all := lw_g (lw_at lw_m1 188 rfl) rfl
theorem q212 : (Jvm.Cond.code ({ cls := "RussianDollModel", name := "isPair", desc := "(I)Z" } : Jvm.MethodName) prog_3_method_5_code (2 : Nat) (Option.some Jvm.ClassFile.FieldType.boolean)) ∈ lw_all := lw_g (lw_at lw_m1 189 rfl) rfl
theorem q214 : (Jvm.Cond.instanceMethod ({ cls := "RussianDollModel", name := "relate", desc := "(III)I" } : Jvm.MethodName)) ∈ lw_all := lw_g (lw_at lw_m1 191 rfl) rfl
theorem q215 : (Jvm.Cond.selects "RussianDollModel" ({ cls := "RussianDollModel", name := "relate", desc := "(III)I" } : Jvm.MethodName) ({ cls := "RussianDollModel", name := "relate", desc := "(III)I" } : Jvm.MethodName)) ∈ lw_all := lw_g (lw_at lw_m1 192 rfl) rfl
theorem q216 : (Jvm.Cond.code ({ cls := "RussianDollModel", name := "relate", desc := "(III)I" } : Jvm.MethodName) prog_3_method_8_code (6 : Nat) (Option.some Jvm.ClassFile.FieldType.int)) ∈ lw_all := lw_g (lw_at lw_m1 193 rfl) rfl
theorem q218 : (Jvm.Cond.instanceMethod ({ cls := "RussianDollModel", name := "clear", desc := "()V" } : Jvm.MethodName)) ∈ lw_all := lw_g (lw_at lw_m1 195 rfl) rfl
theorem q219 : (Jvm.Cond.selects "RussianDollModel" ({ cls := "RussianDollModel", name := "clear", desc := "()V" } : Jvm.MethodName) ({ cls := "RussianDollModel", name := "clear", desc := "()V" } : Jvm.MethodName)) ∈ lw_all := lw_g (lw_at lw_m1 196 rfl) rfl
theorem q220 : (Jvm.Cond.code ({ cls := "RussianDollModel", name := "clear", desc := "()V" } : Jvm.MethodName) prog_3_method_9_code (2 : Nat) (Option.none : Option Jvm.ClassFile.FieldType)) ∈ lw_all := lw_g (lw_at lw_m1 197 rfl) rfl
theorem q222 : (Jvm.Cond.instanceMethod ({ cls := "RussianDollModel", name := "doll", desc := "(I)I" } : Jvm.MethodName)) ∈ lw_all := lw_g (lw_at lw_m1 199 rfl) rfl
theorem q223 : (Jvm.Cond.selects "RussianDollModel" ({ cls := "RussianDollModel", name := "doll", desc := "(I)I" } : Jvm.MethodName) ({ cls := "RussianDollModel", name := "doll", desc := "(I)I" } : Jvm.MethodName)) ∈ lw_all := lw_g (lw_at lw_m1 200 rfl) rfl
theorem q224 : (Jvm.Cond.code ({ cls := "RussianDollModel", name := "doll", desc := "(I)I" } : Jvm.MethodName) prog_3_method_13_code (6 : Nat) (Option.some Jvm.ClassFile.FieldType.int)) ∈ lw_all := lw_g (lw_at lw_m1 201 rfl) rfl
theorem q225 : (Jvm.Cond.methodLink "RussianDollModel" (33 : Nat) ({ cls := "RussianDollModel", name := "cost", desc := "(II)I" } : Jvm.MethodName)) ∈ lw_all := lw_g (lw_at lw_m1 202 rfl) rfl
theorem q226 : (Jvm.Cond.privateMethod ({ cls := "RussianDollModel", name := "cost", desc := "(II)I" } : Jvm.MethodName)) ∈ lw_tbl := lw_at lw_m1 203 rfl
theorem q227 : (Jvm.Cond.instanceMethod ({ cls := "RussianDollModel", name := "cost", desc := "(II)I" } : Jvm.MethodName)) ∈ lw_all := lw_g (lw_at lw_m1 204 rfl) rfl
theorem q228 : (Jvm.Cond.code ({ cls := "RussianDollModel", name := "cost", desc := "(II)I" } : Jvm.MethodName) prog_3_method_11_code (9 : Nat) (Option.some Jvm.ClassFile.FieldType.int)) ∈ lw_all := lw_g (lw_at lw_m1 205 rfl) rfl
theorem q229 : (Jvm.Cond.methodLink "RussianDollModel" (29 : Nat) ({ cls := "RussianDollModel", name := "digit", desc := "(II)I" } : Jvm.MethodName)) ∈ lw_all := lw_g (lw_at lw_m1 206 rfl) rfl
theorem q230 : (Jvm.Cond.privateMethod ({ cls := "RussianDollModel", name := "digit", desc := "(II)I" } : Jvm.MethodName)) ∈ lw_tbl := lw_at lw_m1 207 rfl
theorem q231 : (Jvm.Cond.instanceMethod ({ cls := "RussianDollModel", name := "digit", desc := "(II)I" } : Jvm.MethodName)) ∈ lw_all := lw_g (lw_at lw_m1 208 rfl) rfl
theorem q232 : (Jvm.Cond.code ({ cls := "RussianDollModel", name := "digit", desc := "(II)I" } : Jvm.MethodName) prog_3_method_10_code (5 : Nat) (Option.some Jvm.ClassFile.FieldType.int)) ∈ lw_all := lw_g (lw_at lw_m1 209 rfl) rfl
theorem q233 : (Jvm.Cond.methodLink "RussianDollModel" (36 : Nat) ({ cls := "RussianDollModel", name := "isBetter", desc := "(II)Z" } : Jvm.MethodName)) ∈ lw_all := lw_g (lw_at lw_m1 210 rfl) rfl
theorem q234 : (Jvm.Cond.privateMethod ({ cls := "RussianDollModel", name := "isBetter", desc := "(II)Z" } : Jvm.MethodName)) ∈ lw_tbl := lw_at lw_m1 211 rfl
theorem q235 : (Jvm.Cond.instanceMethod ({ cls := "RussianDollModel", name := "isBetter", desc := "(II)Z" } : Jvm.MethodName)) ∈ lw_all := lw_g (lw_at lw_m1 212 rfl) rfl
theorem q236 : (Jvm.Cond.code ({ cls := "RussianDollModel", name := "isBetter", desc := "(II)Z" } : Jvm.MethodName) prog_3_method_12_code (3 : Nat) (Option.some Jvm.ClassFile.FieldType.boolean)) ∈ lw_all := lw_g (lw_at lw_m1 213 rfl) rfl
theorem q238 : (Jvm.Cond.instanceMethod ({ cls := "RussianDollModel", name := "cheapest", desc := "()I" } : Jvm.MethodName)) ∈ lw_all := lw_g (lw_at lw_m1 215 rfl) rfl
theorem q239 : (Jvm.Cond.selects "RussianDollModel" ({ cls := "RussianDollModel", name := "cheapest", desc := "()I" } : Jvm.MethodName) ({ cls := "RussianDollModel", name := "cheapest", desc := "()I" } : Jvm.MethodName)) ∈ lw_all := lw_g (lw_at lw_m1 216 rfl) rfl
theorem q240 : (Jvm.Cond.code ({ cls := "RussianDollModel", name := "cheapest", desc := "()I" } : Jvm.MethodName) prog_3_method_14_code (1 : Nat) (Option.some Jvm.ClassFile.FieldType.int)) ∈ lw_all := lw_g (lw_at lw_m1 217 rfl) rfl
theorem q241 : (Jvm.Cond.methodLink "RussianDollModel" (40 : Nat) ({ cls := "RussianDollModel", name := "doll", desc := "(I)I" } : Jvm.MethodName)) ∈ lw_all := lw_g (lw_at lw_m1 218 rfl) rfl
theorem q243 : (Jvm.Cond.instanceMethod ({ cls := "RussianDollModel", name := "value", desc := "(I)I" } : Jvm.MethodName)) ∈ lw_all := lw_g (lw_at lw_m1 220 rfl) rfl
theorem q244 : (Jvm.Cond.selects "RussianDollModel" ({ cls := "RussianDollModel", name := "value", desc := "(I)I" } : Jvm.MethodName) ({ cls := "RussianDollModel", name := "value", desc := "(I)I" } : Jvm.MethodName)) ∈ lw_all := lw_g (lw_at lw_m1 221 rfl) rfl
theorem q245 : (Jvm.Cond.code ({ cls := "RussianDollModel", name := "value", desc := "(I)I" } : Jvm.MethodName) prog_3_method_16_code (3 : Nat) (Option.some Jvm.ClassFile.FieldType.int)) ∈ lw_all := lw_g (lw_at lw_m1 222 rfl) rfl
theorem q246 : (Jvm.Cond.methodLink "RussianDollModel" (44 : Nat) ({ cls := "RussianDollModel", name := "first", desc := "()I" } : Jvm.MethodName)) ∈ lw_all := lw_g (lw_at lw_m1 223 rfl) rfl
theorem q247 : (Jvm.Cond.privateMethod ({ cls := "RussianDollModel", name := "first", desc := "()I" } : Jvm.MethodName)) ∈ lw_tbl := lw_at lw_m1 224 rfl
theorem q248 : (Jvm.Cond.instanceMethod ({ cls := "RussianDollModel", name := "first", desc := "()I" } : Jvm.MethodName)) ∈ lw_all := lw_g (lw_at lw_m1 225 rfl) rfl
theorem q249 : (Jvm.Cond.code ({ cls := "RussianDollModel", name := "first", desc := "()I" } : Jvm.MethodName) prog_3_method_15_code (5 : Nat) (Option.some Jvm.ClassFile.FieldType.int)) ∈ lw_all := lw_g (lw_at lw_m1 226 rfl) rfl
theorem q251 : (Jvm.Cond.instanceMethod ({ cls := "RussianDollModel", name := "with", desc := "(II)I" } : Jvm.MethodName)) ∈ lw_all := lw_g (lw_at lw_m1 228 rfl) rfl
theorem q252 : (Jvm.Cond.selects "RussianDollModel" ({ cls := "RussianDollModel", name := "with", desc := "(II)I" } : Jvm.MethodName) ({ cls := "RussianDollModel", name := "with", desc := "(II)I" } : Jvm.MethodName)) ∈ lw_all := lw_g (lw_at lw_m1 229 rfl) rfl
theorem q253 : (Jvm.Cond.code ({ cls := "RussianDollModel", name := "with", desc := "(II)I" } : Jvm.MethodName) prog_3_method_17_code (6 : Nat) (Option.some Jvm.ClassFile.FieldType.int)) ∈ lw_all := lw_g (lw_at lw_m1 230 rfl) rfl
theorem q255 : (Jvm.Cond.instanceMethod ({ cls := "RussianDollModel", name := "settled", desc := "(I)Z" } : Jvm.MethodName)) ∈ lw_all := lw_g (lw_at lw_m1 232 rfl) rfl
theorem q256 : (Jvm.Cond.selects "RussianDollModel" ({ cls := "RussianDollModel", name := "settled", desc := "(I)Z" } : Jvm.MethodName) ({ cls := "RussianDollModel", name := "settled", desc := "(I)Z" } : Jvm.MethodName)) ∈ lw_all := lw_g (lw_at lw_m1 233 rfl) rfl
theorem q257 : (Jvm.Cond.code ({ cls := "RussianDollModel", name := "settled", desc := "(I)Z" } : Jvm.MethodName) prog_3_method_18_code (5 : Nat) (Option.some Jvm.ClassFile.FieldType.boolean)) ∈ lw_all := lw_g (lw_at lw_m1 234 rfl) rfl
theorem q258 : (Jvm.Cond.methodLink "RussianDollModel" (48 : Nat) ({ cls := "RussianDollModel", name := "cheapest", desc := "()I" } : Jvm.MethodName)) ∈ lw_all := lw_g (lw_at lw_m1 235 rfl) rfl
theorem q259 : (Jvm.Cond.methodLink "RussianDollModel" (51 : Nat) ({ cls := "RussianDollModel", name := "with", desc := "(II)I" } : Jvm.MethodName)) ∈ lw_all := lw_g (lw_at lw_m1 236 rfl) rfl
theorem q261 : (Jvm.Cond.instanceMethod ({ cls := "RussianDollModel", name := "second", desc := "()I" } : Jvm.MethodName)) ∈ lw_all := lw_g (lw_at lw_m1 238 rfl) rfl
theorem q262 : (Jvm.Cond.selects "RussianDollModel" ({ cls := "RussianDollModel", name := "second", desc := "()I" } : Jvm.MethodName) ({ cls := "RussianDollModel", name := "second", desc := "()I" } : Jvm.MethodName)) ∈ lw_all := lw_g (lw_at lw_m1 239 rfl) rfl
theorem q263 : (Jvm.Cond.code ({ cls := "RussianDollModel", name := "second", desc := "()I" } : Jvm.MethodName) prog_3_method_19_code (5 : Nat) (Option.some Jvm.ClassFile.FieldType.int)) ∈ lw_all := lw_g (lw_at lw_m2 0 rfl) rfl
theorem q265 : (Jvm.Cond.instanceMethod ({ cls := "RussianDollModel", name := "zigzag", desc := "()I" } : Jvm.MethodName)) ∈ lw_all := lw_g (lw_at lw_m2 2 rfl) rfl
theorem q266 : (Jvm.Cond.selects "RussianDollModel" ({ cls := "RussianDollModel", name := "zigzag", desc := "()I" } : Jvm.MethodName) ({ cls := "RussianDollModel", name := "zigzag", desc := "()I" } : Jvm.MethodName)) ∈ lw_all := lw_g (lw_at lw_m2 3 rfl) rfl
theorem q267 : (Jvm.Cond.code ({ cls := "RussianDollModel", name := "zigzag", desc := "()I" } : Jvm.MethodName) prog_3_method_21_code (4 : Nat) (Option.some Jvm.ClassFile.FieldType.int)) ∈ lw_all := lw_g (lw_at lw_m2 4 rfl) rfl
theorem q268 : (Jvm.Cond.methodLink "RussianDollModel" (54 : Nat) ({ cls := "RussianDollModel", name := "isZigzag", desc := "(I)Z" } : Jvm.MethodName)) ∈ lw_all := lw_g (lw_at lw_m2 5 rfl) rfl
theorem q269 : (Jvm.Cond.privateMethod ({ cls := "RussianDollModel", name := "isZigzag", desc := "(I)Z" } : Jvm.MethodName)) ∈ lw_tbl := lw_at lw_m2 6 rfl
theorem q270 : (Jvm.Cond.instanceMethod ({ cls := "RussianDollModel", name := "isZigzag", desc := "(I)Z" } : Jvm.MethodName)) ∈ lw_all := lw_g (lw_at lw_m2 7 rfl) rfl
theorem q271 : (Jvm.Cond.code ({ cls := "RussianDollModel", name := "isZigzag", desc := "(I)Z" } : Jvm.MethodName) prog_3_method_20_code (3 : Nat) (Option.some Jvm.ClassFile.FieldType.boolean)) ∈ lw_all := lw_g (lw_at lw_m2 8 rfl) rfl
theorem in_X1 : ∀ w ∈ wsX10, w ∈ lw_all := lw_in wsX10 [184, 186] (by decide +kernel) (by decide +kernel)

/-! the law's own entry -/
set_option maxRecDepth 100000
abbrev cL_law : ByteArray := code

theorem q23 : (Jvm.Cond.initialized "RussianDollLaw") ∈ lw_all := lw_g (lw_at lw_m1 0 rfl) rfl
set_option maxRecDepth 100000
theorem q26 : (Jvm.Cond.classLink "RussianDollLaw" (7 : Nat) "RussianDoll") ∈ lw_all := lw_g (lw_at lw_m1 3 rfl) rfl
theorem q28 : (Jvm.Cond.methodLink "RussianDollLaw" (9 : Nat) ({ cls := "RussianDoll", name := "<init>", desc := "()V" } : Jvm.MethodName)) ∈ lw_all := lw_g (lw_at lw_m1 5 rfl) rfl
theorem q72 : (Jvm.Cond.methodLink "RussianDollLaw" (13 : Nat) ({ cls := "RussianDoll", name := "own", desc := "(III)I" } : Jvm.MethodName)) ∈ lw_all := lw_g (lw_at lw_m1 49 rfl) rfl
theorem q84 : (Jvm.Cond.methodLink "RussianDollLaw" (18 : Nat) ({ cls := "RussianDoll", name := "pair", desc := "(III)I" } : Jvm.MethodName)) ∈ lw_all := lw_g (lw_at lw_m1 61 rfl) rfl
theorem q92 : (Jvm.Cond.methodLink "RussianDollLaw" (22 : Nat) ({ cls := "RussianDoll", name := "relate", desc := "(III)I" } : Jvm.MethodName)) ∈ lw_all := lw_g (lw_at lw_m1 69 rfl) rfl
theorem q96 : (Jvm.Cond.methodLink "RussianDollLaw" (26 : Nat) ({ cls := "RussianDoll", name := "clear", desc := "()V" } : Jvm.MethodName)) ∈ lw_all := lw_g (lw_at lw_m1 73 rfl) rfl
theorem q100 : (Jvm.Cond.methodLink "RussianDollLaw" (30 : Nat) ({ cls := "RussianDoll", name := "doll", desc := "(I)I" } : Jvm.MethodName)) ∈ lw_all := lw_g (lw_at lw_m1 77 rfl) rfl
theorem q149 : (Jvm.Cond.methodLink "RussianDollLaw" (35 : Nat) ({ cls := "RussianDoll", name := "cheapest", desc := "()I" } : Jvm.MethodName)) ∈ lw_all := lw_g (lw_at lw_m1 126 rfl) rfl
theorem q154 : (Jvm.Cond.methodLink "RussianDollLaw" (40 : Nat) ({ cls := "RussianDoll", name := "value", desc := "(I)I" } : Jvm.MethodName)) ∈ lw_all := lw_g (lw_at lw_m1 131 rfl) rfl
theorem q158 : (Jvm.Cond.methodLink "RussianDollLaw" (44 : Nat) ({ cls := "RussianDoll", name := "with", desc := "(II)I" } : Jvm.MethodName)) ∈ lw_all := lw_g (lw_at lw_m1 135 rfl) rfl
theorem q162 : (Jvm.Cond.methodLink "RussianDollLaw" (49 : Nat) ({ cls := "RussianDoll", name := "settled", desc := "(I)Z" } : Jvm.MethodName)) ∈ lw_all := lw_g (lw_at lw_m1 139 rfl) rfl
theorem q168 : (Jvm.Cond.methodLink "RussianDollLaw" (54 : Nat) ({ cls := "RussianDoll", name := "second", desc := "()I" } : Jvm.MethodName)) ∈ lw_all := lw_g (lw_at lw_m1 145 rfl) rfl
theorem q172 : (Jvm.Cond.methodLink "RussianDollLaw" (58 : Nat) ({ cls := "RussianDoll", name := "zigzag", desc := "()I" } : Jvm.MethodName)) ∈ lw_all := lw_g (lw_at lw_m1 149 rfl) rfl
theorem q176 : (Jvm.Cond.classLink "RussianDollLaw" (10 : Nat) "RussianDollModel") ∈ lw_all := lw_g (lw_at lw_m1 153 rfl) rfl
theorem q178 : (Jvm.Cond.methodLink "RussianDollLaw" (12 : Nat) ({ cls := "RussianDollModel", name := "<init>", desc := "()V" } : Jvm.MethodName)) ∈ lw_all := lw_g (lw_at lw_m1 155 rfl) rfl
theorem q189 : (Jvm.Cond.methodLink "RussianDollLaw" (17 : Nat) ({ cls := "RussianDollModel", name := "own", desc := "(III)I" } : Jvm.MethodName)) ∈ lw_all := lw_g (lw_at lw_m1 166 rfl) rfl
theorem q205 : (Jvm.Cond.methodLink "RussianDollLaw" (21 : Nat) ({ cls := "RussianDollModel", name := "pair", desc := "(III)I" } : Jvm.MethodName)) ∈ lw_all := lw_g (lw_at lw_m1 182 rfl) rfl
theorem q213 : (Jvm.Cond.methodLink "RussianDollLaw" (25 : Nat) ({ cls := "RussianDollModel", name := "relate", desc := "(III)I" } : Jvm.MethodName)) ∈ lw_all := lw_g (lw_at lw_m1 190 rfl) rfl
theorem q217 : (Jvm.Cond.methodLink "RussianDollLaw" (29 : Nat) ({ cls := "RussianDollModel", name := "clear", desc := "()V" } : Jvm.MethodName)) ∈ lw_all := lw_g (lw_at lw_m1 194 rfl) rfl
theorem q221 : (Jvm.Cond.methodLink "RussianDollLaw" (34 : Nat) ({ cls := "RussianDollModel", name := "doll", desc := "(I)I" } : Jvm.MethodName)) ∈ lw_all := lw_g (lw_at lw_m1 198 rfl) rfl
theorem q237 : (Jvm.Cond.methodLink "RussianDollLaw" (39 : Nat) ({ cls := "RussianDollModel", name := "cheapest", desc := "()I" } : Jvm.MethodName)) ∈ lw_all := lw_g (lw_at lw_m1 214 rfl) rfl
theorem q242 : (Jvm.Cond.methodLink "RussianDollLaw" (43 : Nat) ({ cls := "RussianDollModel", name := "value", desc := "(I)I" } : Jvm.MethodName)) ∈ lw_all := lw_g (lw_at lw_m1 219 rfl) rfl
theorem q250 : (Jvm.Cond.methodLink "RussianDollLaw" (48 : Nat) ({ cls := "RussianDollModel", name := "with", desc := "(II)I" } : Jvm.MethodName)) ∈ lw_all := lw_g (lw_at lw_m1 227 rfl) rfl
theorem q254 : (Jvm.Cond.methodLink "RussianDollLaw" (53 : Nat) ({ cls := "RussianDollModel", name := "settled", desc := "(I)Z" } : Jvm.MethodName)) ∈ lw_all := lw_g (lw_at lw_m1 231 rfl) rfl
theorem q260 : (Jvm.Cond.methodLink "RussianDollLaw" (57 : Nat) ({ cls := "RussianDollModel", name := "second", desc := "()I" } : Jvm.MethodName)) ∈ lw_all := lw_g (lw_at lw_m1 237 rfl) rfl
theorem q264 : (Jvm.Cond.methodLink "RussianDollLaw" (61 : Nat) ({ cls := "RussianDollModel", name := "zigzag", desc := "()I" } : Jvm.MethodName)) ∈ lw_all := lw_g (lw_at lw_m2 1 rfl) rfl

theorem q71 : (Jvm.Cond.arrayClass Jvm.ClassFile.FieldType.int) ∈ lw_all := lw_g (lw_at lw_m1 48 rfl) rfl
set_option maxRecDepth 100000
end
section
set_option maxRecDepth 100000
theorem dX0_init_0 : decode cX0_init 0 = .ok (.aload_n 0, 1) := by decide +kernel
theorem dX0_init_1 : decode cX0_init 1 = .ok (.invokespecial 1, 3) := by decide +kernel
theorem dX0_init_4 : decode cX0_init 4 = .ok (.aload_n 0, 1) := by decide +kernel
theorem dX0_init_5 : decode cX0_init 5 = .ok (.bipush 18, 2) := by decide +kernel
theorem dX0_init_7 : decode cX0_init 7 = .ok (.newarray .int, 2) := by decide +kernel
theorem dX0_init_9 : decode cX0_init 9 = .ok (.putfield 7, 3) := by decide +kernel
theorem dX0_init_12 : decode cX0_init 12 = .ok (.aload_n 0, 1) := by decide +kernel
theorem dX0_init_13 : decode cX0_init 13 = .ok (.sipush 324, 3) := by decide +kernel
theorem dX0_init_16 : decode cX0_init 16 = .ok (.newarray .int, 2) := by decide +kernel
theorem dX0_init_18 : decode cX0_init 18 = .ok (.putfield 13, 3) := by decide +kernel
theorem dX0_init_21 : decode cX0_init 21 = .ok (.aload_n 0, 1) := by decide +kernel
theorem dX0_init_22 : decode cX0_init 22 = .ok (.bipush 7, 2) := by decide +kernel
theorem dX0_init_24 : decode cX0_init 24 = .ok (.newarray .int, 2) := by decide +kernel
theorem dX0_init_26 : decode cX0_init 26 = .ok (.putfield 16, 3) := by decide +kernel
theorem dX0_init_29 : decode cX0_init 29 = .ok (.aload_n 0, 1) := by decide +kernel
theorem dX0_init_30 : decode cX0_init 30 = .ok (.bipush 6, 2) := by decide +kernel
theorem dX0_init_32 : decode cX0_init 32 = .ok (.newarray .int, 2) := by decide +kernel
theorem dX0_init_34 : decode cX0_init 34 = .ok (.putfield 19, 3) := by decide +kernel
theorem dX0_init_37 : decode cX0_init 37 = .ok (.aload_n 0, 1) := by decide +kernel
theorem dX0_init_38 : decode cX0_init 38 = .ok (.bipush 6, 2) := by decide +kernel
theorem dX0_init_40 : decode cX0_init 40 = .ok (.newarray .int, 2) := by decide +kernel
theorem dX0_init_42 : decode cX0_init 42 = .ok (.putfield 22, 3) := by decide +kernel
theorem dX0_init_45 : decode cX0_init 45 = .ok (.aload_n 0, 1) := by decide +kernel
theorem dX0_init_46 : decode cX0_init 46 = .ok (.bipush 7, 2) := by decide +kernel
theorem dX0_init_48 : decode cX0_init 48 = .ok (.newarray .int, 2) := by decide +kernel
theorem dX0_init_50 : decode cX0_init 50 = .ok (.putfield 25, 3) := by decide +kernel
theorem dX0_init_53 : decode cX0_init 53 = .ok (.aload_n 0, 1) := by decide +kernel
theorem dX0_init_54 : decode cX0_init 54 = .ok (.bipush 126, 2) := by decide +kernel
theorem dX0_init_56 : decode cX0_init 56 = .ok (.newarray .int, 2) := by decide +kernel
theorem dX0_init_58 : decode cX0_init 58 = .ok (.putfield 28, 3) := by decide +kernel
theorem dX0_init_61 : decode cX0_init 61 = .ok (.aload_n 0, 1) := by decide +kernel
theorem dX0_init_62 : decode cX0_init 62 = .ok (.bipush 6, 2) := by decide +kernel
theorem dX0_init_64 : decode cX0_init 64 = .ok (.newarray .int, 2) := by decide +kernel
theorem dX0_init_66 : decode cX0_init 66 = .ok (.putfield 31, 3) := by decide +kernel
theorem dX0_init_69 : decode cX0_init 69 = .ok (.aload_n 0, 1) := by decide +kernel
theorem dX0_init_70 : decode cX0_init 70 = .ok (.bipush 6, 2) := by decide +kernel
theorem dX0_init_72 : decode cX0_init 72 = .ok (.newarray .int, 2) := by decide +kernel
theorem dX0_init_74 : decode cX0_init 74 = .ok (.putfield 34, 3) := by decide +kernel
theorem dX0_init_77 : decode cX0_init 77 = .ok (.return_, 1) := by decide +kernel
theorem dX0_own_0 : decode cX0_own 0 = .ok (.aload_n 0, 1) := by decide +kernel
theorem dX0_own_1 : decode cX0_own 1 = .ok (.iload_n 1, 1) := by decide +kernel
theorem dX0_own_2 : decode cX0_own 2 = .ok (.invokevirtual 37, 3) := by decide +kernel
theorem dX0_own_5 : decode cX0_own 5 = .ok (.ifCond .ne 20, 3) := by decide +kernel
theorem dX0_own_8 : decode cX0_own 8 = .ok (.iload_n 2, 1) := by decide +kernel
theorem dX0_own_9 : decode cX0_own 9 = .ok (.ifCond .lt 16, 3) := by decide +kernel
theorem dX0_own_12 : decode cX0_own 12 = .ok (.iload_n 2, 1) := by decide +kernel
theorem dX0_own_13 : decode cX0_own 13 = .ok (.iconst 2, 1) := by decide +kernel
theorem dX0_own_14 : decode cX0_own 14 = .ok (.if_icmp .gt 11, 3) := by decide +kernel
theorem dX0_own_17 : decode cX0_own 17 = .ok (.aload_n 0, 1) := by decide +kernel
theorem dX0_own_18 : decode cX0_own 18 = .ok (.iload_n 3, 1) := by decide +kernel
theorem dX0_own_19 : decode cX0_own 19 = .ok (.invokevirtual 41, 3) := by decide +kernel
theorem dX0_own_22 : decode cX0_own 22 = .ok (.ifCond .eq 5, 3) := by decide +kernel
theorem dX0_own_25 : decode cX0_own 25 = .ok (.iconst (-1), 1) := by decide +kernel
theorem dX0_own_26 : decode cX0_own 26 = .ok (.ireturn, 1) := by decide +kernel
theorem dX0_own_27 : decode cX0_own 27 = .ok (.aload_n 0, 1) := by decide +kernel
theorem dX0_own_28 : decode cX0_own 28 = .ok (.getfield 7, 3) := by decide +kernel
theorem dX0_own_31 : decode cX0_own 31 = .ok (.iload_n 1, 1) := by decide +kernel
theorem dX0_own_32 : decode cX0_own 32 = .ok (.iconst 3, 1) := by decide +kernel
theorem dX0_own_33 : decode cX0_own 33 = .ok (.imul, 1) := by decide +kernel
theorem dX0_own_34 : decode cX0_own 34 = .ok (.iload_n 2, 1) := by decide +kernel
theorem dX0_own_35 : decode cX0_own 35 = .ok (.iadd, 1) := by decide +kernel
theorem dX0_own_36 : decode cX0_own 36 = .ok (.iaload, 1) := by decide +kernel
theorem dX0_own_37 : decode cX0_own 37 = .ok (.istore 4, 2) := by decide +kernel
theorem dX0_own_39 : decode cX0_own 39 = .ok (.aload_n 0, 1) := by decide +kernel
theorem dX0_own_40 : decode cX0_own 40 = .ok (.getfield 7, 3) := by decide +kernel
theorem dX0_own_43 : decode cX0_own 43 = .ok (.iload_n 1, 1) := by decide +kernel
theorem dX0_own_44 : decode cX0_own 44 = .ok (.iconst 3, 1) := by decide +kernel
theorem dX0_own_45 : decode cX0_own 45 = .ok (.imul, 1) := by decide +kernel
theorem dX0_own_46 : decode cX0_own 46 = .ok (.iload_n 2, 1) := by decide +kernel
theorem dX0_own_47 : decode cX0_own 47 = .ok (.iadd, 1) := by decide +kernel
theorem dX0_own_48 : decode cX0_own 48 = .ok (.iload_n 3, 1) := by decide +kernel
theorem dX0_own_49 : decode cX0_own 49 = .ok (.iastore, 1) := by decide +kernel
theorem dX0_own_50 : decode cX0_own 50 = .ok (.aload_n 0, 1) := by decide +kernel
theorem dX0_own_51 : decode cX0_own 51 = .ok (.iconst 0, 1) := by decide +kernel
theorem dX0_own_52 : decode cX0_own 52 = .ok (.putfield 44, 3) := by decide +kernel
theorem dX0_own_55 : decode cX0_own 55 = .ok (.iload 4, 2) := by decide +kernel
theorem dX0_own_57 : decode cX0_own 57 = .ok (.ireturn, 1) := by decide +kernel
theorem dX0_badVariable_0 : decode cX0_badVariable 0 = .ok (.iload_n 1, 1) := by decide +kernel
theorem dX0_badVariable_1 : decode cX0_badVariable 1 = .ok (.ifCond .lt 9, 3) := by decide +kernel
theorem dX0_badVariable_4 : decode cX0_badVariable 4 = .ok (.iload_n 1, 1) := by decide +kernel
theorem dX0_badVariable_5 : decode cX0_badVariable 5 = .ok (.bipush 6, 2) := by decide +kernel
theorem dX0_badVariable_7 : decode cX0_badVariable 7 = .ok (.if_icmp .lt 7, 3) := by decide +kernel
theorem dX0_badVariable_10 : decode cX0_badVariable 10 = .ok (.iconst 1, 1) := by decide +kernel
theorem dX0_badVariable_11 : decode cX0_badVariable 11 = .ok (.goto 4, 3) := by decide +kernel
theorem dX0_badVariable_14 : decode cX0_badVariable 14 = .ok (.iconst 0, 1) := by decide +kernel
theorem dX0_badVariable_15 : decode cX0_badVariable 15 = .ok (.ireturn, 1) := by decide +kernel
theorem dX0_badCost_0 : decode cX0_badCost 0 = .ok (.iload_n 1, 1) := by decide +kernel
theorem dX0_badCost_1 : decode cX0_badCost 1 = .ok (.ifCond .lt 9, 3) := by decide +kernel
theorem dX0_badCost_4 : decode cX0_badCost 4 = .ok (.iload_n 1, 1) := by decide +kernel
theorem dX0_badCost_5 : decode cX0_badCost 5 = .ok (.bipush 30, 2) := by decide +kernel
theorem dX0_badCost_7 : decode cX0_badCost 7 = .ok (.if_icmp .le 13, 3) := by decide +kernel
theorem dX0_badCost_10 : decode cX0_badCost 10 = .ok (.iload_n 1, 1) := by decide +kernel
theorem dX0_badCost_11 : decode cX0_badCost 11 = .ok (.bipush 99, 2) := by decide +kernel
theorem dX0_badCost_13 : decode cX0_badCost 13 = .ok (.if_icmp .eq 7, 3) := by decide +kernel
theorem dX0_badCost_16 : decode cX0_badCost 16 = .ok (.iconst 1, 1) := by decide +kernel
theorem dX0_badCost_17 : decode cX0_badCost 17 = .ok (.goto 4, 3) := by decide +kernel
theorem dX0_badCost_20 : decode cX0_badCost 20 = .ok (.iconst 0, 1) := by decide +kernel
theorem dX0_badCost_21 : decode cX0_badCost 21 = .ok (.ireturn, 1) := by decide +kernel
theorem dX0_pair_0 : decode cX0_pair 0 = .ok (.aload_n 0, 1) := by decide +kernel
theorem dX0_pair_1 : decode cX0_pair 1 = .ok (.iload_n 1, 1) := by decide +kernel
theorem dX0_pair_2 : decode cX0_pair 2 = .ok (.invokevirtual 48, 3) := by decide +kernel
theorem dX0_pair_5 : decode cX0_pair 5 = .ok (.ifCond .ne 21, 3) := by decide +kernel
theorem dX0_pair_8 : decode cX0_pair 8 = .ok (.iload_n 2, 1) := by decide +kernel
theorem dX0_pair_9 : decode cX0_pair 9 = .ok (.ifCond .lt 17, 3) := by decide +kernel
theorem dX0_pair_12 : decode cX0_pair 12 = .ok (.iload_n 2, 1) := by decide +kernel
theorem dX0_pair_13 : decode cX0_pair 13 = .ok (.bipush 8, 2) := by decide +kernel
theorem dX0_pair_15 : decode cX0_pair 15 = .ok (.if_icmp .gt 11, 3) := by decide +kernel
theorem dX0_pair_18 : decode cX0_pair 18 = .ok (.aload_n 0, 1) := by decide +kernel
theorem dX0_pair_19 : decode cX0_pair 19 = .ok (.iload_n 3, 1) := by decide +kernel
theorem dX0_pair_20 : decode cX0_pair 20 = .ok (.invokevirtual 41, 3) := by decide +kernel
theorem dX0_pair_23 : decode cX0_pair 23 = .ok (.ifCond .eq 5, 3) := by decide +kernel
theorem dX0_pair_26 : decode cX0_pair 26 = .ok (.iconst (-1), 1) := by decide +kernel
theorem dX0_pair_27 : decode cX0_pair 27 = .ok (.ireturn, 1) := by decide +kernel
theorem dX0_pair_28 : decode cX0_pair 28 = .ok (.aload_n 0, 1) := by decide +kernel
theorem dX0_pair_29 : decode cX0_pair 29 = .ok (.getfield 13, 3) := by decide +kernel
theorem dX0_pair_32 : decode cX0_pair 32 = .ok (.iload_n 1, 1) := by decide +kernel
theorem dX0_pair_33 : decode cX0_pair 33 = .ok (.bipush 9, 2) := by decide +kernel
theorem dX0_pair_35 : decode cX0_pair 35 = .ok (.imul, 1) := by decide +kernel
theorem dX0_pair_36 : decode cX0_pair 36 = .ok (.iload_n 2, 1) := by decide +kernel
theorem dX0_pair_37 : decode cX0_pair 37 = .ok (.iadd, 1) := by decide +kernel
theorem dX0_pair_38 : decode cX0_pair 38 = .ok (.iaload, 1) := by decide +kernel
theorem dX0_pair_39 : decode cX0_pair 39 = .ok (.istore 4, 2) := by decide +kernel
theorem dX0_pair_41 : decode cX0_pair 41 = .ok (.aload_n 0, 1) := by decide +kernel
theorem dX0_pair_42 : decode cX0_pair 42 = .ok (.getfield 13, 3) := by decide +kernel
theorem dX0_pair_45 : decode cX0_pair 45 = .ok (.iload_n 1, 1) := by decide +kernel
theorem dX0_pair_46 : decode cX0_pair 46 = .ok (.bipush 9, 2) := by decide +kernel
theorem dX0_pair_48 : decode cX0_pair 48 = .ok (.imul, 1) := by decide +kernel
theorem dX0_pair_49 : decode cX0_pair 49 = .ok (.iload_n 2, 1) := by decide +kernel
theorem dX0_pair_50 : decode cX0_pair 50 = .ok (.iadd, 1) := by decide +kernel
theorem dX0_pair_51 : decode cX0_pair 51 = .ok (.iload_n 3, 1) := by decide +kernel
theorem dX0_pair_52 : decode cX0_pair 52 = .ok (.iastore, 1) := by decide +kernel
theorem dX0_pair_53 : decode cX0_pair 53 = .ok (.aload_n 0, 1) := by decide +kernel
theorem dX0_pair_54 : decode cX0_pair 54 = .ok (.iconst 0, 1) := by decide +kernel
theorem dX0_pair_55 : decode cX0_pair 55 = .ok (.putfield 44, 3) := by decide +kernel
theorem dX0_pair_58 : decode cX0_pair 58 = .ok (.iload 4, 2) := by decide +kernel
theorem dX0_pair_60 : decode cX0_pair 60 = .ok (.ireturn, 1) := by decide +kernel
theorem dX0_badPair_0 : decode cX0_badPair 0 = .ok (.iload_n 1, 1) := by decide +kernel
theorem dX0_badPair_1 : decode cX0_badPair 1 = .ok (.ifCond .lt 9, 3) := by decide +kernel
theorem dX0_badPair_4 : decode cX0_badPair 4 = .ok (.iload_n 1, 1) := by decide +kernel
theorem dX0_badPair_5 : decode cX0_badPair 5 = .ok (.bipush 35, 2) := by decide +kernel
theorem dX0_badPair_7 : decode cX0_badPair 7 = .ok (.if_icmp .le 5, 3) := by decide +kernel
theorem dX0_badPair_10 : decode cX0_badPair 10 = .ok (.iconst 1, 1) := by decide +kernel
theorem dX0_badPair_11 : decode cX0_badPair 11 = .ok (.ireturn, 1) := by decide +kernel
theorem dX0_badPair_12 : decode cX0_badPair 12 = .ok (.iload_n 1, 1) := by decide +kernel
theorem dX0_badPair_13 : decode cX0_badPair 13 = .ok (.bipush 6, 2) := by decide +kernel
theorem dX0_badPair_15 : decode cX0_badPair 15 = .ok (.idiv, 1) := by decide +kernel
theorem dX0_badPair_16 : decode cX0_badPair 16 = .ok (.iload_n 1, 1) := by decide +kernel
theorem dX0_badPair_17 : decode cX0_badPair 17 = .ok (.bipush 6, 2) := by decide +kernel
theorem dX0_badPair_19 : decode cX0_badPair 19 = .ok (.irem, 1) := by decide +kernel
theorem dX0_badPair_20 : decode cX0_badPair 20 = .ok (.if_icmp .lt 7, 3) := by decide +kernel
theorem dX0_badPair_23 : decode cX0_badPair 23 = .ok (.iconst 1, 1) := by decide +kernel
theorem dX0_badPair_24 : decode cX0_badPair 24 = .ok (.goto 4, 3) := by decide +kernel
theorem dX0_badPair_27 : decode cX0_badPair 27 = .ok (.iconst 0, 1) := by decide +kernel
theorem dX0_badPair_28 : decode cX0_badPair 28 = .ok (.ireturn, 1) := by decide +kernel
theorem dX0_relate_0 : decode cX0_relate 0 = .ok (.aload_n 0, 1) := by decide +kernel
theorem dX0_relate_1 : decode cX0_relate 1 = .ok (.iload_n 1, 1) := by decide +kernel
theorem dX0_relate_2 : decode cX0_relate 2 = .ok (.invokevirtual 48, 3) := by decide +kernel
theorem dX0_relate_5 : decode cX0_relate 5 = .ok (.ifCond .ne 11, 3) := by decide +kernel
theorem dX0_relate_8 : decode cX0_relate 8 = .ok (.aload_n 0, 1) := by decide +kernel
theorem dX0_relate_9 : decode cX0_relate 9 = .ok (.iload_n 3, 1) := by decide +kernel
theorem dX0_relate_10 : decode cX0_relate 10 = .ok (.invokevirtual 41, 3) := by decide +kernel
theorem dX0_relate_13 : decode cX0_relate 13 = .ok (.ifCond .eq 5, 3) := by decide +kernel
theorem dX0_relate_16 : decode cX0_relate 16 = .ok (.iconst (-1), 1) := by decide +kernel
theorem dX0_relate_17 : decode cX0_relate 17 = .ok (.ireturn, 1) := by decide +kernel
theorem dX0_relate_18 : decode cX0_relate 18 = .ok (.iconst 0, 1) := by decide +kernel
theorem dX0_relate_19 : decode cX0_relate 19 = .ok (.istore 4, 2) := by decide +kernel
theorem dX0_relate_21 : decode cX0_relate 21 = .ok (.iload 4, 2) := by decide +kernel
theorem dX0_relate_23 : decode cX0_relate 23 = .ok (.bipush 9, 2) := by decide +kernel
theorem dX0_relate_25 : decode cX0_relate 25 = .ok (.if_icmp .ge 54, 3) := by decide +kernel
theorem dX0_relate_28 : decode cX0_relate 28 = .ok (.iload 4, 2) := by decide +kernel
theorem dX0_relate_30 : decode cX0_relate 30 = .ok (.iconst 3, 1) := by decide +kernel
theorem dX0_relate_31 : decode cX0_relate 31 = .ok (.idiv, 1) := by decide +kernel
theorem dX0_relate_32 : decode cX0_relate 32 = .ok (.iload 4, 2) := by decide +kernel
theorem dX0_relate_34 : decode cX0_relate 34 = .ok (.iconst 3, 1) := by decide +kernel
theorem dX0_relate_35 : decode cX0_relate 35 = .ok (.irem, 1) := by decide +kernel
theorem dX0_relate_36 : decode cX0_relate 36 = .ok (.if_icmp .ne 7, 3) := by decide +kernel
theorem dX0_relate_39 : decode cX0_relate 39 = .ok (.iconst 1, 1) := by decide +kernel
theorem dX0_relate_40 : decode cX0_relate 40 = .ok (.goto 4, 3) := by decide +kernel
theorem dX0_relate_43 : decode cX0_relate 43 = .ok (.iconst 0, 1) := by decide +kernel
theorem dX0_relate_44 : decode cX0_relate 44 = .ok (.istore 5, 2) := by decide +kernel
theorem dX0_relate_46 : decode cX0_relate 46 = .ok (.iload 5, 2) := by decide +kernel
theorem dX0_relate_48 : decode cX0_relate 48 = .ok (.iload_n 2, 1) := by decide +kernel
theorem dX0_relate_49 : decode cX0_relate 49 = .ok (.ifCond .eq 7, 3) := by decide +kernel
theorem dX0_relate_52 : decode cX0_relate 52 = .ok (.iconst 1, 1) := by decide +kernel
theorem dX0_relate_53 : decode cX0_relate 53 = .ok (.goto 4, 3) := by decide +kernel
theorem dX0_relate_56 : decode cX0_relate 56 = .ok (.iconst 0, 1) := by decide +kernel
theorem dX0_relate_57 : decode cX0_relate 57 = .ok (.if_icmp .ne 16, 3) := by decide +kernel
theorem dX0_relate_60 : decode cX0_relate 60 = .ok (.aload_n 0, 1) := by decide +kernel
theorem dX0_relate_61 : decode cX0_relate 61 = .ok (.getfield 13, 3) := by decide +kernel
theorem dX0_relate_64 : decode cX0_relate 64 = .ok (.iload_n 1, 1) := by decide +kernel
theorem dX0_relate_65 : decode cX0_relate 65 = .ok (.bipush 9, 2) := by decide +kernel
theorem dX0_relate_67 : decode cX0_relate 67 = .ok (.imul, 1) := by decide +kernel
theorem dX0_relate_68 : decode cX0_relate 68 = .ok (.iload 4, 2) := by decide +kernel
theorem dX0_relate_70 : decode cX0_relate 70 = .ok (.iadd, 1) := by decide +kernel
theorem dX0_relate_71 : decode cX0_relate 71 = .ok (.iload_n 3, 1) := by decide +kernel
theorem dX0_relate_72 : decode cX0_relate 72 = .ok (.iastore, 1) := by decide +kernel
theorem dX0_relate_73 : decode cX0_relate 73 = .ok (.iinc 4 1, 3) := by decide +kernel
theorem dX0_relate_76 : decode cX0_relate 76 = .ok (.goto (-55), 3) := by decide +kernel
theorem dX0_relate_79 : decode cX0_relate 79 = .ok (.aload_n 0, 1) := by decide +kernel
theorem dX0_relate_80 : decode cX0_relate 80 = .ok (.iconst 0, 1) := by decide +kernel
theorem dX0_relate_81 : decode cX0_relate 81 = .ok (.putfield 44, 3) := by decide +kernel
theorem dX0_relate_84 : decode cX0_relate 84 = .ok (.iconst 0, 1) := by decide +kernel
theorem dX0_relate_85 : decode cX0_relate 85 = .ok (.ireturn, 1) := by decide +kernel
theorem dX0_clear_0 : decode cX0_clear 0 = .ok (.iconst 0, 1) := by decide +kernel
theorem dX0_clear_1 : decode cX0_clear 1 = .ok (.istore_n 1, 1) := by decide +kernel
theorem dX0_clear_2 : decode cX0_clear 2 = .ok (.iload_n 1, 1) := by decide +kernel
theorem dX0_clear_3 : decode cX0_clear 3 = .ok (.bipush 18, 2) := by decide +kernel
theorem dX0_clear_5 : decode cX0_clear 5 = .ok (.if_icmp .ge 16, 3) := by decide +kernel
theorem dX0_clear_8 : decode cX0_clear 8 = .ok (.aload_n 0, 1) := by decide +kernel
theorem dX0_clear_9 : decode cX0_clear 9 = .ok (.getfield 7, 3) := by decide +kernel
theorem dX0_clear_12 : decode cX0_clear 12 = .ok (.iload_n 1, 1) := by decide +kernel
theorem dX0_clear_13 : decode cX0_clear 13 = .ok (.iconst 0, 1) := by decide +kernel
theorem dX0_clear_14 : decode cX0_clear 14 = .ok (.iastore, 1) := by decide +kernel
theorem dX0_clear_15 : decode cX0_clear 15 = .ok (.iinc 1 1, 3) := by decide +kernel
theorem dX0_clear_18 : decode cX0_clear 18 = .ok (.goto (-16), 3) := by decide +kernel
theorem dX0_clear_21 : decode cX0_clear 21 = .ok (.iconst 0, 1) := by decide +kernel
theorem dX0_clear_22 : decode cX0_clear 22 = .ok (.istore_n 1, 1) := by decide +kernel
theorem dX0_clear_23 : decode cX0_clear 23 = .ok (.iload_n 1, 1) := by decide +kernel
theorem dX0_clear_24 : decode cX0_clear 24 = .ok (.sipush 324, 3) := by decide +kernel
theorem dX0_clear_27 : decode cX0_clear 27 = .ok (.if_icmp .ge 16, 3) := by decide +kernel
theorem dX0_clear_30 : decode cX0_clear 30 = .ok (.aload_n 0, 1) := by decide +kernel
theorem dX0_clear_31 : decode cX0_clear 31 = .ok (.getfield 13, 3) := by decide +kernel
theorem dX0_clear_34 : decode cX0_clear 34 = .ok (.iload_n 1, 1) := by decide +kernel
theorem dX0_clear_35 : decode cX0_clear 35 = .ok (.iconst 0, 1) := by decide +kernel
theorem dX0_clear_36 : decode cX0_clear 36 = .ok (.iastore, 1) := by decide +kernel
theorem dX0_clear_37 : decode cX0_clear 37 = .ok (.iinc 1 1, 3) := by decide +kernel
theorem dX0_clear_40 : decode cX0_clear 40 = .ok (.goto (-17), 3) := by decide +kernel
theorem dX0_clear_43 : decode cX0_clear 43 = .ok (.aload_n 0, 1) := by decide +kernel
theorem dX0_clear_44 : decode cX0_clear 44 = .ok (.iconst 0, 1) := by decide +kernel
theorem dX0_clear_45 : decode cX0_clear 45 = .ok (.putfield 44, 3) := by decide +kernel
theorem dX0_clear_48 : decode cX0_clear 48 = .ok (.return_, 1) := by decide +kernel
theorem dX0_doll_0 : decode cX0_doll 0 = .ok (.aload_n 0, 1) := by decide +kernel
theorem dX0_doll_1 : decode cX0_doll 1 = .ok (.iload_n 1, 1) := by decide +kernel
theorem dX0_doll_2 : decode cX0_doll 2 = .ok (.invokevirtual 37, 3) := by decide +kernel
theorem dX0_doll_5 : decode cX0_doll 5 = .ok (.ifCond .eq 5, 3) := by decide +kernel
theorem dX0_doll_8 : decode cX0_doll 8 = .ok (.iconst (-1), 1) := by decide +kernel
theorem dX0_doll_9 : decode cX0_doll 9 = .ok (.ireturn, 1) := by decide +kernel
theorem dX0_doll_10 : decode cX0_doll 10 = .ok (.aload_n 0, 1) := by decide +kernel
theorem dX0_doll_11 : decode cX0_doll 11 = .ok (.invokevirtual 90, 3) := by decide +kernel
theorem dX0_doll_14 : decode cX0_doll 14 = .ok (.aload_n 0, 1) := by decide +kernel
theorem dX0_doll_15 : decode cX0_doll 15 = .ok (.aload_n 0, 1) := by decide +kernel
theorem dX0_doll_16 : decode cX0_doll 16 = .ok (.getfield 16, 3) := by decide +kernel
theorem dX0_doll_19 : decode cX0_doll 19 = .ok (.iload_n 1, 1) := by decide +kernel
theorem dX0_doll_20 : decode cX0_doll 20 = .ok (.iaload, 1) := by decide +kernel
theorem dX0_doll_21 : decode cX0_doll 21 = .ok (.invokevirtual 93, 3) := by decide +kernel
theorem dX0_doll_24 : decode cX0_doll 24 = .ok (.ireturn, 1) := by decide +kernel
theorem dX0_solve_0 : decode cX0_solve 0 = .ok (.aload_n 0, 1) := by decide +kernel
theorem dX0_solve_1 : decode cX0_solve 1 = .ok (.getfield 44, 3) := by decide +kernel
theorem dX0_solve_4 : decode cX0_solve 4 = .ok (.ifCond .eq 4, 3) := by decide +kernel
theorem dX0_solve_7 : decode cX0_solve 7 = .ok (.return_, 1) := by decide +kernel
theorem dX0_solve_8 : decode cX0_solve 8 = .ok (.aload_n 0, 1) := by decide +kernel
theorem dX0_solve_9 : decode cX0_solve 9 = .ok (.invokevirtual 84, 3) := by decide +kernel
theorem dX0_solve_12 : decode cX0_solve 12 = .ok (.aload_n 0, 1) := by decide +kernel
theorem dX0_solve_13 : decode cX0_solve 13 = .ok (.getfield 16, 3) := by decide +kernel
theorem dX0_solve_16 : decode cX0_solve 16 = .ok (.bipush 6, 2) := by decide +kernel
theorem dX0_solve_18 : decode cX0_solve 18 = .ok (.iconst 0, 1) := by decide +kernel
theorem dX0_solve_19 : decode cX0_solve 19 = .ok (.iastore, 1) := by decide +kernel
theorem dX0_solve_20 : decode cX0_solve 20 = .ok (.iconst 5, 1) := by decide +kernel
theorem dX0_solve_21 : decode cX0_solve 21 = .ok (.istore_n 1, 1) := by decide +kernel
theorem dX0_solve_22 : decode cX0_solve 22 = .ok (.iload_n 1, 1) := by decide +kernel
theorem dX0_solve_23 : decode cX0_solve 23 = .ok (.ifCond .lt 24, 3) := by decide +kernel
theorem dX0_solve_26 : decode cX0_solve 26 = .ok (.aload_n 0, 1) := by decide +kernel
theorem dX0_solve_27 : decode cX0_solve 27 = .ok (.iload_n 1, 1) := by decide +kernel
theorem dX0_solve_28 : decode cX0_solve 28 = .ok (.invokevirtual 87, 3) := by decide +kernel
theorem dX0_solve_31 : decode cX0_solve 31 = .ok (.aload_n 0, 1) := by decide +kernel
theorem dX0_solve_32 : decode cX0_solve 32 = .ok (.getfield 16, 3) := by decide +kernel
theorem dX0_solve_35 : decode cX0_solve 35 = .ok (.iload_n 1, 1) := by decide +kernel
theorem dX0_solve_36 : decode cX0_solve 36 = .ok (.aload_n 0, 1) := by decide +kernel
theorem dX0_solve_37 : decode cX0_solve 37 = .ok (.getfield 66, 3) := by decide +kernel
theorem dX0_solve_40 : decode cX0_solve 40 = .ok (.iastore, 1) := by decide +kernel
theorem dX0_solve_41 : decode cX0_solve 41 = .ok (.iinc 1 (-1), 3) := by decide +kernel
theorem dX0_solve_44 : decode cX0_solve 44 = .ok (.goto (-22), 3) := by decide +kernel
theorem dX0_solve_47 : decode cX0_solve 47 = .ok (.iconst 0, 1) := by decide +kernel
theorem dX0_solve_48 : decode cX0_solve 48 = .ok (.istore_n 1, 1) := by decide +kernel
theorem dX0_solve_49 : decode cX0_solve 49 = .ok (.iload_n 1, 1) := by decide +kernel
theorem dX0_solve_50 : decode cX0_solve 50 = .ok (.bipush 6, 2) := by decide +kernel
theorem dX0_solve_52 : decode cX0_solve 52 = .ok (.if_icmp .ge 21, 3) := by decide +kernel
theorem dX0_solve_55 : decode cX0_solve 55 = .ok (.aload_n 0, 1) := by decide +kernel
theorem dX0_solve_56 : decode cX0_solve 56 = .ok (.getfield 34, 3) := by decide +kernel
theorem dX0_solve_59 : decode cX0_solve 59 = .ok (.iload_n 1, 1) := by decide +kernel
theorem dX0_solve_60 : decode cX0_solve 60 = .ok (.aload_n 0, 1) := by decide +kernel
theorem dX0_solve_61 : decode cX0_solve 61 = .ok (.getfield 31, 3) := by decide +kernel
theorem dX0_solve_64 : decode cX0_solve 64 = .ok (.iload_n 1, 1) := by decide +kernel
theorem dX0_solve_65 : decode cX0_solve 65 = .ok (.iaload, 1) := by decide +kernel
theorem dX0_solve_66 : decode cX0_solve 66 = .ok (.iastore, 1) := by decide +kernel
theorem dX0_solve_67 : decode cX0_solve 67 = .ok (.iinc 1 1, 3) := by decide +kernel
theorem dX0_solve_70 : decode cX0_solve 70 = .ok (.goto (-21), 3) := by decide +kernel
theorem dX0_solve_73 : decode cX0_solve 73 = .ok (.aload_n 0, 1) := by decide +kernel
theorem dX0_solve_74 : decode cX0_solve 74 = .ok (.iconst 1, 1) := by decide +kernel
theorem dX0_solve_75 : decode cX0_solve 75 = .ok (.putfield 44, 3) := by decide +kernel
theorem dX0_solve_78 : decode cX0_solve 78 = .ok (.return_, 1) := by decide +kernel
theorem dX0_allowAll_0 : decode cX0_allowAll 0 = .ok (.aload_n 0, 1) := by decide +kernel
theorem dX0_allowAll_1 : decode cX0_allowAll 1 = .ok (.iconst 0, 1) := by decide +kernel
theorem dX0_allowAll_2 : decode cX0_allowAll 2 = .ok (.putfield 52, 3) := by decide +kernel
theorem dX0_allowAll_5 : decode cX0_allowAll 5 = .ok (.iconst 0, 1) := by decide +kernel
theorem dX0_allowAll_6 : decode cX0_allowAll 6 = .ok (.istore_n 1, 1) := by decide +kernel
theorem dX0_allowAll_7 : decode cX0_allowAll 7 = .ok (.iload_n 1, 1) := by decide +kernel
theorem dX0_allowAll_8 : decode cX0_allowAll 8 = .ok (.bipush 6, 2) := by decide +kernel
theorem dX0_allowAll_10 : decode cX0_allowAll 10 = .ok (.if_icmp .ge 17, 3) := by decide +kernel
theorem dX0_allowAll_13 : decode cX0_allowAll 13 = .ok (.aload_n 0, 1) := by decide +kernel
end
section
set_option maxRecDepth 100000
theorem dX0_allowAll_14 : decode cX0_allowAll 14 = .ok (.getfield 19, 3) := by decide +kernel
theorem dX0_allowAll_17 : decode cX0_allowAll 17 = .ok (.iload_n 1, 1) := by decide +kernel
theorem dX0_allowAll_18 : decode cX0_allowAll 18 = .ok (.bipush 7, 2) := by decide +kernel
theorem dX0_allowAll_20 : decode cX0_allowAll 20 = .ok (.iastore, 1) := by decide +kernel
theorem dX0_allowAll_21 : decode cX0_allowAll 21 = .ok (.iinc 1 1, 3) := by decide +kernel
theorem dX0_allowAll_24 : decode cX0_allowAll 24 = .ok (.goto (-17), 3) := by decide +kernel
theorem dX0_allowAll_27 : decode cX0_allowAll 27 = .ok (.return_, 1) := by decide +kernel
theorem dX0_search_0 : decode cX0_search 0 = .ok (.aload_n 0, 1) := by decide +kernel
theorem dX0_search_1 : decode cX0_search 1 = .ok (.ldc 51, 2) := by decide +kernel
theorem dX0_search_3 : decode cX0_search 3 = .ok (.putfield 66, 3) := by decide +kernel
theorem dX0_search_6 : decode cX0_search 6 = .ok (.aload_n 0, 1) := by decide +kernel
theorem dX0_search_7 : decode cX0_search 7 = .ok (.getfield 25, 3) := by decide +kernel
theorem dX0_search_10 : decode cX0_search 10 = .ok (.iload_n 1, 1) := by decide +kernel
theorem dX0_search_11 : decode cX0_search 11 = .ok (.iconst 0, 1) := by decide +kernel
theorem dX0_search_12 : decode cX0_search 12 = .ok (.iastore, 1) := by decide +kernel
theorem dX0_search_13 : decode cX0_search 13 = .ok (.iconst 0, 1) := by decide +kernel
theorem dX0_search_14 : decode cX0_search 14 = .ok (.istore_n 2, 1) := by decide +kernel
theorem dX0_search_15 : decode cX0_search 15 = .ok (.iload_n 2, 1) := by decide +kernel
theorem dX0_search_16 : decode cX0_search 16 = .ok (.bipush 18, 2) := by decide +kernel
theorem dX0_search_18 : decode cX0_search 18 = .ok (.if_icmp .ge 21, 3) := by decide +kernel
theorem dX0_search_21 : decode cX0_search 21 = .ok (.aload_n 0, 1) := by decide +kernel
theorem dX0_search_22 : decode cX0_search 22 = .ok (.getfield 28, 3) := by decide +kernel
theorem dX0_search_25 : decode cX0_search 25 = .ok (.iload_n 1, 1) := by decide +kernel
theorem dX0_search_26 : decode cX0_search 26 = .ok (.bipush 18, 2) := by decide +kernel
theorem dX0_search_28 : decode cX0_search 28 = .ok (.imul, 1) := by decide +kernel
theorem dX0_search_29 : decode cX0_search 29 = .ok (.iload_n 2, 1) := by decide +kernel
theorem dX0_search_30 : decode cX0_search 30 = .ok (.iadd, 1) := by decide +kernel
theorem dX0_search_31 : decode cX0_search 31 = .ok (.iconst 0, 1) := by decide +kernel
theorem dX0_search_32 : decode cX0_search 32 = .ok (.iastore, 1) := by decide +kernel
theorem dX0_search_33 : decode cX0_search 33 = .ok (.iinc 2 1, 3) := by decide +kernel
theorem dX0_search_36 : decode cX0_search 36 = .ok (.goto (-21), 3) := by decide +kernel
theorem dX0_search_39 : decode cX0_search 39 = .ok (.iload_n 1, 1) := by decide +kernel
theorem dX0_search_40 : decode cX0_search 40 = .ok (.istore_n 2, 1) := by decide +kernel
theorem dX0_search_41 : decode cX0_search 41 = .ok (.aload_n 0, 1) := by decide +kernel
theorem dX0_search_42 : decode cX0_search 42 = .ok (.getfield 22, 3) := by decide +kernel
theorem dX0_search_45 : decode cX0_search 45 = .ok (.iload_n 1, 1) := by decide +kernel
theorem dX0_search_46 : decode cX0_search 46 = .ok (.iconst (-1), 1) := by decide +kernel
theorem dX0_search_47 : decode cX0_search 47 = .ok (.iastore, 1) := by decide +kernel
theorem dX0_search_48 : decode cX0_search 48 = .ok (.iconst 0, 1) := by decide +kernel
theorem dX0_search_49 : decode cX0_search 49 = .ok (.istore_n 3, 1) := by decide +kernel
theorem dX0_search_50 : decode cX0_search 50 = .ok (.iload_n 3, 1) := by decide +kernel
theorem dX0_search_51 : decode cX0_search 51 = .ok (.sipush 4000, 3) := by decide +kernel
theorem dX0_search_54 : decode cX0_search 54 = .ok (.if_icmp .ge 111, 3) := by decide +kernel
theorem dX0_search_57 : decode cX0_search 57 = .ok (.iload_n 2, 1) := by decide +kernel
theorem dX0_search_58 : decode cX0_search 58 = .ok (.iload_n 1, 1) := by decide +kernel
theorem dX0_search_59 : decode cX0_search 59 = .ok (.if_icmp .lt 106, 3) := by decide +kernel
theorem dX0_search_62 : decode cX0_search 62 = .ok (.aload_n 0, 1) := by decide +kernel
theorem dX0_search_63 : decode cX0_search 63 = .ok (.iload_n 2, 1) := by decide +kernel
theorem dX0_search_64 : decode cX0_search 64 = .ok (.invokevirtual 70, 3) := by decide +kernel
theorem dX0_search_67 : decode cX0_search 67 = .ok (.istore 4, 2) := by decide +kernel
theorem dX0_search_69 : decode cX0_search 69 = .ok (.iload 4, 2) := by decide +kernel
theorem dX0_search_71 : decode cX0_search 71 = .ok (.iconst 2, 1) := by decide +kernel
theorem dX0_search_72 : decode cX0_search 72 = .ok (.if_icmp .le 9, 3) := by decide +kernel
theorem dX0_search_75 : decode cX0_search 75 = .ok (.iinc 2 (-1), 3) := by decide +kernel
theorem dX0_search_78 : decode cX0_search 78 = .ok (.goto 81, 3) := by decide +kernel
theorem dX0_search_81 : decode cX0_search 81 = .ok (.aload_n 0, 1) := by decide +kernel
theorem dX0_search_82 : decode cX0_search 82 = .ok (.iload_n 2, 1) := by decide +kernel
theorem dX0_search_83 : decode cX0_search 83 = .ok (.iload 4, 2) := by decide +kernel
theorem dX0_search_85 : decode cX0_search 85 = .ok (.invokevirtual 73, 3) := by decide +kernel
theorem dX0_search_88 : decode cX0_search 88 = .ok (.iload_n 2, 1) := by decide +kernel
theorem dX0_search_89 : decode cX0_search 89 = .ok (.iconst 1, 1) := by decide +kernel
theorem dX0_search_90 : decode cX0_search 90 = .ok (.iadd, 1) := by decide +kernel
theorem dX0_search_91 : decode cX0_search 91 = .ok (.bipush 6, 2) := by decide +kernel
theorem dX0_search_93 : decode cX0_search 93 = .ok (.if_icmp .ge 13, 3) := by decide +kernel
theorem dX0_search_96 : decode cX0_search 96 = .ok (.aload_n 0, 1) := by decide +kernel
theorem dX0_search_97 : decode cX0_search 97 = .ok (.iload_n 2, 1) := by decide +kernel
theorem dX0_search_98 : decode cX0_search 98 = .ok (.iconst 1, 1) := by decide +kernel
theorem dX0_search_99 : decode cX0_search 99 = .ok (.iadd, 1) := by decide +kernel
theorem dX0_search_100 : decode cX0_search 100 = .ok (.invokevirtual 77, 3) := by decide +kernel
theorem dX0_search_103 : decode cX0_search 103 = .ok (.goto 10, 3) := by decide +kernel
theorem dX0_search_106 : decode cX0_search 106 = .ok (.aload_n 0, 1) := by decide +kernel
theorem dX0_search_107 : decode cX0_search 107 = .ok (.getfield 25, 3) := by decide +kernel
theorem dX0_search_110 : decode cX0_search 110 = .ok (.bipush 6, 2) := by decide +kernel
theorem dX0_search_112 : decode cX0_search 112 = .ok (.iaload, 1) := by decide +kernel
theorem dX0_search_113 : decode cX0_search 113 = .ok (.istore 5, 2) := by decide +kernel
theorem dX0_search_115 : decode cX0_search 115 = .ok (.iload 5, 2) := by decide +kernel
theorem dX0_search_117 : decode cX0_search 117 = .ok (.aload_n 0, 1) := by decide +kernel
theorem dX0_search_118 : decode cX0_search 118 = .ok (.getfield 66, 3) := by decide +kernel
theorem dX0_search_121 : decode cX0_search 121 = .ok (.if_icmp .ge 19, 3) := by decide +kernel
theorem dX0_search_124 : decode cX0_search 124 = .ok (.iload_n 2, 1) := by decide +kernel
theorem dX0_search_125 : decode cX0_search 125 = .ok (.iconst 1, 1) := by decide +kernel
theorem dX0_search_126 : decode cX0_search 126 = .ok (.iadd, 1) := by decide +kernel
theorem dX0_search_127 : decode cX0_search 127 = .ok (.bipush 6, 2) := by decide +kernel
theorem dX0_search_129 : decode cX0_search 129 = .ok (.if_icmp .ne 11, 3) := by decide +kernel
theorem dX0_search_132 : decode cX0_search 132 = .ok (.aload_n 0, 1) := by decide +kernel
theorem dX0_search_133 : decode cX0_search 133 = .ok (.iload_n 1, 1) := by decide +kernel
theorem dX0_search_134 : decode cX0_search 134 = .ok (.invokevirtual 80, 3) := by decide +kernel
theorem dX0_search_137 : decode cX0_search 137 = .ok (.goto 22, 3) := by decide +kernel
theorem dX0_search_140 : decode cX0_search 140 = .ok (.iload 5, 2) := by decide +kernel
theorem dX0_search_142 : decode cX0_search 142 = .ok (.aload_n 0, 1) := by decide +kernel
theorem dX0_search_143 : decode cX0_search 143 = .ok (.getfield 66, 3) := by decide +kernel
theorem dX0_search_146 : decode cX0_search 146 = .ok (.if_icmp .ge 13, 3) := by decide +kernel
theorem dX0_search_149 : decode cX0_search 149 = .ok (.iinc 2 1, 3) := by decide +kernel
theorem dX0_search_152 : decode cX0_search 152 = .ok (.aload_n 0, 1) := by decide +kernel
theorem dX0_search_153 : decode cX0_search 153 = .ok (.getfield 22, 3) := by decide +kernel
theorem dX0_search_156 : decode cX0_search 156 = .ok (.iload_n 2, 1) := by decide +kernel
theorem dX0_search_157 : decode cX0_search 157 = .ok (.iconst (-1), 1) := by decide +kernel
theorem dX0_search_158 : decode cX0_search 158 = .ok (.iastore, 1) := by decide +kernel
theorem dX0_search_159 : decode cX0_search 159 = .ok (.iinc 3 1, 3) := by decide +kernel
theorem dX0_search_162 : decode cX0_search 162 = .ok (.goto (-112), 3) := by decide +kernel
theorem dX0_search_165 : decode cX0_search 165 = .ok (.return_, 1) := by decide +kernel
theorem dX0_nextValue_0 : decode cX0_nextValue 0 = .ok (.aload_n 0, 1) := by decide +kernel
theorem dX0_nextValue_1 : decode cX0_nextValue 1 = .ok (.getfield 22, 3) := by decide +kernel
theorem dX0_nextValue_4 : decode cX0_nextValue 4 = .ok (.iload_n 1, 1) := by decide +kernel
theorem dX0_nextValue_5 : decode cX0_nextValue 5 = .ok (.iaload, 1) := by decide +kernel
theorem dX0_nextValue_6 : decode cX0_nextValue 6 = .ok (.iconst 1, 1) := by decide +kernel
theorem dX0_nextValue_7 : decode cX0_nextValue 7 = .ok (.iadd, 1) := by decide +kernel
theorem dX0_nextValue_8 : decode cX0_nextValue 8 = .ok (.istore_n 2, 1) := by decide +kernel
theorem dX0_nextValue_9 : decode cX0_nextValue 9 = .ok (.iconst 0, 1) := by decide +kernel
theorem dX0_nextValue_10 : decode cX0_nextValue 10 = .ok (.istore_n 3, 1) := by decide +kernel
theorem dX0_nextValue_11 : decode cX0_nextValue 11 = .ok (.iload_n 3, 1) := by decide +kernel
theorem dX0_nextValue_12 : decode cX0_nextValue 12 = .ok (.iconst 3, 1) := by decide +kernel
theorem dX0_nextValue_13 : decode cX0_nextValue 13 = .ok (.if_icmp .ge 30, 3) := by decide +kernel
theorem dX0_nextValue_16 : decode cX0_nextValue 16 = .ok (.iload_n 2, 1) := by decide +kernel
theorem dX0_nextValue_17 : decode cX0_nextValue 17 = .ok (.iconst 3, 1) := by decide +kernel
theorem dX0_nextValue_18 : decode cX0_nextValue 18 = .ok (.if_icmp .ge 25, 3) := by decide +kernel
theorem dX0_nextValue_21 : decode cX0_nextValue 21 = .ok (.aload_n 0, 1) := by decide +kernel
theorem dX0_nextValue_22 : decode cX0_nextValue 22 = .ok (.getfield 19, 3) := by decide +kernel
theorem dX0_nextValue_25 : decode cX0_nextValue 25 = .ok (.iload_n 1, 1) := by decide +kernel
theorem dX0_nextValue_26 : decode cX0_nextValue 26 = .ok (.iaload, 1) := by decide +kernel
theorem dX0_nextValue_27 : decode cX0_nextValue 27 = .ok (.iload_n 2, 1) := by decide +kernel
theorem dX0_nextValue_28 : decode cX0_nextValue 28 = .ok (.ishr, 1) := by decide +kernel
theorem dX0_nextValue_29 : decode cX0_nextValue 29 = .ok (.iconst 1, 1) := by decide +kernel
theorem dX0_nextValue_30 : decode cX0_nextValue 30 = .ok (.iand, 1) := by decide +kernel
theorem dX0_nextValue_31 : decode cX0_nextValue 31 = .ok (.ifCond .ne 12, 3) := by decide +kernel
theorem dX0_nextValue_34 : decode cX0_nextValue 34 = .ok (.iinc 2 1, 3) := by decide +kernel
theorem dX0_nextValue_37 : decode cX0_nextValue 37 = .ok (.iinc 3 1, 3) := by decide +kernel
theorem dX0_nextValue_40 : decode cX0_nextValue 40 = .ok (.goto (-29), 3) := by decide +kernel
theorem dX0_nextValue_43 : decode cX0_nextValue 43 = .ok (.iload_n 2, 1) := by decide +kernel
theorem dX0_nextValue_44 : decode cX0_nextValue 44 = .ok (.ireturn, 1) := by decide +kernel
theorem dX0_choose_0 : decode cX0_choose 0 = .ok (.aload_n 0, 1) := by decide +kernel
theorem dX0_choose_1 : decode cX0_choose 1 = .ok (.getfield 22, 3) := by decide +kernel
theorem dX0_choose_4 : decode cX0_choose 4 = .ok (.iload_n 1, 1) := by decide +kernel
theorem dX0_choose_5 : decode cX0_choose 5 = .ok (.iload_n 2, 1) := by decide +kernel
theorem dX0_choose_6 : decode cX0_choose 6 = .ok (.iastore, 1) := by decide +kernel
theorem dX0_choose_7 : decode cX0_choose 7 = .ok (.aload_n 0, 1) := by decide +kernel
theorem dX0_choose_8 : decode cX0_choose 8 = .ok (.aload_n 0, 1) := by decide +kernel
theorem dX0_choose_9 : decode cX0_choose 9 = .ok (.getfield 7, 3) := by decide +kernel
theorem dX0_choose_12 : decode cX0_choose 12 = .ok (.iload_n 1, 1) := by decide +kernel
theorem dX0_choose_13 : decode cX0_choose 13 = .ok (.iconst 3, 1) := by decide +kernel
theorem dX0_choose_14 : decode cX0_choose 14 = .ok (.imul, 1) := by decide +kernel
theorem dX0_choose_15 : decode cX0_choose 15 = .ok (.iload_n 2, 1) := by decide +kernel
theorem dX0_choose_16 : decode cX0_choose 16 = .ok (.iadd, 1) := by decide +kernel
theorem dX0_choose_17 : decode cX0_choose 17 = .ok (.iaload, 1) := by decide +kernel
theorem dX0_choose_18 : decode cX0_choose 18 = .ok (.invokevirtual 55, 3) := by decide +kernel
theorem dX0_choose_21 : decode cX0_choose 21 = .ok (.aload_n 0, 1) := by decide +kernel
theorem dX0_choose_22 : decode cX0_choose 22 = .ok (.getfield 28, 3) := by decide +kernel
theorem dX0_choose_25 : decode cX0_choose 25 = .ok (.iload_n 1, 1) := by decide +kernel
theorem dX0_choose_26 : decode cX0_choose 26 = .ok (.bipush 6, 2) := by decide +kernel
theorem dX0_choose_28 : decode cX0_choose 28 = .ok (.imul, 1) := by decide +kernel
theorem dX0_choose_29 : decode cX0_choose 29 = .ok (.iload_n 1, 1) := by decide +kernel
theorem dX0_choose_30 : decode cX0_choose 30 = .ok (.iadd, 1) := by decide +kernel
theorem dX0_choose_31 : decode cX0_choose 31 = .ok (.iconst 3, 1) := by decide +kernel
theorem dX0_choose_32 : decode cX0_choose 32 = .ok (.imul, 1) := by decide +kernel
theorem dX0_choose_33 : decode cX0_choose 33 = .ok (.iload_n 2, 1) := by decide +kernel
theorem dX0_choose_34 : decode cX0_choose 34 = .ok (.iadd, 1) := by decide +kernel
theorem dX0_choose_35 : decode cX0_choose 35 = .ok (.iaload, 1) := by decide +kernel
theorem dX0_choose_36 : decode cX0_choose 36 = .ok (.iadd, 1) := by decide +kernel
theorem dX0_choose_37 : decode cX0_choose 37 = .ok (.istore_n 3, 1) := by decide +kernel
theorem dX0_choose_38 : decode cX0_choose 38 = .ok (.aload_n 0, 1) := by decide +kernel
theorem dX0_choose_39 : decode cX0_choose 39 = .ok (.getfield 25, 3) := by decide +kernel
theorem dX0_choose_42 : decode cX0_choose 42 = .ok (.iload_n 1, 1) := by decide +kernel
theorem dX0_choose_43 : decode cX0_choose 43 = .ok (.iconst 1, 1) := by decide +kernel
theorem dX0_choose_44 : decode cX0_choose 44 = .ok (.iadd, 1) := by decide +kernel
theorem dX0_choose_45 : decode cX0_choose 45 = .ok (.aload_n 0, 1) := by decide +kernel
theorem dX0_choose_46 : decode cX0_choose 46 = .ok (.aload_n 0, 1) := by decide +kernel
theorem dX0_choose_47 : decode cX0_choose 47 = .ok (.getfield 25, 3) := by decide +kernel
theorem dX0_choose_50 : decode cX0_choose 50 = .ok (.iload_n 1, 1) := by decide +kernel
theorem dX0_choose_51 : decode cX0_choose 51 = .ok (.iaload, 1) := by decide +kernel
theorem dX0_choose_52 : decode cX0_choose 52 = .ok (.iload_n 3, 1) := by decide +kernel
theorem dX0_choose_53 : decode cX0_choose 53 = .ok (.iadd, 1) := by decide +kernel
theorem dX0_choose_54 : decode cX0_choose 54 = .ok (.invokevirtual 59, 3) := by decide +kernel
theorem dX0_choose_57 : decode cX0_choose 57 = .ok (.iastore, 1) := by decide +kernel
theorem dX0_choose_58 : decode cX0_choose 58 = .ok (.iload_n 1, 1) := by decide +kernel
theorem dX0_choose_59 : decode cX0_choose 59 = .ok (.iconst 1, 1) := by decide +kernel
theorem dX0_choose_60 : decode cX0_choose 60 = .ok (.iadd, 1) := by decide +kernel
theorem dX0_choose_61 : decode cX0_choose 61 = .ok (.istore 4, 2) := by decide +kernel
theorem dX0_choose_63 : decode cX0_choose 63 = .ok (.iload 4, 2) := by decide +kernel
theorem dX0_choose_65 : decode cX0_choose 65 = .ok (.bipush 6, 2) := by decide +kernel
theorem dX0_choose_67 : decode cX0_choose 67 = .ok (.if_icmp .ge 83, 3) := by decide +kernel
theorem dX0_choose_70 : decode cX0_choose 70 = .ok (.iconst 0, 1) := by decide +kernel
theorem dX0_choose_71 : decode cX0_choose 71 = .ok (.istore 5, 2) := by decide +kernel
theorem dX0_choose_73 : decode cX0_choose 73 = .ok (.iload 5, 2) := by decide +kernel
theorem dX0_choose_75 : decode cX0_choose 75 = .ok (.iconst 3, 1) := by decide +kernel
theorem dX0_choose_76 : decode cX0_choose 76 = .ok (.if_icmp .ge 68, 3) := by decide +kernel
theorem dX0_choose_79 : decode cX0_choose 79 = .ok (.aload_n 0, 1) := by decide +kernel
theorem dX0_choose_80 : decode cX0_choose 80 = .ok (.iload_n 1, 1) := by decide +kernel
theorem dX0_choose_81 : decode cX0_choose 81 = .ok (.iload_n 2, 1) := by decide +kernel
theorem dX0_choose_82 : decode cX0_choose 82 = .ok (.iload 4, 2) := by decide +kernel
theorem dX0_choose_84 : decode cX0_choose 84 = .ok (.iload 5, 2) := by decide +kernel
theorem dX0_choose_86 : decode cX0_choose 86 = .ok (.invokevirtual 62, 3) := by decide +kernel
theorem dX0_choose_89 : decode cX0_choose 89 = .ok (.istore 6, 2) := by decide +kernel
theorem dX0_choose_91 : decode cX0_choose 91 = .ok (.aload_n 0, 1) := by decide +kernel
theorem dX0_choose_92 : decode cX0_choose 92 = .ok (.getfield 28, 3) := by decide +kernel
theorem dX0_choose_95 : decode cX0_choose 95 = .ok (.iload_n 1, 1) := by decide +kernel
theorem dX0_choose_96 : decode cX0_choose 96 = .ok (.bipush 6, 2) := by decide +kernel
theorem dX0_choose_98 : decode cX0_choose 98 = .ok (.imul, 1) := by decide +kernel
theorem dX0_choose_99 : decode cX0_choose 99 = .ok (.iload 4, 2) := by decide +kernel
theorem dX0_choose_101 : decode cX0_choose 101 = .ok (.iadd, 1) := by decide +kernel
theorem dX0_choose_102 : decode cX0_choose 102 = .ok (.iconst 3, 1) := by decide +kernel
theorem dX0_choose_103 : decode cX0_choose 103 = .ok (.imul, 1) := by decide +kernel
theorem dX0_choose_104 : decode cX0_choose 104 = .ok (.iload 5, 2) := by decide +kernel
theorem dX0_choose_106 : decode cX0_choose 106 = .ok (.iadd, 1) := by decide +kernel
theorem dX0_choose_107 : decode cX0_choose 107 = .ok (.iaload, 1) := by decide +kernel
theorem dX0_choose_108 : decode cX0_choose 108 = .ok (.istore 7, 2) := by decide +kernel
theorem dX0_choose_110 : decode cX0_choose 110 = .ok (.aload_n 0, 1) := by decide +kernel
theorem dX0_choose_111 : decode cX0_choose 111 = .ok (.getfield 28, 3) := by decide +kernel
theorem dX0_choose_114 : decode cX0_choose 114 = .ok (.iload_n 1, 1) := by decide +kernel
theorem dX0_choose_115 : decode cX0_choose 115 = .ok (.iconst 1, 1) := by decide +kernel
theorem dX0_choose_116 : decode cX0_choose 116 = .ok (.iadd, 1) := by decide +kernel
theorem dX0_choose_117 : decode cX0_choose 117 = .ok (.bipush 6, 2) := by decide +kernel
theorem dX0_choose_119 : decode cX0_choose 119 = .ok (.imul, 1) := by decide +kernel
theorem dX0_choose_120 : decode cX0_choose 120 = .ok (.iload 4, 2) := by decide +kernel
theorem dX0_choose_122 : decode cX0_choose 122 = .ok (.iadd, 1) := by decide +kernel
theorem dX0_choose_123 : decode cX0_choose 123 = .ok (.iconst 3, 1) := by decide +kernel
theorem dX0_choose_124 : decode cX0_choose 124 = .ok (.imul, 1) := by decide +kernel
theorem dX0_choose_125 : decode cX0_choose 125 = .ok (.iload 5, 2) := by decide +kernel
theorem dX0_choose_127 : decode cX0_choose 127 = .ok (.iadd, 1) := by decide +kernel
theorem dX0_choose_128 : decode cX0_choose 128 = .ok (.aload_n 0, 1) := by decide +kernel
theorem dX0_choose_129 : decode cX0_choose 129 = .ok (.iload 7, 2) := by decide +kernel
theorem dX0_choose_131 : decode cX0_choose 131 = .ok (.iload 6, 2) := by decide +kernel
theorem dX0_choose_133 : decode cX0_choose 133 = .ok (.iadd, 1) := by decide +kernel
theorem dX0_choose_134 : decode cX0_choose 134 = .ok (.invokevirtual 59, 3) := by decide +kernel
theorem dX0_choose_137 : decode cX0_choose 137 = .ok (.iastore, 1) := by decide +kernel
theorem dX0_choose_138 : decode cX0_choose 138 = .ok (.iinc 5 1, 3) := by decide +kernel
theorem dX0_choose_141 : decode cX0_choose 141 = .ok (.goto (-68), 3) := by decide +kernel
theorem dX0_choose_144 : decode cX0_choose 144 = .ok (.iinc 4 1, 3) := by decide +kernel
theorem dX0_choose_147 : decode cX0_choose 147 = .ok (.goto (-84), 3) := by decide +kernel
theorem dX0_choose_150 : decode cX0_choose 150 = .ok (.return_, 1) := by decide +kernel
theorem dX0_real_0 : decode cX0_real 0 = .ok (.iload_n 1, 1) := by decide +kernel
theorem dX0_real_1 : decode cX0_real 1 = .ok (.bipush 99, 2) := by decide +kernel
theorem dX0_real_3 : decode cX0_real 3 = .ok (.if_icmp .ne 8, 3) := by decide +kernel
theorem dX0_real_6 : decode cX0_real 6 = .ok (.ldc 51, 2) := by decide +kernel
theorem dX0_real_8 : decode cX0_real 8 = .ok (.goto 4, 3) := by decide +kernel
theorem dX0_real_11 : decode cX0_real 11 = .ok (.iload_n 1, 1) := by decide +kernel
theorem dX0_real_12 : decode cX0_real 12 = .ok (.ireturn, 1) := by decide +kernel
theorem dX0_capped_0 : decode cX0_capped 0 = .ok (.iload_n 1, 1) := by decide +kernel
theorem dX0_capped_1 : decode cX0_capped 1 = .ok (.ldc 51, 2) := by decide +kernel
theorem dX0_capped_3 : decode cX0_capped 3 = .ok (.if_icmp .le 8, 3) := by decide +kernel
theorem dX0_capped_6 : decode cX0_capped 6 = .ok (.ldc 51, 2) := by decide +kernel
theorem dX0_capped_8 : decode cX0_capped 8 = .ok (.goto 4, 3) := by decide +kernel
theorem dX0_capped_11 : decode cX0_capped 11 = .ok (.iload_n 1, 1) := by decide +kernel
theorem dX0_capped_12 : decode cX0_capped 12 = .ok (.ireturn, 1) := by decide +kernel
theorem dX0_between_0 : decode cX0_between 0 = .ok (.aload_n 0, 1) := by decide +kernel
theorem dX0_between_1 : decode cX0_between 1 = .ok (.getfield 52, 3) := by decide +kernel
theorem dX0_between_4 : decode cX0_between 4 = .ok (.ifCond .eq 19, 3) := by decide +kernel
theorem dX0_between_7 : decode cX0_between 7 = .ok (.iload_n 3, 1) := by decide +kernel
theorem dX0_between_8 : decode cX0_between 8 = .ok (.iload_n 1, 1) := by decide +kernel
theorem dX0_between_9 : decode cX0_between 9 = .ok (.iconst 1, 1) := by decide +kernel
theorem dX0_between_10 : decode cX0_between 10 = .ok (.iadd, 1) := by decide +kernel
theorem dX0_between_11 : decode cX0_between 11 = .ok (.if_icmp .ne 12, 3) := by decide +kernel
theorem dX0_between_14 : decode cX0_between 14 = .ok (.iload_n 2, 1) := by decide +kernel
theorem dX0_between_15 : decode cX0_between 15 = .ok (.iload 4, 2) := by decide +kernel
theorem dX0_between_17 : decode cX0_between 17 = .ok (.if_icmp .ne 6, 3) := by decide +kernel
theorem dX0_between_20 : decode cX0_between 20 = .ok (.ldc 51, 2) := by decide +kernel
theorem dX0_between_22 : decode cX0_between 22 = .ok (.ireturn, 1) := by decide +kernel
theorem dX0_between_23 : decode cX0_between 23 = .ok (.aload_n 0, 1) := by decide +kernel
theorem dX0_between_24 : decode cX0_between 24 = .ok (.aload_n 0, 1) := by decide +kernel
theorem dX0_between_25 : decode cX0_between 25 = .ok (.getfield 13, 3) := by decide +kernel
theorem dX0_between_28 : decode cX0_between 28 = .ok (.iload_n 1, 1) := by decide +kernel
theorem dX0_between_29 : decode cX0_between 29 = .ok (.bipush 6, 2) := by decide +kernel
theorem dX0_between_31 : decode cX0_between 31 = .ok (.imul, 1) := by decide +kernel
theorem dX0_between_32 : decode cX0_between 32 = .ok (.iload_n 3, 1) := by decide +kernel
theorem dX0_between_33 : decode cX0_between 33 = .ok (.iadd, 1) := by decide +kernel
theorem dX0_between_34 : decode cX0_between 34 = .ok (.bipush 9, 2) := by decide +kernel
theorem dX0_between_36 : decode cX0_between 36 = .ok (.imul, 1) := by decide +kernel
theorem dX0_between_37 : decode cX0_between 37 = .ok (.iload_n 2, 1) := by decide +kernel
theorem dX0_between_38 : decode cX0_between 38 = .ok (.iconst 3, 1) := by decide +kernel
theorem dX0_between_39 : decode cX0_between 39 = .ok (.imul, 1) := by decide +kernel
theorem dX0_between_40 : decode cX0_between 40 = .ok (.iadd, 1) := by decide +kernel
theorem dX0_between_41 : decode cX0_between 41 = .ok (.iload 4, 2) := by decide +kernel
theorem dX0_between_43 : decode cX0_between 43 = .ok (.iadd, 1) := by decide +kernel
theorem dX0_between_44 : decode cX0_between 44 = .ok (.iaload, 1) := by decide +kernel
theorem dX0_between_45 : decode cX0_between 45 = .ok (.invokevirtual 55, 3) := by decide +kernel
theorem dX0_between_48 : decode cX0_between 48 = .ok (.ireturn, 1) := by decide +kernel
theorem dX0_bound_0 : decode cX0_bound 0 = .ok (.aload_n 0, 1) := by decide +kernel
theorem dX0_bound_1 : decode cX0_bound 1 = .ok (.getfield 25, 3) := by decide +kernel
theorem dX0_bound_4 : decode cX0_bound 4 = .ok (.iload_n 1, 1) := by decide +kernel
theorem dX0_bound_5 : decode cX0_bound 5 = .ok (.iaload, 1) := by decide +kernel
theorem dX0_bound_6 : decode cX0_bound 6 = .ok (.aload_n 0, 1) := by decide +kernel
theorem dX0_bound_7 : decode cX0_bound 7 = .ok (.getfield 16, 3) := by decide +kernel
theorem dX0_bound_10 : decode cX0_bound 10 = .ok (.iload_n 1, 1) := by decide +kernel
theorem dX0_bound_11 : decode cX0_bound 11 = .ok (.iaload, 1) := by decide +kernel
theorem dX0_bound_12 : decode cX0_bound 12 = .ok (.iadd, 1) := by decide +kernel
theorem dX0_bound_13 : decode cX0_bound 13 = .ok (.istore_n 2, 1) := by decide +kernel
theorem dX0_bound_14 : decode cX0_bound 14 = .ok (.iload_n 1, 1) := by decide +kernel
theorem dX0_bound_15 : decode cX0_bound 15 = .ok (.istore_n 3, 1) := by decide +kernel
theorem dX0_bound_16 : decode cX0_bound 16 = .ok (.iload_n 3, 1) := by decide +kernel
theorem dX0_bound_17 : decode cX0_bound 17 = .ok (.bipush 6, 2) := by decide +kernel
theorem dX0_bound_19 : decode cX0_bound 19 = .ok (.if_icmp .ge 77, 3) := by decide +kernel
theorem dX0_bound_22 : decode cX0_bound 22 = .ok (.ldc 51, 2) := by decide +kernel
theorem dX0_bound_24 : decode cX0_bound 24 = .ok (.istore 4, 2) := by decide +kernel
theorem dX0_bound_26 : decode cX0_bound 26 = .ok (.iconst 0, 1) := by decide +kernel
theorem dX0_bound_27 : decode cX0_bound 27 = .ok (.istore 5, 2) := by decide +kernel
theorem dX0_bound_29 : decode cX0_bound 29 = .ok (.iload 5, 2) := by decide +kernel
theorem dX0_bound_31 : decode cX0_bound 31 = .ok (.iconst 3, 1) := by decide +kernel
theorem dX0_bound_32 : decode cX0_bound 32 = .ok (.if_icmp .ge 53, 3) := by decide +kernel
theorem dX0_bound_35 : decode cX0_bound 35 = .ok (.aload_n 0, 1) := by decide +kernel
theorem dX0_bound_36 : decode cX0_bound 36 = .ok (.getfield 28, 3) := by decide +kernel
theorem dX0_bound_39 : decode cX0_bound 39 = .ok (.iload_n 1, 1) := by decide +kernel
end
section
set_option maxRecDepth 100000
theorem dX0_bound_40 : decode cX0_bound 40 = .ok (.bipush 6, 2) := by decide +kernel
theorem dX0_bound_42 : decode cX0_bound 42 = .ok (.imul, 1) := by decide +kernel
theorem dX0_bound_43 : decode cX0_bound 43 = .ok (.iload_n 3, 1) := by decide +kernel
theorem dX0_bound_44 : decode cX0_bound 44 = .ok (.iadd, 1) := by decide +kernel
theorem dX0_bound_45 : decode cX0_bound 45 = .ok (.iconst 3, 1) := by decide +kernel
theorem dX0_bound_46 : decode cX0_bound 46 = .ok (.imul, 1) := by decide +kernel
theorem dX0_bound_47 : decode cX0_bound 47 = .ok (.iload 5, 2) := by decide +kernel
theorem dX0_bound_49 : decode cX0_bound 49 = .ok (.iadd, 1) := by decide +kernel
theorem dX0_bound_50 : decode cX0_bound 50 = .ok (.iaload, 1) := by decide +kernel
theorem dX0_bound_51 : decode cX0_bound 51 = .ok (.istore 6, 2) := by decide +kernel
theorem dX0_bound_53 : decode cX0_bound 53 = .ok (.aload_n 0, 1) := by decide +kernel
theorem dX0_bound_54 : decode cX0_bound 54 = .ok (.getfield 19, 3) := by decide +kernel
theorem dX0_bound_57 : decode cX0_bound 57 = .ok (.iload_n 3, 1) := by decide +kernel
theorem dX0_bound_58 : decode cX0_bound 58 = .ok (.iaload, 1) := by decide +kernel
theorem dX0_bound_59 : decode cX0_bound 59 = .ok (.iload 5, 2) := by decide +kernel
theorem dX0_bound_61 : decode cX0_bound 61 = .ok (.ishr, 1) := by decide +kernel
theorem dX0_bound_62 : decode cX0_bound 62 = .ok (.iconst 1, 1) := by decide +kernel
theorem dX0_bound_63 : decode cX0_bound 63 = .ok (.iand, 1) := by decide +kernel
theorem dX0_bound_64 : decode cX0_bound 64 = .ok (.iconst 1, 1) := by decide +kernel
theorem dX0_bound_65 : decode cX0_bound 65 = .ok (.if_icmp .ne 14, 3) := by decide +kernel
theorem dX0_bound_68 : decode cX0_bound 68 = .ok (.iload 6, 2) := by decide +kernel
theorem dX0_bound_70 : decode cX0_bound 70 = .ok (.iload 4, 2) := by decide +kernel
theorem dX0_bound_72 : decode cX0_bound 72 = .ok (.if_icmp .ge 7, 3) := by decide +kernel
theorem dX0_bound_75 : decode cX0_bound 75 = .ok (.iload 6, 2) := by decide +kernel
theorem dX0_bound_77 : decode cX0_bound 77 = .ok (.istore 4, 2) := by decide +kernel
theorem dX0_bound_79 : decode cX0_bound 79 = .ok (.iinc 5 1, 3) := by decide +kernel
theorem dX0_bound_82 : decode cX0_bound 82 = .ok (.goto (-53), 3) := by decide +kernel
theorem dX0_bound_85 : decode cX0_bound 85 = .ok (.iload_n 2, 1) := by decide +kernel
theorem dX0_bound_86 : decode cX0_bound 86 = .ok (.iload 4, 2) := by decide +kernel
theorem dX0_bound_88 : decode cX0_bound 88 = .ok (.iadd, 1) := by decide +kernel
theorem dX0_bound_89 : decode cX0_bound 89 = .ok (.istore_n 2, 1) := by decide +kernel
theorem dX0_bound_90 : decode cX0_bound 90 = .ok (.iinc 3 1, 3) := by decide +kernel
theorem dX0_bound_93 : decode cX0_bound 93 = .ok (.goto (-77), 3) := by decide +kernel
theorem dX0_bound_96 : decode cX0_bound 96 = .ok (.aload_n 0, 1) := by decide +kernel
theorem dX0_bound_97 : decode cX0_bound 97 = .ok (.iload_n 2, 1) := by decide +kernel
theorem dX0_bound_98 : decode cX0_bound 98 = .ok (.invokevirtual 59, 3) := by decide +kernel
theorem dX0_bound_101 : decode cX0_bound 101 = .ok (.ireturn, 1) := by decide +kernel
theorem dX0_keep_0 : decode cX0_keep 0 = .ok (.aload_n 0, 1) := by decide +kernel
theorem dX0_keep_1 : decode cX0_keep 1 = .ok (.aload_n 0, 1) := by decide +kernel
theorem dX0_keep_2 : decode cX0_keep 2 = .ok (.getfield 25, 3) := by decide +kernel
theorem dX0_keep_5 : decode cX0_keep 5 = .ok (.bipush 6, 2) := by decide +kernel
theorem dX0_keep_7 : decode cX0_keep 7 = .ok (.iaload, 1) := by decide +kernel
theorem dX0_keep_8 : decode cX0_keep 8 = .ok (.putfield 66, 3) := by decide +kernel
theorem dX0_keep_11 : decode cX0_keep 11 = .ok (.iload_n 1, 1) := by decide +kernel
theorem dX0_keep_12 : decode cX0_keep 12 = .ok (.istore_n 2, 1) := by decide +kernel
theorem dX0_keep_13 : decode cX0_keep 13 = .ok (.iload_n 2, 1) := by decide +kernel
theorem dX0_keep_14 : decode cX0_keep 14 = .ok (.bipush 6, 2) := by decide +kernel
theorem dX0_keep_16 : decode cX0_keep 16 = .ok (.if_icmp .ge 21, 3) := by decide +kernel
theorem dX0_keep_19 : decode cX0_keep 19 = .ok (.aload_n 0, 1) := by decide +kernel
theorem dX0_keep_20 : decode cX0_keep 20 = .ok (.getfield 31, 3) := by decide +kernel
theorem dX0_keep_23 : decode cX0_keep 23 = .ok (.iload_n 2, 1) := by decide +kernel
theorem dX0_keep_24 : decode cX0_keep 24 = .ok (.aload_n 0, 1) := by decide +kernel
theorem dX0_keep_25 : decode cX0_keep 25 = .ok (.getfield 22, 3) := by decide +kernel
theorem dX0_keep_28 : decode cX0_keep 28 = .ok (.iload_n 2, 1) := by decide +kernel
theorem dX0_keep_29 : decode cX0_keep 29 = .ok (.iaload, 1) := by decide +kernel
theorem dX0_keep_30 : decode cX0_keep 30 = .ok (.iastore, 1) := by decide +kernel
theorem dX0_keep_31 : decode cX0_keep 31 = .ok (.iinc 2 1, 3) := by decide +kernel
theorem dX0_keep_34 : decode cX0_keep 34 = .ok (.goto (-21), 3) := by decide +kernel
theorem dX0_keep_37 : decode cX0_keep 37 = .ok (.return_, 1) := by decide +kernel
theorem dX0_answer_0 : decode cX0_answer 0 = .ok (.iload_n 1, 1) := by decide +kernel
theorem dX0_answer_1 : decode cX0_answer 1 = .ok (.ldc 51, 2) := by decide +kernel
theorem dX0_answer_3 : decode cX0_answer 3 = .ok (.if_icmp .lt 8, 3) := by decide +kernel
theorem dX0_answer_6 : decode cX0_answer 6 = .ok (.bipush (-4), 2) := by decide +kernel
theorem dX0_answer_8 : decode cX0_answer 8 = .ok (.goto 4, 3) := by decide +kernel
theorem dX0_answer_11 : decode cX0_answer 11 = .ok (.iload_n 1, 1) := by decide +kernel
theorem dX0_answer_12 : decode cX0_answer 12 = .ok (.ireturn, 1) := by decide +kernel
theorem dX0_cheapest_0 : decode cX0_cheapest 0 = .ok (.aload_n 0, 1) := by decide +kernel
theorem dX0_cheapest_1 : decode cX0_cheapest 1 = .ok (.iconst 0, 1) := by decide +kernel
theorem dX0_cheapest_2 : decode cX0_cheapest 2 = .ok (.invokevirtual 96, 3) := by decide +kernel
theorem dX0_cheapest_5 : decode cX0_cheapest 5 = .ok (.ireturn, 1) := by decide +kernel
theorem dX0_value_0 : decode cX0_value 0 = .ok (.aload_n 0, 1) := by decide +kernel
theorem dX0_value_1 : decode cX0_value 1 = .ok (.iload_n 1, 1) := by decide +kernel
theorem dX0_value_2 : decode cX0_value 2 = .ok (.invokevirtual 37, 3) := by decide +kernel
theorem dX0_value_5 : decode cX0_value 5 = .ok (.ifCond .eq 5, 3) := by decide +kernel
theorem dX0_value_8 : decode cX0_value 8 = .ok (.iconst (-1), 1) := by decide +kernel
theorem dX0_value_9 : decode cX0_value 9 = .ok (.ireturn, 1) := by decide +kernel
theorem dX0_value_10 : decode cX0_value 10 = .ok (.aload_n 0, 1) := by decide +kernel
theorem dX0_value_11 : decode cX0_value 11 = .ok (.invokevirtual 90, 3) := by decide +kernel
theorem dX0_value_14 : decode cX0_value 14 = .ok (.aload_n 0, 1) := by decide +kernel
theorem dX0_value_15 : decode cX0_value 15 = .ok (.getfield 16, 3) := by decide +kernel
theorem dX0_value_18 : decode cX0_value 18 = .ok (.iconst 0, 1) := by decide +kernel
theorem dX0_value_19 : decode cX0_value 19 = .ok (.iaload, 1) := by decide +kernel
theorem dX0_value_20 : decode cX0_value 20 = .ok (.ldc 51, 2) := by decide +kernel
theorem dX0_value_22 : decode cX0_value 22 = .ok (.if_icmp .lt 8, 3) := by decide +kernel
theorem dX0_value_25 : decode cX0_value 25 = .ok (.bipush (-4), 2) := by decide +kernel
theorem dX0_value_27 : decode cX0_value 27 = .ok (.goto 9, 3) := by decide +kernel
theorem dX0_value_30 : decode cX0_value 30 = .ok (.aload_n 0, 1) := by decide +kernel
theorem dX0_value_31 : decode cX0_value 31 = .ok (.getfield 34, 3) := by decide +kernel
theorem dX0_value_34 : decode cX0_value 34 = .ok (.iload_n 1, 1) := by decide +kernel
theorem dX0_value_35 : decode cX0_value 35 = .ok (.iaload, 1) := by decide +kernel
theorem dX0_value_36 : decode cX0_value 36 = .ok (.ireturn, 1) := by decide +kernel
theorem dX0_with_0 : decode cX0_with 0 = .ok (.aload_n 0, 1) := by decide +kernel
theorem dX0_with_1 : decode cX0_with 1 = .ok (.iload_n 1, 1) := by decide +kernel
theorem dX0_with_2 : decode cX0_with 2 = .ok (.invokevirtual 37, 3) := by decide +kernel
theorem dX0_with_5 : decode cX0_with 5 = .ok (.ifCond .ne 12, 3) := by decide +kernel
theorem dX0_with_8 : decode cX0_with 8 = .ok (.iload_n 2, 1) := by decide +kernel
theorem dX0_with_9 : decode cX0_with 9 = .ok (.ifCond .lt 8, 3) := by decide +kernel
theorem dX0_with_12 : decode cX0_with 12 = .ok (.iload_n 2, 1) := by decide +kernel
theorem dX0_with_13 : decode cX0_with 13 = .ok (.iconst 2, 1) := by decide +kernel
theorem dX0_with_14 : decode cX0_with 14 = .ok (.if_icmp .le 5, 3) := by decide +kernel
theorem dX0_with_17 : decode cX0_with 17 = .ok (.iconst (-1), 1) := by decide +kernel
theorem dX0_with_18 : decode cX0_with 18 = .ok (.ireturn, 1) := by decide +kernel
theorem dX0_with_19 : decode cX0_with 19 = .ok (.aload_n 0, 1) := by decide +kernel
theorem dX0_with_20 : decode cX0_with 20 = .ok (.invokevirtual 90, 3) := by decide +kernel
theorem dX0_with_23 : decode cX0_with 23 = .ok (.aload_n 0, 1) := by decide +kernel
theorem dX0_with_24 : decode cX0_with 24 = .ok (.invokevirtual 84, 3) := by decide +kernel
theorem dX0_with_27 : decode cX0_with 27 = .ok (.aload_n 0, 1) := by decide +kernel
theorem dX0_with_28 : decode cX0_with 28 = .ok (.getfield 19, 3) := by decide +kernel
theorem dX0_with_31 : decode cX0_with 31 = .ok (.iload_n 1, 1) := by decide +kernel
theorem dX0_with_32 : decode cX0_with 32 = .ok (.iconst 1, 1) := by decide +kernel
theorem dX0_with_33 : decode cX0_with 33 = .ok (.iload_n 2, 1) := by decide +kernel
theorem dX0_with_34 : decode cX0_with 34 = .ok (.ishl, 1) := by decide +kernel
theorem dX0_with_35 : decode cX0_with 35 = .ok (.iastore, 1) := by decide +kernel
theorem dX0_with_36 : decode cX0_with 36 = .ok (.aload_n 0, 1) := by decide +kernel
theorem dX0_with_37 : decode cX0_with 37 = .ok (.iconst 0, 1) := by decide +kernel
theorem dX0_with_38 : decode cX0_with 38 = .ok (.invokevirtual 87, 3) := by decide +kernel
theorem dX0_with_41 : decode cX0_with 41 = .ok (.aload_n 0, 1) := by decide +kernel
theorem dX0_with_42 : decode cX0_with 42 = .ok (.aload_n 0, 1) := by decide +kernel
theorem dX0_with_43 : decode cX0_with 43 = .ok (.getfield 66, 3) := by decide +kernel
theorem dX0_with_46 : decode cX0_with 46 = .ok (.invokevirtual 93, 3) := by decide +kernel
theorem dX0_with_49 : decode cX0_with 49 = .ok (.ireturn, 1) := by decide +kernel
theorem dX0_settled_0 : decode cX0_settled 0 = .ok (.aload_n 0, 1) := by decide +kernel
theorem dX0_settled_1 : decode cX0_settled 1 = .ok (.iload_n 1, 1) := by decide +kernel
theorem dX0_settled_2 : decode cX0_settled 2 = .ok (.invokevirtual 37, 3) := by decide +kernel
theorem dX0_settled_5 : decode cX0_settled 5 = .ok (.ifCond .eq 5, 3) := by decide +kernel
theorem dX0_settled_8 : decode cX0_settled 8 = .ok (.iconst 0, 1) := by decide +kernel
theorem dX0_settled_9 : decode cX0_settled 9 = .ok (.ireturn, 1) := by decide +kernel
theorem dX0_settled_10 : decode cX0_settled 10 = .ok (.aload_n 0, 1) := by decide +kernel
theorem dX0_settled_11 : decode cX0_settled 11 = .ok (.invokevirtual 99, 3) := by decide +kernel
theorem dX0_settled_14 : decode cX0_settled 14 = .ok (.istore_n 2, 1) := by decide +kernel
theorem dX0_settled_15 : decode cX0_settled 15 = .ok (.iconst 0, 1) := by decide +kernel
theorem dX0_settled_16 : decode cX0_settled 16 = .ok (.istore_n 3, 1) := by decide +kernel
theorem dX0_settled_17 : decode cX0_settled 17 = .ok (.iconst 0, 1) := by decide +kernel
theorem dX0_settled_18 : decode cX0_settled 18 = .ok (.istore 4, 2) := by decide +kernel
theorem dX0_settled_20 : decode cX0_settled 20 = .ok (.iload 4, 2) := by decide +kernel
theorem dX0_settled_22 : decode cX0_settled 22 = .ok (.iconst 3, 1) := by decide +kernel
theorem dX0_settled_23 : decode cX0_settled 23 = .ok (.if_icmp .ge 32, 3) := by decide +kernel
theorem dX0_settled_26 : decode cX0_settled 26 = .ok (.aload_n 0, 1) := by decide +kernel
theorem dX0_settled_27 : decode cX0_settled 27 = .ok (.iload_n 1, 1) := by decide +kernel
theorem dX0_settled_28 : decode cX0_settled 28 = .ok (.iload 4, 2) := by decide +kernel
theorem dX0_settled_30 : decode cX0_settled 30 = .ok (.invokevirtual 103, 3) := by decide +kernel
theorem dX0_settled_33 : decode cX0_settled 33 = .ok (.istore 5, 2) := by decide +kernel
theorem dX0_settled_35 : decode cX0_settled 35 = .ok (.iload 5, 2) := by decide +kernel
theorem dX0_settled_37 : decode cX0_settled 37 = .ok (.iload_n 2, 1) := by decide +kernel
theorem dX0_settled_38 : decode cX0_settled 38 = .ok (.if_icmp .ne 11, 3) := by decide +kernel
theorem dX0_settled_41 : decode cX0_settled 41 = .ok (.iload 5, 2) := by decide +kernel
theorem dX0_settled_43 : decode cX0_settled 43 = .ok (.ifCond .lt 6, 3) := by decide +kernel
theorem dX0_settled_46 : decode cX0_settled 46 = .ok (.iinc 3 1, 3) := by decide +kernel
theorem dX0_settled_49 : decode cX0_settled 49 = .ok (.iinc 4 1, 3) := by decide +kernel
theorem dX0_settled_52 : decode cX0_settled 52 = .ok (.goto (-32), 3) := by decide +kernel
theorem dX0_settled_55 : decode cX0_settled 55 = .ok (.iload_n 3, 1) := by decide +kernel
theorem dX0_settled_56 : decode cX0_settled 56 = .ok (.iconst 1, 1) := by decide +kernel
theorem dX0_settled_57 : decode cX0_settled 57 = .ok (.if_icmp .ne 7, 3) := by decide +kernel
theorem dX0_settled_60 : decode cX0_settled 60 = .ok (.iconst 1, 1) := by decide +kernel
theorem dX0_settled_61 : decode cX0_settled 61 = .ok (.goto 4, 3) := by decide +kernel
theorem dX0_settled_64 : decode cX0_settled 64 = .ok (.iconst 0, 1) := by decide +kernel
theorem dX0_settled_65 : decode cX0_settled 65 = .ok (.ireturn, 1) := by decide +kernel
theorem dX0_second_0 : decode cX0_second 0 = .ok (.aload_n 0, 1) := by decide +kernel
theorem dX0_second_1 : decode cX0_second 1 = .ok (.invokevirtual 90, 3) := by decide +kernel
theorem dX0_second_4 : decode cX0_second 4 = .ok (.aload_n 0, 1) := by decide +kernel
theorem dX0_second_5 : decode cX0_second 5 = .ok (.getfield 16, 3) := by decide +kernel
theorem dX0_second_8 : decode cX0_second 8 = .ok (.iconst 0, 1) := by decide +kernel
theorem dX0_second_9 : decode cX0_second 9 = .ok (.iaload, 1) := by decide +kernel
theorem dX0_second_10 : decode cX0_second 10 = .ok (.ldc 51, 2) := by decide +kernel
theorem dX0_second_12 : decode cX0_second 12 = .ok (.if_icmp .lt 6, 3) := by decide +kernel
theorem dX0_second_15 : decode cX0_second 15 = .ok (.bipush (-4), 2) := by decide +kernel
theorem dX0_second_17 : decode cX0_second 17 = .ok (.ireturn, 1) := by decide +kernel
theorem dX0_second_18 : decode cX0_second 18 = .ok (.ldc 51, 2) := by decide +kernel
theorem dX0_second_20 : decode cX0_second 20 = .ok (.istore_n 1, 1) := by decide +kernel
theorem dX0_second_21 : decode cX0_second 21 = .ok (.iconst 0, 1) := by decide +kernel
theorem dX0_second_22 : decode cX0_second 22 = .ok (.istore_n 2, 1) := by decide +kernel
theorem dX0_second_23 : decode cX0_second 23 = .ok (.iload_n 2, 1) := by decide +kernel
theorem dX0_second_24 : decode cX0_second 24 = .ok (.bipush 6, 2) := by decide +kernel
theorem dX0_second_26 : decode cX0_second 26 = .ok (.if_icmp .ge 81, 3) := by decide +kernel
theorem dX0_second_29 : decode cX0_second 29 = .ok (.aload_n 0, 1) := by decide +kernel
theorem dX0_second_30 : decode cX0_second 30 = .ok (.invokevirtual 84, 3) := by decide +kernel
theorem dX0_second_33 : decode cX0_second 33 = .ok (.iconst 0, 1) := by decide +kernel
theorem dX0_second_34 : decode cX0_second 34 = .ok (.istore_n 3, 1) := by decide +kernel
theorem dX0_second_35 : decode cX0_second 35 = .ok (.iload_n 3, 1) := by decide +kernel
theorem dX0_second_36 : decode cX0_second 36 = .ok (.iload_n 2, 1) := by decide +kernel
theorem dX0_second_37 : decode cX0_second 37 = .ok (.if_icmp .ge 23, 3) := by decide +kernel
theorem dX0_second_40 : decode cX0_second 40 = .ok (.aload_n 0, 1) := by decide +kernel
theorem dX0_second_41 : decode cX0_second 41 = .ok (.getfield 19, 3) := by decide +kernel
theorem dX0_second_44 : decode cX0_second 44 = .ok (.iload_n 3, 1) := by decide +kernel
theorem dX0_second_45 : decode cX0_second 45 = .ok (.iconst 1, 1) := by decide +kernel
theorem dX0_second_46 : decode cX0_second 46 = .ok (.aload_n 0, 1) := by decide +kernel
theorem dX0_second_47 : decode cX0_second 47 = .ok (.getfield 34, 3) := by decide +kernel
theorem dX0_second_50 : decode cX0_second 50 = .ok (.iload_n 3, 1) := by decide +kernel
theorem dX0_second_51 : decode cX0_second 51 = .ok (.iaload, 1) := by decide +kernel
theorem dX0_second_52 : decode cX0_second 52 = .ok (.ishl, 1) := by decide +kernel
theorem dX0_second_53 : decode cX0_second 53 = .ok (.iastore, 1) := by decide +kernel
theorem dX0_second_54 : decode cX0_second 54 = .ok (.iinc 3 1, 3) := by decide +kernel
theorem dX0_second_57 : decode cX0_second 57 = .ok (.goto (-22), 3) := by decide +kernel
theorem dX0_second_60 : decode cX0_second 60 = .ok (.aload_n 0, 1) := by decide +kernel
theorem dX0_second_61 : decode cX0_second 61 = .ok (.getfield 19, 3) := by decide +kernel
theorem dX0_second_64 : decode cX0_second 64 = .ok (.iload_n 2, 1) := by decide +kernel
theorem dX0_second_65 : decode cX0_second 65 = .ok (.bipush 7, 2) := by decide +kernel
theorem dX0_second_67 : decode cX0_second 67 = .ok (.iconst 1, 1) := by decide +kernel
theorem dX0_second_68 : decode cX0_second 68 = .ok (.aload_n 0, 1) := by decide +kernel
theorem dX0_second_69 : decode cX0_second 69 = .ok (.getfield 34, 3) := by decide +kernel
theorem dX0_second_72 : decode cX0_second 72 = .ok (.iload_n 2, 1) := by decide +kernel
theorem dX0_second_73 : decode cX0_second 73 = .ok (.iaload, 1) := by decide +kernel
theorem dX0_second_74 : decode cX0_second 74 = .ok (.ishl, 1) := by decide +kernel
theorem dX0_second_75 : decode cX0_second 75 = .ok (.iconst (-1), 1) := by decide +kernel
theorem dX0_second_76 : decode cX0_second 76 = .ok (.ixor, 1) := by decide +kernel
theorem dX0_second_77 : decode cX0_second 77 = .ok (.iand, 1) := by decide +kernel
theorem dX0_second_78 : decode cX0_second 78 = .ok (.iastore, 1) := by decide +kernel
theorem dX0_second_79 : decode cX0_second 79 = .ok (.aload_n 0, 1) := by decide +kernel
theorem dX0_second_80 : decode cX0_second 80 = .ok (.iconst 0, 1) := by decide +kernel
theorem dX0_second_81 : decode cX0_second 81 = .ok (.invokevirtual 87, 3) := by decide +kernel
theorem dX0_second_84 : decode cX0_second 84 = .ok (.aload_n 0, 1) := by decide +kernel
theorem dX0_second_85 : decode cX0_second 85 = .ok (.getfield 66, 3) := by decide +kernel
theorem dX0_second_88 : decode cX0_second 88 = .ok (.iload_n 1, 1) := by decide +kernel
theorem dX0_second_89 : decode cX0_second 89 = .ok (.if_icmp .ge 10, 3) := by decide +kernel
theorem dX0_second_92 : decode cX0_second 92 = .ok (.aload_n 0, 1) := by decide +kernel
theorem dX0_second_93 : decode cX0_second 93 = .ok (.getfield 66, 3) := by decide +kernel
theorem dX0_second_96 : decode cX0_second 96 = .ok (.goto 4, 3) := by decide +kernel
theorem dX0_second_99 : decode cX0_second 99 = .ok (.iload_n 1, 1) := by decide +kernel
theorem dX0_second_100 : decode cX0_second 100 = .ok (.istore_n 1, 1) := by decide +kernel
theorem dX0_second_101 : decode cX0_second 101 = .ok (.iinc 2 1, 3) := by decide +kernel
theorem dX0_second_104 : decode cX0_second 104 = .ok (.goto (-81), 3) := by decide +kernel
theorem dX0_second_107 : decode cX0_second 107 = .ok (.aload_n 0, 1) := by decide +kernel
theorem dX0_second_108 : decode cX0_second 108 = .ok (.iload_n 1, 1) := by decide +kernel
theorem dX0_second_109 : decode cX0_second 109 = .ok (.invokevirtual 93, 3) := by decide +kernel
theorem dX0_second_112 : decode cX0_second 112 = .ok (.ireturn, 1) := by decide +kernel
theorem dX0_zigzag_0 : decode cX0_zigzag 0 = .ok (.aload_n 0, 1) := by decide +kernel
theorem dX0_zigzag_1 : decode cX0_zigzag 1 = .ok (.invokevirtual 90, 3) := by decide +kernel
theorem dX0_zigzag_4 : decode cX0_zigzag 4 = .ok (.aload_n 0, 1) := by decide +kernel
theorem dX0_zigzag_5 : decode cX0_zigzag 5 = .ok (.invokevirtual 84, 3) := by decide +kernel
theorem dX0_zigzag_8 : decode cX0_zigzag 8 = .ok (.aload_n 0, 1) := by decide +kernel
theorem dX0_zigzag_9 : decode cX0_zigzag 9 = .ok (.iconst 1, 1) := by decide +kernel
theorem dX0_zigzag_10 : decode cX0_zigzag 10 = .ok (.putfield 52, 3) := by decide +kernel
theorem dX0_zigzag_13 : decode cX0_zigzag 13 = .ok (.aload_n 0, 1) := by decide +kernel
theorem dX0_zigzag_14 : decode cX0_zigzag 14 = .ok (.iconst 0, 1) := by decide +kernel
theorem dX0_zigzag_15 : decode cX0_zigzag 15 = .ok (.invokevirtual 87, 3) := by decide +kernel
theorem dX0_zigzag_18 : decode cX0_zigzag 18 = .ok (.aload_n 0, 1) := by decide +kernel
theorem dX0_zigzag_19 : decode cX0_zigzag 19 = .ok (.aload_n 0, 1) := by decide +kernel
theorem dX0_zigzag_20 : decode cX0_zigzag 20 = .ok (.getfield 66, 3) := by decide +kernel
theorem dX0_zigzag_23 : decode cX0_zigzag 23 = .ok (.invokevirtual 93, 3) := by decide +kernel
theorem dX0_zigzag_26 : decode cX0_zigzag 26 = .ok (.ireturn, 1) := by decide +kernel
end
section
set_option maxRecDepth 100000
theorem dX1_init_0 : decode cX1_init 0 = .ok (.aload_n 0, 1) := by decide +kernel
theorem dX1_init_1 : decode cX1_init 1 = .ok (.invokespecial 1, 3) := by decide +kernel
theorem dX1_init_4 : decode cX1_init 4 = .ok (.aload_n 0, 1) := by decide +kernel
theorem dX1_init_5 : decode cX1_init 5 = .ok (.bipush 18, 2) := by decide +kernel
theorem dX1_init_7 : decode cX1_init 7 = .ok (.newarray .int, 2) := by decide +kernel
theorem dX1_init_9 : decode cX1_init 9 = .ok (.putfield 7, 3) := by decide +kernel
theorem dX1_init_12 : decode cX1_init 12 = .ok (.aload_n 0, 1) := by decide +kernel
theorem dX1_init_13 : decode cX1_init 13 = .ok (.sipush 324, 3) := by decide +kernel
theorem dX1_init_16 : decode cX1_init 16 = .ok (.newarray .int, 2) := by decide +kernel
theorem dX1_init_18 : decode cX1_init 18 = .ok (.putfield 13, 3) := by decide +kernel
theorem dX1_init_21 : decode cX1_init 21 = .ok (.return_, 1) := by decide +kernel
theorem dX1_own_0 : decode cX1_own 0 = .ok (.aload_n 0, 1) := by decide +kernel
theorem dX1_own_1 : decode cX1_own 1 = .ok (.iload_n 1, 1) := by decide +kernel
theorem dX1_own_2 : decode cX1_own 2 = .ok (.invokevirtual 16, 3) := by decide +kernel
theorem dX1_own_5 : decode cX1_own 5 = .ok (.ifCond .eq 19, 3) := by decide +kernel
theorem dX1_own_8 : decode cX1_own 8 = .ok (.aload_n 0, 1) := by decide +kernel
theorem dX1_own_9 : decode cX1_own 9 = .ok (.iload_n 2, 1) := by decide +kernel
theorem dX1_own_10 : decode cX1_own 10 = .ok (.invokevirtual 20, 3) := by decide +kernel
theorem dX1_own_13 : decode cX1_own 13 = .ok (.ifCond .eq 11, 3) := by decide +kernel
theorem dX1_own_16 : decode cX1_own 16 = .ok (.aload_n 0, 1) := by decide +kernel
theorem dX1_own_17 : decode cX1_own 17 = .ok (.iload_n 3, 1) := by decide +kernel
theorem dX1_own_18 : decode cX1_own 18 = .ok (.invokevirtual 23, 3) := by decide +kernel
theorem dX1_own_21 : decode cX1_own 21 = .ok (.ifCond .ne 5, 3) := by decide +kernel
theorem dX1_own_24 : decode cX1_own 24 = .ok (.iconst (-1), 1) := by decide +kernel
theorem dX1_own_25 : decode cX1_own 25 = .ok (.ireturn, 1) := by decide +kernel
theorem dX1_own_26 : decode cX1_own 26 = .ok (.aload_n 0, 1) := by decide +kernel
theorem dX1_own_27 : decode cX1_own 27 = .ok (.getfield 7, 3) := by decide +kernel
theorem dX1_own_30 : decode cX1_own 30 = .ok (.iconst 3, 1) := by decide +kernel
theorem dX1_own_31 : decode cX1_own 31 = .ok (.iload_n 1, 1) := by decide +kernel
theorem dX1_own_32 : decode cX1_own 32 = .ok (.imul, 1) := by decide +kernel
theorem dX1_own_33 : decode cX1_own 33 = .ok (.iload_n 2, 1) := by decide +kernel
theorem dX1_own_34 : decode cX1_own 34 = .ok (.iadd, 1) := by decide +kernel
theorem dX1_own_35 : decode cX1_own 35 = .ok (.iaload, 1) := by decide +kernel
theorem dX1_own_36 : decode cX1_own 36 = .ok (.istore 4, 2) := by decide +kernel
theorem dX1_own_38 : decode cX1_own 38 = .ok (.aload_n 0, 1) := by decide +kernel
theorem dX1_own_39 : decode cX1_own 39 = .ok (.getfield 7, 3) := by decide +kernel
theorem dX1_own_42 : decode cX1_own 42 = .ok (.iconst 3, 1) := by decide +kernel
theorem dX1_own_43 : decode cX1_own 43 = .ok (.iload_n 1, 1) := by decide +kernel
theorem dX1_own_44 : decode cX1_own 44 = .ok (.imul, 1) := by decide +kernel
theorem dX1_own_45 : decode cX1_own 45 = .ok (.iload_n 2, 1) := by decide +kernel
theorem dX1_own_46 : decode cX1_own 46 = .ok (.iadd, 1) := by decide +kernel
theorem dX1_own_47 : decode cX1_own 47 = .ok (.iload_n 3, 1) := by decide +kernel
theorem dX1_own_48 : decode cX1_own 48 = .ok (.iastore, 1) := by decide +kernel
theorem dX1_own_49 : decode cX1_own 49 = .ok (.iload 4, 2) := by decide +kernel
theorem dX1_own_51 : decode cX1_own 51 = .ok (.ireturn, 1) := by decide +kernel
theorem dX1_isVariable_0 : decode cX1_isVariable 0 = .ok (.iload_n 1, 1) := by decide +kernel
theorem dX1_isVariable_1 : decode cX1_isVariable 1 = .ok (.ifCond .lt 12, 3) := by decide +kernel
theorem dX1_isVariable_4 : decode cX1_isVariable 4 = .ok (.iload_n 1, 1) := by decide +kernel
theorem dX1_isVariable_5 : decode cX1_isVariable 5 = .ok (.iconst 5, 1) := by decide +kernel
theorem dX1_isVariable_6 : decode cX1_isVariable 6 = .ok (.if_icmp .gt 7, 3) := by decide +kernel
theorem dX1_isVariable_9 : decode cX1_isVariable 9 = .ok (.iconst 1, 1) := by decide +kernel
theorem dX1_isVariable_10 : decode cX1_isVariable 10 = .ok (.goto 4, 3) := by decide +kernel
theorem dX1_isVariable_13 : decode cX1_isVariable 13 = .ok (.iconst 0, 1) := by decide +kernel
theorem dX1_isVariable_14 : decode cX1_isVariable 14 = .ok (.ireturn, 1) := by decide +kernel
theorem dX1_isValue_0 : decode cX1_isValue 0 = .ok (.iload_n 1, 1) := by decide +kernel
theorem dX1_isValue_1 : decode cX1_isValue 1 = .ok (.ifCond .lt 12, 3) := by decide +kernel
theorem dX1_isValue_4 : decode cX1_isValue 4 = .ok (.iload_n 1, 1) := by decide +kernel
theorem dX1_isValue_5 : decode cX1_isValue 5 = .ok (.iconst 2, 1) := by decide +kernel
theorem dX1_isValue_6 : decode cX1_isValue 6 = .ok (.if_icmp .gt 7, 3) := by decide +kernel
theorem dX1_isValue_9 : decode cX1_isValue 9 = .ok (.iconst 1, 1) := by decide +kernel
theorem dX1_isValue_10 : decode cX1_isValue 10 = .ok (.goto 4, 3) := by decide +kernel
theorem dX1_isValue_13 : decode cX1_isValue 13 = .ok (.iconst 0, 1) := by decide +kernel
theorem dX1_isValue_14 : decode cX1_isValue 14 = .ok (.ireturn, 1) := by decide +kernel
theorem dX1_isCost_0 : decode cX1_isCost 0 = .ok (.iload_n 1, 1) := by decide +kernel
theorem dX1_isCost_1 : decode cX1_isCost 1 = .ok (.ifCond .lt 9, 3) := by decide +kernel
theorem dX1_isCost_4 : decode cX1_isCost 4 = .ok (.iload_n 1, 1) := by decide +kernel
theorem dX1_isCost_5 : decode cX1_isCost 5 = .ok (.bipush 30, 2) := by decide +kernel
theorem dX1_isCost_7 : decode cX1_isCost 7 = .ok (.if_icmp .le 9, 3) := by decide +kernel
theorem dX1_isCost_10 : decode cX1_isCost 10 = .ok (.iload_n 1, 1) := by decide +kernel
theorem dX1_isCost_11 : decode cX1_isCost 11 = .ok (.bipush 99, 2) := by decide +kernel
theorem dX1_isCost_13 : decode cX1_isCost 13 = .ok (.if_icmp .ne 7, 3) := by decide +kernel
theorem dX1_isCost_16 : decode cX1_isCost 16 = .ok (.iconst 1, 1) := by decide +kernel
theorem dX1_isCost_17 : decode cX1_isCost 17 = .ok (.goto 4, 3) := by decide +kernel
theorem dX1_isCost_20 : decode cX1_isCost 20 = .ok (.iconst 0, 1) := by decide +kernel
theorem dX1_isCost_21 : decode cX1_isCost 21 = .ok (.ireturn, 1) := by decide +kernel
theorem dX1_pair_0 : decode cX1_pair 0 = .ok (.aload_n 0, 1) := by decide +kernel
theorem dX1_pair_1 : decode cX1_pair 1 = .ok (.iload_n 1, 1) := by decide +kernel
theorem dX1_pair_2 : decode cX1_pair 2 = .ok (.invokevirtual 26, 3) := by decide +kernel
theorem dX1_pair_5 : decode cX1_pair 5 = .ok (.ifCond .eq 21, 3) := by decide +kernel
theorem dX1_pair_8 : decode cX1_pair 8 = .ok (.iload_n 2, 1) := by decide +kernel
theorem dX1_pair_9 : decode cX1_pair 9 = .ok (.ifCond .lt 17, 3) := by decide +kernel
theorem dX1_pair_12 : decode cX1_pair 12 = .ok (.iload_n 2, 1) := by decide +kernel
theorem dX1_pair_13 : decode cX1_pair 13 = .ok (.bipush 8, 2) := by decide +kernel
theorem dX1_pair_15 : decode cX1_pair 15 = .ok (.if_icmp .gt 11, 3) := by decide +kernel
theorem dX1_pair_18 : decode cX1_pair 18 = .ok (.aload_n 0, 1) := by decide +kernel
theorem dX1_pair_19 : decode cX1_pair 19 = .ok (.iload_n 3, 1) := by decide +kernel
theorem dX1_pair_20 : decode cX1_pair 20 = .ok (.invokevirtual 23, 3) := by decide +kernel
theorem dX1_pair_23 : decode cX1_pair 23 = .ok (.ifCond .ne 5, 3) := by decide +kernel
theorem dX1_pair_26 : decode cX1_pair 26 = .ok (.iconst (-1), 1) := by decide +kernel
theorem dX1_pair_27 : decode cX1_pair 27 = .ok (.ireturn, 1) := by decide +kernel
theorem dX1_pair_28 : decode cX1_pair 28 = .ok (.aload_n 0, 1) := by decide +kernel
theorem dX1_pair_29 : decode cX1_pair 29 = .ok (.getfield 13, 3) := by decide +kernel
theorem dX1_pair_32 : decode cX1_pair 32 = .ok (.bipush 9, 2) := by decide +kernel
theorem dX1_pair_34 : decode cX1_pair 34 = .ok (.iload_n 1, 1) := by decide +kernel
theorem dX1_pair_35 : decode cX1_pair 35 = .ok (.imul, 1) := by decide +kernel
theorem dX1_pair_36 : decode cX1_pair 36 = .ok (.iload_n 2, 1) := by decide +kernel
theorem dX1_pair_37 : decode cX1_pair 37 = .ok (.iadd, 1) := by decide +kernel
theorem dX1_pair_38 : decode cX1_pair 38 = .ok (.iaload, 1) := by decide +kernel
theorem dX1_pair_39 : decode cX1_pair 39 = .ok (.istore 4, 2) := by decide +kernel
theorem dX1_pair_41 : decode cX1_pair 41 = .ok (.aload_n 0, 1) := by decide +kernel
theorem dX1_pair_42 : decode cX1_pair 42 = .ok (.getfield 13, 3) := by decide +kernel
theorem dX1_pair_45 : decode cX1_pair 45 = .ok (.bipush 9, 2) := by decide +kernel
theorem dX1_pair_47 : decode cX1_pair 47 = .ok (.iload_n 1, 1) := by decide +kernel
theorem dX1_pair_48 : decode cX1_pair 48 = .ok (.imul, 1) := by decide +kernel
theorem dX1_pair_49 : decode cX1_pair 49 = .ok (.iload_n 2, 1) := by decide +kernel
theorem dX1_pair_50 : decode cX1_pair 50 = .ok (.iadd, 1) := by decide +kernel
theorem dX1_pair_51 : decode cX1_pair 51 = .ok (.iload_n 3, 1) := by decide +kernel
theorem dX1_pair_52 : decode cX1_pair 52 = .ok (.iastore, 1) := by decide +kernel
theorem dX1_pair_53 : decode cX1_pair 53 = .ok (.iload 4, 2) := by decide +kernel
theorem dX1_pair_55 : decode cX1_pair 55 = .ok (.ireturn, 1) := by decide +kernel
theorem dX1_isPair_0 : decode cX1_isPair 0 = .ok (.iload_n 1, 1) := by decide +kernel
theorem dX1_isPair_1 : decode cX1_isPair 1 = .ok (.ifCond .lt 24, 3) := by decide +kernel
theorem dX1_isPair_4 : decode cX1_isPair 4 = .ok (.iload_n 1, 1) := by decide +kernel
theorem dX1_isPair_5 : decode cX1_isPair 5 = .ok (.bipush 35, 2) := by decide +kernel
theorem dX1_isPair_7 : decode cX1_isPair 7 = .ok (.if_icmp .gt 18, 3) := by decide +kernel
theorem dX1_isPair_10 : decode cX1_isPair 10 = .ok (.iload_n 1, 1) := by decide +kernel
theorem dX1_isPair_11 : decode cX1_isPair 11 = .ok (.bipush 6, 2) := by decide +kernel
theorem dX1_isPair_13 : decode cX1_isPair 13 = .ok (.idiv, 1) := by decide +kernel
theorem dX1_isPair_14 : decode cX1_isPair 14 = .ok (.iload_n 1, 1) := by decide +kernel
theorem dX1_isPair_15 : decode cX1_isPair 15 = .ok (.bipush 6, 2) := by decide +kernel
theorem dX1_isPair_17 : decode cX1_isPair 17 = .ok (.irem, 1) := by decide +kernel
theorem dX1_isPair_18 : decode cX1_isPair 18 = .ok (.if_icmp .ge 7, 3) := by decide +kernel
theorem dX1_isPair_21 : decode cX1_isPair 21 = .ok (.iconst 1, 1) := by decide +kernel
theorem dX1_isPair_22 : decode cX1_isPair 22 = .ok (.goto 4, 3) := by decide +kernel
theorem dX1_isPair_25 : decode cX1_isPair 25 = .ok (.iconst 0, 1) := by decide +kernel
theorem dX1_isPair_26 : decode cX1_isPair 26 = .ok (.ireturn, 1) := by decide +kernel
theorem dX1_relate_0 : decode cX1_relate 0 = .ok (.aload_n 0, 1) := by decide +kernel
theorem dX1_relate_1 : decode cX1_relate 1 = .ok (.iload_n 1, 1) := by decide +kernel
theorem dX1_relate_2 : decode cX1_relate 2 = .ok (.invokevirtual 26, 3) := by decide +kernel
theorem dX1_relate_5 : decode cX1_relate 5 = .ok (.ifCond .eq 11, 3) := by decide +kernel
theorem dX1_relate_8 : decode cX1_relate 8 = .ok (.aload_n 0, 1) := by decide +kernel
theorem dX1_relate_9 : decode cX1_relate 9 = .ok (.iload_n 3, 1) := by decide +kernel
theorem dX1_relate_10 : decode cX1_relate 10 = .ok (.invokevirtual 23, 3) := by decide +kernel
theorem dX1_relate_13 : decode cX1_relate 13 = .ok (.ifCond .ne 5, 3) := by decide +kernel
theorem dX1_relate_16 : decode cX1_relate 16 = .ok (.iconst (-1), 1) := by decide +kernel
theorem dX1_relate_17 : decode cX1_relate 17 = .ok (.ireturn, 1) := by decide +kernel
theorem dX1_relate_18 : decode cX1_relate 18 = .ok (.iconst 0, 1) := by decide +kernel
theorem dX1_relate_19 : decode cX1_relate 19 = .ok (.istore 4, 2) := by decide +kernel
theorem dX1_relate_21 : decode cX1_relate 21 = .ok (.iload 4, 2) := by decide +kernel
theorem dX1_relate_23 : decode cX1_relate 23 = .ok (.bipush 9, 2) := by decide +kernel
theorem dX1_relate_25 : decode cX1_relate 25 = .ok (.if_icmp .ge 54, 3) := by decide +kernel
theorem dX1_relate_28 : decode cX1_relate 28 = .ok (.iload 4, 2) := by decide +kernel
theorem dX1_relate_30 : decode cX1_relate 30 = .ok (.iconst 3, 1) := by decide +kernel
theorem dX1_relate_31 : decode cX1_relate 31 = .ok (.idiv, 1) := by decide +kernel
theorem dX1_relate_32 : decode cX1_relate 32 = .ok (.iload 4, 2) := by decide +kernel
theorem dX1_relate_34 : decode cX1_relate 34 = .ok (.iconst 3, 1) := by decide +kernel
theorem dX1_relate_35 : decode cX1_relate 35 = .ok (.irem, 1) := by decide +kernel
theorem dX1_relate_36 : decode cX1_relate 36 = .ok (.if_icmp .ne 7, 3) := by decide +kernel
theorem dX1_relate_39 : decode cX1_relate 39 = .ok (.iconst 1, 1) := by decide +kernel
theorem dX1_relate_40 : decode cX1_relate 40 = .ok (.goto 4, 3) := by decide +kernel
theorem dX1_relate_43 : decode cX1_relate 43 = .ok (.iconst 0, 1) := by decide +kernel
theorem dX1_relate_44 : decode cX1_relate 44 = .ok (.istore 5, 2) := by decide +kernel
theorem dX1_relate_46 : decode cX1_relate 46 = .ok (.iload 5, 2) := by decide +kernel
theorem dX1_relate_48 : decode cX1_relate 48 = .ok (.iload_n 2, 1) := by decide +kernel
theorem dX1_relate_49 : decode cX1_relate 49 = .ok (.ifCond .eq 7, 3) := by decide +kernel
theorem dX1_relate_52 : decode cX1_relate 52 = .ok (.iconst 1, 1) := by decide +kernel
theorem dX1_relate_53 : decode cX1_relate 53 = .ok (.goto 4, 3) := by decide +kernel
theorem dX1_relate_56 : decode cX1_relate 56 = .ok (.iconst 0, 1) := by decide +kernel
theorem dX1_relate_57 : decode cX1_relate 57 = .ok (.if_icmp .ne 16, 3) := by decide +kernel
theorem dX1_relate_60 : decode cX1_relate 60 = .ok (.aload_n 0, 1) := by decide +kernel
theorem dX1_relate_61 : decode cX1_relate 61 = .ok (.getfield 13, 3) := by decide +kernel
theorem dX1_relate_64 : decode cX1_relate 64 = .ok (.bipush 9, 2) := by decide +kernel
theorem dX1_relate_66 : decode cX1_relate 66 = .ok (.iload_n 1, 1) := by decide +kernel
theorem dX1_relate_67 : decode cX1_relate 67 = .ok (.imul, 1) := by decide +kernel
theorem dX1_relate_68 : decode cX1_relate 68 = .ok (.iload 4, 2) := by decide +kernel
theorem dX1_relate_70 : decode cX1_relate 70 = .ok (.iadd, 1) := by decide +kernel
theorem dX1_relate_71 : decode cX1_relate 71 = .ok (.iload_n 3, 1) := by decide +kernel
theorem dX1_relate_72 : decode cX1_relate 72 = .ok (.iastore, 1) := by decide +kernel
theorem dX1_relate_73 : decode cX1_relate 73 = .ok (.iinc 4 1, 3) := by decide +kernel
theorem dX1_relate_76 : decode cX1_relate 76 = .ok (.goto (-55), 3) := by decide +kernel
theorem dX1_relate_79 : decode cX1_relate 79 = .ok (.iconst 0, 1) := by decide +kernel
theorem dX1_relate_80 : decode cX1_relate 80 = .ok (.ireturn, 1) := by decide +kernel
theorem dX1_clear_0 : decode cX1_clear 0 = .ok (.iconst 0, 1) := by decide +kernel
theorem dX1_clear_1 : decode cX1_clear 1 = .ok (.istore_n 1, 1) := by decide +kernel
theorem dX1_clear_2 : decode cX1_clear 2 = .ok (.iload_n 1, 1) := by decide +kernel
theorem dX1_clear_3 : decode cX1_clear 3 = .ok (.bipush 18, 2) := by decide +kernel
theorem dX1_clear_5 : decode cX1_clear 5 = .ok (.if_icmp .ge 16, 3) := by decide +kernel
theorem dX1_clear_8 : decode cX1_clear 8 = .ok (.aload_n 0, 1) := by decide +kernel
theorem dX1_clear_9 : decode cX1_clear 9 = .ok (.getfield 7, 3) := by decide +kernel
theorem dX1_clear_12 : decode cX1_clear 12 = .ok (.iload_n 1, 1) := by decide +kernel
theorem dX1_clear_13 : decode cX1_clear 13 = .ok (.iconst 0, 1) := by decide +kernel
theorem dX1_clear_14 : decode cX1_clear 14 = .ok (.iastore, 1) := by decide +kernel
theorem dX1_clear_15 : decode cX1_clear 15 = .ok (.iinc 1 1, 3) := by decide +kernel
theorem dX1_clear_18 : decode cX1_clear 18 = .ok (.goto (-16), 3) := by decide +kernel
theorem dX1_clear_21 : decode cX1_clear 21 = .ok (.iconst 0, 1) := by decide +kernel
theorem dX1_clear_22 : decode cX1_clear 22 = .ok (.istore_n 1, 1) := by decide +kernel
theorem dX1_clear_23 : decode cX1_clear 23 = .ok (.iload_n 1, 1) := by decide +kernel
theorem dX1_clear_24 : decode cX1_clear 24 = .ok (.sipush 324, 3) := by decide +kernel
theorem dX1_clear_27 : decode cX1_clear 27 = .ok (.if_icmp .ge 16, 3) := by decide +kernel
theorem dX1_clear_30 : decode cX1_clear 30 = .ok (.aload_n 0, 1) := by decide +kernel
theorem dX1_clear_31 : decode cX1_clear 31 = .ok (.getfield 13, 3) := by decide +kernel
theorem dX1_clear_34 : decode cX1_clear 34 = .ok (.iload_n 1, 1) := by decide +kernel
theorem dX1_clear_35 : decode cX1_clear 35 = .ok (.iconst 0, 1) := by decide +kernel
theorem dX1_clear_36 : decode cX1_clear 36 = .ok (.iastore, 1) := by decide +kernel
theorem dX1_clear_37 : decode cX1_clear 37 = .ok (.iinc 1 1, 3) := by decide +kernel
theorem dX1_clear_40 : decode cX1_clear 40 = .ok (.goto (-17), 3) := by decide +kernel
theorem dX1_clear_43 : decode cX1_clear 43 = .ok (.return_, 1) := by decide +kernel
theorem dX1_doll_0 : decode cX1_doll 0 = .ok (.aload_n 0, 1) := by decide +kernel
theorem dX1_doll_1 : decode cX1_doll 1 = .ok (.iload_n 1, 1) := by decide +kernel
theorem dX1_doll_2 : decode cX1_doll 2 = .ok (.invokevirtual 16, 3) := by decide +kernel
theorem dX1_doll_5 : decode cX1_doll 5 = .ok (.ifCond .ne 5, 3) := by decide +kernel
theorem dX1_doll_8 : decode cX1_doll 8 = .ok (.iconst (-1), 1) := by decide +kernel
theorem dX1_doll_9 : decode cX1_doll 9 = .ok (.ireturn, 1) := by decide +kernel
theorem dX1_doll_10 : decode cX1_doll 10 = .ok (.iconst 1, 1) := by decide +kernel
theorem dX1_doll_11 : decode cX1_doll 11 = .ok (.istore_n 2, 1) := by decide +kernel
theorem dX1_doll_12 : decode cX1_doll 12 = .ok (.iload_n 1, 1) := by decide +kernel
theorem dX1_doll_13 : decode cX1_doll 13 = .ok (.istore_n 3, 1) := by decide +kernel
theorem dX1_doll_14 : decode cX1_doll 14 = .ok (.iload_n 3, 1) := by decide +kernel
theorem dX1_doll_15 : decode cX1_doll 15 = .ok (.bipush 6, 2) := by decide +kernel
theorem dX1_doll_17 : decode cX1_doll 17 = .ok (.if_icmp .ge 13, 3) := by decide +kernel
theorem dX1_doll_20 : decode cX1_doll 20 = .ok (.iconst 3, 1) := by decide +kernel
theorem dX1_doll_21 : decode cX1_doll 21 = .ok (.iload_n 2, 1) := by decide +kernel
theorem dX1_doll_22 : decode cX1_doll 22 = .ok (.imul, 1) := by decide +kernel
theorem dX1_doll_23 : decode cX1_doll 23 = .ok (.istore_n 2, 1) := by decide +kernel
theorem dX1_doll_24 : decode cX1_doll 24 = .ok (.iinc 3 1, 3) := by decide +kernel
theorem dX1_doll_27 : decode cX1_doll 27 = .ok (.goto (-13), 3) := by decide +kernel
theorem dX1_doll_30 : decode cX1_doll 30 = .ok (.bipush (-4), 2) := by decide +kernel
theorem dX1_doll_32 : decode cX1_doll 32 = .ok (.istore_n 3, 1) := by decide +kernel
theorem dX1_doll_33 : decode cX1_doll 33 = .ok (.iconst 0, 1) := by decide +kernel
theorem dX1_doll_34 : decode cX1_doll 34 = .ok (.istore 4, 2) := by decide +kernel
theorem dX1_doll_36 : decode cX1_doll 36 = .ok (.iload 4, 2) := by decide +kernel
theorem dX1_doll_38 : decode cX1_doll 38 = .ok (.iload_n 2, 1) := by decide +kernel
theorem dX1_doll_39 : decode cX1_doll 39 = .ok (.if_icmp .ge 35, 3) := by decide +kernel
theorem dX1_doll_42 : decode cX1_doll 42 = .ok (.aload_n 0, 1) := by decide +kernel
theorem dX1_doll_43 : decode cX1_doll 43 = .ok (.iload 4, 2) := by decide +kernel
theorem dX1_doll_45 : decode cX1_doll 45 = .ok (.iload_n 1, 1) := by decide +kernel
theorem dX1_doll_46 : decode cX1_doll 46 = .ok (.invokevirtual 33, 3) := by decide +kernel
theorem dX1_doll_49 : decode cX1_doll 49 = .ok (.istore 5, 2) := by decide +kernel
theorem dX1_doll_51 : decode cX1_doll 51 = .ok (.aload_n 0, 1) := by decide +kernel
theorem dX1_doll_52 : decode cX1_doll 52 = .ok (.iload 5, 2) := by decide +kernel
theorem dX1_doll_54 : decode cX1_doll 54 = .ok (.iload_n 3, 1) := by decide +kernel
theorem dX1_doll_55 : decode cX1_doll 55 = .ok (.invokevirtual 36, 3) := by decide +kernel
theorem dX1_doll_58 : decode cX1_doll 58 = .ok (.ifCond .eq 8, 3) := by decide +kernel
theorem dX1_doll_61 : decode cX1_doll 61 = .ok (.iload 5, 2) := by decide +kernel
theorem dX1_doll_63 : decode cX1_doll 63 = .ok (.goto 4, 3) := by decide +kernel
theorem dX1_doll_66 : decode cX1_doll 66 = .ok (.iload_n 3, 1) := by decide +kernel
theorem dX1_doll_67 : decode cX1_doll 67 = .ok (.istore_n 3, 1) := by decide +kernel
theorem dX1_doll_68 : decode cX1_doll 68 = .ok (.iinc 4 1, 3) := by decide +kernel
theorem dX1_doll_71 : decode cX1_doll 71 = .ok (.goto (-35), 3) := by decide +kernel
theorem dX1_doll_74 : decode cX1_doll 74 = .ok (.iload_n 3, 1) := by decide +kernel
theorem dX1_doll_75 : decode cX1_doll 75 = .ok (.ireturn, 1) := by decide +kernel
theorem dX1_cost_0 : decode cX1_cost 0 = .ok (.iconst 0, 1) := by decide +kernel
theorem dX1_cost_1 : decode cX1_cost 1 = .ok (.istore_n 3, 1) := by decide +kernel
theorem dX1_cost_2 : decode cX1_cost 2 = .ok (.iload_n 2, 1) := by decide +kernel
theorem dX1_cost_3 : decode cX1_cost 3 = .ok (.istore 4, 2) := by decide +kernel
theorem dX1_cost_5 : decode cX1_cost 5 = .ok (.iload 4, 2) := by decide +kernel
theorem dX1_cost_7 : decode cX1_cost 7 = .ok (.bipush 6, 2) := by decide +kernel
theorem dX1_cost_9 : decode cX1_cost 9 = .ok (.if_icmp .ge 122, 3) := by decide +kernel
theorem dX1_cost_12 : decode cX1_cost 12 = .ok (.aload_n 0, 1) := by decide +kernel
theorem dX1_cost_13 : decode cX1_cost 13 = .ok (.iload_n 1, 1) := by decide +kernel
theorem dX1_cost_14 : decode cX1_cost 14 = .ok (.iload 4, 2) := by decide +kernel
theorem dX1_cost_16 : decode cX1_cost 16 = .ok (.invokevirtual 29, 3) := by decide +kernel
theorem dX1_cost_19 : decode cX1_cost 19 = .ok (.istore 5, 2) := by decide +kernel
theorem dX1_cost_21 : decode cX1_cost 21 = .ok (.aload_n 0, 1) := by decide +kernel
theorem dX1_cost_22 : decode cX1_cost 22 = .ok (.getfield 7, 3) := by decide +kernel
theorem dX1_cost_25 : decode cX1_cost 25 = .ok (.iconst 3, 1) := by decide +kernel
theorem dX1_cost_26 : decode cX1_cost 26 = .ok (.iload 4, 2) := by decide +kernel
theorem dX1_cost_28 : decode cX1_cost 28 = .ok (.imul, 1) := by decide +kernel
theorem dX1_cost_29 : decode cX1_cost 29 = .ok (.iload 5, 2) := by decide +kernel
theorem dX1_cost_31 : decode cX1_cost 31 = .ok (.iadd, 1) := by decide +kernel
theorem dX1_cost_32 : decode cX1_cost 32 = .ok (.iaload, 1) := by decide +kernel
theorem dX1_cost_33 : decode cX1_cost 33 = .ok (.bipush 99, 2) := by decide +kernel
theorem dX1_cost_35 : decode cX1_cost 35 = .ok (.if_icmp .ne 6, 3) := by decide +kernel
theorem dX1_cost_38 : decode cX1_cost 38 = .ok (.bipush (-4), 2) := by decide +kernel
theorem dX1_cost_40 : decode cX1_cost 40 = .ok (.ireturn, 1) := by decide +kernel
theorem dX1_cost_41 : decode cX1_cost 41 = .ok (.iload_n 3, 1) := by decide +kernel
theorem dX1_cost_42 : decode cX1_cost 42 = .ok (.aload_n 0, 1) := by decide +kernel
theorem dX1_cost_43 : decode cX1_cost 43 = .ok (.getfield 7, 3) := by decide +kernel
theorem dX1_cost_46 : decode cX1_cost 46 = .ok (.iconst 3, 1) := by decide +kernel
theorem dX1_cost_47 : decode cX1_cost 47 = .ok (.iload 4, 2) := by decide +kernel
theorem dX1_cost_49 : decode cX1_cost 49 = .ok (.imul, 1) := by decide +kernel
theorem dX1_cost_50 : decode cX1_cost 50 = .ok (.iload 5, 2) := by decide +kernel
theorem dX1_cost_52 : decode cX1_cost 52 = .ok (.iadd, 1) := by decide +kernel
theorem dX1_cost_53 : decode cX1_cost 53 = .ok (.iaload, 1) := by decide +kernel
theorem dX1_cost_54 : decode cX1_cost 54 = .ok (.iadd, 1) := by decide +kernel
theorem dX1_cost_55 : decode cX1_cost 55 = .ok (.istore_n 3, 1) := by decide +kernel
theorem dX1_cost_56 : decode cX1_cost 56 = .ok (.iload 4, 2) := by decide +kernel
theorem dX1_cost_58 : decode cX1_cost 58 = .ok (.iconst 1, 1) := by decide +kernel
theorem dX1_cost_59 : decode cX1_cost 59 = .ok (.iadd, 1) := by decide +kernel
theorem dX1_cost_60 : decode cX1_cost 60 = .ok (.istore 6, 2) := by decide +kernel
theorem dX1_cost_62 : decode cX1_cost 62 = .ok (.iload 6, 2) := by decide +kernel
theorem dX1_cost_64 : decode cX1_cost 64 = .ok (.bipush 6, 2) := by decide +kernel
theorem dX1_cost_66 : decode cX1_cost 66 = .ok (.if_icmp .ge 59, 3) := by decide +kernel
theorem dX1_cost_69 : decode cX1_cost 69 = .ok (.aload_n 0, 1) := by decide +kernel
theorem dX1_cost_70 : decode cX1_cost 70 = .ok (.iload_n 1, 1) := by decide +kernel
theorem dX1_cost_71 : decode cX1_cost 71 = .ok (.iload 6, 2) := by decide +kernel
theorem dX1_cost_73 : decode cX1_cost 73 = .ok (.invokevirtual 29, 3) := by decide +kernel
theorem dX1_cost_76 : decode cX1_cost 76 = .ok (.istore 7, 2) := by decide +kernel
theorem dX1_cost_78 : decode cX1_cost 78 = .ok (.aload_n 0, 1) := by decide +kernel
theorem dX1_cost_79 : decode cX1_cost 79 = .ok (.getfield 13, 3) := by decide +kernel
theorem dX1_cost_82 : decode cX1_cost 82 = .ok (.bipush 9, 2) := by decide +kernel
theorem dX1_cost_84 : decode cX1_cost 84 = .ok (.bipush 6, 2) := by decide +kernel
theorem dX1_cost_86 : decode cX1_cost 86 = .ok (.iload 4, 2) := by decide +kernel
theorem dX1_cost_88 : decode cX1_cost 88 = .ok (.imul, 1) := by decide +kernel
theorem dX1_cost_89 : decode cX1_cost 89 = .ok (.iload 6, 2) := by decide +kernel
theorem dX1_cost_91 : decode cX1_cost 91 = .ok (.iadd, 1) := by decide +kernel
theorem dX1_cost_92 : decode cX1_cost 92 = .ok (.imul, 1) := by decide +kernel
theorem dX1_cost_93 : decode cX1_cost 93 = .ok (.iconst 3, 1) := by decide +kernel
theorem dX1_cost_94 : decode cX1_cost 94 = .ok (.iload 5, 2) := by decide +kernel
theorem dX1_cost_96 : decode cX1_cost 96 = .ok (.imul, 1) := by decide +kernel
end
section
set_option maxRecDepth 100000
theorem dX1_cost_97 : decode cX1_cost 97 = .ok (.iadd, 1) := by decide +kernel
theorem dX1_cost_98 : decode cX1_cost 98 = .ok (.iload 7, 2) := by decide +kernel
theorem dX1_cost_100 : decode cX1_cost 100 = .ok (.iadd, 1) := by decide +kernel
theorem dX1_cost_101 : decode cX1_cost 101 = .ok (.iaload, 1) := by decide +kernel
theorem dX1_cost_102 : decode cX1_cost 102 = .ok (.istore 8, 2) := by decide +kernel
theorem dX1_cost_104 : decode cX1_cost 104 = .ok (.iload 8, 2) := by decide +kernel
theorem dX1_cost_106 : decode cX1_cost 106 = .ok (.bipush 99, 2) := by decide +kernel
theorem dX1_cost_108 : decode cX1_cost 108 = .ok (.if_icmp .ne 6, 3) := by decide +kernel
theorem dX1_cost_111 : decode cX1_cost 111 = .ok (.bipush (-4), 2) := by decide +kernel
theorem dX1_cost_113 : decode cX1_cost 113 = .ok (.ireturn, 1) := by decide +kernel
theorem dX1_cost_114 : decode cX1_cost 114 = .ok (.iload_n 3, 1) := by decide +kernel
theorem dX1_cost_115 : decode cX1_cost 115 = .ok (.iload 8, 2) := by decide +kernel
theorem dX1_cost_117 : decode cX1_cost 117 = .ok (.iadd, 1) := by decide +kernel
theorem dX1_cost_118 : decode cX1_cost 118 = .ok (.istore_n 3, 1) := by decide +kernel
theorem dX1_cost_119 : decode cX1_cost 119 = .ok (.iinc 6 1, 3) := by decide +kernel
theorem dX1_cost_122 : decode cX1_cost 122 = .ok (.goto (-60), 3) := by decide +kernel
theorem dX1_cost_125 : decode cX1_cost 125 = .ok (.iinc 4 1, 3) := by decide +kernel
theorem dX1_cost_128 : decode cX1_cost 128 = .ok (.goto (-123), 3) := by decide +kernel
theorem dX1_cost_131 : decode cX1_cost 131 = .ok (.iload_n 3, 1) := by decide +kernel
theorem dX1_cost_132 : decode cX1_cost 132 = .ok (.ireturn, 1) := by decide +kernel
theorem dX1_digit_0 : decode cX1_digit 0 = .ok (.iload_n 1, 1) := by decide +kernel
theorem dX1_digit_1 : decode cX1_digit 1 = .ok (.istore_n 3, 1) := by decide +kernel
theorem dX1_digit_2 : decode cX1_digit 2 = .ok (.iconst 5, 1) := by decide +kernel
theorem dX1_digit_3 : decode cX1_digit 3 = .ok (.istore 4, 2) := by decide +kernel
theorem dX1_digit_5 : decode cX1_digit 5 = .ok (.iload 4, 2) := by decide +kernel
theorem dX1_digit_7 : decode cX1_digit 7 = .ok (.iload_n 2, 1) := by decide +kernel
theorem dX1_digit_8 : decode cX1_digit 8 = .ok (.if_icmp .le 13, 3) := by decide +kernel
theorem dX1_digit_11 : decode cX1_digit 11 = .ok (.iload_n 3, 1) := by decide +kernel
theorem dX1_digit_12 : decode cX1_digit 12 = .ok (.iconst 3, 1) := by decide +kernel
theorem dX1_digit_13 : decode cX1_digit 13 = .ok (.idiv, 1) := by decide +kernel
theorem dX1_digit_14 : decode cX1_digit 14 = .ok (.istore_n 3, 1) := by decide +kernel
theorem dX1_digit_15 : decode cX1_digit 15 = .ok (.iinc 4 (-1), 3) := by decide +kernel
theorem dX1_digit_18 : decode cX1_digit 18 = .ok (.goto (-13), 3) := by decide +kernel
theorem dX1_digit_21 : decode cX1_digit 21 = .ok (.iload_n 3, 1) := by decide +kernel
theorem dX1_digit_22 : decode cX1_digit 22 = .ok (.iconst 3, 1) := by decide +kernel
theorem dX1_digit_23 : decode cX1_digit 23 = .ok (.irem, 1) := by decide +kernel
theorem dX1_digit_24 : decode cX1_digit 24 = .ok (.ireturn, 1) := by decide +kernel
theorem dX1_isBetter_0 : decode cX1_isBetter 0 = .ok (.iload_n 1, 1) := by decide +kernel
theorem dX1_isBetter_1 : decode cX1_isBetter 1 = .ok (.bipush (-4), 2) := by decide +kernel
theorem dX1_isBetter_3 : decode cX1_isBetter 3 = .ok (.if_icmp .eq 18, 3) := by decide +kernel
theorem dX1_isBetter_6 : decode cX1_isBetter 6 = .ok (.iload_n 2, 1) := by decide +kernel
theorem dX1_isBetter_7 : decode cX1_isBetter 7 = .ok (.bipush (-4), 2) := by decide +kernel
theorem dX1_isBetter_9 : decode cX1_isBetter 9 = .ok (.if_icmp .eq 8, 3) := by decide +kernel
theorem dX1_isBetter_12 : decode cX1_isBetter 12 = .ok (.iload_n 1, 1) := by decide +kernel
theorem dX1_isBetter_13 : decode cX1_isBetter 13 = .ok (.iload_n 2, 1) := by decide +kernel
theorem dX1_isBetter_14 : decode cX1_isBetter 14 = .ok (.if_icmp .ge 7, 3) := by decide +kernel
theorem dX1_isBetter_17 : decode cX1_isBetter 17 = .ok (.iconst 1, 1) := by decide +kernel
theorem dX1_isBetter_18 : decode cX1_isBetter 18 = .ok (.goto 4, 3) := by decide +kernel
theorem dX1_isBetter_21 : decode cX1_isBetter 21 = .ok (.iconst 0, 1) := by decide +kernel
theorem dX1_isBetter_22 : decode cX1_isBetter 22 = .ok (.ireturn, 1) := by decide +kernel
theorem dX1_cheapest_0 : decode cX1_cheapest 0 = .ok (.aload_n 0, 1) := by decide +kernel
theorem dX1_cheapest_1 : decode cX1_cheapest 1 = .ok (.iconst 0, 1) := by decide +kernel
theorem dX1_cheapest_2 : decode cX1_cheapest 2 = .ok (.invokevirtual 40, 3) := by decide +kernel
theorem dX1_cheapest_5 : decode cX1_cheapest 5 = .ok (.ireturn, 1) := by decide +kernel
theorem dX1_value_0 : decode cX1_value 0 = .ok (.aload_n 0, 1) := by decide +kernel
theorem dX1_value_1 : decode cX1_value 1 = .ok (.iload_n 1, 1) := by decide +kernel
theorem dX1_value_2 : decode cX1_value 2 = .ok (.invokevirtual 16, 3) := by decide +kernel
theorem dX1_value_5 : decode cX1_value 5 = .ok (.ifCond .ne 5, 3) := by decide +kernel
theorem dX1_value_8 : decode cX1_value 8 = .ok (.iconst (-1), 1) := by decide +kernel
theorem dX1_value_9 : decode cX1_value 9 = .ok (.ireturn, 1) := by decide +kernel
theorem dX1_value_10 : decode cX1_value 10 = .ok (.aload_n 0, 1) := by decide +kernel
theorem dX1_value_11 : decode cX1_value 11 = .ok (.invokevirtual 44, 3) := by decide +kernel
theorem dX1_value_14 : decode cX1_value 14 = .ok (.istore_n 2, 1) := by decide +kernel
theorem dX1_value_15 : decode cX1_value 15 = .ok (.iload_n 2, 1) := by decide +kernel
theorem dX1_value_16 : decode cX1_value 16 = .ok (.bipush (-4), 2) := by decide +kernel
theorem dX1_value_18 : decode cX1_value 18 = .ok (.if_icmp .ne 8, 3) := by decide +kernel
theorem dX1_value_21 : decode cX1_value 21 = .ok (.bipush (-4), 2) := by decide +kernel
theorem dX1_value_23 : decode cX1_value 23 = .ok (.goto 9, 3) := by decide +kernel
theorem dX1_value_26 : decode cX1_value 26 = .ok (.aload_n 0, 1) := by decide +kernel
theorem dX1_value_27 : decode cX1_value 27 = .ok (.iload_n 2, 1) := by decide +kernel
theorem dX1_value_28 : decode cX1_value 28 = .ok (.iload_n 1, 1) := by decide +kernel
theorem dX1_value_29 : decode cX1_value 29 = .ok (.invokevirtual 29, 3) := by decide +kernel
theorem dX1_value_32 : decode cX1_value 32 = .ok (.ireturn, 1) := by decide +kernel
theorem dX1_first_0 : decode cX1_first 0 = .ok (.bipush (-4), 2) := by decide +kernel
theorem dX1_first_2 : decode cX1_first 2 = .ok (.istore_n 1, 1) := by decide +kernel
theorem dX1_first_3 : decode cX1_first 3 = .ok (.bipush (-4), 2) := by decide +kernel
theorem dX1_first_5 : decode cX1_first 5 = .ok (.istore_n 2, 1) := by decide +kernel
theorem dX1_first_6 : decode cX1_first 6 = .ok (.iconst 0, 1) := by decide +kernel
theorem dX1_first_7 : decode cX1_first 7 = .ok (.istore_n 3, 1) := by decide +kernel
theorem dX1_first_8 : decode cX1_first 8 = .ok (.iload_n 3, 1) := by decide +kernel
theorem dX1_first_9 : decode cX1_first 9 = .ok (.sipush 729, 3) := by decide +kernel
theorem dX1_first_12 : decode cX1_first 12 = .ok (.if_icmp .ge 32, 3) := by decide +kernel
theorem dX1_first_15 : decode cX1_first 15 = .ok (.aload_n 0, 1) := by decide +kernel
theorem dX1_first_16 : decode cX1_first 16 = .ok (.iload_n 3, 1) := by decide +kernel
theorem dX1_first_17 : decode cX1_first 17 = .ok (.iconst 0, 1) := by decide +kernel
theorem dX1_first_18 : decode cX1_first 18 = .ok (.invokevirtual 33, 3) := by decide +kernel
theorem dX1_first_21 : decode cX1_first 21 = .ok (.istore 4, 2) := by decide +kernel
theorem dX1_first_23 : decode cX1_first 23 = .ok (.aload_n 0, 1) := by decide +kernel
theorem dX1_first_24 : decode cX1_first 24 = .ok (.iload 4, 2) := by decide +kernel
theorem dX1_first_26 : decode cX1_first 26 = .ok (.iload_n 1, 1) := by decide +kernel
theorem dX1_first_27 : decode cX1_first 27 = .ok (.invokevirtual 36, 3) := by decide +kernel
theorem dX1_first_30 : decode cX1_first 30 = .ok (.ifCond .eq 8, 3) := by decide +kernel
theorem dX1_first_33 : decode cX1_first 33 = .ok (.iload 4, 2) := by decide +kernel
theorem dX1_first_35 : decode cX1_first 35 = .ok (.istore_n 1, 1) := by decide +kernel
theorem dX1_first_36 : decode cX1_first 36 = .ok (.iload_n 3, 1) := by decide +kernel
theorem dX1_first_37 : decode cX1_first 37 = .ok (.istore_n 2, 1) := by decide +kernel
theorem dX1_first_38 : decode cX1_first 38 = .ok (.iinc 3 1, 3) := by decide +kernel
theorem dX1_first_41 : decode cX1_first 41 = .ok (.goto (-33), 3) := by decide +kernel
theorem dX1_first_44 : decode cX1_first 44 = .ok (.iload_n 2, 1) := by decide +kernel
theorem dX1_first_45 : decode cX1_first 45 = .ok (.ireturn, 1) := by decide +kernel
theorem dX1_with_0 : decode cX1_with 0 = .ok (.aload_n 0, 1) := by decide +kernel
theorem dX1_with_1 : decode cX1_with 1 = .ok (.iload_n 1, 1) := by decide +kernel
theorem dX1_with_2 : decode cX1_with 2 = .ok (.invokevirtual 16, 3) := by decide +kernel
theorem dX1_with_5 : decode cX1_with 5 = .ok (.ifCond .eq 11, 3) := by decide +kernel
theorem dX1_with_8 : decode cX1_with 8 = .ok (.aload_n 0, 1) := by decide +kernel
theorem dX1_with_9 : decode cX1_with 9 = .ok (.iload_n 2, 1) := by decide +kernel
theorem dX1_with_10 : decode cX1_with 10 = .ok (.invokevirtual 20, 3) := by decide +kernel
theorem dX1_with_13 : decode cX1_with 13 = .ok (.ifCond .ne 5, 3) := by decide +kernel
theorem dX1_with_16 : decode cX1_with 16 = .ok (.iconst (-1), 1) := by decide +kernel
theorem dX1_with_17 : decode cX1_with 17 = .ok (.ireturn, 1) := by decide +kernel
theorem dX1_with_18 : decode cX1_with 18 = .ok (.bipush (-4), 2) := by decide +kernel
theorem dX1_with_20 : decode cX1_with 20 = .ok (.istore_n 3, 1) := by decide +kernel
theorem dX1_with_21 : decode cX1_with 21 = .ok (.iconst 0, 1) := by decide +kernel
theorem dX1_with_22 : decode cX1_with 22 = .ok (.istore 4, 2) := by decide +kernel
theorem dX1_with_24 : decode cX1_with 24 = .ok (.iload 4, 2) := by decide +kernel
theorem dX1_with_26 : decode cX1_with 26 = .ok (.sipush 729, 3) := by decide +kernel
theorem dX1_with_29 : decode cX1_with 29 = .ok (.if_icmp .ge 46, 3) := by decide +kernel
theorem dX1_with_32 : decode cX1_with 32 = .ok (.aload_n 0, 1) := by decide +kernel
theorem dX1_with_33 : decode cX1_with 33 = .ok (.iload 4, 2) := by decide +kernel
theorem dX1_with_35 : decode cX1_with 35 = .ok (.iload_n 1, 1) := by decide +kernel
theorem dX1_with_36 : decode cX1_with 36 = .ok (.invokevirtual 29, 3) := by decide +kernel
theorem dX1_with_39 : decode cX1_with 39 = .ok (.iload_n 2, 1) := by decide +kernel
theorem dX1_with_40 : decode cX1_with 40 = .ok (.if_icmp .ne 29, 3) := by decide +kernel
theorem dX1_with_43 : decode cX1_with 43 = .ok (.aload_n 0, 1) := by decide +kernel
theorem dX1_with_44 : decode cX1_with 44 = .ok (.iload 4, 2) := by decide +kernel
theorem dX1_with_46 : decode cX1_with 46 = .ok (.iconst 0, 1) := by decide +kernel
theorem dX1_with_47 : decode cX1_with 47 = .ok (.invokevirtual 33, 3) := by decide +kernel
theorem dX1_with_50 : decode cX1_with 50 = .ok (.istore 5, 2) := by decide +kernel
theorem dX1_with_52 : decode cX1_with 52 = .ok (.aload_n 0, 1) := by decide +kernel
theorem dX1_with_53 : decode cX1_with 53 = .ok (.iload 5, 2) := by decide +kernel
theorem dX1_with_55 : decode cX1_with 55 = .ok (.iload_n 3, 1) := by decide +kernel
theorem dX1_with_56 : decode cX1_with 56 = .ok (.invokevirtual 36, 3) := by decide +kernel
theorem dX1_with_59 : decode cX1_with 59 = .ok (.ifCond .eq 8, 3) := by decide +kernel
theorem dX1_with_62 : decode cX1_with 62 = .ok (.iload 5, 2) := by decide +kernel
theorem dX1_with_64 : decode cX1_with 64 = .ok (.goto 4, 3) := by decide +kernel
theorem dX1_with_67 : decode cX1_with 67 = .ok (.iload_n 3, 1) := by decide +kernel
theorem dX1_with_68 : decode cX1_with 68 = .ok (.istore_n 3, 1) := by decide +kernel
theorem dX1_with_69 : decode cX1_with 69 = .ok (.iinc 4 1, 3) := by decide +kernel
theorem dX1_with_72 : decode cX1_with 72 = .ok (.goto (-48), 3) := by decide +kernel
theorem dX1_with_75 : decode cX1_with 75 = .ok (.iload_n 3, 1) := by decide +kernel
theorem dX1_with_76 : decode cX1_with 76 = .ok (.ireturn, 1) := by decide +kernel
theorem dX1_settled_0 : decode cX1_settled 0 = .ok (.aload_n 0, 1) := by decide +kernel
theorem dX1_settled_1 : decode cX1_settled 1 = .ok (.invokevirtual 48, 3) := by decide +kernel
theorem dX1_settled_4 : decode cX1_settled 4 = .ok (.istore_n 2, 1) := by decide +kernel
theorem dX1_settled_5 : decode cX1_settled 5 = .ok (.aload_n 0, 1) := by decide +kernel
theorem dX1_settled_6 : decode cX1_settled 6 = .ok (.iload_n 1, 1) := by decide +kernel
theorem dX1_settled_7 : decode cX1_settled 7 = .ok (.invokevirtual 16, 3) := by decide +kernel
theorem dX1_settled_10 : decode cX1_settled 10 = .ok (.ifCond .eq 9, 3) := by decide +kernel
theorem dX1_settled_13 : decode cX1_settled 13 = .ok (.iload_n 2, 1) := by decide +kernel
theorem dX1_settled_14 : decode cX1_settled 14 = .ok (.bipush (-4), 2) := by decide +kernel
theorem dX1_settled_16 : decode cX1_settled 16 = .ok (.if_icmp .ne 5, 3) := by decide +kernel
theorem dX1_settled_19 : decode cX1_settled 19 = .ok (.iconst 0, 1) := by decide +kernel
theorem dX1_settled_20 : decode cX1_settled 20 = .ok (.ireturn, 1) := by decide +kernel
theorem dX1_settled_21 : decode cX1_settled 21 = .ok (.iconst 0, 1) := by decide +kernel
theorem dX1_settled_22 : decode cX1_settled 22 = .ok (.istore_n 3, 1) := by decide +kernel
theorem dX1_settled_23 : decode cX1_settled 23 = .ok (.iconst 0, 1) := by decide +kernel
theorem dX1_settled_24 : decode cX1_settled 24 = .ok (.istore 4, 2) := by decide +kernel
theorem dX1_settled_26 : decode cX1_settled 26 = .ok (.iload 4, 2) := by decide +kernel
theorem dX1_settled_28 : decode cX1_settled 28 = .ok (.iconst 3, 1) := by decide +kernel
theorem dX1_settled_29 : decode cX1_settled 29 = .ok (.if_icmp .ge 28, 3) := by decide +kernel
theorem dX1_settled_32 : decode cX1_settled 32 = .ok (.aload_n 0, 1) := by decide +kernel
theorem dX1_settled_33 : decode cX1_settled 33 = .ok (.iload_n 1, 1) := by decide +kernel
theorem dX1_settled_34 : decode cX1_settled 34 = .ok (.iload 4, 2) := by decide +kernel
theorem dX1_settled_36 : decode cX1_settled 36 = .ok (.invokevirtual 51, 3) := by decide +kernel
theorem dX1_settled_39 : decode cX1_settled 39 = .ok (.iload_n 2, 1) := by decide +kernel
theorem dX1_settled_40 : decode cX1_settled 40 = .ok (.if_icmp .ne 9, 3) := by decide +kernel
theorem dX1_settled_43 : decode cX1_settled 43 = .ok (.iload_n 3, 1) := by decide +kernel
theorem dX1_settled_44 : decode cX1_settled 44 = .ok (.iconst 1, 1) := by decide +kernel
theorem dX1_settled_45 : decode cX1_settled 45 = .ok (.iadd, 1) := by decide +kernel
theorem dX1_settled_46 : decode cX1_settled 46 = .ok (.goto 4, 3) := by decide +kernel
theorem dX1_settled_49 : decode cX1_settled 49 = .ok (.iload_n 3, 1) := by decide +kernel
theorem dX1_settled_50 : decode cX1_settled 50 = .ok (.istore_n 3, 1) := by decide +kernel
theorem dX1_settled_51 : decode cX1_settled 51 = .ok (.iinc 4 1, 3) := by decide +kernel
theorem dX1_settled_54 : decode cX1_settled 54 = .ok (.goto (-28), 3) := by decide +kernel
theorem dX1_settled_57 : decode cX1_settled 57 = .ok (.iload_n 3, 1) := by decide +kernel
theorem dX1_settled_58 : decode cX1_settled 58 = .ok (.iconst 1, 1) := by decide +kernel
theorem dX1_settled_59 : decode cX1_settled 59 = .ok (.if_icmp .ne 7, 3) := by decide +kernel
theorem dX1_settled_62 : decode cX1_settled 62 = .ok (.iconst 1, 1) := by decide +kernel
theorem dX1_settled_63 : decode cX1_settled 63 = .ok (.goto 4, 3) := by decide +kernel
theorem dX1_settled_66 : decode cX1_settled 66 = .ok (.iconst 0, 1) := by decide +kernel
theorem dX1_settled_67 : decode cX1_settled 67 = .ok (.ireturn, 1) := by decide +kernel
theorem dX1_second_0 : decode cX1_second 0 = .ok (.aload_n 0, 1) := by decide +kernel
theorem dX1_second_1 : decode cX1_second 1 = .ok (.invokevirtual 44, 3) := by decide +kernel
theorem dX1_second_4 : decode cX1_second 4 = .ok (.istore_n 1, 1) := by decide +kernel
theorem dX1_second_5 : decode cX1_second 5 = .ok (.bipush (-4), 2) := by decide +kernel
theorem dX1_second_7 : decode cX1_second 7 = .ok (.istore_n 2, 1) := by decide +kernel
theorem dX1_second_8 : decode cX1_second 8 = .ok (.iconst 0, 1) := by decide +kernel
theorem dX1_second_9 : decode cX1_second 9 = .ok (.istore_n 3, 1) := by decide +kernel
theorem dX1_second_10 : decode cX1_second 10 = .ok (.iload_n 3, 1) := by decide +kernel
theorem dX1_second_11 : decode cX1_second 11 = .ok (.sipush 729, 3) := by decide +kernel
theorem dX1_second_14 : decode cX1_second 14 = .ok (.if_icmp .ge 39, 3) := by decide +kernel
theorem dX1_second_17 : decode cX1_second 17 = .ok (.iload_n 3, 1) := by decide +kernel
theorem dX1_second_18 : decode cX1_second 18 = .ok (.iload_n 1, 1) := by decide +kernel
theorem dX1_second_19 : decode cX1_second 19 = .ok (.if_icmp .eq 28, 3) := by decide +kernel
theorem dX1_second_22 : decode cX1_second 22 = .ok (.aload_n 0, 1) := by decide +kernel
theorem dX1_second_23 : decode cX1_second 23 = .ok (.iload_n 3, 1) := by decide +kernel
theorem dX1_second_24 : decode cX1_second 24 = .ok (.iconst 0, 1) := by decide +kernel
theorem dX1_second_25 : decode cX1_second 25 = .ok (.invokevirtual 33, 3) := by decide +kernel
theorem dX1_second_28 : decode cX1_second 28 = .ok (.istore 4, 2) := by decide +kernel
theorem dX1_second_30 : decode cX1_second 30 = .ok (.aload_n 0, 1) := by decide +kernel
theorem dX1_second_31 : decode cX1_second 31 = .ok (.iload 4, 2) := by decide +kernel
theorem dX1_second_33 : decode cX1_second 33 = .ok (.iload_n 2, 1) := by decide +kernel
theorem dX1_second_34 : decode cX1_second 34 = .ok (.invokevirtual 36, 3) := by decide +kernel
theorem dX1_second_37 : decode cX1_second 37 = .ok (.ifCond .eq 8, 3) := by decide +kernel
theorem dX1_second_40 : decode cX1_second 40 = .ok (.iload 4, 2) := by decide +kernel
theorem dX1_second_42 : decode cX1_second 42 = .ok (.goto 4, 3) := by decide +kernel
theorem dX1_second_45 : decode cX1_second 45 = .ok (.iload_n 2, 1) := by decide +kernel
theorem dX1_second_46 : decode cX1_second 46 = .ok (.istore_n 2, 1) := by decide +kernel
theorem dX1_second_47 : decode cX1_second 47 = .ok (.iinc 3 1, 3) := by decide +kernel
theorem dX1_second_50 : decode cX1_second 50 = .ok (.goto (-40), 3) := by decide +kernel
theorem dX1_second_53 : decode cX1_second 53 = .ok (.iload_n 2, 1) := by decide +kernel
theorem dX1_second_54 : decode cX1_second 54 = .ok (.ireturn, 1) := by decide +kernel
theorem dX1_zigzag_0 : decode cX1_zigzag 0 = .ok (.bipush (-4), 2) := by decide +kernel
theorem dX1_zigzag_2 : decode cX1_zigzag 2 = .ok (.istore_n 1, 1) := by decide +kernel
theorem dX1_zigzag_3 : decode cX1_zigzag 3 = .ok (.iconst 0, 1) := by decide +kernel
theorem dX1_zigzag_4 : decode cX1_zigzag 4 = .ok (.istore_n 2, 1) := by decide +kernel
theorem dX1_zigzag_5 : decode cX1_zigzag 5 = .ok (.iload_n 2, 1) := by decide +kernel
theorem dX1_zigzag_6 : decode cX1_zigzag 6 = .ok (.sipush 729, 3) := by decide +kernel
theorem dX1_zigzag_9 : decode cX1_zigzag 9 = .ok (.if_icmp .ge 39, 3) := by decide +kernel
theorem dX1_zigzag_12 : decode cX1_zigzag 12 = .ok (.aload_n 0, 1) := by decide +kernel
theorem dX1_zigzag_13 : decode cX1_zigzag 13 = .ok (.iload_n 2, 1) := by decide +kernel
theorem dX1_zigzag_14 : decode cX1_zigzag 14 = .ok (.invokevirtual 54, 3) := by decide +kernel
theorem dX1_zigzag_17 : decode cX1_zigzag 17 = .ok (.ifCond .eq 25, 3) := by decide +kernel
theorem dX1_zigzag_20 : decode cX1_zigzag 20 = .ok (.aload_n 0, 1) := by decide +kernel
theorem dX1_zigzag_21 : decode cX1_zigzag 21 = .ok (.iload_n 2, 1) := by decide +kernel
theorem dX1_zigzag_22 : decode cX1_zigzag 22 = .ok (.iconst 0, 1) := by decide +kernel
theorem dX1_zigzag_23 : decode cX1_zigzag 23 = .ok (.invokevirtual 33, 3) := by decide +kernel
theorem dX1_zigzag_26 : decode cX1_zigzag 26 = .ok (.istore_n 3, 1) := by decide +kernel
theorem dX1_zigzag_27 : decode cX1_zigzag 27 = .ok (.aload_n 0, 1) := by decide +kernel
theorem dX1_zigzag_28 : decode cX1_zigzag 28 = .ok (.iload_n 3, 1) := by decide +kernel
theorem dX1_zigzag_29 : decode cX1_zigzag 29 = .ok (.iload_n 1, 1) := by decide +kernel
theorem dX1_zigzag_30 : decode cX1_zigzag 30 = .ok (.invokevirtual 36, 3) := by decide +kernel
theorem dX1_zigzag_33 : decode cX1_zigzag 33 = .ok (.ifCond .eq 7, 3) := by decide +kernel
theorem dX1_zigzag_36 : decode cX1_zigzag 36 = .ok (.iload_n 3, 1) := by decide +kernel
theorem dX1_zigzag_37 : decode cX1_zigzag 37 = .ok (.goto 4, 3) := by decide +kernel
theorem dX1_zigzag_40 : decode cX1_zigzag 40 = .ok (.iload_n 1, 1) := by decide +kernel
theorem dX1_zigzag_41 : decode cX1_zigzag 41 = .ok (.istore_n 1, 1) := by decide +kernel
theorem dX1_zigzag_42 : decode cX1_zigzag 42 = .ok (.iinc 2 1, 3) := by decide +kernel
theorem dX1_zigzag_45 : decode cX1_zigzag 45 = .ok (.goto (-40), 3) := by decide +kernel
theorem dX1_zigzag_48 : decode cX1_zigzag 48 = .ok (.iload_n 1, 1) := by decide +kernel
theorem dX1_zigzag_49 : decode cX1_zigzag 49 = .ok (.ireturn, 1) := by decide +kernel
theorem dX1_isZigzag_0 : decode cX1_isZigzag 0 = .ok (.iconst 0, 1) := by decide +kernel
theorem dX1_isZigzag_1 : decode cX1_isZigzag 1 = .ok (.istore_n 2, 1) := by decide +kernel
theorem dX1_isZigzag_2 : decode cX1_isZigzag 2 = .ok (.iload_n 2, 1) := by decide +kernel
theorem dX1_isZigzag_3 : decode cX1_isZigzag 3 = .ok (.iconst 5, 1) := by decide +kernel
theorem dX1_isZigzag_4 : decode cX1_isZigzag 4 = .ok (.if_icmp .ge 28, 3) := by decide +kernel
theorem dX1_isZigzag_7 : decode cX1_isZigzag 7 = .ok (.aload_n 0, 1) := by decide +kernel
theorem dX1_isZigzag_8 : decode cX1_isZigzag 8 = .ok (.iload_n 1, 1) := by decide +kernel
theorem dX1_isZigzag_9 : decode cX1_isZigzag 9 = .ok (.iload_n 2, 1) := by decide +kernel
theorem dX1_isZigzag_10 : decode cX1_isZigzag 10 = .ok (.invokevirtual 29, 3) := by decide +kernel
theorem dX1_isZigzag_13 : decode cX1_isZigzag 13 = .ok (.aload_n 0, 1) := by decide +kernel
theorem dX1_isZigzag_14 : decode cX1_isZigzag 14 = .ok (.iload_n 1, 1) := by decide +kernel
theorem dX1_isZigzag_15 : decode cX1_isZigzag 15 = .ok (.iload_n 2, 1) := by decide +kernel
theorem dX1_isZigzag_16 : decode cX1_isZigzag 16 = .ok (.iconst 1, 1) := by decide +kernel
theorem dX1_isZigzag_17 : decode cX1_isZigzag 17 = .ok (.iadd, 1) := by decide +kernel
theorem dX1_isZigzag_18 : decode cX1_isZigzag 18 = .ok (.invokevirtual 29, 3) := by decide +kernel
theorem dX1_isZigzag_21 : decode cX1_isZigzag 21 = .ok (.if_icmp .ne 5, 3) := by decide +kernel
theorem dX1_isZigzag_24 : decode cX1_isZigzag 24 = .ok (.iconst 0, 1) := by decide +kernel
theorem dX1_isZigzag_25 : decode cX1_isZigzag 25 = .ok (.ireturn, 1) := by decide +kernel
theorem dX1_isZigzag_26 : decode cX1_isZigzag 26 = .ok (.iinc 2 1, 3) := by decide +kernel
theorem dX1_isZigzag_29 : decode cX1_isZigzag 29 = .ok (.goto (-27), 3) := by decide +kernel
theorem dX1_isZigzag_32 : decode cX1_isZigzag 32 = .ok (.iconst 1, 1) := by decide +kernel
theorem dX1_isZigzag_33 : decode cX1_isZigzag 33 = .ok (.ireturn, 1) := by decide +kernel
end
section
set_option maxRecDepth 100000
theorem dL_law_0 : decode cL_law 0 = .ok (.new 7, 3) := by decide +kernel
theorem dL_law_3 : decode cL_law 3 = .ok (.dup, 1) := by decide +kernel
theorem dL_law_4 : decode cL_law 4 = .ok (.invokespecial 9, 3) := by decide +kernel
theorem dL_law_7 : decode cL_law 7 = .ok (.astore_n 1, 1) := by decide +kernel
theorem dL_law_8 : decode cL_law 8 = .ok (.new 10, 3) := by decide +kernel
theorem dL_law_11 : decode cL_law 11 = .ok (.dup, 1) := by decide +kernel
theorem dL_law_12 : decode cL_law 12 = .ok (.invokespecial 12, 3) := by decide +kernel
theorem dL_law_15 : decode cL_law 15 = .ok (.astore_n 2, 1) := by decide +kernel
theorem dL_law_16 : decode cL_law 16 = .ok (.iconst 0, 1) := by decide +kernel
theorem dL_law_17 : decode cL_law 17 = .ok (.istore_n 3, 1) := by decide +kernel
theorem dL_law_18 : decode cL_law 18 = .ok (.iload_n 3, 1) := by decide +kernel
theorem dL_law_19 : decode cL_law 19 = .ok (.aload_n 0, 1) := by decide +kernel
theorem dL_law_20 : decode cL_law 20 = .ok (.arraylength, 1) := by decide +kernel
theorem dL_law_21 : decode cL_law 21 = .ok (.iconst 4, 1) := by decide +kernel
theorem dL_law_22 : decode cL_law 22 = .ok (.isub, 1) := by decide +kernel
theorem dL_law_23 : decode cL_law 23 = .ok (.if_icmp .gt 356, 3) := by decide +kernel
theorem dL_law_26 : decode cL_law 26 = .ok (.aload_n 0, 1) := by decide +kernel
theorem dL_law_27 : decode cL_law 27 = .ok (.iload_n 3, 1) := by decide +kernel
theorem dL_law_28 : decode cL_law 28 = .ok (.iaload, 1) := by decide +kernel
theorem dL_law_29 : decode cL_law 29 = .ok (.bipush 15, 2) := by decide +kernel
theorem dL_law_31 : decode cL_law 31 = .ok (.iand, 1) := by decide +kernel
theorem dL_law_32 : decode cL_law 32 = .ok (.tableswitch 341 0 10 #[60, 103, 146, 189, 200, 223, 236, 259, 292, 315, 328], 60) := by decide +kernel
theorem dL_law_92 : decode cL_law 92 = .ok (.aload_n 1, 1) := by decide +kernel
theorem dL_law_93 : decode cL_law 93 = .ok (.aload_n 0, 1) := by decide +kernel
theorem dL_law_94 : decode cL_law 94 = .ok (.iload_n 3, 1) := by decide +kernel
theorem dL_law_95 : decode cL_law 95 = .ok (.iconst 1, 1) := by decide +kernel
theorem dL_law_96 : decode cL_law 96 = .ok (.iadd, 1) := by decide +kernel
theorem dL_law_97 : decode cL_law 97 = .ok (.iaload, 1) := by decide +kernel
theorem dL_law_98 : decode cL_law 98 = .ok (.aload_n 0, 1) := by decide +kernel
theorem dL_law_99 : decode cL_law 99 = .ok (.iload_n 3, 1) := by decide +kernel
theorem dL_law_100 : decode cL_law 100 = .ok (.iconst 2, 1) := by decide +kernel
theorem dL_law_101 : decode cL_law 101 = .ok (.iadd, 1) := by decide +kernel
theorem dL_law_102 : decode cL_law 102 = .ok (.iaload, 1) := by decide +kernel
theorem dL_law_103 : decode cL_law 103 = .ok (.aload_n 0, 1) := by decide +kernel
theorem dL_law_104 : decode cL_law 104 = .ok (.iload_n 3, 1) := by decide +kernel
theorem dL_law_105 : decode cL_law 105 = .ok (.iconst 3, 1) := by decide +kernel
theorem dL_law_106 : decode cL_law 106 = .ok (.iadd, 1) := by decide +kernel
theorem dL_law_107 : decode cL_law 107 = .ok (.iaload, 1) := by decide +kernel
theorem dL_law_108 : decode cL_law 108 = .ok (.invokevirtual 13, 3) := by decide +kernel
theorem dL_law_111 : decode cL_law 111 = .ok (.aload_n 2, 1) := by decide +kernel
theorem dL_law_112 : decode cL_law 112 = .ok (.aload_n 0, 1) := by decide +kernel
theorem dL_law_113 : decode cL_law 113 = .ok (.iload_n 3, 1) := by decide +kernel
theorem dL_law_114 : decode cL_law 114 = .ok (.iconst 1, 1) := by decide +kernel
theorem dL_law_115 : decode cL_law 115 = .ok (.iadd, 1) := by decide +kernel
theorem dL_law_116 : decode cL_law 116 = .ok (.iaload, 1) := by decide +kernel
theorem dL_law_117 : decode cL_law 117 = .ok (.aload_n 0, 1) := by decide +kernel
theorem dL_law_118 : decode cL_law 118 = .ok (.iload_n 3, 1) := by decide +kernel
theorem dL_law_119 : decode cL_law 119 = .ok (.iconst 2, 1) := by decide +kernel
theorem dL_law_120 : decode cL_law 120 = .ok (.iadd, 1) := by decide +kernel
theorem dL_law_121 : decode cL_law 121 = .ok (.iaload, 1) := by decide +kernel
theorem dL_law_122 : decode cL_law 122 = .ok (.aload_n 0, 1) := by decide +kernel
theorem dL_law_123 : decode cL_law 123 = .ok (.iload_n 3, 1) := by decide +kernel
theorem dL_law_124 : decode cL_law 124 = .ok (.iconst 3, 1) := by decide +kernel
theorem dL_law_125 : decode cL_law 125 = .ok (.iadd, 1) := by decide +kernel
theorem dL_law_126 : decode cL_law 126 = .ok (.iaload, 1) := by decide +kernel
theorem dL_law_127 : decode cL_law 127 = .ok (.invokevirtual 17, 3) := by decide +kernel
theorem dL_law_130 : decode cL_law 130 = .ok (.if_icmp .eq 243, 3) := by decide +kernel
theorem dL_law_133 : decode cL_law 133 = .ok (.iconst 0, 1) := by decide +kernel
theorem dL_law_134 : decode cL_law 134 = .ok (.ireturn, 1) := by decide +kernel
theorem dL_law_135 : decode cL_law 135 = .ok (.aload_n 1, 1) := by decide +kernel
end
section
set_option maxRecDepth 100000
theorem dL_law_136 : decode cL_law 136 = .ok (.aload_n 0, 1) := by decide +kernel
theorem dL_law_137 : decode cL_law 137 = .ok (.iload_n 3, 1) := by decide +kernel
theorem dL_law_138 : decode cL_law 138 = .ok (.iconst 1, 1) := by decide +kernel
theorem dL_law_139 : decode cL_law 139 = .ok (.iadd, 1) := by decide +kernel
theorem dL_law_140 : decode cL_law 140 = .ok (.iaload, 1) := by decide +kernel
theorem dL_law_141 : decode cL_law 141 = .ok (.aload_n 0, 1) := by decide +kernel
theorem dL_law_142 : decode cL_law 142 = .ok (.iload_n 3, 1) := by decide +kernel
theorem dL_law_143 : decode cL_law 143 = .ok (.iconst 2, 1) := by decide +kernel
theorem dL_law_144 : decode cL_law 144 = .ok (.iadd, 1) := by decide +kernel
theorem dL_law_145 : decode cL_law 145 = .ok (.iaload, 1) := by decide +kernel
theorem dL_law_146 : decode cL_law 146 = .ok (.aload_n 0, 1) := by decide +kernel
theorem dL_law_147 : decode cL_law 147 = .ok (.iload_n 3, 1) := by decide +kernel
theorem dL_law_148 : decode cL_law 148 = .ok (.iconst 3, 1) := by decide +kernel
theorem dL_law_149 : decode cL_law 149 = .ok (.iadd, 1) := by decide +kernel
theorem dL_law_150 : decode cL_law 150 = .ok (.iaload, 1) := by decide +kernel
theorem dL_law_151 : decode cL_law 151 = .ok (.invokevirtual 18, 3) := by decide +kernel
theorem dL_law_154 : decode cL_law 154 = .ok (.aload_n 2, 1) := by decide +kernel
theorem dL_law_155 : decode cL_law 155 = .ok (.aload_n 0, 1) := by decide +kernel
theorem dL_law_156 : decode cL_law 156 = .ok (.iload_n 3, 1) := by decide +kernel
theorem dL_law_157 : decode cL_law 157 = .ok (.iconst 1, 1) := by decide +kernel
theorem dL_law_158 : decode cL_law 158 = .ok (.iadd, 1) := by decide +kernel
theorem dL_law_159 : decode cL_law 159 = .ok (.iaload, 1) := by decide +kernel
theorem dL_law_160 : decode cL_law 160 = .ok (.aload_n 0, 1) := by decide +kernel
theorem dL_law_161 : decode cL_law 161 = .ok (.iload_n 3, 1) := by decide +kernel
theorem dL_law_162 : decode cL_law 162 = .ok (.iconst 2, 1) := by decide +kernel
theorem dL_law_163 : decode cL_law 163 = .ok (.iadd, 1) := by decide +kernel
theorem dL_law_164 : decode cL_law 164 = .ok (.iaload, 1) := by decide +kernel
theorem dL_law_165 : decode cL_law 165 = .ok (.aload_n 0, 1) := by decide +kernel
theorem dL_law_166 : decode cL_law 166 = .ok (.iload_n 3, 1) := by decide +kernel
theorem dL_law_167 : decode cL_law 167 = .ok (.iconst 3, 1) := by decide +kernel
theorem dL_law_168 : decode cL_law 168 = .ok (.iadd, 1) := by decide +kernel
theorem dL_law_169 : decode cL_law 169 = .ok (.iaload, 1) := by decide +kernel
theorem dL_law_170 : decode cL_law 170 = .ok (.invokevirtual 21, 3) := by decide +kernel
theorem dL_law_173 : decode cL_law 173 = .ok (.if_icmp .eq 200, 3) := by decide +kernel
theorem dL_law_176 : decode cL_law 176 = .ok (.iconst 0, 1) := by decide +kernel
theorem dL_law_177 : decode cL_law 177 = .ok (.ireturn, 1) := by decide +kernel
theorem dL_law_178 : decode cL_law 178 = .ok (.aload_n 1, 1) := by decide +kernel
theorem dL_law_179 : decode cL_law 179 = .ok (.aload_n 0, 1) := by decide +kernel
theorem dL_law_180 : decode cL_law 180 = .ok (.iload_n 3, 1) := by decide +kernel
theorem dL_law_181 : decode cL_law 181 = .ok (.iconst 1, 1) := by decide +kernel
theorem dL_law_182 : decode cL_law 182 = .ok (.iadd, 1) := by decide +kernel
theorem dL_law_183 : decode cL_law 183 = .ok (.iaload, 1) := by decide +kernel
theorem dL_law_184 : decode cL_law 184 = .ok (.aload_n 0, 1) := by decide +kernel
theorem dL_law_185 : decode cL_law 185 = .ok (.iload_n 3, 1) := by decide +kernel
theorem dL_law_186 : decode cL_law 186 = .ok (.iconst 2, 1) := by decide +kernel
theorem dL_law_187 : decode cL_law 187 = .ok (.iadd, 1) := by decide +kernel
theorem dL_law_188 : decode cL_law 188 = .ok (.iaload, 1) := by decide +kernel
theorem dL_law_189 : decode cL_law 189 = .ok (.aload_n 0, 1) := by decide +kernel
theorem dL_law_190 : decode cL_law 190 = .ok (.iload_n 3, 1) := by decide +kernel
theorem dL_law_191 : decode cL_law 191 = .ok (.iconst 3, 1) := by decide +kernel
theorem dL_law_192 : decode cL_law 192 = .ok (.iadd, 1) := by decide +kernel
theorem dL_law_193 : decode cL_law 193 = .ok (.iaload, 1) := by decide +kernel
theorem dL_law_194 : decode cL_law 194 = .ok (.invokevirtual 22, 3) := by decide +kernel
theorem dL_law_197 : decode cL_law 197 = .ok (.aload_n 2, 1) := by decide +kernel
theorem dL_law_198 : decode cL_law 198 = .ok (.aload_n 0, 1) := by decide +kernel
theorem dL_law_199 : decode cL_law 199 = .ok (.iload_n 3, 1) := by decide +kernel
theorem dL_law_200 : decode cL_law 200 = .ok (.iconst 1, 1) := by decide +kernel
theorem dL_law_201 : decode cL_law 201 = .ok (.iadd, 1) := by decide +kernel
theorem dL_law_202 : decode cL_law 202 = .ok (.iaload, 1) := by decide +kernel
theorem dL_law_203 : decode cL_law 203 = .ok (.aload_n 0, 1) := by decide +kernel
end
section
set_option maxRecDepth 100000
theorem dL_law_204 : decode cL_law 204 = .ok (.iload_n 3, 1) := by decide +kernel
theorem dL_law_205 : decode cL_law 205 = .ok (.iconst 2, 1) := by decide +kernel
theorem dL_law_206 : decode cL_law 206 = .ok (.iadd, 1) := by decide +kernel
theorem dL_law_207 : decode cL_law 207 = .ok (.iaload, 1) := by decide +kernel
theorem dL_law_208 : decode cL_law 208 = .ok (.aload_n 0, 1) := by decide +kernel
theorem dL_law_209 : decode cL_law 209 = .ok (.iload_n 3, 1) := by decide +kernel
theorem dL_law_210 : decode cL_law 210 = .ok (.iconst 3, 1) := by decide +kernel
theorem dL_law_211 : decode cL_law 211 = .ok (.iadd, 1) := by decide +kernel
theorem dL_law_212 : decode cL_law 212 = .ok (.iaload, 1) := by decide +kernel
theorem dL_law_213 : decode cL_law 213 = .ok (.invokevirtual 25, 3) := by decide +kernel
theorem dL_law_216 : decode cL_law 216 = .ok (.if_icmp .eq 157, 3) := by decide +kernel
theorem dL_law_219 : decode cL_law 219 = .ok (.iconst 0, 1) := by decide +kernel
theorem dL_law_220 : decode cL_law 220 = .ok (.ireturn, 1) := by decide +kernel
theorem dL_law_221 : decode cL_law 221 = .ok (.aload_n 1, 1) := by decide +kernel
theorem dL_law_222 : decode cL_law 222 = .ok (.invokevirtual 26, 3) := by decide +kernel
theorem dL_law_225 : decode cL_law 225 = .ok (.aload_n 2, 1) := by decide +kernel
theorem dL_law_226 : decode cL_law 226 = .ok (.invokevirtual 29, 3) := by decide +kernel
theorem dL_law_229 : decode cL_law 229 = .ok (.goto 144, 3) := by decide +kernel
theorem dL_law_232 : decode cL_law 232 = .ok (.aload_n 1, 1) := by decide +kernel
theorem dL_law_233 : decode cL_law 233 = .ok (.aload_n 0, 1) := by decide +kernel
theorem dL_law_234 : decode cL_law 234 = .ok (.iload_n 3, 1) := by decide +kernel
theorem dL_law_235 : decode cL_law 235 = .ok (.iconst 1, 1) := by decide +kernel
theorem dL_law_236 : decode cL_law 236 = .ok (.iadd, 1) := by decide +kernel
theorem dL_law_237 : decode cL_law 237 = .ok (.iaload, 1) := by decide +kernel
theorem dL_law_238 : decode cL_law 238 = .ok (.invokevirtual 30, 3) := by decide +kernel
theorem dL_law_241 : decode cL_law 241 = .ok (.aload_n 2, 1) := by decide +kernel
theorem dL_law_242 : decode cL_law 242 = .ok (.aload_n 0, 1) := by decide +kernel
theorem dL_law_243 : decode cL_law 243 = .ok (.iload_n 3, 1) := by decide +kernel
theorem dL_law_244 : decode cL_law 244 = .ok (.iconst 1, 1) := by decide +kernel
theorem dL_law_245 : decode cL_law 245 = .ok (.iadd, 1) := by decide +kernel
theorem dL_law_246 : decode cL_law 246 = .ok (.iaload, 1) := by decide +kernel
theorem dL_law_247 : decode cL_law 247 = .ok (.invokevirtual 34, 3) := by decide +kernel
theorem dL_law_250 : decode cL_law 250 = .ok (.if_icmp .eq 123, 3) := by decide +kernel
theorem dL_law_253 : decode cL_law 253 = .ok (.iconst 0, 1) := by decide +kernel
theorem dL_law_254 : decode cL_law 254 = .ok (.ireturn, 1) := by decide +kernel
theorem dL_law_255 : decode cL_law 255 = .ok (.aload_n 1, 1) := by decide +kernel
theorem dL_law_256 : decode cL_law 256 = .ok (.invokevirtual 35, 3) := by decide +kernel
theorem dL_law_259 : decode cL_law 259 = .ok (.aload_n 2, 1) := by decide +kernel
theorem dL_law_260 : decode cL_law 260 = .ok (.invokevirtual 39, 3) := by decide +kernel
theorem dL_law_263 : decode cL_law 263 = .ok (.if_icmp .eq 110, 3) := by decide +kernel
theorem dL_law_266 : decode cL_law 266 = .ok (.iconst 0, 1) := by decide +kernel
theorem dL_law_267 : decode cL_law 267 = .ok (.ireturn, 1) := by decide +kernel
theorem dL_law_268 : decode cL_law 268 = .ok (.aload_n 1, 1) := by decide +kernel
theorem dL_law_269 : decode cL_law 269 = .ok (.aload_n 0, 1) := by decide +kernel
theorem dL_law_270 : decode cL_law 270 = .ok (.iload_n 3, 1) := by decide +kernel
theorem dL_law_271 : decode cL_law 271 = .ok (.iconst 1, 1) := by decide +kernel
theorem dL_law_272 : decode cL_law 272 = .ok (.iadd, 1) := by decide +kernel
theorem dL_law_273 : decode cL_law 273 = .ok (.iaload, 1) := by decide +kernel
theorem dL_law_274 : decode cL_law 274 = .ok (.invokevirtual 40, 3) := by decide +kernel
theorem dL_law_277 : decode cL_law 277 = .ok (.aload_n 2, 1) := by decide +kernel
theorem dL_law_278 : decode cL_law 278 = .ok (.aload_n 0, 1) := by decide +kernel
theorem dL_law_279 : decode cL_law 279 = .ok (.iload_n 3, 1) := by decide +kernel
theorem dL_law_280 : decode cL_law 280 = .ok (.iconst 1, 1) := by decide +kernel
theorem dL_law_281 : decode cL_law 281 = .ok (.iadd, 1) := by decide +kernel
theorem dL_law_282 : decode cL_law 282 = .ok (.iaload, 1) := by decide +kernel
theorem dL_law_283 : decode cL_law 283 = .ok (.invokevirtual 43, 3) := by decide +kernel
theorem dL_law_286 : decode cL_law 286 = .ok (.if_icmp .eq 87, 3) := by decide +kernel
theorem dL_law_289 : decode cL_law 289 = .ok (.iconst 0, 1) := by decide +kernel
theorem dL_law_290 : decode cL_law 290 = .ok (.ireturn, 1) := by decide +kernel
theorem dL_law_291 : decode cL_law 291 = .ok (.aload_n 1, 1) := by decide +kernel
end
section
set_option maxRecDepth 100000
theorem dL_law_292 : decode cL_law 292 = .ok (.aload_n 0, 1) := by decide +kernel
theorem dL_law_293 : decode cL_law 293 = .ok (.iload_n 3, 1) := by decide +kernel
theorem dL_law_294 : decode cL_law 294 = .ok (.iconst 1, 1) := by decide +kernel
theorem dL_law_295 : decode cL_law 295 = .ok (.iadd, 1) := by decide +kernel
theorem dL_law_296 : decode cL_law 296 = .ok (.iaload, 1) := by decide +kernel
theorem dL_law_297 : decode cL_law 297 = .ok (.aload_n 0, 1) := by decide +kernel
theorem dL_law_298 : decode cL_law 298 = .ok (.iload_n 3, 1) := by decide +kernel
theorem dL_law_299 : decode cL_law 299 = .ok (.iconst 2, 1) := by decide +kernel
theorem dL_law_300 : decode cL_law 300 = .ok (.iadd, 1) := by decide +kernel
theorem dL_law_301 : decode cL_law 301 = .ok (.iaload, 1) := by decide +kernel
theorem dL_law_302 : decode cL_law 302 = .ok (.invokevirtual 44, 3) := by decide +kernel
theorem dL_law_305 : decode cL_law 305 = .ok (.aload_n 2, 1) := by decide +kernel
theorem dL_law_306 : decode cL_law 306 = .ok (.aload_n 0, 1) := by decide +kernel
theorem dL_law_307 : decode cL_law 307 = .ok (.iload_n 3, 1) := by decide +kernel
theorem dL_law_308 : decode cL_law 308 = .ok (.iconst 1, 1) := by decide +kernel
theorem dL_law_309 : decode cL_law 309 = .ok (.iadd, 1) := by decide +kernel
theorem dL_law_310 : decode cL_law 310 = .ok (.iaload, 1) := by decide +kernel
theorem dL_law_311 : decode cL_law 311 = .ok (.aload_n 0, 1) := by decide +kernel
theorem dL_law_312 : decode cL_law 312 = .ok (.iload_n 3, 1) := by decide +kernel
theorem dL_law_313 : decode cL_law 313 = .ok (.iconst 2, 1) := by decide +kernel
theorem dL_law_314 : decode cL_law 314 = .ok (.iadd, 1) := by decide +kernel
theorem dL_law_315 : decode cL_law 315 = .ok (.iaload, 1) := by decide +kernel
theorem dL_law_316 : decode cL_law 316 = .ok (.invokevirtual 48, 3) := by decide +kernel
theorem dL_law_319 : decode cL_law 319 = .ok (.if_icmp .eq 54, 3) := by decide +kernel
theorem dL_law_322 : decode cL_law 322 = .ok (.iconst 0, 1) := by decide +kernel
theorem dL_law_323 : decode cL_law 323 = .ok (.ireturn, 1) := by decide +kernel
theorem dL_law_324 : decode cL_law 324 = .ok (.aload_n 1, 1) := by decide +kernel
theorem dL_law_325 : decode cL_law 325 = .ok (.aload_n 0, 1) := by decide +kernel
theorem dL_law_326 : decode cL_law 326 = .ok (.iload_n 3, 1) := by decide +kernel
theorem dL_law_327 : decode cL_law 327 = .ok (.iconst 1, 1) := by decide +kernel
theorem dL_law_328 : decode cL_law 328 = .ok (.iadd, 1) := by decide +kernel
theorem dL_law_329 : decode cL_law 329 = .ok (.iaload, 1) := by decide +kernel
theorem dL_law_330 : decode cL_law 330 = .ok (.invokevirtual 49, 3) := by decide +kernel
theorem dL_law_333 : decode cL_law 333 = .ok (.aload_n 2, 1) := by decide +kernel
theorem dL_law_334 : decode cL_law 334 = .ok (.aload_n 0, 1) := by decide +kernel
theorem dL_law_335 : decode cL_law 335 = .ok (.iload_n 3, 1) := by decide +kernel
theorem dL_law_336 : decode cL_law 336 = .ok (.iconst 1, 1) := by decide +kernel
theorem dL_law_337 : decode cL_law 337 = .ok (.iadd, 1) := by decide +kernel
theorem dL_law_338 : decode cL_law 338 = .ok (.iaload, 1) := by decide +kernel
theorem dL_law_339 : decode cL_law 339 = .ok (.invokevirtual 53, 3) := by decide +kernel
theorem dL_law_342 : decode cL_law 342 = .ok (.if_icmp .eq 31, 3) := by decide +kernel
theorem dL_law_345 : decode cL_law 345 = .ok (.iconst 0, 1) := by decide +kernel
theorem dL_law_346 : decode cL_law 346 = .ok (.ireturn, 1) := by decide +kernel
theorem dL_law_347 : decode cL_law 347 = .ok (.aload_n 1, 1) := by decide +kernel
theorem dL_law_348 : decode cL_law 348 = .ok (.invokevirtual 54, 3) := by decide +kernel
theorem dL_law_351 : decode cL_law 351 = .ok (.aload_n 2, 1) := by decide +kernel
theorem dL_law_352 : decode cL_law 352 = .ok (.invokevirtual 57, 3) := by decide +kernel
theorem dL_law_355 : decode cL_law 355 = .ok (.if_icmp .eq 18, 3) := by decide +kernel
theorem dL_law_358 : decode cL_law 358 = .ok (.iconst 0, 1) := by decide +kernel
theorem dL_law_359 : decode cL_law 359 = .ok (.ireturn, 1) := by decide +kernel
theorem dL_law_360 : decode cL_law 360 = .ok (.aload_n 1, 1) := by decide +kernel
theorem dL_law_361 : decode cL_law 361 = .ok (.invokevirtual 58, 3) := by decide +kernel
theorem dL_law_364 : decode cL_law 364 = .ok (.aload_n 2, 1) := by decide +kernel
theorem dL_law_365 : decode cL_law 365 = .ok (.invokevirtual 61, 3) := by decide +kernel
theorem dL_law_368 : decode cL_law 368 = .ok (.if_icmp .eq 5, 3) := by decide +kernel
theorem dL_law_371 : decode cL_law 371 = .ok (.iconst 0, 1) := by decide +kernel
theorem dL_law_372 : decode cL_law 372 = .ok (.ireturn, 1) := by decide +kernel
theorem dL_law_373 : decode cL_law 373 = .ok (.iinc 3 4, 3) := by decide +kernel
theorem dL_law_376 : decode cL_law 376 = .ok (.goto (-358), 3) := by decide +kernel
theorem dL_law_379 : decode cL_law 379 = .ok (.iconst 1, 1) := by decide +kernel
end
section
set_option maxRecDepth 100000
theorem dL_law_380 : decode cL_law 380 = .ok (.ireturn, 1) := by decide +kernel
end
section
set_option maxRecDepth 100000
abbrev vwCl : List vw_C := [(RX0, TX0, 12), (RX1, TX1, 2)]
abbrev rd_St : Type := Nat → Nat → Nat
def rd_rm (n : Nat) : Room := { frames := n, cells := 0, slots := 0, locals := 30 * n }
def rd_up (σ : rd_St) (c k x : Nat) : rd_St := fun c' j => if c' = c ∧ j = k then x else σ c' j
theorem rd_up_self (σ : rd_St) (c k x : Nat) : rd_up σ c k x c k = x := if_pos ⟨rfl, rfl⟩
theorem rd_up_ne (σ : rd_St) {c k x c' j : Nat} (h : ¬ (c' = c ∧ j = k)) : rd_up σ c k x c' j = σ c' j := if_neg h
/-- the doll's object and its nine arrays -/
def rd_dw (h : Nat) (a : Nat → Nat) (cA : ClassId) (σ : rd_St) : va_W :=
  [(h, .inr (0, [.ref (a 0), .ref (a 1), .int (nI (σ 9 0)), .ref (a 2), .ref (a 3), .int (nI (σ 9 1)), .ref (a 4), .ref (a 5), .ref (a 6), .int (nI (σ 9 2)), .ref (a 7), .ref (a 8)])),
   (a 0, .inl (cA, 18, .inl (fun j => nI (σ 0 j)))),
   (a 1, .inl (cA, 324, .inl (fun j => nI (σ 1 j)))),
   (a 2, .inl (cA, 7, .inl (fun j => nI (σ 2 j)))),
   (a 3, .inl (cA, 6, .inl (fun j => nI (σ 3 j)))),
   (a 4, .inl (cA, 6, .inl (fun j => nI (σ 4 j) - 1))),
   (a 5, .inl (cA, 7, .inl (fun j => nI (σ 5 j)))),
   (a 6, .inl (cA, 126, .inl (fun j => nI (σ 6 j)))),
   (a 7, .inl (cA, 6, .inl (fun j => nI (σ 7 j)))),
   (a 8, .inl (cA, 6, .inl (fun j => nI (σ 8 j))))]
/-- the reference's object and its two arrays -/
def rd_mw (h : Nat) (a : Nat → Nat) (cA : ClassId) (σ : rd_St) : va_W :=
  [(h, .inr (1, [.ref (a 0), .ref (a 1)])),
   (a 0, .inl (cA, 18, .inl (fun j => nI (σ 0 j)))),
   (a 1, .inl (cA, 324, .inl (fun j => nI (σ 1 j))))]
def rd_W (D : va_G) (wd : rd_St → va_W) (A : Nat → Prop) (H0 H : Heap) (locs : List Loc) (σ : rd_St) : Prop := va_P D vwCl (wd σ) H ∧ va_D A (wd σ) ∧ va_S A H0 H locs
def rd_E (p : Program) (s : State) (m : MethodId) (args : Array Value) (meth : Method) (c : Code) (cc : ByteArray) (nL : Nat) (ret : Option FieldType) (own : String) (A : Nat → Prop) : Prop :=
  p.tables.exec = Jvm.exec ∧ c.code = cc ∧ meth.sig.returnType = ret ∧ c.maxLocals = nL ∧ s.vm.findClass own = some m.cls ∧ (∀ w ∈ lw_all, w.before args s = true) ∧ meth.locks = false ∧ ∀ q : Nat, s.heap.size ≤ q → A q
def rd_pre (D : va_G) (cA : ClassId) (ws : va_W) (sz : Nat) (U : State) : Prop := U.heap.size = sz ∧ va_P D vwCl ws U.heap ∧ va_K D vwCl [(cA, .int)] U ∧ va_D (fun _ => True) ws
def rd_be (D : va_G) (cA : ClassId) (wd : rd_St → va_W) (A : Nat → Prop) (u : rd_St) (t : State) : Prop := va_P D vwCl (wd u) t.heap ∧ va_K D vwCl [(cA, .int)] t ∧ va_D A (wd u)
/-- a method with an int (or boolean) answer: 'post answer newState' -/
def rd_MI (l : Launch) (y : MethodName) (cd : ByteArray) (nL : Nat) (ret : Option FieldType) (n : Nat) (av : List Value) (D : va_G) (cA : ClassId) (wd : rd_St → va_W) (σ : rd_St) (post : Int32 → rd_St → Prop) : Prop :=
  ∀ sz : Nat, Met l y (ws_ y cd nL ret) (rd_rm n) (va_Pc av (rd_pre D cA (wd σ) sz)) (va_Qi post (rd_be D cA wd (va_A (wd σ) sz)) (va_A (wd σ) sz)) 0 0 (va_A (wd σ) sz)
/-- a void method -/
def rd_MV (l : Launch) (y : MethodName) (cd : ByteArray) (nL : Nat) (ret : Option FieldType) (n : Nat) (av : List Value) (D : va_G) (cA : ClassId) (wd : rd_St → va_W) (σ : rd_St) (post : rd_St → Prop) : Prop :=
  ∀ sz : Nat, Met l y (ws_ y cd nL ret) (rd_rm n) (va_Pc av (rd_pre D cA (wd σ) sz)) (va_Qv post (rd_be D cA wd (va_A (wd σ) sz)) (va_A (wd σ) sz)) 0 0 (va_A (wd σ) sz)
theorem rd_blind {av : List Value} {D : va_G} {cA : ClassId} {ws : va_W} {sz : Nat} : FrameBlind (va_Pc av (rd_pre D cA ws sz)) := fun a U g mk q => by
  obtain ⟨q0, q1, qP, qK, qD⟩ := q
  exact ⟨q0, q1, qP, va_K.moved (u := U) (U := U.calling g mk a) (Vm.Alike.refl U.vm) qK, qD⟩
theorem rd_entI {l : Launch} {y : MethodName} {cd : ByteArray} {nL : Nat} {ret : Option FieldType} {n : Nat} {av : List Value} {D : va_G} {cA : ClassId} {wd : rd_St → va_W} {σ : rd_St} {post : Int32 → rd_St → Prop} (hy : plainName y.cls = true) (hln : (lg_sl av).length ≤ nL)
    (body : ∀ (p : Program) (e : Env) (s : State) (m : MethodId) (below : List Frame) (meth : Method) (c : Code) (A : Nat → Prop), rd_E p s m av.toArray meth c cd nL ret y.cls A → va_K D vwCl [(cA, .int)] s → rd_W D wd A s.heap s.heap [] σ → ∀ ls : Array Slot, lv_has ls nL (lv_args 0 av) → W p l e (rd_rm n) s m av.toArray below meth c s.heap [] 0 0 (MQ below (va_Qi post (rd_be D cA wd A) A) av.toArray s 0 0 A) (F0 m 0 ls [])) : rd_MI l y cd nL ret n av D cA wd σ post := by
  intro sz
  refine Met.ofW (cc := cd) (maxL := nL) (ret := ret) hy rfl ?_
  intro p e s m args below meth c s₁ B hml hv
  obtain ⟨rfl, hsz, hP, hK, hD0⟩ := hv
  have hts := atoms_spec (ws := ws_ y cd nL ret) B.pre
  have hts : ∀ w ∈ lw_all, w.before av.toArray s = true := fun w h => hts w (List.mem_cons_of_mem _ h)
  subst hsz
  have hl := lv_entry av (n := nL) hln
  rw [lg_entry_eq]
  exact body p e s m below meth c (va_A (wd σ) s.heap.size) ⟨B.exec, B.bytes, B.returns, hml, findClass_of_methodNamed B.named, hts, B.notSynchronized, fun q h => Or.inr h⟩ hK ⟨hP, hD0.self, va_S.rf⟩ _ hl
theorem rd_entV {l : Launch} {y : MethodName} {cd : ByteArray} {nL : Nat} {ret : Option FieldType} {n : Nat} {av : List Value} {D : va_G} {cA : ClassId} {wd : rd_St → va_W} {σ : rd_St} {post : rd_St → Prop} (hy : plainName y.cls = true) (hln : (lg_sl av).length ≤ nL)
    (body : ∀ (p : Program) (e : Env) (s : State) (m : MethodId) (below : List Frame) (meth : Method) (c : Code) (A : Nat → Prop), rd_E p s m av.toArray meth c cd nL ret y.cls A → va_K D vwCl [(cA, .int)] s → rd_W D wd A s.heap s.heap [] σ → ∀ ls : Array Slot, lv_has ls nL (lv_args 0 av) → W p l e (rd_rm n) s m av.toArray below meth c s.heap [] 0 0 (MQ below (va_Qv post (rd_be D cA wd A) A) av.toArray s 0 0 A) (F0 m 0 ls [])) : rd_MV l y cd nL ret n av D cA wd σ post := by
  intro sz
  refine Met.ofW (cc := cd) (maxL := nL) (ret := ret) hy rfl ?_
  intro p e s m args below meth c s₁ B hml hv
  obtain ⟨rfl, hsz, hP, hK, hD0⟩ := hv
  have hts := atoms_spec (ws := ws_ y cd nL ret) B.pre
  have hts : ∀ w ∈ lw_all, w.before av.toArray s = true := fun w h => hts w (List.mem_cons_of_mem _ h)
  subst hsz
  have hl := lv_entry av (n := nL) hln
  rw [lg_entry_eq]
  exact body p e s m below meth c (va_A (wd σ) s.heap.size) ⟨B.exec, B.bytes, B.returns, hml, findClass_of_methodNamed B.named, hts, B.notSynchronized, fun q h => Or.inr h⟩ hK ⟨hP, hD0.self, va_S.rf⟩ _ hl
section RDB
variable {p : Program} {l : Launch} {e : Env} {R : Room} {s : State} {m : MethodId} {args : Array Value} {below : List Frame} {meth : Method} {c : Code} {H : Heap} {locs : List Loc} {cells slots : Nat} {Q : State → Prop}
variable {cc : ByteArray} {pc : Nat} {ls : Array Slot} {rest : List Value} {D : va_G} {cA : ClassId} {wd : rd_St → va_W} {A : Nat → Prop} {σ : rd_St} {nL : Nat} {rt : Option FieldType} {own : String}
theorem rd_reti {post : Int32 → rd_St → Prop} {v : Int32} (E : rd_E p s m args meth c cc nL (some .int) own A) (hK : va_K D vwCl [(cA, .int)] s) (hw : rd_W D wd A s.heap H locs σ) (hp : post v σ) (hd : decode cc pc = .ok (.ireturn, 1)) : W p l e R s m args below meth c H locs 0 0 (MQ below (va_Qi post (rd_be D cA wd A) A) args s 0 0 A) (F0 m pc ls [.int v]) :=
  W.iret E.1 E.2.1 E.2.2.1 (fun t ht hW => ⟨⟨v, σ, rfl, hp, by rw [ht]; exact hw.1, va_K.moved hW.alike hK, hw.2.1⟩, hw.2.2.F ht⟩) hw.2.2.2.2 hd E.2.2.2.2.2.2.1
theorem rd_retz {post : Int32 → rd_St → Prop} {v : Int32} (E : rd_E p s m args meth c cc nL (some .boolean) own A) (hK : va_K D vwCl [(cA, .int)] s) (hw : rd_W D wd A s.heap H locs σ) (hn : narrow .boolean (.int v) = .int v) (hp : post v σ) (hd : decode cc pc = .ok (.ireturn, 1)) : W p l e R s m args below meth c H locs 0 0 (MQ below (va_Qi post (rd_be D cA wd A) A) args s 0 0 A) (F0 m pc ls [.int v]) :=
  W.zret E.1 E.2.1 E.2.2.1 hn (fun t ht hW => ⟨⟨v, σ, rfl, hp, by rw [ht]; exact hw.1, va_K.moved hW.alike hK, hw.2.1⟩, hw.2.2.F ht⟩) hw.2.2.2.2 hd E.2.2.2.2.2.2.1
theorem rd_retv {post : rd_St → Prop} (E : rd_E p s m args meth c cc nL none own A) (hK : va_K D vwCl [(cA, .int)] s) (hw : rd_W D wd A s.heap H locs σ) (hp : post σ) (hd : decode cc pc = .ok (.return_, 1)) : W p l e R s m args below meth c H locs 0 0 (MQ below (va_Qv post (rd_be D cA wd A) A) args s 0 0 A) (F0 m pc ls []) :=
  W.vret E.1 E.2.1 E.2.2.1 (fun t ht hW => ⟨⟨σ, rfl, hp, by rw [ht]; exact hw.1, va_K.moved hW.alike hK, hw.2.1⟩, hw.2.2.F ht⟩) hw.2.2.2.2 hd E.2.2.2.2.2.2.1
theorem rd_freeA (hD : va_D A (wd σ)) {H0 : Heap} (hS : va_S A H0 H locs) (hA : ∀ q : Nat, H0.size ≤ q → A q) : ∀ q : Nat, va_A (wd σ) H.size q → A q := by
  intro q h
  rcases h with ⟨k, x, hk⟩ | h
  · exact hD.2 k (q, x) hk
  · exact hA q (Nat.le_trans hS.1 h)
theorem rd_calli {y : MethodName} {cd : ByteArray} {nLy n idx : Nat} {ret : Option FieldType} {C : String} {T : u_T} {N ci : Nat} {fs : List Value} {As : List Value} {nA h : Nat} {post : Int32 → rd_St → Prop} {st : List Value}
    (E : rd_E p s m args meth c cc nL rt own A) (hK : va_K D vwCl [(cA, .int)] s) (hw : rd_W D wd A s.heap H locs σ) (hM : rd_MI l y cd nLy ret n (.ref h :: As) D cA wd σ post)
    (hr0 : (wd σ)[0]? = some (h, .inr (ci, fs))) (hc : vwCl[ci]? = some (C, T, N)) (hG : GoodIn lw_all (wsV own idx C y (ws_ y cd nLy ret)))
    (hd : y.cls = C ∧ y.cls ≠ "java/lang/invoke/MethodHandle" ∧ y.cls ≠ "java/lang/invoke/VarHandle" ∧ (parseMethodDescriptor y.desc).map (fun d => d.parameters.length) = some nA) (hnA : As.length = nA)
    (hR : n + 1 ≤ R.frames ∧ 8 + (nLy + 11) + 30 * n ≤ R.locals) (hf : cells ≤ R.cells ∧ slots ≤ R.slots) (hsz : ls.size = nL) (hst : st = As.reverse ++ .ref h :: rest) (hcat : (rest.map fun v => v.category).sum ≤ 8)
    (hdg : decode cc pc = .ok (.invokevirtual idx, 3))
    (kk : ∀ (r : Int32) (u : rd_St) (H1 : Heap) (locs1 : List Loc), post r u → rd_W D wd A s.heap H1 locs1 u → W p l e R s m args below meth c H1 locs1 cells slots Q (F0 m (pc + 3) ls (.int r :: rest))) :
    W p l e R s m args below meth c H locs cells slots Q (F0 m pc ls st) := by
  obtain ⟨hP, hD, hS⟩ := hw
  have hFc := rd_freeA hD hS E.2.2.2.2.2.2.2
  refine va_calli (va_runV (As := As) (rest := rest) ⟨E.1, E.2.1, E.2.2.2.1, E.2.2.2.2.1, E.2.2.2.2.2.1⟩ (hM H.size) (cwV nA E.2.2.2.2.2.1 hG rfl rfl rfl hd hR) ⟨rd_blind, va_recv hK hP hc hr0, fun U hU hW => ⟨rfl, by rw [hU], by rw [hU]; exact hP, va_K.moved hW.alike hK, hD.weaken (fun _ _ _ _ => trivial)⟩⟩ rfl hnA hsz hst (lv_room hcat) hdg hf) hS (fun q _ h => hFc q h) hFc (fun r u t H1 locs1 ht hvm hpost hB hz hk hS1 => ?_)
  obtain ⟨hP1, hK1, hD1⟩ := hB
  rw [ht] at hP1
  exact kk r u H1 locs1 hpost ⟨hP1, hD1.weaken (fun k q _ h => hFc q.1 h), hS1⟩
theorem rd_callv {y : MethodName} {cd : ByteArray} {nLy n idx : Nat} {ret : Option FieldType} {C : String} {T : u_T} {N ci : Nat} {fs : List Value} {As : List Value} {nA h : Nat} {post : rd_St → Prop} {st : List Value}
    (E : rd_E p s m args meth c cc nL rt own A) (hK : va_K D vwCl [(cA, .int)] s) (hw : rd_W D wd A s.heap H locs σ) (hM : rd_MV l y cd nLy ret n (.ref h :: As) D cA wd σ post)
    (hr0 : (wd σ)[0]? = some (h, .inr (ci, fs))) (hc : vwCl[ci]? = some (C, T, N)) (hG : GoodIn lw_all (wsV own idx C y (ws_ y cd nLy ret)))
    (hd : y.cls = C ∧ y.cls ≠ "java/lang/invoke/MethodHandle" ∧ y.cls ≠ "java/lang/invoke/VarHandle" ∧ (parseMethodDescriptor y.desc).map (fun d => d.parameters.length) = some nA) (hnA : As.length = nA)
    (hR : n + 1 ≤ R.frames ∧ 8 + (nLy + 11) + 30 * n ≤ R.locals) (hf : cells ≤ R.cells ∧ slots ≤ R.slots) (hsz : ls.size = nL) (hst : st = As.reverse ++ .ref h :: rest) (hcat : (rest.map fun v => v.category).sum ≤ 8)
    (hdg : decode cc pc = .ok (.invokevirtual idx, 3))
    (kk : ∀ (u : rd_St) (H1 : Heap) (locs1 : List Loc), post u → rd_W D wd A s.heap H1 locs1 u → W p l e R s m args below meth c H1 locs1 cells slots Q (F0 m (pc + 3) ls rest)) :
    W p l e R s m args below meth c H locs cells slots Q (F0 m pc ls st) := by
  obtain ⟨hP, hD, hS⟩ := hw
  have hFc := rd_freeA hD hS E.2.2.2.2.2.2.2
  refine va_callv (va_runV (As := As) (rest := rest) ⟨E.1, E.2.1, E.2.2.2.1, E.2.2.2.2.1, E.2.2.2.2.2.1⟩ (hM H.size) (cwV nA E.2.2.2.2.2.1 hG rfl rfl rfl hd hR) ⟨rd_blind, va_recv hK hP hc hr0, fun U hU hW => ⟨rfl, by rw [hU], by rw [hU]; exact hP, va_K.moved hW.alike hK, hD.weaken (fun _ _ _ _ => trivial)⟩⟩ rfl hnA hsz hst (lv_room hcat) hdg hf) hS (fun q _ h => hFc q h) hFc (fun u t H1 locs1 ht hvm hpost hB hz hk hS1 => ?_)
  obtain ⟨hP1, hK1, hD1⟩ := hB
  rw [ht] at hP1
  exact kk u H1 locs1 hpost ⟨hP1, hD1.weaken (fun k q _ h => hFc q.1 h), hS1⟩
theorem n_add (hx : p.tables.exec = Jvm.exec) (hb : c.code = cc) {x y : Nat} (hdg : decode cc pc = .ok (.iadd, 1))  (k : W p l e R s m args below meth c H locs cells slots Q (F0 m (pc + 1) ls (.int (nI (x + y)) :: rest))) : W p l e R s m args below meth c H locs cells slots Q (F0 m pc ls (.int (nI y) :: .int (nI x) :: rest)) :=
  lv_iadd hx hb hdg (by rw [nI_add]; exact k)
theorem n_mul (hx : p.tables.exec = Jvm.exec) (hb : c.code = cc) {x y : Nat} (hdg : decode cc pc = .ok (.imul, 1))  (k : W p l e R s m args below meth c H locs cells slots Q (F0 m (pc + 1) ls (.int (nI (x * y)) :: rest))) : W p l e R s m args below meth c H locs cells slots Q (F0 m pc ls (.int (nI y) :: .int (nI x) :: rest)) :=
  lv_imul hx hb hdg (by rw [pk_mul]; exact k)
theorem n_sub (hx : p.tables.exec = Jvm.exec) (hb : c.code = cc) {x y : Nat} (hdg : decode cc pc = .ok (.isub, 1)) (h : y ≤ x) (k : W p l e R s m args below meth c H locs cells slots Q (F0 m (pc + 1) ls (.int (nI (x - y)) :: rest))) : W p l e R s m args below meth c H locs cells slots Q (F0 m pc ls (.int (nI y) :: .int (nI x) :: rest)) :=
  lv_isub hx hb hdg (by rw [pk_sub h]; exact k)
theorem n_div (hx : p.tables.exec = Jvm.exec) (hb : c.code = cc) {x y : Nat} (hdg : decode cc pc = .ok (.idiv, 1)) (h1 : x < 2 ^ 31) (h0 : 0 < y) (h2 : y < 2 ^ 31) (k : W p l e R s m args below meth c H locs cells slots Q (F0 m (pc + 1) ls (.int (nI (x / y)) :: rest))) : W p l e R s m args below meth c H locs cells slots Q (F0 m pc ls (.int (nI y) :: .int (nI x) :: rest)) :=
  lv_idiv hx hb hdg (nI_ne0 h0 h2) (by rw [pk_div h1 h0 h2]; exact k)
theorem n_rem (hx : p.tables.exec = Jvm.exec) (hb : c.code = cc) {x y : Nat} (hdg : decode cc pc = .ok (.irem, 1)) (h1 : x < 2 ^ 31) (h0 : 0 < y) (h2 : y < 2 ^ 31) (k : W p l e R s m args below meth c H locs cells slots Q (F0 m (pc + 1) ls (.int (nI (x % y)) :: rest))) : W p l e R s m args below meth c H locs cells slots Q (F0 m pc ls (.int (nI y) :: .int (nI x) :: rest)) :=
  lv_irem hx hb hdg (nI_ne0 h0 h2) (by rw [pk_rem h1 h0 h2]; exact k)
theorem rd_sl : ∀ n, n < 32 → ((nI n &&& 31).toBitVec.smod 32).toNat = n := by decide
theorem n_shr (hx : p.tables.exec = Jvm.exec) (hb : c.code = cc) {x y : Nat} (hdg : decode cc pc = .ok (.ishr, 1)) (h1 : x < 2 ^ 31) (h2 : y < 32) (k : W p l e R s m args below meth c H locs cells slots Q (F0 m (pc + 1) ls (.int (nI (x / 2 ^ y)) :: rest))) : W p l e R s m args below meth c H locs cells slots Q (F0 m pc ls (.int (nI y) :: .int (nI x) :: rest)) :=
  lv_ishr hx hb hdg (by rw [pk_shrN h1 _ y (rd_sl y h2)]; exact k)
theorem n_shl (hx : p.tables.exec = Jvm.exec) (hb : c.code = cc) {x y : Nat} (hdg : decode cc pc = .ok (.ishl, 1)) (h2 : y < 32) (h1 : x * 2 ^ y < 2 ^ 32) (k : W p l e R s m args below meth c H locs cells slots Q (F0 m (pc + 1) ls (.int (nI (x * 2 ^ y)) :: rest))) : W p l e R s m args below meth c H locs cells slots Q (F0 m pc ls (.int (nI y) :: .int (nI x) :: rest)) :=
  lv_ishl hx hb hdg (by rw [pk_shlN _ y (rd_sl y h2) h1]; exact k)
theorem n_and1 (hx : p.tables.exec = Jvm.exec) (hb : c.code = cc) {x : Nat} (hdg : decode cc pc = .ok (.iand, 1)) (h : x < 2 ^ 32) (k : W p l e R s m args below meth c H locs cells slots Q (F0 m (pc + 1) ls (.int (nI (x % 2)) :: rest))) : W p l e R s m args below meth c H locs cells slots Q (F0 m pc ls (.int (nI 1) :: .int (nI x) :: rest)) :=
  lv_iand hx hb hdg (by rw [show nI 1 = (1 : Int32) from rfl, pk_andN h 1 (by decide)]; exact k)
theorem n_ge (hx : p.tables.exec = Jvm.exec) (hb : c.code = cc) {x y : Nat} {off : Int} {tgt : Nat} (hdg : decode cc pc = .ok (.if_icmp .ge off, 3)) (ht : (pc : Int) + off = (tgt : Int)) (h1 : x < 2 ^ 31) (h2 : y < 2 ^ 31)
    (kt : y ≤ x → W p l e R s m args below meth c H locs cells slots Q (F0 m tgt ls (rest))) (kf : x < y → W p l e R s m args below meth c H locs cells slots Q (F0 m (pc + 3) ls (rest))) : W p l e R s m args below meth c H locs cells slots Q (F0 m pc ls (.int (nI y) :: .int (nI x) :: rest)) :=
  lv_icmp_ge hx hb hdg ht (fun h => kt ((nI_leI h2 h1).mp h)) (fun h => kf (Nat.not_le.mp fun q => h ((nI_leI h2 h1).mpr q)))
theorem n_lt (hx : p.tables.exec = Jvm.exec) (hb : c.code = cc) {x y : Nat} {off : Int} {tgt : Nat} (hdg : decode cc pc = .ok (.if_icmp .lt off, 3)) (ht : (pc : Int) + off = (tgt : Int)) (h1 : x < 2 ^ 31) (h2 : y < 2 ^ 31)
    (kt : x < y → W p l e R s m args below meth c H locs cells slots Q (F0 m tgt ls (rest))) (kf : y ≤ x → W p l e R s m args below meth c H locs cells slots Q (F0 m (pc + 3) ls (rest))) : W p l e R s m args below meth c H locs cells slots Q (F0 m pc ls (.int (nI y) :: .int (nI x) :: rest)) :=
  lv_icmp_lt hx hb hdg ht (fun h => kt ((nI_ltI h1 h2).mp h)) (fun h => kf (Nat.not_lt.mp fun q => h ((nI_ltI h1 h2).mpr q)))
theorem n_gt (hx : p.tables.exec = Jvm.exec) (hb : c.code = cc) {x y : Nat} {off : Int} {tgt : Nat} (hdg : decode cc pc = .ok (.if_icmp .gt off, 3)) (ht : (pc : Int) + off = (tgt : Int)) (h1 : x < 2 ^ 31) (h2 : y < 2 ^ 31)
    (kt : y < x → W p l e R s m args below meth c H locs cells slots Q (F0 m tgt ls (rest))) (kf : x ≤ y → W p l e R s m args below meth c H locs cells slots Q (F0 m (pc + 3) ls (rest))) : W p l e R s m args below meth c H locs cells slots Q (F0 m pc ls (.int (nI y) :: .int (nI x) :: rest)) :=
  lv_icmp_gt hx hb hdg ht (fun h => kt ((nI_ltI h2 h1).mp h)) (fun h => kf (Nat.not_lt.mp fun q => h ((nI_ltI h2 h1).mpr q)))
theorem n_le (hx : p.tables.exec = Jvm.exec) (hb : c.code = cc) {x y : Nat} {off : Int} {tgt : Nat} (hdg : decode cc pc = .ok (.if_icmp .le off, 3)) (ht : (pc : Int) + off = (tgt : Int)) (h1 : x < 2 ^ 31) (h2 : y < 2 ^ 31)
    (kt : x ≤ y → W p l e R s m args below meth c H locs cells slots Q (F0 m tgt ls (rest))) (kf : y < x → W p l e R s m args below meth c H locs cells slots Q (F0 m (pc + 3) ls (rest))) : W p l e R s m args below meth c H locs cells slots Q (F0 m pc ls (.int (nI y) :: .int (nI x) :: rest)) :=
  lv_icmp_le hx hb hdg ht (fun h => kt ((nI_leI h1 h2).mp h)) (fun h => kf (Nat.not_le.mp fun q => h ((nI_leI h1 h2).mpr q)))
theorem n_eq (hx : p.tables.exec = Jvm.exec) (hb : c.code = cc) {x y : Nat} {off : Int} {tgt : Nat} (hdg : decode cc pc = .ok (.if_icmp .eq off, 3)) (ht : (pc : Int) + off = (tgt : Int)) (h1 : x < 2 ^ 31) (h2 : y < 2 ^ 31)
    (kt : x = y → W p l e R s m args below meth c H locs cells slots Q (F0 m tgt ls (rest))) (kf : x ≠ y → W p l e R s m args below meth c H locs cells slots Q (F0 m (pc + 3) ls (rest))) : W p l e R s m args below meth c H locs cells slots Q (F0 m pc ls (.int (nI y) :: .int (nI x) :: rest)) :=
  lv_icmp_eq hx hb hdg ht (fun h => kt ((nI_eq h1 h2).mp h)) (fun h => kf (fun q => h ((nI_eq h1 h2).mpr q)))
theorem n_ne (hx : p.tables.exec = Jvm.exec) (hb : c.code = cc) {x y : Nat} {off : Int} {tgt : Nat} (hdg : decode cc pc = .ok (.if_icmp .ne off, 3)) (ht : (pc : Int) + off = (tgt : Int)) (h1 : x < 2 ^ 31) (h2 : y < 2 ^ 31)
    (kt : x ≠ y → W p l e R s m args below meth c H locs cells slots Q (F0 m tgt ls (rest))) (kf : x = y → W p l e R s m args below meth c H locs cells slots Q (F0 m (pc + 3) ls (rest))) : W p l e R s m args below meth c H locs cells slots Q (F0 m pc ls (.int (nI y) :: .int (nI x) :: rest)) :=
  lv_icmp_ne hx hb hdg ht (fun h => kt (fun q => h ((nI_eq h1 h2).mpr q))) (fun h => kf ((nI_eq h1 h2).mp h))
theorem n_ifeq (hx : p.tables.exec = Jvm.exec) (hb : c.code = cc) {x : Nat} {off : Int} {tgt : Nat} (hdg : decode cc pc = .ok (.ifCond .eq off, 3)) (ht : (pc : Int) + off = (tgt : Int)) (h1 : x < 2 ^ 31)
    (kt : x = 0 → W p l e R s m args below meth c H locs cells slots Q (F0 m tgt ls (rest))) (kf : x ≠ 0 → W p l e R s m args below meth c H locs cells slots Q (F0 m (pc + 3) ls (rest))) : W p l e R s m args below meth c H locs cells slots Q (F0 m pc ls (.int (nI x) :: rest)) :=
  lv_if_eq hx hb hdg ht (fun h => kt ((nI_eq (b := 0) h1 (by decide)).mp h)) (fun h => kf (fun q => h ((nI_eq (b := 0) h1 (by decide)).mpr q)))
theorem n_ifne (hx : p.tables.exec = Jvm.exec) (hb : c.code = cc) {x : Nat} {off : Int} {tgt : Nat} (hdg : decode cc pc = .ok (.ifCond .ne off, 3)) (ht : (pc : Int) + off = (tgt : Int)) (h1 : x < 2 ^ 31)
    (kt : x ≠ 0 → W p l e R s m args below meth c H locs cells slots Q (F0 m tgt ls (rest))) (kf : x = 0 → W p l e R s m args below meth c H locs cells slots Q (F0 m (pc + 3) ls (rest))) : W p l e R s m args below meth c H locs cells slots Q (F0 m pc ls (.int (nI x) :: rest)) :=
  lv_if_ne hx hb hdg ht (fun h => kt (fun q => h ((nI_eq (b := 0) h1 (by decide)).mpr q))) (fun h => kf ((nI_eq (b := 0) h1 (by decide)).mp h))
theorem n_iflt (hx : p.tables.exec = Jvm.exec) (hb : c.code = cc) {x : Nat} {off : Int} {tgt : Nat} (hdg : decode cc pc = .ok (.ifCond .lt off, 3)) (ht : (pc : Int) + off = (tgt : Int)) (h1 : x < 2 ^ 31) (kf : W p l e R s m args below meth c H locs cells slots Q (F0 m (pc + 3) ls (rest))) : W p l e R s m args below meth c H locs cells slots Q (F0 m pc ls (.int (nI x) :: rest)) :=
  lv_if_lt hx hb hdg ht (fun h => absurd h (nI_pos h1)) (fun _ => kf)
theorem n_inc (hx : p.tables.exec = Jvm.exec) (hb : c.code = cc) {i k x : Nat} {lv lv' : List (Nat × Value)} (hdg : decode cc pc = .ok (.iinc i 1, 3)) (h : lv_has ls nL lv) (hk : lv[k]? = some (i, .int (nI x))) (hn : i < nL) (hl : (i, Value.int (nI (x + 1))) :: lv.filter (fun q => !(q.1 == i) && !(q.1 + 1 == i && q.2.category == 2)) = lv')
    (kk : ∀ ls' : Array Slot, lv_has ls' nL lv' → W p l e R s m args below meth c H locs cells slots Q (F0 m (pc + 3) ls' rest)) : W p l e R s m args below meth c H locs cells slots Q (F0 m pc ls rest) :=
  lv_iinc (v := nI (x + 1)) hx hb hdg h hk (by rw [← nI_1]; rfl) hn hl kk
theorem n_dec (hx : p.tables.exec = Jvm.exec) (hb : c.code = cc) {i k x : Nat} {lv lv' : List (Nat × Value)} (hdg : decode cc pc = .ok (.iinc i (-1), 3)) (h : lv_has ls nL lv) (hk : lv[k]? = some (i, .int (nI (x + 1)))) (hn : i < nL) (hl : (i, Value.int (nI x)) :: lv.filter (fun q => !(q.1 == i) && !(q.1 + 1 == i && q.2.category == 2)) = lv')
    (kk : ∀ ls' : Array Slot, lv_has ls' nL lv' → W p l e R s m args below meth c H locs cells slots Q (F0 m (pc + 3) ls' rest)) : W p l e R s m args below meth c H locs cells slots Q (F0 m pc ls rest) :=
  lv_iinc (v := nI x) hx hb hdg h hk (by rw [show Int32.ofInt (-1) = (-1 : Int32) from by decide]; exact pk_m1 x) hn hl kk
theorem n_far (E : rd_E p s m args meth c cc nL rt RX0 A) (hdg : decode cc pc = .ok (.ldc 51, 2)) (k : W p l e R s m args below meth c H locs cells slots Q (F0 m (pc + 2) ls (.int (nI 100000) :: rest))) : W p l e R s m args below meth c H locs cells slots Q (F0 m pc ls (rest)) :=
  lv_ldc (own := RX0) (v := 100000) E.1 E.2.1 E.2.2.2.2.1 (E.2.2.2.2.2.1 _ q116) hdg k
/-- an equal number on the stack -/
theorem n_as {x y : Int32} (h : x = y) (k : W p l e R s m args below meth c H locs cells slots Q (F0 m pc ls (.int y :: rest))) : W p l e R s m args below meth c H locs cells slots Q (F0 m pc ls (.int x :: rest)) := by rw [h]; exact k
theorem rd_m1 : ((-1 : Int32)) = nI 0 - 1 := by decide
theorem rd_s1 (n : Nat) : nI (n + 1) - 1 = nI n := nI_pred n
theorem rd_a1 (n : Nat) : nI n - 1 + 1 = nI n := by rw [Int32.sub_add_cancel]
theorem rd_updN (f : Nat → Nat) {k x n : Nat} (hk : k < n) (hn : n ≤ 324) : upd (fun j => nI (f j)) (nI k).toNatClampNeg (nI x) = fun j => nI (if j = k then x else f j) := by
  rw [nI_clamp (by omega)]
  funext j
  by_cases h : j = k
  · simp [upd, h]
  · simp [upd, h]
theorem rd_updC (f : Nat → Nat) {k x n : Nat} (hk : k < n) (hn : n ≤ 324) : upd (fun j => nI (f j) - 1) (nI k).toNatClampNeg (nI x - 1) = fun j => nI (if j = k then x else f j) - 1 := by
  rw [nI_clamp (by omega)]
  funext j
  by_cases h : j = k
  · simp [upd, h]
  · simp [upd, h]
theorem rd_upA (σ : rd_St) (c k x : Nat) : (fun j => nI (if j = k then x else σ c j)) = fun j => nI (rd_up σ c k x c j) := by
  funext j; simp [rd_up]
theorem rd_upAC (σ : rd_St) (c k x : Nat) : (fun j => nI (if j = k then x else σ c j) - 1) = fun j => nI (rd_up σ c k x c j) - 1 := by
  funext j; simp [rd_up]
theorem rd_upB (σ : rd_St) {c c' : Nat} (k x : Nat) (h : c' ≠ c) : σ c' = rd_up σ c k x c' := by
  funext j; simp [rd_up, h]
theorem dg_ownCost {h : Nat} {a : Nat → Nat} (E : rd_E p s m args meth c cc nL rt RX0 A) (hK : va_K D vwCl [(cA, .int)] s) (hw : rd_W D (rd_dw h a cA) A s.heap H locs σ) (hdg : decode cc pc = .ok (.getfield 7, 3)) (kk : W p l e R s m args below meth c H locs cells slots Q (F0 m (pc + 3) ls (.ref (a 0) :: rest))) : W p l e R s m args below meth c H locs cells slots Q (F0 m pc ls (.ref h :: rest)) :=
  va_get (D := D) (ci := 0) (v := .ref (a 0)) (C := RX0) (T := TX0) (N := 12) E.1 E.2.1 E.2.2.2.2.2.1 in_X0 E.2.2.2.2.1 hK hw.1 0 rfl rfl 0 (by decide) (E.2.2.2.2.2.1 _ q34) (fun _ h9 => h9) rfl hdg kk
theorem dl_ownCost {h : Nat} {a : Nat → Nat} {k : Nat} (E : rd_E p s m args meth c cc nL rt own A) (hK : va_K D vwCl [(cA, .int)] s) (hw : rd_W D (rd_dw h a cA) A s.heap H locs σ) (hk : k < 18) (hdg : decode cc pc = .ok (.iaload, 1)) (kk : W p l e R s m args below meth c H locs cells slots Q (F0 m (pc + 1) ls (.int (nI (σ 0 k)) :: rest))) : W p l e R s m args below meth c H locs cells slots Q (F0 m pc ls (.int (nI k) :: .ref (a 0) :: rest)) := by
  refine va_iald (f := (fun j => nI (σ 0 j))) (n := 18) (cA := cA) E.1 E.2.1 hK hw.1 1 0 rfl rfl (vp_in_nI hk (by decide)) hdg ?_
  rw [nI_clamp (by omega)]; exact kk
theorem ds_ownCost {h : Nat} {a : Nat → Nat} {k : Nat} {v : Int32} (x : Nat) (E : rd_E p s m args meth c cc nL rt own A) (hK : va_K D vwCl [(cA, .int)] s) (hw : rd_W D (rd_dw h a cA) A s.heap H locs σ) (hk : k < 18) (hv : v = nI x) (hdg : decode cc pc = .ok (.iastore, 1)) (kk : ∀ (H : Heap) (locs : List Loc), rd_W D (rd_dw h a cA) A s.heap H locs (rd_up σ 0 k x) → W p l e R s m args below meth c H locs cells slots Q (F0 m (pc + 1) ls (rest))) : W p l e R s m args below meth c H locs cells slots Q (F0 m pc ls (.int v :: .int (nI k) :: .ref (a 0) :: rest)) := by
  subst hv
  refine va_iast (f := (fun j => nI (σ 0 j))) (n := 18) (cA := cA) E.1 E.2.1 hK hw.1 hw.2.1 hw.2.2 1 0 rfl rfl (vp_in_nI hk (by decide)) hdg (fun H1 locs1 hP1 hD1 hS1 => kk H1 locs1 ?_)
  rw [rd_updN _ hk (by decide)] at hP1 hD1
  have hq : (rd_dw h a cA σ).set 1 (a 0, .inl (cA, 18, .inl (fun j => nI (if j = k then x else σ 0 j)))) = rd_dw h a cA (rd_up σ 0 k x) := by
    rw [rd_upA σ 0 k x]
    unfold rd_dw
    rw [← rd_upB σ (c := 0) (c' := 1) k x (by decide), ← rd_upB σ (c := 0) (c' := 2) k x (by decide), ← rd_upB σ (c := 0) (c' := 3) k x (by decide), ← rd_upB σ (c := 0) (c' := 4) k x (by decide), ← rd_upB σ (c := 0) (c' := 5) k x (by decide), ← rd_upB σ (c := 0) (c' := 6) k x (by decide), ← rd_upB σ (c := 0) (c' := 7) k x (by decide), ← rd_upB σ (c := 0) (c' := 8) k x (by decide), ← rd_upB σ (c := 0) (c' := 9) k x (by decide)]
    rfl
  rw [hq] at hP1 hD1
  exact ⟨hP1, hD1, hS1⟩
theorem dg_pairCost {h : Nat} {a : Nat → Nat} (E : rd_E p s m args meth c cc nL rt RX0 A) (hK : va_K D vwCl [(cA, .int)] s) (hw : rd_W D (rd_dw h a cA) A s.heap H locs σ) (hdg : decode cc pc = .ok (.getfield 13, 3)) (kk : W p l e R s m args below meth c H locs cells slots Q (F0 m (pc + 3) ls (.ref (a 1) :: rest))) : W p l e R s m args below meth c H locs cells slots Q (F0 m pc ls (.ref h :: rest)) :=
  va_get (D := D) (ci := 0) (v := .ref (a 1)) (C := RX0) (T := TX0) (N := 12) E.1 E.2.1 E.2.2.2.2.2.1 in_X0 E.2.2.2.2.1 hK hw.1 0 rfl rfl 1 (by decide) (E.2.2.2.2.2.1 _ q35) (fun _ h9 => h9) rfl hdg kk
theorem dl_pairCost {h : Nat} {a : Nat → Nat} {k : Nat} (E : rd_E p s m args meth c cc nL rt own A) (hK : va_K D vwCl [(cA, .int)] s) (hw : rd_W D (rd_dw h a cA) A s.heap H locs σ) (hk : k < 324) (hdg : decode cc pc = .ok (.iaload, 1)) (kk : W p l e R s m args below meth c H locs cells slots Q (F0 m (pc + 1) ls (.int (nI (σ 1 k)) :: rest))) : W p l e R s m args below meth c H locs cells slots Q (F0 m pc ls (.int (nI k) :: .ref (a 1) :: rest)) := by
  refine va_iald (f := (fun j => nI (σ 1 j))) (n := 324) (cA := cA) E.1 E.2.1 hK hw.1 2 0 rfl rfl (vp_in_nI hk (by decide)) hdg ?_
  rw [nI_clamp (by omega)]; exact kk
theorem ds_pairCost {h : Nat} {a : Nat → Nat} {k : Nat} {v : Int32} (x : Nat) (E : rd_E p s m args meth c cc nL rt own A) (hK : va_K D vwCl [(cA, .int)] s) (hw : rd_W D (rd_dw h a cA) A s.heap H locs σ) (hk : k < 324) (hv : v = nI x) (hdg : decode cc pc = .ok (.iastore, 1)) (kk : ∀ (H : Heap) (locs : List Loc), rd_W D (rd_dw h a cA) A s.heap H locs (rd_up σ 1 k x) → W p l e R s m args below meth c H locs cells slots Q (F0 m (pc + 1) ls (rest))) : W p l e R s m args below meth c H locs cells slots Q (F0 m pc ls (.int v :: .int (nI k) :: .ref (a 1) :: rest)) := by
  subst hv
  refine va_iast (f := (fun j => nI (σ 1 j))) (n := 324) (cA := cA) E.1 E.2.1 hK hw.1 hw.2.1 hw.2.2 2 0 rfl rfl (vp_in_nI hk (by decide)) hdg (fun H1 locs1 hP1 hD1 hS1 => kk H1 locs1 ?_)
  rw [rd_updN _ hk (by decide)] at hP1 hD1
  have hq : (rd_dw h a cA σ).set 2 (a 1, .inl (cA, 324, .inl (fun j => nI (if j = k then x else σ 1 j)))) = rd_dw h a cA (rd_up σ 1 k x) := by
    rw [rd_upA σ 1 k x]
    unfold rd_dw
    rw [← rd_upB σ (c := 1) (c' := 0) k x (by decide), ← rd_upB σ (c := 1) (c' := 2) k x (by decide), ← rd_upB σ (c := 1) (c' := 3) k x (by decide), ← rd_upB σ (c := 1) (c' := 4) k x (by decide), ← rd_upB σ (c := 1) (c' := 5) k x (by decide), ← rd_upB σ (c := 1) (c' := 6) k x (by decide), ← rd_upB σ (c := 1) (c' := 7) k x (by decide), ← rd_upB σ (c := 1) (c' := 8) k x (by decide), ← rd_upB σ (c := 1) (c' := 9) k x (by decide)]
    rfl
  rw [hq] at hP1 hD1
  exact ⟨hP1, hD1, hS1⟩
theorem dg_solved {h : Nat} {a : Nat → Nat} (E : rd_E p s m args meth c cc nL rt RX0 A) (hK : va_K D vwCl [(cA, .int)] s) (hw : rd_W D (rd_dw h a cA) A s.heap H locs σ) (hdg : decode cc pc = .ok (.getfield 44, 3)) (kk : W p l e R s m args below meth c H locs cells slots Q (F0 m (pc + 3) ls (.int (nI (σ 9 0)) :: rest))) : W p l e R s m args below meth c H locs cells slots Q (F0 m pc ls (.ref h :: rest)) :=
  va_get (D := D) (ci := 0) (v := .int (nI (σ 9 0))) (C := RX0) (T := TX0) (N := 12) E.1 E.2.1 E.2.2.2.2.2.1 in_X0 E.2.2.2.2.1 hK hw.1 0 rfl rfl 2 (by decide) (E.2.2.2.2.2.1 _ q36) (fun _ h9 => h9) rfl hdg kk
theorem dp_solved {h : Nat} {a : Nat → Nat} (x : Nat) (E : rd_E p s m args meth c cc nL rt RX0 A) (hK : va_K D vwCl [(cA, .int)] s) (hw : rd_W D (rd_dw h a cA) A s.heap H locs σ) (hb1 : x ≤ 1) (hdg : decode cc pc = .ok (.putfield 44, 3)) (kk : ∀ (H : Heap) (locs : List Loc), rd_W D (rd_dw h a cA) A s.heap H locs (rd_up σ 9 0 x) → W p l e R s m args below meth c H locs cells slots Q (F0 m (pc + 3) ls (rest))) : W p l e R s m args below meth c H locs cells slots Q (F0 m pc ls (.int (nI x) :: .ref h :: rest)) := by
  have hn : narrow .boolean (.int (nI x)) = .int (nI x) := by rcases (show x = 0 ∨ x = 1 by omega) with rfl | rfl <;> rfl
  have hfit : fits .boolean (.int (nI x)) = true := by rcases (show x = 0 ∨ x = 1 by omega) with rfl | rfl <;> rfl
  refine va_put (D := D) (ci := 0) (v := .int (nI x)) (ty := .boolean) (C := RX0) (T := TX0) (N := 12) E.1 E.2.1 E.2.2.2.2.2.1 in_X0 tyX0 tyX0_ok nmX0 E.2.2.2.2.1 hK hw.1 hw.2.1 hw.2.2 0 rfl rfl 2 (by decide) (E.2.2.2.2.2.1 _ q36) (fun _ h9 => h9) rfl (by decide +kernel) hn hfit (Nat.le_of_ble_eq_true rfl) hdg (fun H1 locs1 hP1 hD1 hS1 => kk H1 locs1 ?_)
  have hq : (rd_dw h a cA σ).set 0 (h, .inr (0, [.ref (a 0), .ref (a 1), .int (nI x), .ref (a 2), .ref (a 3), .int (nI (σ 9 1)), .ref (a 4), .ref (a 5), .ref (a 6), .int (nI (σ 9 2)), .ref (a 7), .ref (a 8)])) = rd_dw h a cA (rd_up σ 9 0 x) := by
    unfold rd_dw
    rw [rd_up_self σ 9 0 x, rd_up_ne σ (c := 9) (k := 0) (x := x) (c' := 9) (j := 1) (by decide), rd_up_ne σ (c := 9) (k := 0) (x := x) (c' := 9) (j := 2) (by decide), ← rd_upB σ (c := 9) (c' := 0) 0 x (by decide), ← rd_upB σ (c := 9) (c' := 1) 0 x (by decide), ← rd_upB σ (c := 9) (c' := 2) 0 x (by decide), ← rd_upB σ (c := 9) (c' := 3) 0 x (by decide), ← rd_upB σ (c := 9) (c' := 4) 0 x (by decide), ← rd_upB σ (c := 9) (c' := 5) 0 x (by decide), ← rd_upB σ (c := 9) (c' := 6) 0 x (by decide), ← rd_upB σ (c := 9) (c' := 7) 0 x (by decide), ← rd_upB σ (c := 9) (c' := 8) 0 x (by decide)]
    rfl
  exact ⟨hq ▸ hP1, hq ▸ hD1, hS1⟩
theorem dg_dolls {h : Nat} {a : Nat → Nat} (E : rd_E p s m args meth c cc nL rt RX0 A) (hK : va_K D vwCl [(cA, .int)] s) (hw : rd_W D (rd_dw h a cA) A s.heap H locs σ) (hdg : decode cc pc = .ok (.getfield 16, 3)) (kk : W p l e R s m args below meth c H locs cells slots Q (F0 m (pc + 3) ls (.ref (a 2) :: rest))) : W p l e R s m args below meth c H locs cells slots Q (F0 m pc ls (.ref h :: rest)) :=
  va_get (D := D) (ci := 0) (v := .ref (a 2)) (C := RX0) (T := TX0) (N := 12) E.1 E.2.1 E.2.2.2.2.2.1 in_X0 E.2.2.2.2.1 hK hw.1 0 rfl rfl 3 (by decide) (E.2.2.2.2.2.1 _ q37) (fun _ h9 => h9) rfl hdg kk
theorem dl_dolls {h : Nat} {a : Nat → Nat} {k : Nat} (E : rd_E p s m args meth c cc nL rt own A) (hK : va_K D vwCl [(cA, .int)] s) (hw : rd_W D (rd_dw h a cA) A s.heap H locs σ) (hk : k < 7) (hdg : decode cc pc = .ok (.iaload, 1)) (kk : W p l e R s m args below meth c H locs cells slots Q (F0 m (pc + 1) ls (.int (nI (σ 2 k)) :: rest))) : W p l e R s m args below meth c H locs cells slots Q (F0 m pc ls (.int (nI k) :: .ref (a 2) :: rest)) := by
  refine va_iald (f := (fun j => nI (σ 2 j))) (n := 7) (cA := cA) E.1 E.2.1 hK hw.1 3 0 rfl rfl (vp_in_nI hk (by decide)) hdg ?_
  rw [nI_clamp (by omega)]; exact kk
theorem ds_dolls {h : Nat} {a : Nat → Nat} {k : Nat} {v : Int32} (x : Nat) (E : rd_E p s m args meth c cc nL rt own A) (hK : va_K D vwCl [(cA, .int)] s) (hw : rd_W D (rd_dw h a cA) A s.heap H locs σ) (hk : k < 7) (hv : v = nI x) (hdg : decode cc pc = .ok (.iastore, 1)) (kk : ∀ (H : Heap) (locs : List Loc), rd_W D (rd_dw h a cA) A s.heap H locs (rd_up σ 2 k x) → W p l e R s m args below meth c H locs cells slots Q (F0 m (pc + 1) ls (rest))) : W p l e R s m args below meth c H locs cells slots Q (F0 m pc ls (.int v :: .int (nI k) :: .ref (a 2) :: rest)) := by
  subst hv
  refine va_iast (f := (fun j => nI (σ 2 j))) (n := 7) (cA := cA) E.1 E.2.1 hK hw.1 hw.2.1 hw.2.2 3 0 rfl rfl (vp_in_nI hk (by decide)) hdg (fun H1 locs1 hP1 hD1 hS1 => kk H1 locs1 ?_)
  rw [rd_updN _ hk (by decide)] at hP1 hD1
  have hq : (rd_dw h a cA σ).set 3 (a 2, .inl (cA, 7, .inl (fun j => nI (if j = k then x else σ 2 j)))) = rd_dw h a cA (rd_up σ 2 k x) := by
    rw [rd_upA σ 2 k x]
    unfold rd_dw
    rw [← rd_upB σ (c := 2) (c' := 0) k x (by decide), ← rd_upB σ (c := 2) (c' := 1) k x (by decide), ← rd_upB σ (c := 2) (c' := 3) k x (by decide), ← rd_upB σ (c := 2) (c' := 4) k x (by decide), ← rd_upB σ (c := 2) (c' := 5) k x (by decide), ← rd_upB σ (c := 2) (c' := 6) k x (by decide), ← rd_upB σ (c := 2) (c' := 7) k x (by decide), ← rd_upB σ (c := 2) (c' := 8) k x (by decide), ← rd_upB σ (c := 2) (c' := 9) k x (by decide)]
    rfl
  rw [hq] at hP1 hD1
  exact ⟨hP1, hD1, hS1⟩
theorem dg_allowed {h : Nat} {a : Nat → Nat} (E : rd_E p s m args meth c cc nL rt RX0 A) (hK : va_K D vwCl [(cA, .int)] s) (hw : rd_W D (rd_dw h a cA) A s.heap H locs σ) (hdg : decode cc pc = .ok (.getfield 19, 3)) (kk : W p l e R s m args below meth c H locs cells slots Q (F0 m (pc + 3) ls (.ref (a 3) :: rest))) : W p l e R s m args below meth c H locs cells slots Q (F0 m pc ls (.ref h :: rest)) :=
  va_get (D := D) (ci := 0) (v := .ref (a 3)) (C := RX0) (T := TX0) (N := 12) E.1 E.2.1 E.2.2.2.2.2.1 in_X0 E.2.2.2.2.1 hK hw.1 0 rfl rfl 4 (by decide) (E.2.2.2.2.2.1 _ q38) (fun _ h9 => h9) rfl hdg kk
theorem dl_allowed {h : Nat} {a : Nat → Nat} {k : Nat} (E : rd_E p s m args meth c cc nL rt own A) (hK : va_K D vwCl [(cA, .int)] s) (hw : rd_W D (rd_dw h a cA) A s.heap H locs σ) (hk : k < 6) (hdg : decode cc pc = .ok (.iaload, 1)) (kk : W p l e R s m args below meth c H locs cells slots Q (F0 m (pc + 1) ls (.int (nI (σ 3 k)) :: rest))) : W p l e R s m args below meth c H locs cells slots Q (F0 m pc ls (.int (nI k) :: .ref (a 3) :: rest)) := by
  refine va_iald (f := (fun j => nI (σ 3 j))) (n := 6) (cA := cA) E.1 E.2.1 hK hw.1 4 0 rfl rfl (vp_in_nI hk (by decide)) hdg ?_
  rw [nI_clamp (by omega)]; exact kk
theorem ds_allowed {h : Nat} {a : Nat → Nat} {k : Nat} {v : Int32} (x : Nat) (E : rd_E p s m args meth c cc nL rt own A) (hK : va_K D vwCl [(cA, .int)] s) (hw : rd_W D (rd_dw h a cA) A s.heap H locs σ) (hk : k < 6) (hv : v = nI x) (hdg : decode cc pc = .ok (.iastore, 1)) (kk : ∀ (H : Heap) (locs : List Loc), rd_W D (rd_dw h a cA) A s.heap H locs (rd_up σ 3 k x) → W p l e R s m args below meth c H locs cells slots Q (F0 m (pc + 1) ls (rest))) : W p l e R s m args below meth c H locs cells slots Q (F0 m pc ls (.int v :: .int (nI k) :: .ref (a 3) :: rest)) := by
  subst hv
  refine va_iast (f := (fun j => nI (σ 3 j))) (n := 6) (cA := cA) E.1 E.2.1 hK hw.1 hw.2.1 hw.2.2 4 0 rfl rfl (vp_in_nI hk (by decide)) hdg (fun H1 locs1 hP1 hD1 hS1 => kk H1 locs1 ?_)
  rw [rd_updN _ hk (by decide)] at hP1 hD1
  have hq : (rd_dw h a cA σ).set 4 (a 3, .inl (cA, 6, .inl (fun j => nI (if j = k then x else σ 3 j)))) = rd_dw h a cA (rd_up σ 3 k x) := by
    rw [rd_upA σ 3 k x]
    unfold rd_dw
    rw [← rd_upB σ (c := 3) (c' := 0) k x (by decide), ← rd_upB σ (c := 3) (c' := 1) k x (by decide), ← rd_upB σ (c := 3) (c' := 2) k x (by decide), ← rd_upB σ (c := 3) (c' := 4) k x (by decide), ← rd_upB σ (c := 3) (c' := 5) k x (by decide), ← rd_upB σ (c := 3) (c' := 6) k x (by decide), ← rd_upB σ (c := 3) (c' := 7) k x (by decide), ← rd_upB σ (c := 3) (c' := 8) k x (by decide), ← rd_upB σ (c := 3) (c' := 9) k x (by decide)]
    rfl
  rw [hq] at hP1 hD1
  exact ⟨hP1, hD1, hS1⟩
theorem dg_differ {h : Nat} {a : Nat → Nat} (E : rd_E p s m args meth c cc nL rt RX0 A) (hK : va_K D vwCl [(cA, .int)] s) (hw : rd_W D (rd_dw h a cA) A s.heap H locs σ) (hdg : decode cc pc = .ok (.getfield 52, 3)) (kk : W p l e R s m args below meth c H locs cells slots Q (F0 m (pc + 3) ls (.int (nI (σ 9 1)) :: rest))) : W p l e R s m args below meth c H locs cells slots Q (F0 m pc ls (.ref h :: rest)) :=
  va_get (D := D) (ci := 0) (v := .int (nI (σ 9 1))) (C := RX0) (T := TX0) (N := 12) E.1 E.2.1 E.2.2.2.2.2.1 in_X0 E.2.2.2.2.1 hK hw.1 0 rfl rfl 5 (by decide) (E.2.2.2.2.2.1 _ q39) (fun _ h9 => h9) rfl hdg kk
theorem dp_differ {h : Nat} {a : Nat → Nat} (x : Nat) (E : rd_E p s m args meth c cc nL rt RX0 A) (hK : va_K D vwCl [(cA, .int)] s) (hw : rd_W D (rd_dw h a cA) A s.heap H locs σ) (hb1 : x ≤ 1) (hdg : decode cc pc = .ok (.putfield 52, 3)) (kk : ∀ (H : Heap) (locs : List Loc), rd_W D (rd_dw h a cA) A s.heap H locs (rd_up σ 9 1 x) → W p l e R s m args below meth c H locs cells slots Q (F0 m (pc + 3) ls (rest))) : W p l e R s m args below meth c H locs cells slots Q (F0 m pc ls (.int (nI x) :: .ref h :: rest)) := by
  have hn : narrow .boolean (.int (nI x)) = .int (nI x) := by rcases (show x = 0 ∨ x = 1 by omega) with rfl | rfl <;> rfl
  have hfit : fits .boolean (.int (nI x)) = true := by rcases (show x = 0 ∨ x = 1 by omega) with rfl | rfl <;> rfl
  refine va_put (D := D) (ci := 0) (v := .int (nI x)) (ty := .boolean) (C := RX0) (T := TX0) (N := 12) E.1 E.2.1 E.2.2.2.2.2.1 in_X0 tyX0 tyX0_ok nmX0 E.2.2.2.2.1 hK hw.1 hw.2.1 hw.2.2 0 rfl rfl 5 (by decide) (E.2.2.2.2.2.1 _ q39) (fun _ h9 => h9) rfl (by decide +kernel) hn hfit (Nat.le_of_ble_eq_true rfl) hdg (fun H1 locs1 hP1 hD1 hS1 => kk H1 locs1 ?_)
  have hq : (rd_dw h a cA σ).set 0 (h, .inr (0, [.ref (a 0), .ref (a 1), .int (nI (σ 9 0)), .ref (a 2), .ref (a 3), .int (nI x), .ref (a 4), .ref (a 5), .ref (a 6), .int (nI (σ 9 2)), .ref (a 7), .ref (a 8)])) = rd_dw h a cA (rd_up σ 9 1 x) := by
    unfold rd_dw
    rw [rd_up_self σ 9 1 x, rd_up_ne σ (c := 9) (k := 1) (x := x) (c' := 9) (j := 0) (by decide), rd_up_ne σ (c := 9) (k := 1) (x := x) (c' := 9) (j := 2) (by decide), ← rd_upB σ (c := 9) (c' := 0) 1 x (by decide), ← rd_upB σ (c := 9) (c' := 1) 1 x (by decide), ← rd_upB σ (c := 9) (c' := 2) 1 x (by decide), ← rd_upB σ (c := 9) (c' := 3) 1 x (by decide), ← rd_upB σ (c := 9) (c' := 4) 1 x (by decide), ← rd_upB σ (c := 9) (c' := 5) 1 x (by decide), ← rd_upB σ (c := 9) (c' := 6) 1 x (by decide), ← rd_upB σ (c := 9) (c' := 7) 1 x (by decide), ← rd_upB σ (c := 9) (c' := 8) 1 x (by decide)]
    rfl
  exact ⟨hq ▸ hP1, hq ▸ hD1, hS1⟩
theorem dg_chosen {h : Nat} {a : Nat → Nat} (E : rd_E p s m args meth c cc nL rt RX0 A) (hK : va_K D vwCl [(cA, .int)] s) (hw : rd_W D (rd_dw h a cA) A s.heap H locs σ) (hdg : decode cc pc = .ok (.getfield 22, 3)) (kk : W p l e R s m args below meth c H locs cells slots Q (F0 m (pc + 3) ls (.ref (a 4) :: rest))) : W p l e R s m args below meth c H locs cells slots Q (F0 m pc ls (.ref h :: rest)) :=
  va_get (D := D) (ci := 0) (v := .ref (a 4)) (C := RX0) (T := TX0) (N := 12) E.1 E.2.1 E.2.2.2.2.2.1 in_X0 E.2.2.2.2.1 hK hw.1 0 rfl rfl 6 (by decide) (E.2.2.2.2.2.1 _ q40) (fun _ h9 => h9) rfl hdg kk
theorem dl_chosen {h : Nat} {a : Nat → Nat} {k : Nat} (E : rd_E p s m args meth c cc nL rt own A) (hK : va_K D vwCl [(cA, .int)] s) (hw : rd_W D (rd_dw h a cA) A s.heap H locs σ) (hk : k < 6) (hdg : decode cc pc = .ok (.iaload, 1)) (kk : W p l e R s m args below meth c H locs cells slots Q (F0 m (pc + 1) ls (.int (nI (σ 4 k) - 1) :: rest))) : W p l e R s m args below meth c H locs cells slots Q (F0 m pc ls (.int (nI k) :: .ref (a 4) :: rest)) := by
  refine va_iald (f := (fun j => nI (σ 4 j) - 1)) (n := 6) (cA := cA) E.1 E.2.1 hK hw.1 5 0 rfl rfl (vp_in_nI hk (by decide)) hdg ?_
  rw [nI_clamp (by omega)]; exact kk
theorem ds_chosen {h : Nat} {a : Nat → Nat} {k : Nat} {v : Int32} (x : Nat) (E : rd_E p s m args meth c cc nL rt own A) (hK : va_K D vwCl [(cA, .int)] s) (hw : rd_W D (rd_dw h a cA) A s.heap H locs σ) (hk : k < 6) (hv : v = nI x - 1) (hdg : decode cc pc = .ok (.iastore, 1)) (kk : ∀ (H : Heap) (locs : List Loc), rd_W D (rd_dw h a cA) A s.heap H locs (rd_up σ 4 k x) → W p l e R s m args below meth c H locs cells slots Q (F0 m (pc + 1) ls (rest))) : W p l e R s m args below meth c H locs cells slots Q (F0 m pc ls (.int v :: .int (nI k) :: .ref (a 4) :: rest)) := by
  subst hv
  refine va_iast (f := (fun j => nI (σ 4 j) - 1)) (n := 6) (cA := cA) E.1 E.2.1 hK hw.1 hw.2.1 hw.2.2 5 0 rfl rfl (vp_in_nI hk (by decide)) hdg (fun H1 locs1 hP1 hD1 hS1 => kk H1 locs1 ?_)
  rw [rd_updC _ hk (by decide)] at hP1 hD1
  have hq : (rd_dw h a cA σ).set 5 (a 4, .inl (cA, 6, .inl (fun j => nI (if j = k then x else σ 4 j) - 1))) = rd_dw h a cA (rd_up σ 4 k x) := by
    rw [rd_upAC σ 4 k x]
    unfold rd_dw
    rw [← rd_upB σ (c := 4) (c' := 0) k x (by decide), ← rd_upB σ (c := 4) (c' := 1) k x (by decide), ← rd_upB σ (c := 4) (c' := 2) k x (by decide), ← rd_upB σ (c := 4) (c' := 3) k x (by decide), ← rd_upB σ (c := 4) (c' := 5) k x (by decide), ← rd_upB σ (c := 4) (c' := 6) k x (by decide), ← rd_upB σ (c := 4) (c' := 7) k x (by decide), ← rd_upB σ (c := 4) (c' := 8) k x (by decide), ← rd_upB σ (c := 4) (c' := 9) k x (by decide)]
    rfl
  rw [hq] at hP1 hD1
  exact ⟨hP1, hD1, hS1⟩
theorem dg_spent {h : Nat} {a : Nat → Nat} (E : rd_E p s m args meth c cc nL rt RX0 A) (hK : va_K D vwCl [(cA, .int)] s) (hw : rd_W D (rd_dw h a cA) A s.heap H locs σ) (hdg : decode cc pc = .ok (.getfield 25, 3)) (kk : W p l e R s m args below meth c H locs cells slots Q (F0 m (pc + 3) ls (.ref (a 5) :: rest))) : W p l e R s m args below meth c H locs cells slots Q (F0 m pc ls (.ref h :: rest)) :=
  va_get (D := D) (ci := 0) (v := .ref (a 5)) (C := RX0) (T := TX0) (N := 12) E.1 E.2.1 E.2.2.2.2.2.1 in_X0 E.2.2.2.2.1 hK hw.1 0 rfl rfl 7 (by decide) (E.2.2.2.2.2.1 _ q41) (fun _ h9 => h9) rfl hdg kk
theorem dl_spent {h : Nat} {a : Nat → Nat} {k : Nat} (E : rd_E p s m args meth c cc nL rt own A) (hK : va_K D vwCl [(cA, .int)] s) (hw : rd_W D (rd_dw h a cA) A s.heap H locs σ) (hk : k < 7) (hdg : decode cc pc = .ok (.iaload, 1)) (kk : W p l e R s m args below meth c H locs cells slots Q (F0 m (pc + 1) ls (.int (nI (σ 5 k)) :: rest))) : W p l e R s m args below meth c H locs cells slots Q (F0 m pc ls (.int (nI k) :: .ref (a 5) :: rest)) := by
  refine va_iald (f := (fun j => nI (σ 5 j))) (n := 7) (cA := cA) E.1 E.2.1 hK hw.1 6 0 rfl rfl (vp_in_nI hk (by decide)) hdg ?_
  rw [nI_clamp (by omega)]; exact kk
theorem ds_spent {h : Nat} {a : Nat → Nat} {k : Nat} {v : Int32} (x : Nat) (E : rd_E p s m args meth c cc nL rt own A) (hK : va_K D vwCl [(cA, .int)] s) (hw : rd_W D (rd_dw h a cA) A s.heap H locs σ) (hk : k < 7) (hv : v = nI x) (hdg : decode cc pc = .ok (.iastore, 1)) (kk : ∀ (H : Heap) (locs : List Loc), rd_W D (rd_dw h a cA) A s.heap H locs (rd_up σ 5 k x) → W p l e R s m args below meth c H locs cells slots Q (F0 m (pc + 1) ls (rest))) : W p l e R s m args below meth c H locs cells slots Q (F0 m pc ls (.int v :: .int (nI k) :: .ref (a 5) :: rest)) := by
  subst hv
  refine va_iast (f := (fun j => nI (σ 5 j))) (n := 7) (cA := cA) E.1 E.2.1 hK hw.1 hw.2.1 hw.2.2 6 0 rfl rfl (vp_in_nI hk (by decide)) hdg (fun H1 locs1 hP1 hD1 hS1 => kk H1 locs1 ?_)
  rw [rd_updN _ hk (by decide)] at hP1 hD1
  have hq : (rd_dw h a cA σ).set 6 (a 5, .inl (cA, 7, .inl (fun j => nI (if j = k then x else σ 5 j)))) = rd_dw h a cA (rd_up σ 5 k x) := by
    rw [rd_upA σ 5 k x]
    unfold rd_dw
    rw [← rd_upB σ (c := 5) (c' := 0) k x (by decide), ← rd_upB σ (c := 5) (c' := 1) k x (by decide), ← rd_upB σ (c := 5) (c' := 2) k x (by decide), ← rd_upB σ (c := 5) (c' := 3) k x (by decide), ← rd_upB σ (c := 5) (c' := 4) k x (by decide), ← rd_upB σ (c := 5) (c' := 6) k x (by decide), ← rd_upB σ (c := 5) (c' := 7) k x (by decide), ← rd_upB σ (c := 5) (c' := 8) k x (by decide), ← rd_upB σ (c := 5) (c' := 9) k x (by decide)]
    rfl
  rw [hq] at hP1 hD1
  exact ⟨hP1, hD1, hS1⟩
theorem dg_ahead {h : Nat} {a : Nat → Nat} (E : rd_E p s m args meth c cc nL rt RX0 A) (hK : va_K D vwCl [(cA, .int)] s) (hw : rd_W D (rd_dw h a cA) A s.heap H locs σ) (hdg : decode cc pc = .ok (.getfield 28, 3)) (kk : W p l e R s m args below meth c H locs cells slots Q (F0 m (pc + 3) ls (.ref (a 6) :: rest))) : W p l e R s m args below meth c H locs cells slots Q (F0 m pc ls (.ref h :: rest)) :=
  va_get (D := D) (ci := 0) (v := .ref (a 6)) (C := RX0) (T := TX0) (N := 12) E.1 E.2.1 E.2.2.2.2.2.1 in_X0 E.2.2.2.2.1 hK hw.1 0 rfl rfl 8 (by decide) (E.2.2.2.2.2.1 _ q42) (fun _ h9 => h9) rfl hdg kk
theorem dl_ahead {h : Nat} {a : Nat → Nat} {k : Nat} (E : rd_E p s m args meth c cc nL rt own A) (hK : va_K D vwCl [(cA, .int)] s) (hw : rd_W D (rd_dw h a cA) A s.heap H locs σ) (hk : k < 126) (hdg : decode cc pc = .ok (.iaload, 1)) (kk : W p l e R s m args below meth c H locs cells slots Q (F0 m (pc + 1) ls (.int (nI (σ 6 k)) :: rest))) : W p l e R s m args below meth c H locs cells slots Q (F0 m pc ls (.int (nI k) :: .ref (a 6) :: rest)) := by
  refine va_iald (f := (fun j => nI (σ 6 j))) (n := 126) (cA := cA) E.1 E.2.1 hK hw.1 7 0 rfl rfl (vp_in_nI hk (by decide)) hdg ?_
  rw [nI_clamp (by omega)]; exact kk
theorem ds_ahead {h : Nat} {a : Nat → Nat} {k : Nat} {v : Int32} (x : Nat) (E : rd_E p s m args meth c cc nL rt own A) (hK : va_K D vwCl [(cA, .int)] s) (hw : rd_W D (rd_dw h a cA) A s.heap H locs σ) (hk : k < 126) (hv : v = nI x) (hdg : decode cc pc = .ok (.iastore, 1)) (kk : ∀ (H : Heap) (locs : List Loc), rd_W D (rd_dw h a cA) A s.heap H locs (rd_up σ 6 k x) → W p l e R s m args below meth c H locs cells slots Q (F0 m (pc + 1) ls (rest))) : W p l e R s m args below meth c H locs cells slots Q (F0 m pc ls (.int v :: .int (nI k) :: .ref (a 6) :: rest)) := by
  subst hv
  refine va_iast (f := (fun j => nI (σ 6 j))) (n := 126) (cA := cA) E.1 E.2.1 hK hw.1 hw.2.1 hw.2.2 7 0 rfl rfl (vp_in_nI hk (by decide)) hdg (fun H1 locs1 hP1 hD1 hS1 => kk H1 locs1 ?_)
  rw [rd_updN _ hk (by decide)] at hP1 hD1
  have hq : (rd_dw h a cA σ).set 7 (a 6, .inl (cA, 126, .inl (fun j => nI (if j = k then x else σ 6 j)))) = rd_dw h a cA (rd_up σ 6 k x) := by
    rw [rd_upA σ 6 k x]
    unfold rd_dw
    rw [← rd_upB σ (c := 6) (c' := 0) k x (by decide), ← rd_upB σ (c := 6) (c' := 1) k x (by decide), ← rd_upB σ (c := 6) (c' := 2) k x (by decide), ← rd_upB σ (c := 6) (c' := 3) k x (by decide), ← rd_upB σ (c := 6) (c' := 4) k x (by decide), ← rd_upB σ (c := 6) (c' := 5) k x (by decide), ← rd_upB σ (c := 6) (c' := 7) k x (by decide), ← rd_upB σ (c := 6) (c' := 8) k x (by decide), ← rd_upB σ (c := 6) (c' := 9) k x (by decide)]
    rfl
  rw [hq] at hP1 hD1
  exact ⟨hP1, hD1, hS1⟩
theorem dg_best {h : Nat} {a : Nat → Nat} (E : rd_E p s m args meth c cc nL rt RX0 A) (hK : va_K D vwCl [(cA, .int)] s) (hw : rd_W D (rd_dw h a cA) A s.heap H locs σ) (hdg : decode cc pc = .ok (.getfield 66, 3)) (kk : W p l e R s m args below meth c H locs cells slots Q (F0 m (pc + 3) ls (.int (nI (σ 9 2)) :: rest))) : W p l e R s m args below meth c H locs cells slots Q (F0 m pc ls (.ref h :: rest)) :=
  va_get (D := D) (ci := 0) (v := .int (nI (σ 9 2))) (C := RX0) (T := TX0) (N := 12) E.1 E.2.1 E.2.2.2.2.2.1 in_X0 E.2.2.2.2.1 hK hw.1 0 rfl rfl 9 (by decide) (E.2.2.2.2.2.1 _ q43) (fun _ h9 => h9) rfl hdg kk
theorem dp_best {h : Nat} {a : Nat → Nat} (x : Nat) (E : rd_E p s m args meth c cc nL rt RX0 A) (hK : va_K D vwCl [(cA, .int)] s) (hw : rd_W D (rd_dw h a cA) A s.heap H locs σ) (hdg : decode cc pc = .ok (.putfield 66, 3)) (kk : ∀ (H : Heap) (locs : List Loc), rd_W D (rd_dw h a cA) A s.heap H locs (rd_up σ 9 2 x) → W p l e R s m args below meth c H locs cells slots Q (F0 m (pc + 3) ls (rest))) : W p l e R s m args below meth c H locs cells slots Q (F0 m pc ls (.int (nI x) :: .ref h :: rest)) := by
  refine va_put (D := D) (ci := 0) (v := .int (nI x)) (ty := .int) (C := RX0) (T := TX0) (N := 12) E.1 E.2.1 E.2.2.2.2.2.1 in_X0 tyX0 tyX0_ok nmX0 E.2.2.2.2.1 hK hw.1 hw.2.1 hw.2.2 0 rfl rfl 9 (by decide) (E.2.2.2.2.2.1 _ q43) (fun _ h9 => h9) rfl (by decide +kernel) rfl rfl (Nat.le_of_ble_eq_true rfl) hdg (fun H1 locs1 hP1 hD1 hS1 => kk H1 locs1 ?_)
  have hq : (rd_dw h a cA σ).set 0 (h, .inr (0, [.ref (a 0), .ref (a 1), .int (nI (σ 9 0)), .ref (a 2), .ref (a 3), .int (nI (σ 9 1)), .ref (a 4), .ref (a 5), .ref (a 6), .int (nI x), .ref (a 7), .ref (a 8)])) = rd_dw h a cA (rd_up σ 9 2 x) := by
    unfold rd_dw
    rw [rd_up_self σ 9 2 x, rd_up_ne σ (c := 9) (k := 2) (x := x) (c' := 9) (j := 0) (by decide), rd_up_ne σ (c := 9) (k := 2) (x := x) (c' := 9) (j := 1) (by decide), ← rd_upB σ (c := 9) (c' := 0) 2 x (by decide), ← rd_upB σ (c := 9) (c' := 1) 2 x (by decide), ← rd_upB σ (c := 9) (c' := 2) 2 x (by decide), ← rd_upB σ (c := 9) (c' := 3) 2 x (by decide), ← rd_upB σ (c := 9) (c' := 4) 2 x (by decide), ← rd_upB σ (c := 9) (c' := 5) 2 x (by decide), ← rd_upB σ (c := 9) (c' := 6) 2 x (by decide), ← rd_upB σ (c := 9) (c' := 7) 2 x (by decide), ← rd_upB σ (c := 9) (c' := 8) 2 x (by decide)]
    rfl
  exact ⟨hq ▸ hP1, hq ▸ hD1, hS1⟩
theorem dg_bestValue {h : Nat} {a : Nat → Nat} (E : rd_E p s m args meth c cc nL rt RX0 A) (hK : va_K D vwCl [(cA, .int)] s) (hw : rd_W D (rd_dw h a cA) A s.heap H locs σ) (hdg : decode cc pc = .ok (.getfield 31, 3)) (kk : W p l e R s m args below meth c H locs cells slots Q (F0 m (pc + 3) ls (.ref (a 7) :: rest))) : W p l e R s m args below meth c H locs cells slots Q (F0 m pc ls (.ref h :: rest)) :=
  va_get (D := D) (ci := 0) (v := .ref (a 7)) (C := RX0) (T := TX0) (N := 12) E.1 E.2.1 E.2.2.2.2.2.1 in_X0 E.2.2.2.2.1 hK hw.1 0 rfl rfl 10 (by decide) (E.2.2.2.2.2.1 _ q44) (fun _ h9 => h9) rfl hdg kk
theorem dl_bestValue {h : Nat} {a : Nat → Nat} {k : Nat} (E : rd_E p s m args meth c cc nL rt own A) (hK : va_K D vwCl [(cA, .int)] s) (hw : rd_W D (rd_dw h a cA) A s.heap H locs σ) (hk : k < 6) (hdg : decode cc pc = .ok (.iaload, 1)) (kk : W p l e R s m args below meth c H locs cells slots Q (F0 m (pc + 1) ls (.int (nI (σ 7 k)) :: rest))) : W p l e R s m args below meth c H locs cells slots Q (F0 m pc ls (.int (nI k) :: .ref (a 7) :: rest)) := by
  refine va_iald (f := (fun j => nI (σ 7 j))) (n := 6) (cA := cA) E.1 E.2.1 hK hw.1 8 0 rfl rfl (vp_in_nI hk (by decide)) hdg ?_
  rw [nI_clamp (by omega)]; exact kk
theorem ds_bestValue {h : Nat} {a : Nat → Nat} {k : Nat} {v : Int32} (x : Nat) (E : rd_E p s m args meth c cc nL rt own A) (hK : va_K D vwCl [(cA, .int)] s) (hw : rd_W D (rd_dw h a cA) A s.heap H locs σ) (hk : k < 6) (hv : v = nI x) (hdg : decode cc pc = .ok (.iastore, 1)) (kk : ∀ (H : Heap) (locs : List Loc), rd_W D (rd_dw h a cA) A s.heap H locs (rd_up σ 7 k x) → W p l e R s m args below meth c H locs cells slots Q (F0 m (pc + 1) ls (rest))) : W p l e R s m args below meth c H locs cells slots Q (F0 m pc ls (.int v :: .int (nI k) :: .ref (a 7) :: rest)) := by
  subst hv
  refine va_iast (f := (fun j => nI (σ 7 j))) (n := 6) (cA := cA) E.1 E.2.1 hK hw.1 hw.2.1 hw.2.2 8 0 rfl rfl (vp_in_nI hk (by decide)) hdg (fun H1 locs1 hP1 hD1 hS1 => kk H1 locs1 ?_)
  rw [rd_updN _ hk (by decide)] at hP1 hD1
  have hq : (rd_dw h a cA σ).set 8 (a 7, .inl (cA, 6, .inl (fun j => nI (if j = k then x else σ 7 j)))) = rd_dw h a cA (rd_up σ 7 k x) := by
    rw [rd_upA σ 7 k x]
    unfold rd_dw
    rw [← rd_upB σ (c := 7) (c' := 0) k x (by decide), ← rd_upB σ (c := 7) (c' := 1) k x (by decide), ← rd_upB σ (c := 7) (c' := 2) k x (by decide), ← rd_upB σ (c := 7) (c' := 3) k x (by decide), ← rd_upB σ (c := 7) (c' := 4) k x (by decide), ← rd_upB σ (c := 7) (c' := 5) k x (by decide), ← rd_upB σ (c := 7) (c' := 6) k x (by decide), ← rd_upB σ (c := 7) (c' := 8) k x (by decide), ← rd_upB σ (c := 7) (c' := 9) k x (by decide)]
    rfl
  rw [hq] at hP1 hD1
  exact ⟨hP1, hD1, hS1⟩
theorem dg_first {h : Nat} {a : Nat → Nat} (E : rd_E p s m args meth c cc nL rt RX0 A) (hK : va_K D vwCl [(cA, .int)] s) (hw : rd_W D (rd_dw h a cA) A s.heap H locs σ) (hdg : decode cc pc = .ok (.getfield 34, 3)) (kk : W p l e R s m args below meth c H locs cells slots Q (F0 m (pc + 3) ls (.ref (a 8) :: rest))) : W p l e R s m args below meth c H locs cells slots Q (F0 m pc ls (.ref h :: rest)) :=
  va_get (D := D) (ci := 0) (v := .ref (a 8)) (C := RX0) (T := TX0) (N := 12) E.1 E.2.1 E.2.2.2.2.2.1 in_X0 E.2.2.2.2.1 hK hw.1 0 rfl rfl 11 (by decide) (E.2.2.2.2.2.1 _ q45) (fun _ h9 => h9) rfl hdg kk
theorem dl_first {h : Nat} {a : Nat → Nat} {k : Nat} (E : rd_E p s m args meth c cc nL rt own A) (hK : va_K D vwCl [(cA, .int)] s) (hw : rd_W D (rd_dw h a cA) A s.heap H locs σ) (hk : k < 6) (hdg : decode cc pc = .ok (.iaload, 1)) (kk : W p l e R s m args below meth c H locs cells slots Q (F0 m (pc + 1) ls (.int (nI (σ 8 k)) :: rest))) : W p l e R s m args below meth c H locs cells slots Q (F0 m pc ls (.int (nI k) :: .ref (a 8) :: rest)) := by
  refine va_iald (f := (fun j => nI (σ 8 j))) (n := 6) (cA := cA) E.1 E.2.1 hK hw.1 9 0 rfl rfl (vp_in_nI hk (by decide)) hdg ?_
  rw [nI_clamp (by omega)]; exact kk
theorem ds_first {h : Nat} {a : Nat → Nat} {k : Nat} {v : Int32} (x : Nat) (E : rd_E p s m args meth c cc nL rt own A) (hK : va_K D vwCl [(cA, .int)] s) (hw : rd_W D (rd_dw h a cA) A s.heap H locs σ) (hk : k < 6) (hv : v = nI x) (hdg : decode cc pc = .ok (.iastore, 1)) (kk : ∀ (H : Heap) (locs : List Loc), rd_W D (rd_dw h a cA) A s.heap H locs (rd_up σ 8 k x) → W p l e R s m args below meth c H locs cells slots Q (F0 m (pc + 1) ls (rest))) : W p l e R s m args below meth c H locs cells slots Q (F0 m pc ls (.int v :: .int (nI k) :: .ref (a 8) :: rest)) := by
  subst hv
  refine va_iast (f := (fun j => nI (σ 8 j))) (n := 6) (cA := cA) E.1 E.2.1 hK hw.1 hw.2.1 hw.2.2 9 0 rfl rfl (vp_in_nI hk (by decide)) hdg (fun H1 locs1 hP1 hD1 hS1 => kk H1 locs1 ?_)
  rw [rd_updN _ hk (by decide)] at hP1 hD1
  have hq : (rd_dw h a cA σ).set 9 (a 8, .inl (cA, 6, .inl (fun j => nI (if j = k then x else σ 8 j)))) = rd_dw h a cA (rd_up σ 8 k x) := by
    rw [rd_upA σ 8 k x]
    unfold rd_dw
    rw [← rd_upB σ (c := 8) (c' := 0) k x (by decide), ← rd_upB σ (c := 8) (c' := 1) k x (by decide), ← rd_upB σ (c := 8) (c' := 2) k x (by decide), ← rd_upB σ (c := 8) (c' := 3) k x (by decide), ← rd_upB σ (c := 8) (c' := 4) k x (by decide), ← rd_upB σ (c := 8) (c' := 5) k x (by decide), ← rd_upB σ (c := 8) (c' := 6) k x (by decide), ← rd_upB σ (c := 8) (c' := 7) k x (by decide), ← rd_upB σ (c := 8) (c' := 9) k x (by decide)]
    rfl
  rw [hq] at hP1 hD1
  exact ⟨hP1, hD1, hS1⟩
theorem mg_owns {h : Nat} {a : Nat → Nat} (E : rd_E p s m args meth c cc nL rt RX1 A) (hK : va_K D vwCl [(cA, .int)] s) (hw : rd_W D (rd_mw h a cA) A s.heap H locs σ) (hdg : decode cc pc = .ok (.getfield 7, 3)) (kk : W p l e R s m args below meth c H locs cells slots Q (F0 m (pc + 3) ls (.ref (a 0) :: rest))) : W p l e R s m args below meth c H locs cells slots Q (F0 m pc ls (.ref h :: rest)) :=
  va_get (D := D) (ci := 1) (v := .ref (a 0)) (C := RX1) (T := TX1) (N := 2) E.1 E.2.1 E.2.2.2.2.2.1 in_X1 E.2.2.2.2.1 hK hw.1 0 rfl rfl 0 (by decide) (E.2.2.2.2.2.1 _ q182) (fun _ h9 => h9) rfl hdg kk
theorem ml_owns {h : Nat} {a : Nat → Nat} {k : Nat} (E : rd_E p s m args meth c cc nL rt own A) (hK : va_K D vwCl [(cA, .int)] s) (hw : rd_W D (rd_mw h a cA) A s.heap H locs σ) (hk : k < 18) (hdg : decode cc pc = .ok (.iaload, 1)) (kk : W p l e R s m args below meth c H locs cells slots Q (F0 m (pc + 1) ls (.int (nI (σ 0 k)) :: rest))) : W p l e R s m args below meth c H locs cells slots Q (F0 m pc ls (.int (nI k) :: .ref (a 0) :: rest)) := by
  refine va_iald (f := (fun j => nI (σ 0 j))) (n := 18) (cA := cA) E.1 E.2.1 hK hw.1 1 0 rfl rfl (vp_in_nI hk (by decide)) hdg ?_
  rw [nI_clamp (by omega)]; exact kk
theorem ms_owns {h : Nat} {a : Nat → Nat} {k : Nat} {v : Int32} (x : Nat) (E : rd_E p s m args meth c cc nL rt own A) (hK : va_K D vwCl [(cA, .int)] s) (hw : rd_W D (rd_mw h a cA) A s.heap H locs σ) (hk : k < 18) (hv : v = nI x) (hdg : decode cc pc = .ok (.iastore, 1)) (kk : ∀ (H : Heap) (locs : List Loc), rd_W D (rd_mw h a cA) A s.heap H locs (rd_up σ 0 k x) → W p l e R s m args below meth c H locs cells slots Q (F0 m (pc + 1) ls (rest))) : W p l e R s m args below meth c H locs cells slots Q (F0 m pc ls (.int v :: .int (nI k) :: .ref (a 0) :: rest)) := by
  subst hv
  refine va_iast (f := (fun j => nI (σ 0 j))) (n := 18) (cA := cA) E.1 E.2.1 hK hw.1 hw.2.1 hw.2.2 1 0 rfl rfl (vp_in_nI hk (by decide)) hdg (fun H1 locs1 hP1 hD1 hS1 => kk H1 locs1 ?_)
  rw [rd_updN _ hk (by decide)] at hP1 hD1
  have hq : (rd_mw h a cA σ).set 1 (a 0, .inl (cA, 18, .inl (fun j => nI (if j = k then x else σ 0 j)))) = rd_mw h a cA (rd_up σ 0 k x) := by
    rw [rd_upA σ 0 k x]
    unfold rd_mw
    rw [← rd_upB σ (c := 0) (c' := 1) k x (by decide)]
    rfl
  rw [hq] at hP1 hD1
  exact ⟨hP1, hD1, hS1⟩
theorem mg_pairs {h : Nat} {a : Nat → Nat} (E : rd_E p s m args meth c cc nL rt RX1 A) (hK : va_K D vwCl [(cA, .int)] s) (hw : rd_W D (rd_mw h a cA) A s.heap H locs σ) (hdg : decode cc pc = .ok (.getfield 13, 3)) (kk : W p l e R s m args below meth c H locs cells slots Q (F0 m (pc + 3) ls (.ref (a 1) :: rest))) : W p l e R s m args below meth c H locs cells slots Q (F0 m pc ls (.ref h :: rest)) :=
  va_get (D := D) (ci := 1) (v := .ref (a 1)) (C := RX1) (T := TX1) (N := 2) E.1 E.2.1 E.2.2.2.2.2.1 in_X1 E.2.2.2.2.1 hK hw.1 0 rfl rfl 1 (by decide) (E.2.2.2.2.2.1 _ q183) (fun _ h9 => h9) rfl hdg kk
theorem ml_pairs {h : Nat} {a : Nat → Nat} {k : Nat} (E : rd_E p s m args meth c cc nL rt own A) (hK : va_K D vwCl [(cA, .int)] s) (hw : rd_W D (rd_mw h a cA) A s.heap H locs σ) (hk : k < 324) (hdg : decode cc pc = .ok (.iaload, 1)) (kk : W p l e R s m args below meth c H locs cells slots Q (F0 m (pc + 1) ls (.int (nI (σ 1 k)) :: rest))) : W p l e R s m args below meth c H locs cells slots Q (F0 m pc ls (.int (nI k) :: .ref (a 1) :: rest)) := by
  refine va_iald (f := (fun j => nI (σ 1 j))) (n := 324) (cA := cA) E.1 E.2.1 hK hw.1 2 0 rfl rfl (vp_in_nI hk (by decide)) hdg ?_
  rw [nI_clamp (by omega)]; exact kk
theorem ms_pairs {h : Nat} {a : Nat → Nat} {k : Nat} {v : Int32} (x : Nat) (E : rd_E p s m args meth c cc nL rt own A) (hK : va_K D vwCl [(cA, .int)] s) (hw : rd_W D (rd_mw h a cA) A s.heap H locs σ) (hk : k < 324) (hv : v = nI x) (hdg : decode cc pc = .ok (.iastore, 1)) (kk : ∀ (H : Heap) (locs : List Loc), rd_W D (rd_mw h a cA) A s.heap H locs (rd_up σ 1 k x) → W p l e R s m args below meth c H locs cells slots Q (F0 m (pc + 1) ls (rest))) : W p l e R s m args below meth c H locs cells slots Q (F0 m pc ls (.int v :: .int (nI k) :: .ref (a 1) :: rest)) := by
  subst hv
  refine va_iast (f := (fun j => nI (σ 1 j))) (n := 324) (cA := cA) E.1 E.2.1 hK hw.1 hw.2.1 hw.2.2 2 0 rfl rfl (vp_in_nI hk (by decide)) hdg (fun H1 locs1 hP1 hD1 hS1 => kk H1 locs1 ?_)
  rw [rd_updN _ hk (by decide)] at hP1 hD1
  have hq : (rd_mw h a cA σ).set 2 (a 1, .inl (cA, 324, .inl (fun j => nI (if j = k then x else σ 1 j)))) = rd_mw h a cA (rd_up σ 1 k x) := by
    rw [rd_upA σ 1 k x]
    unfold rd_mw
    rw [← rd_upB σ (c := 1) (c' := 0) k x (by decide)]
    rfl
  rw [hq] at hP1 hD1
  exact ⟨hP1, hD1, hS1⟩
end RDB
end
section
/-! PURE: costs, sums, codes of assignments, the scan -/
def rd_rl (c : Nat) : Nat := if c = 99 then 100000 else c
def rd_bt (p : Nat → Nat) (df k x j y : Nat) : Nat := if df ≠ 0 ∧ j = k + 1 ∧ x = y then 100000 else rd_rl (p ((k * 6 + j) * 9 + x * 3 + y))
/-- what the values x of the variables st .. st+n-1 add to value y of variable j -/
def rd_AH (p : Nat → Nat) (df : Nat) (x : Nat → Nat) (st : Nat) : Nat → Nat → Nat → Nat
  | 0, _, _ => 0
  | n + 1, j, y => rd_AH p df x st n j y + rd_bt p df (st + n) (x (st + n)) j y
/-- what the values x of the variables st .. st+n-1 cost -/
def rd_SP (o p : Nat → Nat) (df : Nat) (x : Nat → Nat) (st : Nat) : Nat → Nat
  | 0 => 0
  | n + 1 => rd_SP o p df x st n + (rd_rl (o ((st + n) * 3 + x (st + n))) + rd_AH p df x st n (st + n) (x (st + n)))
def rd_dig (a i : Nat) : Nat := a / 3 ^ (5 - i) % 3
def rd_bit (m y : Nat) : Nat := m / 2 ^ y % 2
/-- the cost of code a in a search: 100000 if not allowed -/
def rd_F (o p : Nat → Nat) (df : Nat) (al : Nat → Nat) (st a : Nat) : Nat := if ∀ j, j < 6 → st ≤ j → rd_bit (al j) (rd_dig a j) = 1 then min 100000 (rd_SP o p df (rd_dig a) st (6 - st)) else 100000
/-- the least of F over the codes below n, and the first code that has it -/
def rd_scan (F : Nat → Nat) : Nat → Nat × Nat
  | 0 => (100000, 0)
  | n + 1 => if F n < (rd_scan F n).1 then (F n, n) else rd_scan F n
theorem rd_Mex (k : Nat) : ∃ N : Nat, N = 3 ^ (6 - k) := ⟨_, rfl⟩
/-- 3 ^ (6 - k), sealed: no unfolding runs over its codes -/
noncomputable def rd_M (k : Nat) : Nat := Classical.choose (rd_Mex k)
theorem rd_M_eq (k : Nat) : rd_M k = 3 ^ (6 - k) := Classical.choose_spec (rd_Mex k)
theorem rd_M0 : rd_M 0 = 729 := (rd_M_eq 0).trans (by decide)
theorem rd_scan_100 (F : Nat → Nat) (n : Nat) : (rd_scan F n).1 ≤ 100000 := by
  induction n with
  | zero => exact Nat.le_refl _
  | succ n ih =>
    unfold rd_scan
    by_cases h : F n < (rd_scan F n).1
    · rw [if_pos h]; exact Nat.le_trans (Nat.le_of_lt h) ih
    · rw [if_neg h]; exact ih
theorem rd_scan_le (F : Nat → Nat) (n : Nat) : ∀ a, a < n → (rd_scan F n).1 ≤ F a := by
  induction n with
  | zero => intro a h; omega
  | succ n ih =>
    intro a ha
    unfold rd_scan
    by_cases h : F n < (rd_scan F n).1
    · rw [if_pos h]
      rcases Nat.lt_or_ge a n with q | q
      · exact Nat.le_trans (Nat.le_of_lt h) (ih a q)
      · have e : a = n := by omega
        subst e; exact Nat.le_refl _
    · rw [if_neg h]
      rcases Nat.lt_or_ge a n with q | q
      · exact ih a q
      · have e : a = n := by omega
        subst e; exact Nat.le_of_not_lt h
theorem rd_scan_at (F : Nat → Nat) (n : Nat) : (rd_scan F n).1 = 100000 ∨ ((rd_scan F n).2 < n ∧ F (rd_scan F n).2 = (rd_scan F n).1) := by
  induction n with
  | zero => exact Or.inl rfl
  | succ n ih =>
    unfold rd_scan
    by_cases h : F n < (rd_scan F n).1
    · rw [if_pos h]; exact Or.inr ⟨Nat.lt_succ_self n, rfl⟩
    · rw [if_neg h]
      rcases ih with q | q
      · exact Or.inl q
      · exact Or.inr ⟨Nat.lt_succ_of_lt q.1, q.2⟩
theorem rd_scan_skip (F : Nat → Nat) (n k : Nat) (h : ∀ a, n ≤ a → a < n + k → (rd_scan F n).1 ≤ F a) : rd_scan F (n + k) = rd_scan F n := by
  induction k with
  | zero => rfl
  | succ k ih =>
    have e := ih (fun a h1 h2 => h a h1 (by omega))
    show (if F (n + k) < (rd_scan F (n + k)).1 then (F (n + k), n + k) else rd_scan F (n + k)) = _
    rw [e, if_neg (Nat.not_lt.mpr (h (n + k) (by omega) (by omega)))]
theorem rd_scan_congr {F G : Nat → Nat} (n : Nat) (h : ∀ a, a < n → F a = G a) : rd_scan F n = rd_scan G n := by
  induction n with
  | zero => rfl
  | succ n ih =>
    unfold rd_scan
    rw [ih (fun a q => h a (by omega)), h n (by omega)]
theorem rd_AH_congr {p : Nat → Nat} {df : Nat} {x x' : Nat → Nat} {st : Nat} (n : Nat) (h : ∀ t, t < n → x (st + t) = x' (st + t)) (j y : Nat) : rd_AH p df x st n j y = rd_AH p df x' st n j y := by
  induction n with
  | zero => rfl
  | succ n ih =>
    unfold rd_AH
    rw [ih (fun t q => h t (by omega)), h n (by omega)]
theorem rd_SP_congr {o p : Nat → Nat} {df : Nat} {x x' : Nat → Nat} {st : Nat} (n : Nat) (h : ∀ t, t < n → x (st + t) = x' (st + t)) : rd_SP o p df x st n = rd_SP o p df x' st n := by
  induction n with
  | zero => rfl
  | succ n ih =>
    unfold rd_SP
    rw [ih (fun t q => h t (by omega)), h n (by omega), rd_AH_congr n (fun t q => h t (by omega))]
theorem rd_AH_split (p : Nat → Nat) (df : Nat) (x : Nat → Nat) (st n m j y : Nat) : rd_AH p df x st (n + m) j y = rd_AH p df x st n j y + rd_AH p df x (st + n) m j y := by
  induction m with
  | zero => rfl
  | succ m ih =>
    show rd_AH p df x st (n + m) j y + rd_bt p df (st + (n + m)) (x (st + (n + m))) j y = rd_AH p df x st n j y + (rd_AH p df x (st + n) m j y + rd_bt p df (st + n + m) (x (st + n + m)) j y)
    rw [ih, Nat.add_assoc st n m]
    omega
/-- what the first n add to the m behind them -/
def rd_XS (p : Nat → Nat) (df : Nat) (x : Nat → Nat) (st n : Nat) : Nat → Nat
  | 0 => 0
  | m + 1 => rd_XS p df x st n m + rd_AH p df x st n (st + n + m) (x (st + n + m))
theorem rd_SP_split (o p : Nat → Nat) (df : Nat) (x : Nat → Nat) (st n m : Nat) : rd_SP o p df x st (n + m) = rd_SP o p df x st n + rd_XS p df x st n m + rd_SP o p df x (st + n) m := by
  induction m with
  | zero => rfl
  | succ m ih =>
    show rd_SP o p df x st (n + m) + (rd_rl (o ((st + (n + m)) * 3 + x (st + (n + m)))) + rd_AH p df x st (n + m) (st + (n + m)) (x (st + (n + m)))) = rd_SP o p df x st n + (rd_XS p df x st n m + rd_AH p df x st n (st + n + m) (x (st + n + m))) + (rd_SP o p df x (st + n) m + (rd_rl (o ((st + n + m) * 3 + x (st + n + m))) + rd_AH p df x (st + n) m (st + n + m) (x (st + n + m))))
    rw [ih, rd_AH_split, ← Nat.add_assoc st n m]
    omega
theorem rd_rl_le {c : Nat} (h : c ≤ 100000) : rd_rl c ≤ 100000 := by unfold rd_rl; split <;> omega
theorem rd_bt_le {p : Nat → Nat} (hp : ∀ i, p i ≤ 100000) (df k x j y : Nat) : rd_bt p df k x j y ≤ 100000 := by
  unfold rd_bt; split
  · exact Nat.le_refl _
  · exact rd_rl_le (hp _)
theorem rd_bt_mono {p : Nat → Nat} (hp : ∀ i, p i ≤ 100000) (df k x j y : Nat) : rd_bt p 0 k x j y ≤ rd_bt p df k x j y := by
  have h0 : rd_bt p 0 k x j y = rd_rl (p ((k * 6 + j) * 9 + x * 3 + y)) := by unfold rd_bt; rw [if_neg (fun h => h.1 rfl)]
  rw [h0]
  unfold rd_bt; split
  · exact rd_rl_le (hp _)
  · exact Nat.le_refl _
theorem rd_AH_mono {p : Nat → Nat} (hp : ∀ i, p i ≤ 100000) (df : Nat) (x : Nat → Nat) (st n j y : Nat) : rd_AH p 0 x st n j y ≤ rd_AH p df x st n j y := by
  induction n with
  | zero => exact Nat.le_refl _
  | succ n ih => exact Nat.add_le_add ih (rd_bt_mono hp _ _ _ _ _)
theorem rd_SP_mono {p : Nat → Nat} (hp : ∀ i, p i ≤ 100000) (o : Nat → Nat) (df : Nat) (x : Nat → Nat) (st n : Nat) : rd_SP o p 0 x st n ≤ rd_SP o p df x st n := by
  induction n with
  | zero => exact Nat.le_refl _
  | succ n ih => exact Nat.add_le_add ih (Nat.add_le_add (Nat.le_refl _) (rd_AH_mono hp _ _ _ _ _ _))
/-- the code of the first n values -/
def rd_PC (x : Nat → Nat) (st : Nat) : Nat → Nat
  | 0 => 0
  | n + 1 => rd_PC x st n + x (st + n) * 3 ^ (5 - (st + n))
theorem rd_pw {k : Nat} (h : k < 6) : 3 ^ (6 - k) = 3 * 3 ^ (5 - k) := by
  rw [show 6 - k = (5 - k) + 1 by omega, Nat.pow_succ, Nat.mul_comm]
theorem rd_PC_congr {x x' : Nat → Nat} {st : Nat} (n : Nat) (h : ∀ t, t < n → x (st + t) = x' (st + t)) : rd_PC x st n = rd_PC x' st n := by
  induction n with
  | zero => rfl
  | succ n ih =>
    unfold rd_PC
    rw [ih (fun t q => h t (by omega)), h n (by omega)]
theorem rd_PC_dvd (x : Nat → Nat) (st n : Nat) (h : st + n ≤ 6) : ∃ c, rd_PC x st n = c * 3 ^ (6 - (st + n)) := by
  induction n with
  | zero => exact ⟨0, by simp [rd_PC]⟩
  | succ n ih =>
    obtain ⟨c, hc⟩ := ih (by omega)
    refine ⟨c * 3 + x (st + n), ?_⟩
    unfold rd_PC
    rw [hc, rd_pw (by omega), show 6 - (st + (n + 1)) = 5 - (st + n) by omega, Nat.add_mul, Nat.mul_assoc]
theorem rd_PC_dig (x : Nat → Nat) (st n : Nat) (h : st + n ≤ 6) (hx : ∀ t, t < n → x (st + t) < 3) : ∀ a, rd_PC x st n ≤ a → a < rd_PC x st n + 3 ^ (6 - (st + n)) → ∀ t, t < n → rd_dig a (st + t) = x (st + t) := by
  induction n with
  | zero => intro a _ _ t ht; omega
  | succ n ih =>
    intro a h1 h2 t ht
    have hk : x (st + n) < 3 := hx n (by omega)
    obtain ⟨c, hc⟩ := rd_PC_dvd x st n (by omega)
    have hp := rd_pw (k := st + n) (by omega)
    have e0 : rd_PC x st (n + 1) = rd_PC x st n + x (st + n) * 3 ^ (5 - (st + n)) := rfl
    rw [e0] at h1 h2
    rw [show 6 - (st + (n + 1)) = 5 - (st + n) by omega] at h2
    have hle : x (st + n) * 3 ^ (5 - (st + n)) + 3 ^ (5 - (st + n)) ≤ 3 * 3 ^ (5 - (st + n)) := by
      rw [← Nat.succ_mul]; exact Nat.mul_le_mul_right _ hk
    rcases Nat.lt_or_ge t n with q | q
    · exact ih (by omega) (fun t q => hx t (by omega)) a (by omega) (by rw [hp]; omega) t q
    · have e : t = n := by omega
      subst e
      rw [hp] at hc
      have hpos : 0 < 3 ^ (5 - (st + t)) := Nat.pow_pos (by decide)
      unfold rd_dig
      have hdiv : a / 3 ^ (5 - (st + t)) = c * 3 + x (st + t) := by
        apply Nat.div_eq_of_lt_le
        · rw [Nat.add_mul, Nat.mul_assoc]; omega
        · rw [Nat.succ_mul, Nat.add_mul, Nat.mul_assoc]; omega
      rw [hdiv]
      omega
theorem rd_dig_lt (a i : Nat) : rd_dig a i < 3 := Nat.mod_lt _ (by decide)
/-- the least value that is not smaller than x and allowed; at least 3 if none -/
def rd_nx (m : Nat) : Nat → Nat → Nat
  | 0, x => x
  | f + 1, x => if x < 3 ∧ rd_bit m x = 0 then rd_nx m f (x + 1) else x
theorem rd_nx_ge (m f x : Nat) : x ≤ rd_nx m f x := by
  induction f generalizing x with
  | zero => exact Nat.le_refl _
  | succ f ih =>
    unfold rd_nx; split
    · exact Nat.le_trans (Nat.le_succ x) (ih (x + 1))
    · exact Nat.le_refl _
theorem rd_nx_le (m f x : Nat) (h : x ≤ 3) : rd_nx m f x ≤ 3 := by
  induction f generalizing x with
  | zero => exact h
  | succ f ih =>
    unfold rd_nx; split
    · next q => exact ih (x + 1) (by omega)
    · exact h
theorem rd_nx_not (m f x : Nat) : ∀ v, x ≤ v → v < rd_nx m f x → rd_bit m v = 0 := by
  induction f generalizing x with
  | zero => intro v h1 h2; exact absurd h2 (Nat.not_lt.mpr h1)
  | succ f ih =>
    intro v h1 h2
    unfold rd_nx at h2
    split at h2
    · next q =>
      rcases Nat.lt_or_ge x v with w | w
      · exact ih (x + 1) v w h2
      · have e : v = x := by omega
        rw [e]; exact q.2
    · omega
theorem rd_nx_in (m f x : Nat) (hf : 3 ≤ x + f) (h : rd_nx m f x < 3) : rd_bit m (rd_nx m f x) = 1 := by
  induction f generalizing x with
  | zero => unfold rd_nx at h; omega
  | succ f ih =>
    unfold rd_nx at h ⊢
    split at h
    · next q => rw [if_pos q]; exact ih (x + 1) (by omega) h
    · next q =>
      rw [if_neg q]
      have h2 : rd_bit m x < 2 := Nat.mod_lt _ (by decide)
      have h3 : ¬ rd_bit m x = 0 := fun w => q ⟨h, w⟩
      omega
end
section
/-! PURE: the search's states -/
def rd_Bd (σ : rd_St) : Prop := ∀ c i, σ c i ≤ 100000
theorem rd_Bd_up {σ : rd_St} (h : rd_Bd σ) {c k x : Nat} (hx : x ≤ 100000) : rd_Bd (rd_up σ c k x) := by
  intro c' i; unfold rd_up; split
  · exact hx
  · exact h c' i
def rd_lS (σ : rd_St) (k j : Nat) : Nat → Nat
  | 0 => 100000
  | y + 1 => if rd_bit (σ 3 j) y = 1 ∧ σ 6 ((k * 6 + j) * 3 + y) < rd_lS σ k j y then σ 6 ((k * 6 + j) * 3 + y) else rd_lS σ k j y
def rd_bS (σ : rd_St) (k : Nat) : Nat → Nat
  | 0 => σ 5 k + σ 2 k
  | t + 1 => rd_bS σ k t + rd_lS σ k (k + t) 3
theorem rd_lS_100 (σ : rd_St) (k j n : Nat) : rd_lS σ k j n ≤ 100000 := by
  induction n with
  | zero => exact Nat.le_refl _
  | succ n ih =>
    unfold rd_lS; split
    · next h => omega
    · exact ih
theorem rd_lS_le (σ : rd_St) (k j n : Nat) : ∀ y, y < n → rd_bit (σ 3 j) y = 1 → rd_lS σ k j n ≤ σ 6 ((k * 6 + j) * 3 + y) := by
  induction n with
  | zero => intro y h; omega
  | succ n ih =>
    intro y hy hb
    unfold rd_lS
    rcases Nat.lt_or_ge y n with q | q
    · have := ih y q hb
      split
      · next h => omega
      · exact this
    · have e : y = n := by omega
      subst e
      split
      · exact Nat.le_refl _
      · next h =>
        rcases Nat.lt_or_ge (σ 6 ((k * 6 + j) * 3 + y)) (rd_lS σ k j y) with w | w
        · exact absurd ⟨hb, w⟩ h
        · exact w
theorem rd_bS_100 {σ : rd_St} (hB : rd_Bd σ) (k t : Nat) : rd_bS σ k t ≤ 200000 + t * 100000 := by
  induction t with
  | zero => have h1 := hB 5 k; have h2 := hB 2 k; show σ 5 k + σ 2 k ≤ _; omega
  | succ t ih => have h1 := rd_lS_100 σ k (k + t) 3; show rd_bS σ k t + _ ≤ _; omega
/-- the rows of the values behind k, as far as the t-th -/
def rd_ch (σ : rd_St) (k x t : Nat) : rd_St := fun c i =>
  if c = 6 ∧ (k + 1) * 18 + (k + 1) * 3 ≤ i ∧ i < (k + 1) * 18 + t then min 100000 (σ 6 (i - 18) + rd_bt (σ 1) (σ 9 1) k x ((i - (k + 1) * 18) / 3) ((i - (k + 1) * 18) % 3)) else σ c i
def rd_chA (σ : rd_St) (k x : Nat) : rd_St := rd_up (rd_up σ 4 k (x + 1)) 5 (k + 1) (min 100000 (σ 5 k + (rd_rl (σ 0 (k * 3 + x)) + σ 6 ((k * 6 + k) * 3 + x))))
def rd_choose (σ : rd_St) (k x : Nat) : rd_St := rd_ch (rd_chA σ k x) k x 18
def rd_kp (σ : rd_St) (st j : Nat) : rd_St := fun c i => if c = 7 ∧ st ≤ i ∧ i < j then σ 4 i - 1 else σ c i
def rd_keep (σ : rd_St) (st : Nat) : rd_St := rd_kp (rd_up σ 9 2 (σ 5 6)) st 6
theorem rd_ch_ne (σ : rd_St) (k x t : Nat) {c : Nat} (h : c ≠ 6) : rd_ch σ k x t c = σ c := by
  funext i; unfold rd_ch; rw [if_neg (fun q => h q.1)]
theorem rd_ch_0 (σ : rd_St) (k x : Nat) : rd_ch σ k x ((k + 1) * 3) = σ := by
  funext c i; unfold rd_ch; rw [if_neg (by omega)]
theorem rd_ch_lo (σ : rd_St) (k x t i : Nat) (h : i < (k + 1) * 18) : rd_ch σ k x t 6 i = σ 6 i := by
  unfold rd_ch; rw [if_neg (by omega)]
theorem rd_ch_step (σ : rd_St) (k x j y i v : Nat) (hj : k < j) (hj6 : j < 6) (hy : y < 3) (hi : i = ((k + 1) * 6 + j) * 3 + y) (hv : v = min 100000 (rd_ch σ k x (j * 3 + y) 6 ((k * 6 + j) * 3 + y) + rd_bt (σ 1) (σ 9 1) k x j y)) : rd_up (rd_ch σ k x (j * 3 + y)) 6 i v = rd_ch σ k x (j * 3 + (y + 1)) := by
  rw [rd_ch_lo _ _ _ _ _ (by omega)] at hv
  funext c i'
  unfold rd_up
  by_cases h1 : c = 6 ∧ i' = i
  · rw [if_pos h1]
    obtain ⟨rfl, rfl⟩ := h1
    unfold rd_ch
    rw [if_pos ⟨rfl, by omega, by omega⟩, hv]
    rw [show i' - 18 = (k * 6 + j) * 3 + y by omega, show (i' - (k + 1) * 18) / 3 = j by omega, show (i' - (k + 1) * 18) % 3 = y by omega]
  · rw [if_neg h1]
    unfold rd_ch
    by_cases h2 : c = 6 ∧ (k + 1) * 18 + (k + 1) * 3 ≤ i' ∧ i' < (k + 1) * 18 + (j * 3 + y)
    · rw [if_pos h2, if_pos ⟨h2.1, h2.2.1, by omega⟩]
    · rw [if_neg h2, if_neg (fun q => h2 ⟨q.1, q.2.1, by
        have : ¬ i' = i := fun w => h1 ⟨q.1, w⟩
        omega⟩)]
theorem rd_ch_18 (σ : rd_St) (k x : Nat) : rd_ch σ k x (6 * 3) = rd_ch σ k x 18 := rfl
theorem rd_ch_Bd {σ : rd_St} (h : rd_Bd σ) (k x t : Nat) : rd_Bd (rd_ch σ k x t) := by
  intro c i; unfold rd_ch; split
  · omega
  · exact h c i
theorem rd_choose_Bd {σ : rd_St} (h : rd_Bd σ) {k x : Nat} (hx : x < 3) : rd_Bd (rd_choose σ k x) :=
  rd_ch_Bd (rd_Bd_up (rd_Bd_up h (by omega)) (by omega)) _ _ _
theorem rd_kp_Bd {σ : rd_St} (h : rd_Bd σ) (st j : Nat) : rd_Bd (rd_kp σ st j) := by
  intro c i; unfold rd_kp; split
  · have := h 4 i; omega
  · exact h c i
theorem rd_keep_Bd {σ : rd_St} (h : rd_Bd σ) (st : Nat) : rd_Bd (rd_keep σ st) := rd_kp_Bd (rd_Bd_up h (h 5 6)) _ _
theorem rd_kp_0 (σ : rd_St) (st : Nat) : rd_kp σ st st = σ := by
  funext c i; unfold rd_kp; rw [if_neg (by omega)]
theorem rd_kp_ne (σ : rd_St) (st j : Nat) {c : Nat} (h : c ≠ 7) : rd_kp σ st j c = σ c := by
  funext i; unfold rd_kp; rw [if_neg (fun q => h q.1)]
theorem rd_kp_step (σ : rd_St) (st j v : Nat) (h : st ≤ j) (hv : v = σ 4 j - 1) : rd_up (rd_kp σ st j) 7 j v = rd_kp σ st (j + 1) := by
  funext c i
  unfold rd_up rd_kp
  by_cases h1 : c = 7 ∧ i = j
  · rw [if_pos h1, if_pos ⟨h1.1, by omega, by omega⟩, hv, h1.2]
  · rw [if_neg h1]
    by_cases h2 : c = 7 ∧ st ≤ i ∧ i < j
    · rw [if_pos h2, if_pos ⟨h2.1, h2.2.1, by omega⟩]
    · rw [if_neg h2, if_neg (fun q => h2 ⟨q.1, q.2.1, by
        have : ¬ i = j := fun w => h1 ⟨q.1, w⟩
        omega⟩)]
/-- what a search leaves as it was -/
def rd_Fr (σ0 σ : rd_St) : Prop := σ 0 = σ0 0 ∧ σ 1 = σ0 1 ∧ σ 2 = σ0 2 ∧ σ 3 = σ0 3 ∧ σ 8 = σ0 8 ∧ σ 9 0 = σ0 9 0 ∧ σ 9 1 = σ0 9 1
theorem rd_Fr_rfl (σ : rd_St) : rd_Fr σ σ := ⟨rfl, rfl, rfl, rfl, rfl, rfl, rfl⟩
theorem rd_Fr_up {σ0 σ : rd_St} (h : rd_Fr σ0 σ) {c k x : Nat} (hc : c = 4 ∨ c = 5 ∨ c = 6 ∨ c = 7 ∨ (c = 9 ∧ k = 2)) : rd_Fr σ0 (rd_up σ c k x) := by
  obtain ⟨h0, h1, h2, h3, h8, h9, h10⟩ := h
  have key : ∀ c', c' ≠ c → rd_up σ c k x c' = σ c' := fun c' n => (rd_upB σ k x n).symm
  refine ⟨(key 0 (by omega)).trans h0, (key 1 (by omega)).trans h1, (key 2 (by omega)).trans h2, (key 3 (by omega)).trans h3, (key 8 (by omega)).trans h8, (rd_up_ne σ (by omega)).trans h9, (rd_up_ne σ (by omega)).trans h10⟩
theorem rd_Fr_ch {σ0 σ : rd_St} (h : rd_Fr σ0 σ) (k x t : Nat) : rd_Fr σ0 (rd_ch σ k x t) := by
  obtain ⟨h0, h1, h2, h3, h8, h9, h10⟩ := h
  have key : ∀ c', c' ≠ 6 → rd_ch σ k x t c' = σ c' := fun c' n => rd_ch_ne σ k x t n
  exact ⟨(key 0 (by omega)).trans h0, (key 1 (by omega)).trans h1, (key 2 (by omega)).trans h2, (key 3 (by omega)).trans h3, (key 8 (by omega)).trans h8, (congrFun (key 9 (by omega)) 0).trans h9, (congrFun (key 9 (by omega)) 1).trans h10⟩
theorem rd_Fr_choose {σ0 σ : rd_St} (h : rd_Fr σ0 σ) (k x : Nat) : rd_Fr σ0 (rd_choose σ k x) := rd_Fr_ch (rd_Fr_up (rd_Fr_up h (by omega)) (by omega)) _ _ _
theorem rd_Fr_keep {σ0 σ : rd_St} (h : rd_Fr σ0 σ) (st : Nat) : rd_Fr σ0 (rd_keep σ st) := by
  have h' : rd_Fr σ0 (rd_up σ 9 2 (σ 5 6)) := rd_Fr_up h (by omega)
  obtain ⟨h0, h1, h2, h3, h8, h9, h10⟩ := h'
  have key : ∀ c', c' ≠ 7 → rd_keep σ st c' = (rd_up σ 9 2 (σ 5 6)) c' := fun c' n => rd_kp_ne _ st 6 n
  exact ⟨(key 0 (by omega)).trans h0, (key 1 (by omega)).trans h1, (key 2 (by omega)).trans h2, (key 3 (by omega)).trans h3, (key 8 (by omega)).trans h8, (congrFun (key 9 (by omega)) 0).trans h9, (congrFun (key 9 (by omega)) 1).trans h10⟩
def rd_x (σ : rd_St) (i : Nat) : Nat := σ 4 i - 1
/-- n values are chosen, from variable st on, and spent and ahead are theirs -/
def rd_Lv (o p : Nat → Nat) (df : Nat) (al : Nat → Nat) (σ : rd_St) (st n : Nat) : Prop :=
  (∀ t, t < n → 1 ≤ σ 4 (st + t) ∧ σ 4 (st + t) ≤ 3 ∧ rd_bit (al (st + t)) (σ 4 (st + t) - 1) = 1) ∧
  (∀ t, t ≤ n → σ 5 (st + t) = min 100000 (rd_SP o p df (rd_x σ) st t)) ∧
  ∀ t, t ≤ n → ∀ j y, st + t ≤ j → j < 6 → y < 3 → σ 6 (((st + t) * 6 + j) * 3 + y) = min 100000 (rd_AH p df (rd_x σ) st t j y)
theorem rd_Lv_pred {o p : Nat → Nat} {df : Nat} {al : Nat → Nat} {σ : rd_St} {st n : Nat} (h : rd_Lv o p df al σ st (n + 1)) : rd_Lv o p df al σ st n :=
  ⟨fun t q => h.1 t (by omega), fun t q => h.2.1 t (by omega), fun t q => h.2.2 t (by omega)⟩
/-- another state with the same values, spent and ahead -/
theorem rd_Lv_eq {o p : Nat → Nat} {df : Nat} {al : Nat → Nat} {σ σ' : rd_St} {st n : Nat} (h : rd_Lv o p df al σ st n) (h4 : ∀ t, t < n → σ' 4 (st + t) = σ 4 (st + t)) (h5 : σ' 5 = σ 5) (h6 : σ' 6 = σ 6) : rd_Lv o p df al σ' st n := by
  have hx : ∀ t, t < n → rd_x σ' (st + t) = rd_x σ (st + t) := fun t q => by unfold rd_x; rw [h4 t q]
  refine ⟨fun t q => by rw [h4 t q]; exact h.1 t q, fun t q => ?_, fun t q j y a b c => ?_⟩
  · rw [h5, h.2.1 t q, rd_SP_congr t (fun t' w => hx t' (by omega))]
  · rw [h6, h.2.2 t q j y a b c, rd_AH_congr t (fun t' w => hx t' (by omega))]
theorem rd_Lv_choose {o p : Nat → Nat} {df : Nat} {al : Nat → Nat} {σ : rd_St} {st n x : Nat} (h : rd_Lv o p df al σ st n) (hk : st + n < 6) (hx : x < 3) (hb : rd_bit (al (st + n)) x = 1) (ho : σ 0 = o) (hp : σ 1 = p) (hd : σ 9 1 = df) : rd_Lv o p df al (rd_choose σ (st + n) x) st (n + 1) := by
  have e4 : rd_choose σ (st + n) x 4 = rd_up σ 4 (st + n) (x + 1) 4 := by
    unfold rd_choose
    rw [rd_ch_ne _ _ _ _ (by decide)]
    exact (rd_upB _ _ _ (by decide)).symm
  have e4n : ∀ t, t < n → rd_choose σ (st + n) x 4 (st + t) = σ 4 (st + t) := fun t q => by rw [e4, rd_up_ne _ (by omega)]
  have e4k : rd_choose σ (st + n) x 4 (st + n) = x + 1 := by rw [e4, rd_up_self]
  have ex : ∀ t, t < n → rd_x (rd_choose σ (st + n) x) (st + t) = rd_x σ (st + t) := fun t q => by unfold rd_x; rw [e4n t q]
  have exk : rd_x (rd_choose σ (st + n) x) (st + n) = x := by unfold rd_x; rw [e4k]; rfl
  have e5 : rd_choose σ (st + n) x 5 = (rd_chA σ (st + n) x) 5 := rd_ch_ne _ _ _ _ (by decide)
  have c1 : (rd_chA σ (st + n) x) 1 = p := by unfold rd_chA; rw [← rd_upB _ _ _ (by decide), ← rd_upB _ _ _ (by decide)]; exact hp
  have c9 : (rd_chA σ (st + n) x) 9 1 = df := by unfold rd_chA; rw [rd_up_ne _ (by omega), rd_up_ne _ (by omega)]; exact hd
  have c6 : (rd_chA σ (st + n) x) 6 = σ 6 := by unfold rd_chA; rw [← rd_upB _ _ _ (by decide), ← rd_upB _ _ _ (by decide)]
  refine ⟨fun t q => ?_, fun t q => ?_, fun t q j y a b c => ?_⟩
  · rcases Nat.lt_or_ge t n with w | w
    · rw [e4n t w]; exact h.1 t w
    · have e : t = n := by omega
      subst e
      rw [e4k]
      exact ⟨by omega, by omega, hb⟩
  · rw [e5]
    rcases Nat.lt_or_ge n t with w | w
    · have e : t = n + 1 := by omega
      subst e
      unfold rd_chA
      rw [show st + (n + 1) = st + n + 1 from rfl, rd_up_self]
      have h5 := h.2.1 n (Nat.le_refl n)
      have h6 := h.2.2 n (Nat.le_refl n) (st + n) x (Nat.le_refl _) hk hx
      rw [h5, h6, ho]
      have e2 : rd_SP o p df (rd_x (rd_choose σ (st + n) x)) st (n + 1) = rd_SP o p df (rd_x σ) st n + (rd_rl (o ((st + n) * 3 + x)) + rd_AH p df (rd_x σ) st n (st + n) x) := by
        show rd_SP o p df (rd_x (rd_choose σ (st + n) x)) st n + (rd_rl (o ((st + n) * 3 + rd_x (rd_choose σ (st + n) x) (st + n))) + rd_AH p df (rd_x (rd_choose σ (st + n) x)) st n (st + n) (rd_x (rd_choose σ (st + n) x) (st + n))) = _
        rw [exk, rd_SP_congr n ex, rd_AH_congr n ex]
      rw [e2]
      omega
    · unfold rd_chA
      rw [rd_up_ne _ (by omega), rd_up_ne _ (by omega), h.2.1 t w, rd_SP_congr t (fun t' v => ex t' (by omega))]
  · rcases Nat.lt_or_ge n t with w | w
    · have e : t = n + 1 := by omega
      subst e
      have h6 := h.2.2 n (Nat.le_refl n) j y (by omega) b c
      have e2 : rd_AH p df (rd_x (rd_choose σ (st + n) x)) st (n + 1) j y = rd_AH p df (rd_x σ) st n j y + rd_bt p df (st + n) x j y := by
        show rd_AH p df (rd_x (rd_choose σ (st + n) x)) st n j y + rd_bt p df (st + n) (rd_x (rd_choose σ (st + n) x) (st + n)) j y = _
        rw [exk, rd_AH_congr n ex]
      rw [e2]
      unfold rd_choose rd_ch
      rw [if_pos ⟨rfl, by omega, by omega⟩, c1, c9, c6]
      rw [show ((st + (n + 1)) * 6 + j) * 3 + y - 18 = ((st + n) * 6 + j) * 3 + y by omega, show (((st + (n + 1)) * 6 + j) * 3 + y - (st + n + 1) * 18) / 3 = j by omega, show (((st + (n + 1)) * 6 + j) * 3 + y - (st + n + 1) * 18) % 3 = y by omega, h6]
      omega
    · have lo : rd_choose σ (st + n) x 6 (((st + t) * 6 + j) * 3 + y) = σ 6 (((st + t) * 6 + j) * 3 + y) := by
        unfold rd_choose
        rw [rd_ch_lo _ _ _ _ _ (by omega), c6]
      rw [lo, h.2.2 t w j y a b c, rd_AH_congr t (fun t' v => ex t' (by omega))]
/-- best and bestValue hold the scan of the codes below pos -/
def rd_Bs (F : Nat → Nat) (σ : rd_St) (st pos : Nat) : Prop := σ 9 2 = (rd_scan F pos).1 ∧ (σ 9 2 < 100000 → ∀ j, st ≤ j → j < 6 → σ 7 j = rd_dig (rd_scan F pos).2 j)
theorem rd_Bs_skip {F : Nat → Nat} {σ : rd_St} {st pos : Nat} (h : rd_Bs F σ st pos) (k : Nat) (hk : ∀ a, pos ≤ a → a < pos + k → σ 9 2 ≤ F a) : rd_Bs F σ st (pos + k) := by
  have e := rd_scan_skip F pos k (fun a h1 h2 => by rw [← h.1]; exact hk a h1 h2)
  unfold rd_Bs
  rw [e]
  exact h
theorem rd_Bs_eq {F : Nat → Nat} {σ σ' : rd_St} {st pos : Nat} (h : rd_Bs F σ st pos) (h9 : σ' 9 2 = σ 9 2) (h7 : σ' 7 = σ 7) : rd_Bs F σ' st pos := by
  unfold rd_Bs
  rw [h9, h7]
  exact h
/-- rounds that a search may still take -/
def rd_RM (g : Nat → Nat) (st : Nat) : Nat → Nat
  | 0 => 0
  | n + 1 => rd_RM g st n + ((3 - g (st + n)) * (2 * 3 ^ (5 - (st + n)) - 1) + 1)
theorem rd_RM_congr {g g' : Nat → Nat} {st : Nat} (n : Nat) (h : ∀ t, t < n → g (st + t) = g' (st + t)) : rd_RM g st n = rd_RM g' st n := by
  induction n with
  | zero => rfl
  | succ n ih =>
    unfold rd_RM
    rw [ih (fun t q => h t (by omega)), h n (by omega)]
end
section
/-! PURE: one round of the search -/
section RS
variable {o p : Nat → Nat} {df : Nat} {al : Nat → Nat} {σ σ0 : rd_St} {st n x r : Nat}
theorem rd_x_lt (h : rd_Lv o p df al σ st n) : ∀ t, t < n → rd_x σ (st + t) < 3 := fun t q => by
  have := h.1 t q
  unfold rd_x; omega
/-- a value that isn't allowed: its codes cost 100000 -/
theorem rd_F_bar {a j : Nat} (hj : j < 6) (hs : st ≤ j) (hb : rd_bit (al j) (rd_dig a j) = 0) : rd_F o p df al st a = 100000 := by
  unfold rd_F
  rw [if_neg]
  intro h
  have := h j hj hs
  omega
/-- the digit at the level that is under way -/
theorem rd_digk (h : rd_Lv o p df al σ st n) (hk : st + n < 6) {v a : Nat} (hv : v < 3) (h1 : rd_PC (rd_x σ) st n + v * 3 ^ (5 - (st + n)) ≤ a) (h2 : a < rd_PC (rd_x σ) st n + v * 3 ^ (5 - (st + n)) + 3 ^ (5 - (st + n))) : rd_dig a (st + n) = v := by
  let x' : Nat → Nat := fun i => if i = st + n then v else rd_x σ i
  have ex : ∀ t, t < n → rd_x σ (st + t) = x' (st + t) := fun t q => by
    show _ = if st + t = st + n then v else rd_x σ (st + t)
    rw [if_neg (by omega)]
  have exn : x' (st + n) = v := if_pos rfl
  have e : rd_PC x' st (n + 1) = rd_PC (rd_x σ) st n + v * 3 ^ (5 - (st + n)) := by
    show rd_PC x' st n + x' (st + n) * _ = _
    rw [exn, rd_PC_congr n ex]
  have hx' : ∀ t, t < n + 1 → x' (st + t) < 3 := fun t q => by
    rcases Nat.lt_or_ge t n with w | w
    · rw [← ex t w]; exact rd_x_lt h t w
    · have e : t = n := by omega
      subst e; rw [exn]; exact hv
  have := rd_PC_dig x' st (n + 1) (by omega) hx' a (by rw [e]; exact h1) (by rw [e, show 6 - (st + (n + 1)) = 5 - (st + n) by omega]; exact h2) n (by omega)
  rw [this, exn]
/-- the values between x and y aren't allowed: their codes can be skipped -/
theorem rd_Bs_val (hL : rd_Lv o p df al σ st n) (hk : st + n < 6) {F : Nat → Nat} (hF : F = rd_F o p df al st) {x y : Nat} (hxy : x ≤ y) (hy : y ≤ 3) (hn : ∀ v, x ≤ v → v < y → rd_bit (al (st + n)) v = 0)
    (hB : rd_Bs F σ st (rd_PC (rd_x σ) st n + x * 3 ^ (5 - (st + n)))) : rd_Bs F σ st (rd_PC (rd_x σ) st n + y * 3 ^ (5 - (st + n))) := by
  obtain ⟨d, rfl⟩ : ∃ d, y = x + d := ⟨y - x, by omega⟩
  induction d with
  | zero => exact hB
  | succ d ih =>
    have h1 := ih (by omega) (by omega) (fun v a b => hn v a (by omega))
    have h2 := rd_Bs_skip h1 (3 ^ (5 - (st + n))) (fun a q1 q2 => by
      have hd : rd_dig a (st + n) = x + d := rd_digk hL hk (by omega) q1 q2
      rw [hF, rd_F_bar (j := st + n) hk (by omega) (by rw [hd]; exact hn (x + d) (by omega) (by omega)), h1.1]
      exact rd_scan_100 _ _)
    rw [show (x + (d + 1)) * 3 ^ (5 - (st + n)) = (x + d) * 3 ^ (5 - (st + n)) + 3 ^ (5 - (st + n)) by rw [← Nat.add_assoc, Nat.succ_mul]]
    rw [Nat.add_assoc] at h2
    exact h2
/-- a bound below every code of a beginning -/
theorem rd_bound_le (hB : rd_Bd σ) (hL : rd_Lv o p df al σ st n) (hk : st + n < 6) (hal : σ 3 = al) (hp : σ 1 = p) (hdl : ∀ a, σ 2 (st + n) ≤ rd_SP o p 0 (rd_dig a) (st + n) (6 - (st + n)))
    {a : Nat} (h1 : rd_PC (rd_x σ) st n ≤ a) (h2 : a < rd_PC (rd_x σ) st n + 3 ^ (6 - (st + n))) : min 100000 (rd_bS σ (st + n) (6 - (st + n))) ≤ rd_F o p df al st a := by
  have hdg := rd_PC_dig (rd_x σ) st n (by omega) (rd_x_lt hL) a h1 h2
  unfold rd_F
  split
  · next hall =>
    have key : ∀ t, t ≤ 6 - (st + n) → rd_bS σ (st + n) t ≤ rd_SP o p df (rd_dig a) st n + rd_XS p df (rd_dig a) st n t + σ 2 (st + n) := by
      intro t
      induction t with
      | zero =>
        intro _
        have h5 := hL.2.1 n (Nat.le_refl n)
        rw [rd_SP_congr n (fun t q => (hdg t q).symm)] at h5
        show σ 5 (st + n) + σ 2 (st + n) ≤ _ + 0 + _
        omega
      | succ t ih =>
        intro ht
        have h3 := ih (by omega)
        have hb := hall (st + n + t) (by omega) (by omega)
        have h4 := rd_lS_le σ (st + n) (st + n + t) 3 (rd_dig a (st + n + t)) (rd_dig_lt _ _) (by rw [hal]; exact hb)
        have h6 := hL.2.2 n (Nat.le_refl n) (st + n + t) (rd_dig a (st + n + t)) (by omega) (by omega) (rd_dig_lt _ _)
        rw [rd_AH_congr n (fun t q => (hdg t q).symm)] at h6
        show rd_bS σ (st + n) t + rd_lS σ (st + n) (st + n + t) 3 ≤ _ + (rd_XS p df (rd_dig a) st n t + rd_AH p df (rd_dig a) st n (st + n + t) (rd_dig a (st + n + t))) + _
        omega
    have hs := rd_SP_split o p df (rd_dig a) st n (6 - (st + n))
    rw [show n + (6 - (st + n)) = 6 - st by omega] at hs
    have hm := rd_SP_mono (p := p) (fun i => by rw [← hp]; exact hB 1 i) o df (rd_dig a) (st + n) (6 - (st + n))
    have h7 := key (6 - (st + n)) (Nat.le_refl _)
    have h8 := hdl a
    omega
  · omega
/-- the state of a search at the head of a round -/
def rd_I (σ0 σ : rd_St) (st n r : Nat) : Prop := st + n < 6 ∧ rd_Fr σ0 σ ∧ rd_Bd σ ∧ rd_Lv (σ0 0) (σ0 1) (σ0 9 1) (σ0 3) σ st n ∧ σ 4 (st + n) ≤ 3 ∧
  rd_Bs (rd_F (σ0 0) (σ0 1) (σ0 9 1) (σ0 3) st) σ st (rd_PC (rd_x σ) st n + σ 4 (st + n) * 3 ^ (5 - (st + n))) ∧ r + rd_RM (σ 4) st (n + 1) ≤ 1456
theorem rd_I_nx (h : rd_I σ0 σ st n r) : rd_Bs (rd_F (σ0 0) (σ0 1) (σ0 9 1) (σ0 3) st) σ st (rd_PC (rd_x σ) st n + rd_nx (σ 3 (st + n)) 3 (σ 4 (st + n)) * 3 ^ (5 - (st + n))) := by
  obtain ⟨hk, hF, hB, hL, h4, hS, hR⟩ := h
  have e3 : σ 3 = σ0 3 := hF.2.2.2.1
  exact rd_Bs_val hL hk rfl (rd_nx_ge _ _ _) (rd_nx_le _ _ _ h4) (fun v a b => by rw [← e3]; exact rd_nx_not _ _ _ v a b) hS
/-- all values of the first variable are done: the end -/
theorem rd_I_end (h : rd_I σ0 σ st 0 r) (hx : rd_nx (σ 3 (st + 0)) 3 (σ 4 (st + 0)) = 3) : rd_Bs (rd_F (σ0 0) (σ0 1) (σ0 9 1) (σ0 3) st) σ st (3 ^ (6 - st)) := by
  have h1 := rd_I_nx h
  rw [hx] at h1
  have e : rd_PC (rd_x σ) st 0 + 3 * 3 ^ (5 - (st + 0)) = 3 ^ (6 - st) := by
    have h0 : st < 6 := h.1
    show 0 + 3 * 3 ^ (5 - st) = 3 ^ (6 - st)
    rw [rd_pw h0, Nat.zero_add]
  rw [e] at h1
  exact h1
/-- all values of a later variable are done: back -/
theorem rd_I_back (h : rd_I σ0 σ st (n + 1) r) (hx : rd_nx (σ 3 (st + (n + 1))) 3 (σ 4 (st + (n + 1))) = 3) : rd_I σ0 σ st n (r + 1) := by
  have h1 := rd_I_nx h
  rw [hx] at h1
  obtain ⟨hk, hF, hB, hL, h4, hS, hR⟩ := h
  have hn := hL.1 n (by omega)
  refine ⟨by omega, hF, hB, rd_Lv_pred hL, hn.2.1, ?_, ?_⟩
  · have e : rd_PC (rd_x σ) st (n + 1) + 3 * 3 ^ (5 - (st + (n + 1))) = rd_PC (rd_x σ) st n + σ 4 (st + n) * 3 ^ (5 - (st + n)) := by
      show rd_PC (rd_x σ) st n + rd_x σ (st + n) * 3 ^ (5 - (st + n)) + 3 * 3 ^ (5 - (st + (n + 1))) = _
      rw [← rd_pw hk, show 6 - (st + (n + 1)) = 5 - (st + n) by omega, Nat.add_assoc, ← Nat.succ_mul]
      unfold rd_x
      rw [show (σ 4 (st + n) - 1).succ = σ 4 (st + n) by omega]
    rw [e] at h1
    exact h1
  · have e : rd_RM (σ 4) st (n + 1 + 1) = rd_RM (σ 4) st (n + 1) + ((3 - σ 4 (st + (n + 1))) * (2 * 3 ^ (5 - (st + (n + 1))) - 1) + 1) := rfl
    omega
theorem rd_choose4 (σ : rd_St) (k x : Nat) : rd_choose σ k x 4 = rd_up σ 4 k (x + 1) 4 := by
  unfold rd_choose
  rw [rd_ch_ne _ _ _ _ (by decide)]
  exact (rd_upB _ _ _ (by decide)).symm
theorem rd_choose_ne (σ : rd_St) (k x : Nat) {c : Nat} (h4 : c ≠ 4) (h5 : c ≠ 5) (h6 : c ≠ 6) : rd_choose σ k x c = σ c := by
  unfold rd_choose rd_chA
  rw [rd_ch_ne _ _ _ _ h6, ← rd_upB _ _ _ h5, ← rd_upB _ _ _ h4]
theorem rd_keep_ne (σ : rd_St) (st : Nat) {c : Nat} (h7 : c ≠ 7) (h9 : c ≠ 9) : rd_keep σ st c = σ c := by
  unfold rd_keep
  rw [rd_kp_ne _ _ _ h7, ← rd_upB _ _ _ h9]
/-- what holds behind 'choose' -/
theorem rd_I_ch (h : rd_I σ0 σ st n r) (hx : x = rd_nx (σ 3 (st + n)) 3 (σ 4 (st + n))) (hx3 : x < 3) :
    rd_Fr σ0 (rd_choose σ (st + n) x) ∧ rd_Bd (rd_choose σ (st + n) x) ∧ rd_Lv (σ0 0) (σ0 1) (σ0 9 1) (σ0 3) (rd_choose σ (st + n) x) st (n + 1) ∧ rd_choose σ (st + n) x 4 (st + n) = x + 1 ∧
    rd_Bs (rd_F (σ0 0) (σ0 1) (σ0 9 1) (σ0 3) st) (rd_choose σ (st + n) x) st (rd_PC (rd_x (rd_choose σ (st + n) x)) st (n + 1)) ∧
    r + 1 + rd_RM (rd_choose σ (st + n) x 4) st (n + 1) + (2 * 3 ^ (5 - (st + n)) - 2) ≤ 1456 := by
  have hS1 := rd_I_nx h
  obtain ⟨hk, hF, hB, hL, h4, hS, hR⟩ := h
  have e3 : σ 3 = σ0 3 := hF.2.2.2.1
  have hge : σ 4 (st + n) ≤ x := by rw [hx]; exact rd_nx_ge _ _ _
  have hbit : rd_bit (σ0 3 (st + n)) x = 1 := by
    rw [← e3, hx]
    exact rd_nx_in _ _ _ (by omega) (by rw [← hx]; exact hx3)
  rw [← hx] at hS1
  have hL1 := rd_Lv_choose hL hk hx3 hbit hF.1 hF.2.1 hF.2.2.2.2.2.2
  have ek : rd_choose σ (st + n) x 4 (st + n) = x + 1 := by rw [rd_choose4, rd_up_self]
  have et : ∀ t, t < n → rd_choose σ (st + n) x 4 (st + t) = σ 4 (st + t) := fun t q => by rw [rd_choose4, rd_up_ne _ (by omega)]
  refine ⟨rd_Fr_choose hF _ _, rd_choose_Bd hB hx3, hL1, ek, ?_, ?_⟩
  · have e : rd_PC (rd_x (rd_choose σ (st + n) x)) st (n + 1) = rd_PC (rd_x σ) st n + x * 3 ^ (5 - (st + n)) := by
      show rd_PC (rd_x (rd_choose σ (st + n) x)) st n + rd_x (rd_choose σ (st + n) x) (st + n) * _ = _
      rw [rd_PC_congr n (fun t q => show rd_x (rd_choose σ (st + n) x) (st + t) = rd_x σ (st + t) by unfold rd_x; rw [et t q])]
      unfold rd_x
      rw [ek]
      rfl
    rw [e]
    exact rd_Bs_eq hS1 (congrFun (rd_choose_ne _ _ _ (by decide) (by decide) (by decide)) 2) (rd_choose_ne _ _ _ (by decide) (by decide) (by decide))
  · have e1 : rd_RM (rd_choose σ (st + n) x 4) st (n + 1) = rd_RM (σ 4) st n + ((3 - (x + 1)) * (2 * 3 ^ (5 - (st + n)) - 1) + 1) := by
      show rd_RM (rd_choose σ (st + n) x 4) st n + ((3 - rd_choose σ (st + n) x 4 (st + n)) * _ + 1) = _
      rw [ek, rd_RM_congr n et]
    have e2 : rd_RM (σ 4) st (n + 1) = rd_RM (σ 4) st n + ((3 - σ 4 (st + n)) * (2 * 3 ^ (5 - (st + n)) - 1) + 1) := rfl
    rw [e2] at hR
    rw [e1]
    have hpos : 0 < 3 ^ (5 - (st + n)) := Nat.pow_pos (by decide)
    generalize 3 ^ (5 - (st + n)) = w at hR hpos ⊢
    have h5 : (3 - (x + 1)) * (2 * w - 1) + (2 * w - 1) ≤ (3 - σ 4 (st + n)) * (2 * w - 1) := by
      rw [← Nat.succ_mul]
      exact Nat.mul_le_mul_right _ (by omega)
    omega
/-- down to the next variable -/
theorem rd_I_down (h : rd_I σ0 σ st n r) (hx : x = rd_nx (σ 3 (st + n)) 3 (σ 4 (st + n))) (hx3 : x < 3) (hk : st + n < 5) : rd_I σ0 (rd_up (rd_choose σ (st + n) x) 4 (st + (n + 1)) 0) st (n + 1) (r + 1) := by
  obtain ⟨hF, hB, hL, hek, hS, hR⟩ := rd_I_ch h hx hx3
  have et : ∀ t, t < n + 1 → rd_up (rd_choose σ (st + n) x) 4 (st + (n + 1)) 0 4 (st + t) = rd_choose σ (st + n) x 4 (st + t) := fun t q => rd_up_ne _ (by omega)
  refine ⟨by omega, rd_Fr_up hF (by omega), rd_Bd_up hB (by omega), rd_Lv_eq hL et (rd_upB _ _ _ (by decide)).symm (rd_upB _ _ _ (by decide)).symm, ?_, ?_, ?_⟩
  · rw [rd_up_self]; omega
  · rw [rd_up_self, Nat.zero_mul, Nat.add_zero]
    have e : rd_PC (rd_x (rd_up (rd_choose σ (st + n) x) 4 (st + (n + 1)) 0)) st (n + 1) = rd_PC (rd_x (rd_choose σ (st + n) x)) st (n + 1) := rd_PC_congr (n + 1) (fun t q => by unfold rd_x; rw [et t q])
    rw [e]
    exact rd_Bs_eq hS (rd_up_ne _ (by omega)) (rd_upB _ _ _ (by decide)).symm
  · have e1 : rd_RM (rd_up (rd_choose σ (st + n) x) 4 (st + (n + 1)) 0 4) st (n + 1 + 1) = rd_RM (rd_choose σ (st + n) x 4) st (n + 1) + (3 * (2 * 3 ^ (5 - (st + (n + 1))) - 1) + 1) := by
      show rd_RM (rd_up (rd_choose σ (st + n) x) 4 (st + (n + 1)) 0 4) st (n + 1) + ((3 - rd_up (rd_choose σ (st + n) x) 4 (st + (n + 1)) 0 4 (st + (n + 1))) * _ + 1) = _
      rw [rd_up_self, rd_RM_congr (n + 1) et]
    rw [e1]
    have hp := rd_pw (k := st + (n + 1)) (by omega)
    rw [show 6 - (st + (n + 1)) = 5 - (st + n) by omega] at hp
    rw [hp] at hR
    have hpos : 0 < 3 ^ (5 - (st + (n + 1))) := Nat.pow_pos (by decide)
    omega
/-- the beginning isn't worth it: on -/
theorem rd_I_cut (h : rd_I σ0 σ st n r) (hx : x = rd_nx (σ 3 (st + n)) 3 (σ 4 (st + n))) (hx3 : x < 3) (hk : st + n < 5) (hdl : ∀ a, σ0 2 (st + (n + 1)) ≤ rd_SP (σ0 0) (σ0 1) 0 (rd_dig a) (st + (n + 1)) (6 - (st + (n + 1))))
    (hb : rd_choose σ (st + n) x 9 2 ≤ min 100000 (rd_bS (rd_choose σ (st + n) x) (st + (n + 1)) (6 - (st + (n + 1))))) : rd_I σ0 (rd_choose σ (st + n) x) st n (r + 1) := by
  obtain ⟨hF, hB, hL, hek, hS, hR⟩ := rd_I_ch h hx hx3
  refine ⟨by omega, hF, hB, rd_Lv_pred hL, by omega, ?_, by omega⟩
  have h1 := rd_Bs_skip hS (3 ^ (5 - (st + n))) (fun a q1 q2 => Nat.le_trans hb (rd_bound_le hB hL (by omega) hF.2.2.2.1 hF.2.1 (by rw [hF.2.2.1]; exact hdl) q1 (by rw [show 6 - (st + (n + 1)) = 5 - (st + n) by omega]; exact q2)))
  have e : rd_PC (rd_x (rd_choose σ (st + n) x)) st (n + 1) + 3 ^ (5 - (st + n)) = rd_PC (rd_x (rd_choose σ (st + n) x)) st n + rd_choose σ (st + n) x 4 (st + n) * 3 ^ (5 - (st + n)) := by
    show rd_PC (rd_x (rd_choose σ (st + n) x)) st n + rd_x (rd_choose σ (st + n) x) (st + n) * 3 ^ (5 - (st + n)) + 3 ^ (5 - (st + n)) = _
    unfold rd_x
    rw [Nat.add_assoc, ← Nat.succ_mul, hek]
    rfl
  rw [e] at h1
  exact h1
/-- a whole assignment: what it costs -/
theorem rd_leaf (h : rd_I σ0 σ st n r) (hx : x = rd_nx (σ 3 (st + n)) 3 (σ 4 (st + n))) (hx3 : x < 3) (hk : st + n = 5) :
    (∀ j, st ≤ j → j < 6 → 1 ≤ rd_choose σ (st + n) x 4 j ∧ rd_choose σ (st + n) x 4 j - 1 = rd_dig (rd_PC (rd_x (rd_choose σ (st + n) x)) st (n + 1)) j) ∧
    rd_F (σ0 0) (σ0 1) (σ0 9 1) (σ0 3) st (rd_PC (rd_x (rd_choose σ (st + n) x)) st (n + 1)) = rd_choose σ (st + n) x 5 6 := by
  obtain ⟨hF, hB, hL, hek, hS, hR⟩ := rd_I_ch h hx hx3
  have hdg := rd_PC_dig (rd_x (rd_choose σ (st + n) x)) st (n + 1) (by omega) (rd_x_lt hL) _ (Nat.le_refl _) (Nat.lt_add_of_pos_right (Nat.pow_pos (by decide)))
  refine ⟨fun j h1 h2 => ?_, ?_⟩
  · obtain ⟨t, rfl⟩ : ∃ t, j = st + t := ⟨j - st, by omega⟩
    exact ⟨(hL.1 t (by omega)).1, (hdg t (by omega)).symm⟩
  · have h5 := hL.2.1 (n + 1) (Nat.le_refl _)
    rw [show st + (n + 1) = 6 by omega] at h5
    rw [h5]
    unfold rd_F
    rw [if_pos, show 6 - st = n + 1 by omega, rd_SP_congr (n + 1) hdg]
    intro j h1 h2
    obtain ⟨t, rfl⟩ : ∃ t, j = st + t := ⟨j - st, by omega⟩
    rw [hdg t (by omega)]
    exact (hL.1 t (by omega)).2.2
theorem rd_I_leaf (h : rd_I σ0 σ st n r) (hx : x = rd_nx (σ 3 (st + n)) 3 (σ 4 (st + n))) (hx3 : x < 3) (hk : st + n = 5) (hb : rd_choose σ (st + n) x 9 2 ≤ rd_choose σ (st + n) x 5 6) : rd_I σ0 (rd_choose σ (st + n) x) st n (r + 1) := by
  have hlf := (rd_leaf h hx hx3 hk).2
  obtain ⟨hF, hB, hL, hek, hS, hR⟩ := rd_I_ch h hx hx3
  refine ⟨by omega, hF, hB, rd_Lv_pred hL, by omega, ?_, by omega⟩
  have h1 := rd_Bs_skip hS (3 ^ (5 - (st + n))) (fun a q1 q2 => by
    rw [show 5 - (st + n) = 0 by omega] at q2
    have e : a = rd_PC (rd_x (rd_choose σ (st + n) x)) st (n + 1) := by omega
    rw [e, hlf]; exact hb)
  have e : rd_PC (rd_x (rd_choose σ (st + n) x)) st (n + 1) + 3 ^ (5 - (st + n)) = rd_PC (rd_x (rd_choose σ (st + n) x)) st n + rd_choose σ (st + n) x 4 (st + n) * 3 ^ (5 - (st + n)) := by
    show rd_PC (rd_x (rd_choose σ (st + n) x)) st n + rd_x (rd_choose σ (st + n) x) (st + n) * 3 ^ (5 - (st + n)) + 3 ^ (5 - (st + n)) = _
    unfold rd_x
    rw [Nat.add_assoc, ← Nat.succ_mul, hek]
    rfl
  rw [e] at h1
  exact h1
theorem rd_I_keep (h : rd_I σ0 σ st n r) (hx : x = rd_nx (σ 3 (st + n)) 3 (σ 4 (st + n))) (hx3 : x < 3) (hk : st + n = 5) (hb : rd_choose σ (st + n) x 5 6 < rd_choose σ (st + n) x 9 2) : rd_I σ0 (rd_keep (rd_choose σ (st + n) x) st) st n (r + 1) := by
  obtain ⟨hdj, hlf⟩ := rd_leaf h hx hx3 hk
  obtain ⟨hF, hB, hL, hek, hS, hR⟩ := rd_I_ch h hx hx3
  have k4 : rd_keep (rd_choose σ (st + n) x) st 4 = rd_choose σ (st + n) x 4 := rd_keep_ne _ _ (by decide) (by decide)
  refine ⟨by omega, rd_Fr_keep hF _, rd_keep_Bd hB _, rd_Lv_eq (rd_Lv_pred hL) (fun t _ => congrFun k4 _) (rd_keep_ne _ _ (by decide) (by decide)) (rd_keep_ne _ _ (by decide) (by decide)), by rw [k4]; omega, ?_, by rw [k4]; omega⟩
  have ex : rd_x (rd_keep (rd_choose σ (st + n) x) st) = rd_x (rd_choose σ (st + n) x) := by funext i; unfold rd_x; rw [k4]
  have e : rd_PC (rd_x (rd_choose σ (st + n) x)) st n + rd_choose σ (st + n) x 4 (st + n) * 3 ^ (5 - (st + n)) = rd_PC (rd_x (rd_choose σ (st + n) x)) st (n + 1) + 1 := by
    show _ = rd_PC (rd_x (rd_choose σ (st + n) x)) st n + rd_x (rd_choose σ (st + n) x) (st + n) * 3 ^ (5 - (st + n)) + 1
    unfold rd_x
    rw [hek, show 5 - (st + n) = 0 by omega]
    omega
  rw [ex, k4, e]
  have hsc : rd_scan (rd_F (σ0 0) (σ0 1) (σ0 9 1) (σ0 3) st) (rd_PC (rd_x (rd_choose σ (st + n) x)) st (n + 1) + 1) = (rd_choose σ (st + n) x 5 6, rd_PC (rd_x (rd_choose σ (st + n) x)) st (n + 1)) := by
    show (if _ then _ else _) = _
    rw [hlf, ← hS.1, if_pos hb]
  unfold rd_Bs
  rw [hsc]
  have k9 : rd_keep (rd_choose σ (st + n) x) st 9 2 = rd_choose σ (st + n) x 5 6 := by
    unfold rd_keep
    rw [rd_kp_ne _ _ _ (by decide), rd_up_self]
  refine ⟨k9, fun _ j h1 h2 => ?_⟩
  have k7 : rd_keep (rd_choose σ (st + n) x) st 7 j = rd_choose σ (st + n) x 4 j - 1 := by
    unfold rd_keep rd_kp
    rw [if_pos ⟨rfl, h1, h2⟩, rd_up_ne _ (by omega)]
  rw [k7]
  exact (hdj j h1 h2).2
/-- the start of a search -/
theorem rd_I_start {σ : rd_St} (hst : st < 6) (hF : rd_Fr σ0 σ) (hB : rd_Bd σ) (h9 : σ 9 2 = 100000) (h5 : σ 5 st = 0) (h6 : ∀ k, k < 18 → σ 6 (st * 18 + k) = 0) (h4 : σ 4 st = 0) : rd_I σ0 σ st 0 0 := by
  refine ⟨hst, hF, hB, ⟨fun t q => absurd q (Nat.not_lt_zero t), fun t q => ?_, fun t q j y a b c => ?_⟩, by rw [Nat.add_zero, h4]; omega, ?_, ?_⟩
  · have e : t = 0 := by omega
    subst e
    rw [Nat.add_zero, h5]
    rfl
  · have e : t = 0 := by omega
    subst e
    rw [Nat.add_zero, show (st * 6 + j) * 3 + y = st * 18 + (j * 3 + y) by omega, h6 _ (by omega)]
    rfl
  · rw [Nat.add_zero, h4, Nat.zero_mul]
    exact ⟨h9, fun q => by omega⟩
  · show 0 + (0 + ((3 - σ 4 (st + 0)) * (2 * 3 ^ (5 - (st + 0)) - 1) + 1)) ≤ 1456
    rw [Nat.add_zero st, h4]
    rcases (show st = 0 ∨ st = 1 ∨ st = 2 ∨ st = 3 ∨ st = 4 ∨ st = 5 by omega) with q | q | q | q | q | q <;> subst q <;> decide
end RS
end
section
set_option maxRecDepth 100000
def rd_B (P : Prop) (r : Int32) : Prop := ∃ t : Nat, r = nI t ∧ t ≤ 1 ∧ (t = 0 ↔ P)
theorem rd_b0 {P : Prop} (h : P) : rd_B P (nI 0) := ⟨0, rfl, by omega, fun _ => h, fun _ => rfl⟩
theorem rd_b1 {P : Prop} (h : ¬ P) : rd_B P (nI 1) := ⟨1, rfl, by omega, fun q => absurd q (by omega), fun q => absurd q h⟩
def rd_okV (i : Int32) (j : Nat) : Prop := j < 6 ∧ i = nI j
def rd_okC (c : Int32) (n : Nat) : Prop := (n ≤ 30 ∨ n = 99) ∧ c = nI n
def rd_okP (q : Int32) (n : Nat) : Prop := n ≤ 35 ∧ n / 6 < n % 6 ∧ q = nI n
theorem rd_neg {x : Int32} (h : x < 0) {n : Nat} (hn : n < 2 ^ 31) : x ≠ nI n := fun e => nI_pos hn (e ▸ h)
theorem rd_big {x : Int32} {m n : Nat} (hm : m < 2 ^ 31) (h : ¬ x ≤ nI m) (hn : n ≤ m) : x ≠ nI n := fun e => h (e ▸ nI_le hn hm)
theorem rd_big2 {x : Int32} {m n : Nat} (hm : m < 2 ^ 31) (h : nI m < x) (hn : n ≤ m) : x ≠ nI n := fun e => nI_nlt hn hm (e ▸ h)
theorem rd_big3 {x : Int32} {m n : Nat} (hm : m < 2 ^ 31) (h : ¬ x < nI m) (hn : n < m) : x ≠ nI n := fun e => h (e ▸ nI_lt hn hm)
theorem rd_in {x : Int32} {m : Nat} (hm : m < 2 ^ 31) (h0 : ¬ x < 0) (h : x ≤ nI m) : ∃ j, j ≤ m ∧ x = nI j := nI_of2 (M := nI m) (nI_toInt hm) h0 h
theorem rd_in2 {x : Int32} {m : Nat} (hm : m < 2 ^ 31) (h0 : ¬ x < 0) (h : ¬ nI m < x) : ∃ j, j ≤ m ∧ x = nI j := rd_in hm h0 (Int32.not_lt.mp h)
theorem rd_in3 {x : Int32} {m : Nat} (hm : m < 2 ^ 31) (h0 : ¬ x < 0) (h : x < nI m) : ∃ j, j < m ∧ x = nI j := by
  obtain ⟨j, hj, e⟩ := rd_in hm h0 (Int32.le_of_lt h)
  rcases Nat.lt_or_ge j m with q | q
  · exact ⟨j, q, e⟩
  · exact absurd (e ▸ h) (nI_nlt q (by omega))
theorem rd_c0 {x : Int32} (h0 : ¬ x < 0) (h : x ≤ nI 30) : ∃ n, rd_okC x n := by
  obtain ⟨n, hn, e⟩ := rd_in (by decide) h0 h
  exact ⟨n, Or.inl hn, e⟩
theorem rd_c1 {x : Int32} (h : x < 0) (h2 : ¬ x = nI 99) : ¬ ∃ n, rd_okC x n := fun ⟨n, hn, e⟩ => rd_neg h (by omega) e
theorem rd_c2 {x : Int32} (h : ¬ x ≤ nI 30) (h2 : ¬ x = nI 99) : ¬ ∃ n, rd_okC x n := fun ⟨n, hn, e⟩ => by
  rcases hn with hn | hn
  · exact rd_big (by decide) h hn e
  · exact h2 (hn ▸ e)
set_option maxHeartbeats 4000000 in
set_option maxRecDepth 100000 in
/-- badCost: 0 if and only if it is a cost -/
theorem rd_d_badCost (l : Launch) (D : va_G) (cA : ClassId) (h : Nat) (a : Nat → Nat) (σ : rd_St) (x : Int32) : rd_MI l yX0_badCost cX0_badCost 2 (some .boolean) 0 [.ref h, .int x] D cA (rd_dw h a cA) σ (fun r u => u = σ ∧ rd_B (∃ n, rd_okC x n) r) := by
  refine rd_entI (by decide) (Nat.le_of_ble_eq_true rfl) ?_
  intro p e s m below meth c A E hK hw ls hl
  have E : rd_E p s m _ meth c cX0_badCost 2 (some .boolean) RX0 A := E
  have hx := E.1
  have hb := E.2.1
  have hl : lv_has ls 2 [(0, .ref h), (1, .int x)] := hl
  refine lv_iload_n hx hb dX0_badCost_0 rfl (lv_at hl 1 rfl) ?_
  refine lv_if_lt (tgt := 10) hx hb dX0_badCost_1 (by decide) (fun c1 => ?_) (fun c1 => ?_)
  · refine lv_iload_n hx hb dX0_badCost_10 rfl (lv_at hl 1 rfl) ?_
    refine lv_bipush (v := nI 99) hx hb dX0_badCost_11 (by decide) ?_
    refine lv_icmp_eq (tgt := 20) hx hb dX0_badCost_13 (by decide) (fun c13 => ?_) (fun c13 => ?_)
    · refine lv_iconst (v := nI 0) hx hb dX0_badCost_20 (by decide) ?_
      exact rd_retz E hK hw rfl (⟨rfl, rd_b0 ⟨99, Or.inr rfl, c13⟩⟩) dX0_badCost_21
    · refine lv_iconst (v := nI 1) hx hb dX0_badCost_16 (by decide) ?_
      refine lv_goto (tgt := 21) hx hb dX0_badCost_17 (by decide) ?_
      exact rd_retz E hK hw rfl (⟨rfl, rd_b1 (rd_c1 c1 c13)⟩) dX0_badCost_21
  · refine lv_iload_n hx hb dX0_badCost_4 rfl (lv_at hl 1 rfl) ?_
    refine lv_bipush (v := nI 30) hx hb dX0_badCost_5 (by decide) ?_
    refine lv_icmp_le (tgt := 20) hx hb dX0_badCost_7 (by decide) (fun c7 => ?_) (fun c7 => ?_)
    · refine lv_iconst (v := nI 0) hx hb dX0_badCost_20 (by decide) ?_
      exact rd_retz E hK hw rfl (⟨rfl, rd_b0 (rd_c0 c1 c7)⟩) dX0_badCost_21
    · refine lv_iload_n hx hb dX0_badCost_10 rfl (lv_at hl 1 rfl) ?_
      refine lv_bipush (v := nI 99) hx hb dX0_badCost_11 (by decide) ?_
      refine lv_icmp_eq (tgt := 20) hx hb dX0_badCost_13 (by decide) (fun c13 => ?_) (fun c13 => ?_)
      · refine lv_iconst (v := nI 0) hx hb dX0_badCost_20 (by decide) ?_
        exact rd_retz E hK hw rfl (⟨rfl, rd_b0 ⟨99, Or.inr rfl, c13⟩⟩) dX0_badCost_21
      · refine lv_iconst (v := nI 1) hx hb dX0_badCost_16 (by decide) ?_
        refine lv_goto (tgt := 21) hx hb dX0_badCost_17 (by decide) ?_
        exact rd_retz E hK hw rfl (⟨rfl, rd_b1 (rd_c2 c7 c13)⟩) dX0_badCost_21
set_option maxHeartbeats 4000000 in
set_option maxRecDepth 100000 in
theorem rd_d_badVariable (l : Launch) (D : va_G) (cA : ClassId) (h : Nat) (a : Nat → Nat) (σ : rd_St) (x : Int32) : rd_MI l yX0_badVariable cX0_badVariable 2 (some .boolean) 0 [.ref h, .int x] D cA (rd_dw h a cA) σ (fun r u => u = σ ∧ rd_B (∃ j, rd_okV x j) r) := by
  refine rd_entI (by decide) (Nat.le_of_ble_eq_true rfl) ?_
  intro p e s m below meth c A E hK hw ls hl
  have E : rd_E p s m _ meth c cX0_badVariable 2 (some .boolean) RX0 A := E
  have hx := E.1
  have hb := E.2.1
  have hl : lv_has ls 2 [(0, .ref h), (1, .int x)] := hl
  refine lv_iload_n hx hb dX0_badVariable_0 rfl (lv_at hl 1 rfl) ?_
  refine lv_if_lt (tgt := 10) hx hb dX0_badVariable_1 (by decide) (fun c1 => ?_) (fun c1 => ?_)
  · refine lv_iconst (v := nI 1) hx hb dX0_badVariable_10 (by decide) ?_
    refine lv_goto (tgt := 15) hx hb dX0_badVariable_11 (by decide) ?_
    exact rd_retz E hK hw rfl (⟨rfl, rd_b1 (fun ⟨j, hj, e⟩ => rd_neg c1 (by omega) e)⟩) dX0_badVariable_15
  · refine lv_iload_n hx hb dX0_badVariable_4 rfl (lv_at hl 1 rfl) ?_
    refine lv_bipush (v := nI 6) hx hb dX0_badVariable_5 (by decide) ?_
    refine lv_icmp_lt (tgt := 14) hx hb dX0_badVariable_7 (by decide) (fun c7 => ?_) (fun c7 => ?_)
    · refine lv_iconst (v := nI 0) hx hb dX0_badVariable_14 (by decide) ?_
      exact rd_retz E hK hw rfl (⟨rfl, rd_b0 (rd_in3 (by decide) c1 c7)⟩) dX0_badVariable_15
    · refine lv_iconst (v := nI 1) hx hb dX0_badVariable_10 (by decide) ?_
      refine lv_goto (tgt := 15) hx hb dX0_badVariable_11 (by decide) ?_
      exact rd_retz E hK hw rfl (⟨rfl, rd_b1 (fun ⟨j, hj, e⟩ => rd_big3 (by decide) c7 hj e)⟩) dX0_badVariable_15
set_option maxHeartbeats 4000000 in
set_option maxRecDepth 100000 in
theorem rd_d_badPair (l : Launch) (D : va_G) (cA : ClassId) (h : Nat) (a : Nat → Nat) (σ : rd_St) (x : Int32) : rd_MI l yX0_badPair cX0_badPair 2 (some .boolean) 0 [.ref h, .int x] D cA (rd_dw h a cA) σ (fun r u => u = σ ∧ rd_B (∃ n, rd_okP x n) r) := by
  refine rd_entI (by decide) (Nat.le_of_ble_eq_true rfl) ?_
  intro p e s m below meth c A E hK hw ls hl
  have E : rd_E p s m _ meth c cX0_badPair 2 (some .boolean) RX0 A := E
  have hx := E.1
  have hb := E.2.1
  have hl : lv_has ls 2 [(0, .ref h), (1, .int x)] := hl
  refine lv_iload_n hx hb dX0_badPair_0 rfl (lv_at hl 1 rfl) ?_
  refine lv_if_lt (tgt := 10) hx hb dX0_badPair_1 (by decide) (fun c1 => ?_) (fun c1 => ?_)
  · refine lv_iconst (v := nI 1) hx hb dX0_badPair_10 (by decide) ?_
    exact rd_retz E hK hw rfl (⟨rfl, rd_b1 (fun ⟨j, hj, _, e⟩ => rd_neg c1 (by omega) e)⟩) dX0_badPair_11
  · refine lv_iload_n hx hb dX0_badPair_4 rfl (lv_at hl 1 rfl) ?_
    refine lv_bipush (v := nI 35) hx hb dX0_badPair_5 (by decide) ?_
    refine lv_icmp_le (tgt := 12) hx hb dX0_badPair_7 (by decide) (fun c7 => ?_) (fun c7 => ?_)
    · obtain ⟨n, hn, rfl⟩ := rd_in (by decide) c1 c7
      refine lv_iload_n hx hb dX0_badPair_12 rfl (lv_at hl 1 rfl) ?_
      refine lv_bipush (v := nI 6) hx hb dX0_badPair_13 (by decide) ?_
      refine n_div hx hb dX0_badPair_15 (by omega) (by omega) (by omega) ?_
      refine lv_iload_n hx hb dX0_badPair_16 rfl (lv_at hl 1 rfl) ?_
      refine lv_bipush (v := nI 6) hx hb dX0_badPair_17 (by decide) ?_
      refine n_rem hx hb dX0_badPair_19 (by omega) (by omega) (by omega) ?_
      refine n_lt (tgt := 27) hx hb dX0_badPair_20 (by decide) (by omega) (by omega) (fun c20 => ?_) (fun c20 => ?_)
      · refine lv_iconst (v := nI 0) hx hb dX0_badPair_27 (by decide) ?_
        exact rd_retz E hK hw rfl (⟨rfl, rd_b0 ⟨n, hn, c20, rfl⟩⟩) dX0_badPair_28
      · refine lv_iconst (v := nI 1) hx hb dX0_badPair_23 (by decide) ?_
        refine lv_goto (tgt := 28) hx hb dX0_badPair_24 (by decide) ?_
        exact rd_retz E hK hw rfl (⟨rfl, rd_b1 (fun ⟨j, hj, hj2, e⟩ => by have := (nI_eq (by omega) (by omega)).mp e; subst this; omega)⟩) dX0_badPair_28
    · refine lv_iconst (v := nI 1) hx hb dX0_badPair_10 (by decide) ?_
      exact rd_retz E hK hw rfl (⟨rfl, rd_b1 (fun ⟨j, hj, _, e⟩ => rd_big (by decide) c7 hj e)⟩) dX0_badPair_11
set_option maxHeartbeats 4000000 in
set_option maxRecDepth 100000 in
theorem rd_d_real (l : Launch) (D : va_G) (cA : ClassId) (h : Nat) (a : Nat → Nat) (σ : rd_St) (x : Nat) (hxb : x < 2 ^ 31) : rd_MI l yX0_real cX0_real 2 (some .int) 0 [.ref h, .int (nI x)] D cA (rd_dw h a cA) σ (fun r u => u = σ ∧ r = nI (rd_rl x)) := by
  refine rd_entI (by decide) (Nat.le_of_ble_eq_true rfl) ?_
  intro p e s m below meth c A E hK hw ls hl
  have E : rd_E p s m _ meth c cX0_real 2 (some .int) RX0 A := E
  have hx := E.1
  have hb := E.2.1
  have hl : lv_has ls 2 [(0, .ref h), (1, .int (nI x))] := hl
  refine lv_iload_n hx hb dX0_real_0 rfl (lv_at hl 1 rfl) ?_
  refine lv_bipush (v := nI 99) hx hb dX0_real_1 (by decide) ?_
  refine n_ne (tgt := 11) hx hb dX0_real_3 (by decide) (by omega) (by omega) (fun c3 => ?_) (fun c3 => ?_)
  · refine lv_iload_n hx hb dX0_real_11 rfl (lv_at hl 1 rfl) ?_
    exact rd_reti E hK hw (⟨rfl, by unfold rd_rl; rw [if_neg c3]⟩) dX0_real_12
  · refine n_far E dX0_real_6 ?_
    refine lv_goto (tgt := 12) hx hb dX0_real_8 (by decide) ?_
    exact rd_reti E hK hw (⟨rfl, by unfold rd_rl; rw [if_pos c3]⟩) dX0_real_12
set_option maxHeartbeats 4000000 in
set_option maxRecDepth 100000 in
theorem rd_d_capped (l : Launch) (D : va_G) (cA : ClassId) (h : Nat) (a : Nat → Nat) (σ : rd_St) (x : Nat) (hxb : x < 2 ^ 31) : rd_MI l yX0_capped cX0_capped 2 (some .int) 0 [.ref h, .int (nI x)] D cA (rd_dw h a cA) σ (fun r u => u = σ ∧ r = nI (min 100000 x)) := by
  refine rd_entI (by decide) (Nat.le_of_ble_eq_true rfl) ?_
  intro p e s m below meth c A E hK hw ls hl
  have E : rd_E p s m _ meth c cX0_capped 2 (some .int) RX0 A := E
  have hx := E.1
  have hb := E.2.1
  have hl : lv_has ls 2 [(0, .ref h), (1, .int (nI x))] := hl
  refine lv_iload_n hx hb dX0_capped_0 rfl (lv_at hl 1 rfl) ?_
  refine n_far E dX0_capped_1 ?_
  refine n_le (tgt := 11) hx hb dX0_capped_3 (by decide) (by omega) (by omega) (fun c3 => ?_) (fun c3 => ?_)
  · refine lv_iload_n hx hb dX0_capped_11 rfl (lv_at hl 1 rfl) ?_
    exact rd_reti E hK hw (⟨rfl, congrArg nI (by omega)⟩) dX0_capped_12
  · refine n_far E dX0_capped_6 ?_
    refine lv_goto (tgt := 12) hx hb dX0_capped_8 (by decide) ?_
    exact rd_reti E hK hw (⟨rfl, congrArg nI (by omega)⟩) dX0_capped_12
/-- the answer of a cost: -4 for 'none' -/
def rd_an (n : Nat) : Int32 := if n < 100000 then nI n else -4
set_option maxHeartbeats 4000000 in
set_option maxRecDepth 100000 in
theorem rd_d_answer (l : Launch) (D : va_G) (cA : ClassId) (h : Nat) (a : Nat → Nat) (σ : rd_St) (x : Nat) (hxb : x < 2 ^ 31) : rd_MI l yX0_answer cX0_answer 2 (some .int) 0 [.ref h, .int (nI x)] D cA (rd_dw h a cA) σ (fun r u => u = σ ∧ r = rd_an x) := by
  refine rd_entI (by decide) (Nat.le_of_ble_eq_true rfl) ?_
  intro p e s m below meth c A E hK hw ls hl
  have E : rd_E p s m _ meth c cX0_answer 2 (some .int) RX0 A := E
  have hx := E.1
  have hb := E.2.1
  have hl : lv_has ls 2 [(0, .ref h), (1, .int (nI x))] := hl
  refine lv_iload_n hx hb dX0_answer_0 rfl (lv_at hl 1 rfl) ?_
  refine n_far E dX0_answer_1 ?_
  refine n_lt (tgt := 11) hx hb dX0_answer_3 (by decide) (by omega) (by omega) (fun c3 => ?_) (fun c3 => ?_)
  · refine lv_iload_n hx hb dX0_answer_11 rfl (lv_at hl 1 rfl) ?_
    exact rd_reti E hK hw (⟨rfl, by unfold rd_an; rw [if_pos c3]⟩) dX0_answer_12
  · refine lv_bipush (v := -4) hx hb dX0_answer_6 (by decide) ?_
    refine lv_goto (tgt := 12) hx hb dX0_answer_8 (by decide) ?_
    exact rd_reti E hK hw (⟨rfl, by unfold rd_an; rw [if_neg (by omega)]⟩) dX0_answer_12
set_option maxHeartbeats 4000000 in
set_option maxRecDepth 100000 in
theorem rd_d_between (l : Launch) (D : va_G) (cA : ClassId) (h : Nat) (a : Nat → Nat) (σ : rd_St) (k x j y : Nat) (hk : k < 6) (hx3 : x < 3) (hj : j < 6) (hy : y < 3) (hB : rd_Bd σ) : rd_MI l yX0_between cX0_between 5 (some .int) 1 [.ref h, .int (nI k), .int (nI x), .int (nI j), .int (nI y)] D cA (rd_dw h a cA) σ (fun r u => u = σ ∧ r = nI (rd_bt (σ 1) (σ 9 1) k x j y)) := by
  refine rd_entI (by decide) (Nat.le_of_ble_eq_true rfl) ?_
  intro p e s m below meth c A E hK hw ls hl
  have E : rd_E p s m _ meth c cX0_between 5 (some .int) RX0 A := E
  have hx := E.1
  have hb := E.2.1
  have hl : lv_has ls 5 [(0, .ref h), (1, .int (nI k)), (2, .int (nI x)), (3, .int (nI j)), (4, .int (nI y))] := hl
  have hB9 := hB 9 1
  have hB1 := hB 1 ((k * 6 + j) * 9 + x * 3 + y)
  refine lv_aload_n hx hb dX0_between_0 rfl (lv_at hl 0 rfl) ?_
  refine dg_differ E hK hw dX0_between_1 ?_
  refine n_ifeq (tgt := 23) hx hb dX0_between_4 (by decide) (by omega) (fun c4 => ?_) (fun c4 => ?_)
  · refine lv_aload_n hx hb dX0_between_23 rfl (lv_at hl 0 rfl) ?_
    refine lv_aload_n hx hb dX0_between_24 rfl (lv_at hl 0 rfl) ?_
    refine dg_pairCost E hK hw dX0_between_25 ?_
    refine lv_iload_n hx hb dX0_between_28 rfl (lv_at hl 1 rfl) ?_
    refine lv_bipush (v := nI 6) hx hb dX0_between_29 (by decide) ?_
    refine n_mul hx hb dX0_between_31 ?_
    refine lv_iload_n hx hb dX0_between_32 rfl (lv_at hl 3 rfl) ?_
    refine n_add hx hb dX0_between_33 ?_
    refine lv_bipush (v := nI 9) hx hb dX0_between_34 (by decide) ?_
    refine n_mul hx hb dX0_between_36 ?_
    refine lv_iload_n hx hb dX0_between_37 rfl (lv_at hl 2 rfl) ?_
    refine lv_iconst (v := nI 3) hx hb dX0_between_38 (by decide) ?_
    refine n_mul hx hb dX0_between_39 ?_
    refine n_add hx hb dX0_between_40 ?_
    refine lv_iload hx hb dX0_between_41 (lv_at hl 4 rfl) ?_
    refine n_add hx hb dX0_between_43 ?_
    refine dl_pairCost E hK hw (by omega) dX0_between_44 ?_
    refine rd_calli (As := [.int (nI (σ 1 (((((k * 6) + j) * 9) + (x * 3)) + y)))]) (nA := 1) E hK hw (rd_d_real l D cA h a σ _ (by omega)) rfl rfl (lw_V q125 q127 qs8 q24 q128) (by decide +kernel) rfl ⟨by decide, by decide⟩ ⟨Nat.zero_le _, Nat.zero_le _⟩ hl.1 rfl (Nat.le_of_ble_eq_true rfl) dX0_between_45 (fun r u H locs hq hw => ?_)
    obtain ⟨hu, rfl⟩ := hq
    rw [hu] at hw
    exact rd_reti E hK hw (⟨rfl, congrArg nI (by unfold rd_bt; rw [if_neg (fun q => q.1 c4)])⟩) dX0_between_48
  · refine lv_iload_n hx hb dX0_between_7 rfl (lv_at hl 3 rfl) ?_
    refine lv_iload_n hx hb dX0_between_8 rfl (lv_at hl 1 rfl) ?_
    refine lv_iconst (v := nI 1) hx hb dX0_between_9 (by decide) ?_
    refine n_add hx hb dX0_between_10 ?_
    refine n_ne (tgt := 23) hx hb dX0_between_11 (by decide) (by omega) (by omega) (fun c11 => ?_) (fun c11 => ?_)
    · refine lv_aload_n hx hb dX0_between_23 rfl (lv_at hl 0 rfl) ?_
      refine lv_aload_n hx hb dX0_between_24 rfl (lv_at hl 0 rfl) ?_
      refine dg_pairCost E hK hw dX0_between_25 ?_
      refine lv_iload_n hx hb dX0_between_28 rfl (lv_at hl 1 rfl) ?_
      refine lv_bipush (v := nI 6) hx hb dX0_between_29 (by decide) ?_
      refine n_mul hx hb dX0_between_31 ?_
      refine lv_iload_n hx hb dX0_between_32 rfl (lv_at hl 3 rfl) ?_
      refine n_add hx hb dX0_between_33 ?_
      refine lv_bipush (v := nI 9) hx hb dX0_between_34 (by decide) ?_
      refine n_mul hx hb dX0_between_36 ?_
      refine lv_iload_n hx hb dX0_between_37 rfl (lv_at hl 2 rfl) ?_
      refine lv_iconst (v := nI 3) hx hb dX0_between_38 (by decide) ?_
      refine n_mul hx hb dX0_between_39 ?_
      refine n_add hx hb dX0_between_40 ?_
      refine lv_iload hx hb dX0_between_41 (lv_at hl 4 rfl) ?_
      refine n_add hx hb dX0_between_43 ?_
      refine dl_pairCost E hK hw (by omega) dX0_between_44 ?_
      refine rd_calli (As := [.int (nI (σ 1 (((((k * 6) + j) * 9) + (x * 3)) + y)))]) (nA := 1) E hK hw (rd_d_real l D cA h a σ _ (by omega)) rfl rfl (lw_V q125 q127 qs8 q24 q128) (by decide +kernel) rfl ⟨by decide, by decide⟩ ⟨Nat.zero_le _, Nat.zero_le _⟩ hl.1 rfl (Nat.le_of_ble_eq_true rfl) dX0_between_45 (fun r u H locs hq hw => ?_)
      obtain ⟨hu, rfl⟩ := hq
      rw [hu] at hw
      exact rd_reti E hK hw (⟨rfl, congrArg nI (by unfold rd_bt; rw [if_neg (fun q => c11 q.2.1)])⟩) dX0_between_48
    · refine lv_iload_n hx hb dX0_between_14 rfl (lv_at hl 2 rfl) ?_
      refine lv_iload hx hb dX0_between_15 (lv_at hl 4 rfl) ?_
      refine n_ne (tgt := 23) hx hb dX0_between_17 (by decide) (by omega) (by omega) (fun c17 => ?_) (fun c17 => ?_)
      · refine lv_aload_n hx hb dX0_between_23 rfl (lv_at hl 0 rfl) ?_
        refine lv_aload_n hx hb dX0_between_24 rfl (lv_at hl 0 rfl) ?_
        refine dg_pairCost E hK hw dX0_between_25 ?_
        refine lv_iload_n hx hb dX0_between_28 rfl (lv_at hl 1 rfl) ?_
        refine lv_bipush (v := nI 6) hx hb dX0_between_29 (by decide) ?_
        refine n_mul hx hb dX0_between_31 ?_
        refine lv_iload_n hx hb dX0_between_32 rfl (lv_at hl 3 rfl) ?_
        refine n_add hx hb dX0_between_33 ?_
        refine lv_bipush (v := nI 9) hx hb dX0_between_34 (by decide) ?_
        refine n_mul hx hb dX0_between_36 ?_
        refine lv_iload_n hx hb dX0_between_37 rfl (lv_at hl 2 rfl) ?_
        refine lv_iconst (v := nI 3) hx hb dX0_between_38 (by decide) ?_
        refine n_mul hx hb dX0_between_39 ?_
        refine n_add hx hb dX0_between_40 ?_
        refine lv_iload hx hb dX0_between_41 (lv_at hl 4 rfl) ?_
        refine n_add hx hb dX0_between_43 ?_
        refine dl_pairCost E hK hw (by omega) dX0_between_44 ?_
        refine rd_calli (As := [.int (nI (σ 1 (((((k * 6) + j) * 9) + (x * 3)) + y)))]) (nA := 1) E hK hw (rd_d_real l D cA h a σ _ (by omega)) rfl rfl (lw_V q125 q127 qs8 q24 q128) (by decide +kernel) rfl ⟨by decide, by decide⟩ ⟨Nat.zero_le _, Nat.zero_le _⟩ hl.1 rfl (Nat.le_of_ble_eq_true rfl) dX0_between_45 (fun r u H locs hq hw => ?_)
        obtain ⟨hu, rfl⟩ := hq
        rw [hu] at hw
        exact rd_reti E hK hw (⟨rfl, congrArg nI (by unfold rd_bt; rw [if_neg (fun q => c17 q.2.2)])⟩) dX0_between_48
      · refine n_far E dX0_between_20 ?_
        exact rd_reti E hK hw (⟨rfl, congrArg nI (by unfold rd_bt; rw [if_pos ⟨c4, c11, c17⟩])⟩) dX0_between_22
def rd_okO (i x c : Int32) (i' x' c' : Nat) : Prop := i' < 6 ∧ x' < 3 ∧ (c' ≤ 30 ∨ c' = 99) ∧ i = nI i' ∧ x = nI x' ∧ c = nI c'
def rd_okQ (q v c : Int32) (n v' c' : Nat) : Prop := n ≤ 35 ∧ n / 6 < n % 6 ∧ v' ≤ 8 ∧ (c' ≤ 30 ∨ c' = 99) ∧ q = nI n ∧ v = nI v' ∧ c = nI c'
def rd_okR (q c : Int32) (n c' : Nat) : Prop := n ≤ 35 ∧ n / 6 < n % 6 ∧ (c' ≤ 30 ∨ c' = 99) ∧ q = nI n ∧ c = nI c'
theorem rd_pq {n : Nat} (h : n ≤ 35) (h2 : n / 6 < n % 6) : n ≤ 29 := by omega
set_option maxHeartbeats 4000000 in
set_option maxRecDepth 100000 in
theorem rd_d_own (l : Launch) (D : va_G) (cA : ClassId) (h : Nat) (a : Nat → Nat) (σ : rd_St) (i x c0 : Int32) : rd_MI l yX0_own cX0_own 5 (some .int) 1 [.ref h, .int i, .int x, .int c0] D cA (rd_dw h a cA) σ (fun r u => (∃ i' x' c', rd_okO i x c0 i' x' c' ∧ r = nI (σ 0 (i' * 3 + x')) ∧ u = rd_up (rd_up σ 0 (i' * 3 + x') c') 9 0 0) ∨ ((¬ ∃ i' x' c', rd_okO i x c0 i' x' c') ∧ r = -1 ∧ u = σ)) := by
  refine rd_entI (by decide) (Nat.le_of_ble_eq_true rfl) ?_
  intro p e s m below meth c A E hK hw ls hl
  have E : rd_E p s m _ meth c cX0_own 5 (some .int) RX0 A := E
  have hx := E.1
  have hb := E.2.1
  have hl : lv_has ls 5 [(0, .ref h), (1, .int i), (2, .int x), (3, .int c0)] := hl
  refine lv_aload_n hx hb dX0_own_0 rfl (lv_at hl 0 rfl) ?_
  refine lv_iload_n hx hb dX0_own_1 rfl (lv_at hl 1 rfl) ?_
  refine rd_calli (As := [.int i]) (nA := 1) E hK hw (rd_d_badVariable l D cA h a σ i) rfl rfl (lw_V q76 q78 qs0 q24 q79) (by decide +kernel) rfl ⟨by decide, by decide⟩ ⟨Nat.zero_le _, Nat.zero_le _⟩ hl.1 rfl (Nat.le_of_ble_eq_true rfl) dX0_own_2 (fun r u H locs hq hw => ?_)
  obtain ⟨hu, t1, rfl, ht1, hkt1⟩ := hq
  rw [hu] at hw
  refine n_ifne (tgt := 25) hx hb dX0_own_5 (by decide) (by omega) (fun c5 => ?_) (fun c5 => ?_)
  · refine lv_iconst (v := -1) hx hb dX0_own_25 (by decide) ?_
    exact rd_reti E hK hw (Or.inr ⟨fun ⟨i', x', c', q⟩ => c5 (hkt1.mpr ⟨i', q.1, q.2.2.2.1⟩), rfl, rfl⟩) dX0_own_26
  · refine lv_iload_n hx hb dX0_own_8 rfl (lv_at hl 2 rfl) ?_
    refine lv_if_lt (tgt := 25) hx hb dX0_own_9 (by decide) (fun c9 => ?_) (fun c9 => ?_)
    · refine lv_iconst (v := -1) hx hb dX0_own_25 (by decide) ?_
      exact rd_reti E hK hw (Or.inr ⟨fun ⟨i', x', c', q⟩ => rd_neg c9 (by have := q.2.1; omega) q.2.2.2.2.1, rfl, rfl⟩) dX0_own_26
    · refine lv_iload_n hx hb dX0_own_12 rfl (lv_at hl 2 rfl) ?_
      refine lv_iconst (v := nI 2) hx hb dX0_own_13 (by decide) ?_
      refine lv_icmp_gt (tgt := 25) hx hb dX0_own_14 (by decide) (fun c14 => ?_) (fun c14 => ?_)
      · refine lv_iconst (v := -1) hx hb dX0_own_25 (by decide) ?_
        exact rd_reti E hK hw (Or.inr ⟨fun ⟨i', x', c', q⟩ => rd_big2 (by decide) c14 (by have := q.2.1; omega) q.2.2.2.2.1, rfl, rfl⟩) dX0_own_26
      · refine lv_aload_n hx hb dX0_own_17 rfl (lv_at hl 0 rfl) ?_
        refine lv_iload_n hx hb dX0_own_18 rfl (lv_at hl 3 rfl) ?_
        refine rd_calli (As := [.int c0]) (nA := 1) E hK hw (rd_d_badCost l D cA h a σ c0) rfl rfl (lw_V q80 q82 qs1 q24 q83) (by decide +kernel) rfl ⟨by decide, by decide⟩ ⟨Nat.zero_le _, Nat.zero_le _⟩ hl.1 rfl (Nat.le_of_ble_eq_true rfl) dX0_own_19 (fun r u H locs hq hw => ?_)
        obtain ⟨hu, t2, rfl, ht2, hkt2⟩ := hq
        rw [hu] at hw
        refine n_ifeq (tgt := 27) hx hb dX0_own_22 (by decide) (by omega) (fun c22 => ?_) (fun c22 => ?_)
        · obtain ⟨i', hi', rfl⟩ := hkt1.mp c5
          obtain ⟨x', hx', rfl⟩ := rd_in2 (by decide) c9 c14
          obtain ⟨c', hc', rfl⟩ := hkt2.mp c22
          refine lv_aload_n hx hb dX0_own_27 rfl (lv_at hl 0 rfl) ?_
          refine dg_ownCost E hK hw dX0_own_28 ?_
          refine lv_iload_n hx hb dX0_own_31 rfl (lv_at hl 1 rfl) ?_
          refine lv_iconst (v := nI 3) hx hb dX0_own_32 (by decide) ?_
          refine n_mul hx hb dX0_own_33 ?_
          refine lv_iload_n hx hb dX0_own_34 rfl (lv_at hl 2 rfl) ?_
          refine n_add hx hb dX0_own_35 ?_
          refine dl_ownCost E hK hw (by omega) dX0_own_36 ?_
          refine lv_istore (lv' := [(4, .int (nI (σ 0 ((i' * 3) + x')))), (0, .ref h), (1, .int (nI i')), (2, .int (nI x')), (3, .int (nI c'))]) hx hb dX0_own_37 hl (by decide) rfl (fun ls hl => ?_)
          refine lv_aload_n hx hb dX0_own_39 rfl (lv_at hl 1 rfl) ?_
          refine dg_ownCost E hK hw dX0_own_40 ?_
          refine lv_iload_n hx hb dX0_own_43 rfl (lv_at hl 2 rfl) ?_
          refine lv_iconst (v := nI 3) hx hb dX0_own_44 (by decide) ?_
          refine n_mul hx hb dX0_own_45 ?_
          refine lv_iload_n hx hb dX0_own_46 rfl (lv_at hl 3 rfl) ?_
          refine n_add hx hb dX0_own_47 ?_
          refine lv_iload_n hx hb dX0_own_48 rfl (lv_at hl 4 rfl) ?_
          refine ds_ownCost c' E hK hw (by omega) rfl dX0_own_49 (fun H locs hw => ?_)
          refine lv_aload_n hx hb dX0_own_50 rfl (lv_at hl 1 rfl) ?_
          refine lv_iconst (v := nI 0) hx hb dX0_own_51 (by decide) ?_
          refine dp_solved 0 E hK hw (by omega) dX0_own_52 (fun H locs hw => ?_)
          refine lv_iload hx hb dX0_own_55 (lv_at hl 0 rfl) ?_
          exact rd_reti E hK hw (Or.inl ⟨i', x', c', ⟨hi', by omega, hc', rfl, rfl, rfl⟩, rfl, rfl⟩) dX0_own_57
        · refine lv_iconst (v := -1) hx hb dX0_own_25 (by decide) ?_
          exact rd_reti E hK hw (Or.inr ⟨fun ⟨i', x', c', q⟩ => c22 (hkt2.mpr ⟨c', q.2.2.1, q.2.2.2.2.2⟩), rfl, rfl⟩) dX0_own_26
set_option maxHeartbeats 4000000 in
set_option maxRecDepth 100000 in
theorem rd_d_pair (l : Launch) (D : va_G) (cA : ClassId) (h : Nat) (a : Nat → Nat) (σ : rd_St) (q v c0 : Int32) : rd_MI l yX0_pair cX0_pair 5 (some .int) 1 [.ref h, .int q, .int v, .int c0] D cA (rd_dw h a cA) σ (fun r u => (∃ n v' c', rd_okQ q v c0 n v' c' ∧ r = nI (σ 1 (n * 9 + v')) ∧ u = rd_up (rd_up σ 1 (n * 9 + v') c') 9 0 0) ∨ ((¬ ∃ n v' c', rd_okQ q v c0 n v' c') ∧ r = -1 ∧ u = σ)) := by
  refine rd_entI (by decide) (Nat.le_of_ble_eq_true rfl) ?_
  intro p e s m below meth c A E hK hw ls hl
  have E : rd_E p s m _ meth c cX0_pair 5 (some .int) RX0 A := E
  have hx := E.1
  have hb := E.2.1
  have hl : lv_has ls 5 [(0, .ref h), (1, .int q), (2, .int v), (3, .int c0)] := hl
  refine lv_aload_n hx hb dX0_pair_0 rfl (lv_at hl 0 rfl) ?_
  refine lv_iload_n hx hb dX0_pair_1 rfl (lv_at hl 1 rfl) ?_
  refine rd_calli (As := [.int q]) (nA := 1) E hK hw (rd_d_badPair l D cA h a σ q) rfl rfl (lw_V q88 q90 qs2 q24 q91) (by decide +kernel) rfl ⟨by decide, by decide⟩ ⟨Nat.zero_le _, Nat.zero_le _⟩ hl.1 rfl (Nat.le_of_ble_eq_true rfl) dX0_pair_2 (fun r u H locs hq hw => ?_)
  obtain ⟨hu, t1, rfl, ht1, hkt1⟩ := hq
  rw [hu] at hw
  refine n_ifne (tgt := 26) hx hb dX0_pair_5 (by decide) (by omega) (fun c5 => ?_) (fun c5 => ?_)
  · refine lv_iconst (v := -1) hx hb dX0_pair_26 (by decide) ?_
    exact rd_reti E hK hw (Or.inr ⟨fun ⟨n, v', c', z⟩ => c5 (hkt1.mpr ⟨n, z.1, z.2.1, z.2.2.2.2.1⟩), rfl, rfl⟩) dX0_pair_27
  · refine lv_iload_n hx hb dX0_pair_8 rfl (lv_at hl 2 rfl) ?_
    refine lv_if_lt (tgt := 26) hx hb dX0_pair_9 (by decide) (fun c9 => ?_) (fun c9 => ?_)
    · refine lv_iconst (v := -1) hx hb dX0_pair_26 (by decide) ?_
      exact rd_reti E hK hw (Or.inr ⟨fun ⟨n, v', c', z⟩ => rd_neg c9 (by have := z.2.2.1; omega) z.2.2.2.2.2.1, rfl, rfl⟩) dX0_pair_27
    · refine lv_iload_n hx hb dX0_pair_12 rfl (lv_at hl 2 rfl) ?_
      refine lv_bipush (v := nI 8) hx hb dX0_pair_13 (by decide) ?_
      refine lv_icmp_gt (tgt := 26) hx hb dX0_pair_15 (by decide) (fun c15 => ?_) (fun c15 => ?_)
      · refine lv_iconst (v := -1) hx hb dX0_pair_26 (by decide) ?_
        exact rd_reti E hK hw (Or.inr ⟨fun ⟨n, v', c', z⟩ => rd_big2 (by decide) c15 z.2.2.1 z.2.2.2.2.2.1, rfl, rfl⟩) dX0_pair_27
      · refine lv_aload_n hx hb dX0_pair_18 rfl (lv_at hl 0 rfl) ?_
        refine lv_iload_n hx hb dX0_pair_19 rfl (lv_at hl 3 rfl) ?_
        refine rd_calli (As := [.int c0]) (nA := 1) E hK hw (rd_d_badCost l D cA h a σ c0) rfl rfl (lw_V q80 q82 qs1 q24 q83) (by decide +kernel) rfl ⟨by decide, by decide⟩ ⟨Nat.zero_le _, Nat.zero_le _⟩ hl.1 rfl (Nat.le_of_ble_eq_true rfl) dX0_pair_20 (fun r u H locs hq hw => ?_)
        obtain ⟨hu, t2, rfl, ht2, hkt2⟩ := hq
        rw [hu] at hw
        refine n_ifeq (tgt := 28) hx hb dX0_pair_23 (by decide) (by omega) (fun c23 => ?_) (fun c23 => ?_)
        · obtain ⟨n, hn, hn2, rfl⟩ := hkt1.mp c5
          obtain ⟨v', hv', rfl⟩ := rd_in2 (by decide) c9 c15
          obtain ⟨c', hc', rfl⟩ := hkt2.mp c23
          have hn9 := rd_pq hn hn2
          refine lv_aload_n hx hb dX0_pair_28 rfl (lv_at hl 0 rfl) ?_
          refine dg_pairCost E hK hw dX0_pair_29 ?_
          refine lv_iload_n hx hb dX0_pair_32 rfl (lv_at hl 1 rfl) ?_
          refine lv_bipush (v := nI 9) hx hb dX0_pair_33 (by decide) ?_
          refine n_mul hx hb dX0_pair_35 ?_
          refine lv_iload_n hx hb dX0_pair_36 rfl (lv_at hl 2 rfl) ?_
          refine n_add hx hb dX0_pair_37 ?_
          refine dl_pairCost E hK hw (by omega) dX0_pair_38 ?_
          refine lv_istore (lv' := [(4, .int (nI (σ 1 ((n * 9) + v')))), (0, .ref h), (1, .int (nI n)), (2, .int (nI v')), (3, .int (nI c'))]) hx hb dX0_pair_39 hl (by decide) rfl (fun ls hl => ?_)
          refine lv_aload_n hx hb dX0_pair_41 rfl (lv_at hl 1 rfl) ?_
          refine dg_pairCost E hK hw dX0_pair_42 ?_
          refine lv_iload_n hx hb dX0_pair_45 rfl (lv_at hl 2 rfl) ?_
          refine lv_bipush (v := nI 9) hx hb dX0_pair_46 (by decide) ?_
          refine n_mul hx hb dX0_pair_48 ?_
          refine lv_iload_n hx hb dX0_pair_49 rfl (lv_at hl 3 rfl) ?_
          refine n_add hx hb dX0_pair_50 ?_
          refine lv_iload_n hx hb dX0_pair_51 rfl (lv_at hl 4 rfl) ?_
          refine ds_pairCost c' E hK hw (by omega) rfl dX0_pair_52 (fun H locs hw => ?_)
          refine lv_aload_n hx hb dX0_pair_53 rfl (lv_at hl 1 rfl) ?_
          refine lv_iconst (v := nI 0) hx hb dX0_pair_54 (by decide) ?_
          refine dp_solved 0 E hK hw (by omega) dX0_pair_55 (fun H locs hw => ?_)
          refine lv_iload hx hb dX0_pair_58 (lv_at hl 0 rfl) ?_
          exact rd_reti E hK hw (Or.inl ⟨n, v', c', ⟨hn, hn2, hv', hc', rfl, rfl, rfl⟩, rfl, rfl⟩) dX0_pair_60
        · refine lv_iconst (v := -1) hx hb dX0_pair_26 (by decide) ?_
          exact rd_reti E hK hw (Or.inr ⟨fun ⟨n, v', c', z⟩ => c23 (hkt2.mpr ⟨c', z.2.2.2.1, z.2.2.2.2.2.2⟩), rfl, rfl⟩) dX0_pair_27
/-- the first t values of a pair, those that are alike (b = 1) or not (b = 0) at c' -/
def rd_rel (σ : rd_St) (n c' b t : Nat) : rd_St := fun c i => if c = 1 ∧ n * 9 ≤ i ∧ i < n * 9 + t ∧ (if (i - n * 9) / 3 = (i - n * 9) % 3 then 1 else 0) = b then c' else σ c i
theorem rd_rel_0 (σ : rd_St) (n c' b : Nat) : rd_rel σ n c' b 0 = σ := by
  funext c i; unfold rd_rel; rw [if_neg (by omega)]
theorem rd_rel_put (σ : rd_St) (n c' b t : Nat) (h : (if t / 3 = t % 3 then 1 else 0) = b) : rd_up (rd_rel σ n c' b t) 1 (n * 9 + t) c' = rd_rel σ n c' b (t + 1) := by
  funext c i
  unfold rd_up rd_rel
  by_cases h1 : c = 1 ∧ i = n * 9 + t
  · rw [if_pos h1, if_pos ⟨h1.1, by omega, by omega, by rw [h1.2, Nat.add_sub_cancel_left]; exact h⟩]
  · rw [if_neg h1]
    by_cases h2 : c = 1 ∧ n * 9 ≤ i ∧ i < n * 9 + t ∧ (if (i - n * 9) / 3 = (i - n * 9) % 3 then 1 else 0) = b
    · rw [if_pos h2, if_pos ⟨h2.1, h2.2.1, by omega, h2.2.2.2⟩]
    · rw [if_neg h2, if_neg (fun q => h2 ⟨q.1, q.2.1, by
        have : ¬ i = n * 9 + t := fun w => h1 ⟨q.1, w⟩
        omega, q.2.2.2⟩)]
theorem rd_rel_not (σ : rd_St) (n c' b t : Nat) (h : ¬ (if t / 3 = t % 3 then 1 else 0) = b) : rd_rel σ n c' b t = rd_rel σ n c' b (t + 1) := by
  funext c i
  unfold rd_rel
  by_cases h2 : c = 1 ∧ n * 9 ≤ i ∧ i < n * 9 + t ∧ (if (i - n * 9) / 3 = (i - n * 9) % 3 then 1 else 0) = b
  · rw [if_pos h2, if_pos ⟨h2.1, h2.2.1, by omega, h2.2.2.2⟩]
  · rw [if_neg h2, if_neg (fun q => h2 ⟨q.1, q.2.1, by
      have : ¬ i = n * 9 + t := fun w => h (by have z := q.2.2.2; rw [w, Nat.add_sub_cancel_left] at z; exact z)
      omega, q.2.2.2⟩)]
/-- 1 if the flag is set -/
def rd_fl (x : Int32) : Nat := if x = 0 then 0 else 1
set_option maxHeartbeats 4000000 in
set_option maxRecDepth 100000 in
theorem rd_dlp_relate {p : Program} {l : Launch} {e : Env} {s : State} {m : MethodId} {args : Array Value} {below : List Frame} {meth : Method} {c : Code} {Q : State → Prop} {D : va_G} {cA : ClassId} {A : Nat → Prop} {h : Nat} {a : Nat → Nat} (E : rd_E p s m args meth c cX0_relate 6 (some .int) RX0 A) (hK : va_K D vwCl [(cA, .int)] s) {σ : rd_St} {n c' : Nat} {sm : Int32} (hn : n ≤ 29) (kk : ∀ (H : Heap) (locs : List Loc) (ls : Array Slot), rd_W D (rd_dw h a cA) A s.heap H locs (rd_rel σ n c' (rd_fl sm) 9) → lv_has ls 6 [(0, .ref h), (1, .int (nI n)), (2, .int sm), (3, .int (nI c'))] → W p l e (rd_rm 1) s m args below meth c H locs 0 0 Q (F0 m 79 ls [])) :
    ∀ (f t : Nat), t ≤ 9 → 9 ≤ t + f → ∀ (H : Heap) (locs : List Loc) (ls : Array Slot), rd_W D (rd_dw h a cA) A s.heap H locs (rd_rel σ n c' (rd_fl sm) t) → lv_has ls 6 [(0, .ref h), (1, .int (nI n)), (2, .int sm), (3, .int (nI c')), (4, .int (nI t))] → W p l e (rd_rm 1) s m args below meth c H locs 0 0 Q (F0 m 21 ls []) := by
  have hx := E.1
  have hb := E.2.1
  intro f
  induction f with
  | zero => 
    intro t ht hf H locs ls hw hl
    refine lv_iload hx hb dX0_relate_21 (lv_at hl 4 rfl) ?_
    refine lv_bipush (v := nI 9) hx hb dX0_relate_23 (by decide) ?_
    refine n_ge (tgt := 79) hx hb dX0_relate_25 (by decide) (by omega) (by omega) (fun c25 => ?_) (fun c25 => ?_)
    · have e : t = 9 := by omega
      subst e
      exact kk H locs ls hw (lv_sub hl [0, 1, 2, 3] rfl)
    · omega
  | succ f ih =>
    intro t ht hf H locs ls hw hl
    refine lv_iload hx hb dX0_relate_21 (lv_at hl 4 rfl) ?_
    refine lv_bipush (v := nI 9) hx hb dX0_relate_23 (by decide) ?_
    refine n_ge (tgt := 79) hx hb dX0_relate_25 (by decide) (by omega) (by omega) (fun c25 => ?_) (fun c25 => ?_)
    · have e : t = 9 := by omega
      subst e
      exact kk H locs ls hw (lv_sub hl [0, 1, 2, 3] rfl)
    · refine lv_iload hx hb dX0_relate_28 (lv_at hl 4 rfl) ?_
      refine lv_iconst (v := nI 3) hx hb dX0_relate_30 (by decide) ?_
      refine n_div hx hb dX0_relate_31 (by omega) (by omega) (by omega) ?_
      refine lv_iload hx hb dX0_relate_32 (lv_at hl 4 rfl) ?_
      refine lv_iconst (v := nI 3) hx hb dX0_relate_34 (by decide) ?_
      refine n_rem hx hb dX0_relate_35 (by omega) (by omega) (by omega) ?_
      refine n_ne (tgt := 43) hx hb dX0_relate_36 (by decide) (by omega) (by omega) (fun c36 => ?_) (fun c36 => ?_)
      · refine lv_iconst (v := nI 0) hx hb dX0_relate_43 (by decide) ?_
        refine lv_istore (lv' := [(5, .int (nI 0)), (0, .ref h), (1, .int (nI n)), (2, .int sm), (3, .int (nI c')), (4, .int (nI t))]) hx hb dX0_relate_44 hl (by decide) rfl (fun ls hl => ?_)
        refine lv_iload hx hb dX0_relate_46 (lv_at hl 0 rfl) ?_
        refine lv_iload_n hx hb dX0_relate_48 rfl (lv_at hl 3 rfl) ?_
        refine lv_if_eq (tgt := 56) hx hb dX0_relate_49 (by decide) (fun c49 => ?_) (fun c49 => ?_)
        · refine lv_iconst (v := nI 0) hx hb dX0_relate_56 (by decide) ?_
          refine n_ne (tgt := 73) hx hb dX0_relate_57 (by decide) (by omega) (by omega) (fun c57 => ?_) (fun c57 => ?_)
          · omega
          · have hz : (if t / 3 = t % 3 then 1 else 0) = rd_fl sm := by rw [if_neg c36]; unfold rd_fl; rw [if_pos c49]
            refine lv_aload_n hx hb dX0_relate_60 rfl (lv_at hl 1 rfl) ?_
            refine dg_pairCost E hK hw dX0_relate_61 ?_
            refine lv_iload_n hx hb dX0_relate_64 rfl (lv_at hl 2 rfl) ?_
            refine lv_bipush (v := nI 9) hx hb dX0_relate_65 (by decide) ?_
            refine n_mul hx hb dX0_relate_67 ?_
            refine lv_iload hx hb dX0_relate_68 (lv_at hl 5 rfl) ?_
            refine n_add hx hb dX0_relate_70 ?_
            refine lv_iload_n hx hb dX0_relate_71 rfl (lv_at hl 4 rfl) ?_
            refine ds_pairCost c' E hK hw (by omega) rfl dX0_relate_72 (fun H locs hw => ?_)
            rw [rd_rel_put σ n c' (rd_fl sm) t hz] at hw
            refine n_inc (lv' := [(4, .int (nI (t + 1))), (5, .int (nI 0)), (0, .ref h), (1, .int (nI n)), (2, .int sm), (3, .int (nI c'))]) hx hb dX0_relate_73 hl (k := 5) rfl (by decide) rfl (fun ls hl => ?_)
            refine lv_goto (tgt := 21) hx hb dX0_relate_76 (by decide) ?_
            exact ih (t + 1) (by omega) (by omega) H locs ls hw (lv_sub hl [2, 3, 4, 5, 0] rfl)
        · refine lv_iconst (v := nI 1) hx hb dX0_relate_52 (by decide) ?_
          refine lv_goto (tgt := 57) hx hb dX0_relate_53 (by decide) ?_
          refine n_ne (tgt := 73) hx hb dX0_relate_57 (by decide) (by omega) (by omega) (fun c57 => ?_) (fun c57 => ?_)
          · have hz : ¬ (if t / 3 = t % 3 then 1 else 0) = rd_fl sm := by rw [if_neg c36]; unfold rd_fl; rw [if_neg c49]; omega
            rw [rd_rel_not σ n c' (rd_fl sm) t hz] at hw
            refine n_inc (lv' := [(4, .int (nI (t + 1))), (5, .int (nI 0)), (0, .ref h), (1, .int (nI n)), (2, .int sm), (3, .int (nI c'))]) hx hb dX0_relate_73 hl (k := 5) rfl (by decide) rfl (fun ls hl => ?_)
            refine lv_goto (tgt := 21) hx hb dX0_relate_76 (by decide) ?_
            exact ih (t + 1) (by omega) (by omega) H locs ls hw (lv_sub hl [2, 3, 4, 5, 0] rfl)
          · omega
      · refine lv_iconst (v := nI 1) hx hb dX0_relate_39 (by decide) ?_
        refine lv_goto (tgt := 44) hx hb dX0_relate_40 (by decide) ?_
        refine lv_istore (lv' := [(5, .int (nI 1)), (0, .ref h), (1, .int (nI n)), (2, .int sm), (3, .int (nI c')), (4, .int (nI t))]) hx hb dX0_relate_44 hl (by decide) rfl (fun ls hl => ?_)
        refine lv_iload hx hb dX0_relate_46 (lv_at hl 0 rfl) ?_
        refine lv_iload_n hx hb dX0_relate_48 rfl (lv_at hl 3 rfl) ?_
        refine lv_if_eq (tgt := 56) hx hb dX0_relate_49 (by decide) (fun c49 => ?_) (fun c49 => ?_)
        · refine lv_iconst (v := nI 0) hx hb dX0_relate_56 (by decide) ?_
          refine n_ne (tgt := 73) hx hb dX0_relate_57 (by decide) (by omega) (by omega) (fun c57 => ?_) (fun c57 => ?_)
          · have hz : ¬ (if t / 3 = t % 3 then 1 else 0) = rd_fl sm := by rw [if_pos c36]; unfold rd_fl; rw [if_pos c49]; omega
            rw [rd_rel_not σ n c' (rd_fl sm) t hz] at hw
            refine n_inc (lv' := [(4, .int (nI (t + 1))), (5, .int (nI 1)), (0, .ref h), (1, .int (nI n)), (2, .int sm), (3, .int (nI c'))]) hx hb dX0_relate_73 hl (k := 5) rfl (by decide) rfl (fun ls hl => ?_)
            refine lv_goto (tgt := 21) hx hb dX0_relate_76 (by decide) ?_
            exact ih (t + 1) (by omega) (by omega) H locs ls hw (lv_sub hl [2, 3, 4, 5, 0] rfl)
          · omega
        · refine lv_iconst (v := nI 1) hx hb dX0_relate_52 (by decide) ?_
          refine lv_goto (tgt := 57) hx hb dX0_relate_53 (by decide) ?_
          refine n_ne (tgt := 73) hx hb dX0_relate_57 (by decide) (by omega) (by omega) (fun c57 => ?_) (fun c57 => ?_)
          · omega
          · have hz : (if t / 3 = t % 3 then 1 else 0) = rd_fl sm := by rw [if_pos c36]; unfold rd_fl; rw [if_neg c49]
            refine lv_aload_n hx hb dX0_relate_60 rfl (lv_at hl 1 rfl) ?_
            refine dg_pairCost E hK hw dX0_relate_61 ?_
            refine lv_iload_n hx hb dX0_relate_64 rfl (lv_at hl 2 rfl) ?_
            refine lv_bipush (v := nI 9) hx hb dX0_relate_65 (by decide) ?_
            refine n_mul hx hb dX0_relate_67 ?_
            refine lv_iload hx hb dX0_relate_68 (lv_at hl 5 rfl) ?_
            refine n_add hx hb dX0_relate_70 ?_
            refine lv_iload_n hx hb dX0_relate_71 rfl (lv_at hl 4 rfl) ?_
            refine ds_pairCost c' E hK hw (by omega) rfl dX0_relate_72 (fun H locs hw => ?_)
            rw [rd_rel_put σ n c' (rd_fl sm) t hz] at hw
            refine n_inc (lv' := [(4, .int (nI (t + 1))), (5, .int (nI 1)), (0, .ref h), (1, .int (nI n)), (2, .int sm), (3, .int (nI c'))]) hx hb dX0_relate_73 hl (k := 5) rfl (by decide) rfl (fun ls hl => ?_)
            refine lv_goto (tgt := 21) hx hb dX0_relate_76 (by decide) ?_
            exact ih (t + 1) (by omega) (by omega) H locs ls hw (lv_sub hl [2, 3, 4, 5, 0] rfl)
set_option maxHeartbeats 4000000 in
set_option maxRecDepth 100000 in
theorem rd_d_relate (l : Launch) (D : va_G) (cA : ClassId) (h : Nat) (a : Nat → Nat) (σ : rd_St) (q sm c0 : Int32) : rd_MI l yX0_relate cX0_relate 6 (some .int) 1 [.ref h, .int q, .int sm, .int c0] D cA (rd_dw h a cA) σ (fun r u => (∃ n c', rd_okR q c0 n c' ∧ r = 0 ∧ u = rd_up (rd_rel σ n c' (rd_fl sm) 9) 9 0 0) ∨ ((¬ ∃ n c', rd_okR q c0 n c') ∧ r = -1 ∧ u = σ)) := by
  refine rd_entI (by decide) (Nat.le_of_ble_eq_true rfl) ?_
  intro p e s m below meth c A E hK hw ls hl
  have E : rd_E p s m _ meth c cX0_relate 6 (some .int) RX0 A := E
  have hx := E.1
  have hb := E.2.1
  have hl : lv_has ls 6 [(0, .ref h), (1, .int q), (2, .int sm), (3, .int c0)] := hl
  refine lv_aload_n hx hb dX0_relate_0 rfl (lv_at hl 0 rfl) ?_
  refine lv_iload_n hx hb dX0_relate_1 rfl (lv_at hl 1 rfl) ?_
  refine rd_calli (As := [.int q]) (nA := 1) E hK hw (rd_d_badPair l D cA h a σ q) rfl rfl (lw_V q88 q90 qs2 q24 q91) (by decide +kernel) rfl ⟨by decide, by decide⟩ ⟨Nat.zero_le _, Nat.zero_le _⟩ hl.1 rfl (Nat.le_of_ble_eq_true rfl) dX0_relate_2 (fun r u H locs hq hw => ?_)
  obtain ⟨hu, t1, rfl, ht1, hkt1⟩ := hq
  rw [hu] at hw
  refine n_ifne (tgt := 16) hx hb dX0_relate_5 (by decide) (by omega) (fun c5 => ?_) (fun c5 => ?_)
  · refine lv_iconst (v := -1) hx hb dX0_relate_16 (by decide) ?_
    exact rd_reti E hK hw (Or.inr ⟨fun ⟨n, c', z⟩ => c5 (hkt1.mpr ⟨n, z.1, z.2.1, z.2.2.2.1⟩), rfl, rfl⟩) dX0_relate_17
  · refine lv_aload_n hx hb dX0_relate_8 rfl (lv_at hl 0 rfl) ?_
    refine lv_iload_n hx hb dX0_relate_9 rfl (lv_at hl 3 rfl) ?_
    refine rd_calli (As := [.int c0]) (nA := 1) E hK hw (rd_d_badCost l D cA h a σ c0) rfl rfl (lw_V q80 q82 qs1 q24 q83) (by decide +kernel) rfl ⟨by decide, by decide⟩ ⟨Nat.zero_le _, Nat.zero_le _⟩ hl.1 rfl (Nat.le_of_ble_eq_true rfl) dX0_relate_10 (fun r u H locs hq hw => ?_)
    obtain ⟨hu, t2, rfl, ht2, hkt2⟩ := hq
    rw [hu] at hw
    refine n_ifeq (tgt := 18) hx hb dX0_relate_13 (by decide) (by omega) (fun c13 => ?_) (fun c13 => ?_)
    · obtain ⟨n, hn, hn2, rfl⟩ := hkt1.mp c5
      obtain ⟨c', hc', rfl⟩ := hkt2.mp c13
      have hn9 := rd_pq hn hn2
      refine lv_iconst (v := nI 0) hx hb dX0_relate_18 (by decide) ?_
      refine lv_istore (lv' := [(4, .int (nI 0)), (0, .ref h), (1, .int (nI n)), (2, .int sm), (3, .int (nI c'))]) hx hb dX0_relate_19 hl (by decide) rfl (fun ls hl => ?_)
      rw [← rd_rel_0 σ n c' (rd_fl sm)] at hw
      refine rd_dlp_relate (σ := σ) (n := n) (c' := c') (sm := sm) E hK hn9 (fun H locs ls hw hl => ?_) 9 0 (by omega) (by omega) _ _ ls hw (lv_sub hl [1, 2, 3, 4, 0] rfl)
      refine lv_aload_n hx hb dX0_relate_79 rfl (lv_at hl 0 rfl) ?_
      refine lv_iconst (v := nI 0) hx hb dX0_relate_80 (by decide) ?_
      refine dp_solved 0 E hK hw (by omega) dX0_relate_81 (fun H locs hw => ?_)
      refine lv_iconst (v := nI 0) hx hb dX0_relate_84 (by decide) ?_
      exact rd_reti E hK hw (Or.inl ⟨n, c', ⟨hn, hn2, hc', rfl, rfl⟩, rfl, rfl⟩) dX0_relate_85
    · refine lv_iconst (v := -1) hx hb dX0_relate_16 (by decide) ?_
      exact rd_reti E hK hw (Or.inr ⟨fun ⟨n, c', z⟩ => c13 (hkt2.mpr ⟨c', z.2.2.1, z.2.2.2.2⟩), rfl, rfl⟩) dX0_relate_17
def rd_clr (σ : rd_St) (b t : Nat) : rd_St := fun c i => if c = b ∧ i < t then 0 else σ c i
theorem rd_clr_0 (σ : rd_St) (b : Nat) : rd_clr σ b 0 = σ := by
  funext c i; unfold rd_clr; rw [if_neg (by omega)]
theorem rd_clr_put (σ : rd_St) (b t : Nat) : rd_up (rd_clr σ b t) b t 0 = rd_clr σ b (t + 1) := by
  funext c i
  unfold rd_up rd_clr
  by_cases h1 : c = b ∧ i = t
  · rw [if_pos h1, if_pos ⟨h1.1, by omega⟩]
  · rw [if_neg h1]
    by_cases h2 : c = b ∧ i < t
    · rw [if_pos h2, if_pos ⟨h2.1, by omega⟩]
    · rw [if_neg h2, if_neg (fun q => h2 ⟨q.1, by
        have : ¬ i = t := fun w => h1 ⟨q.1, w⟩
        omega⟩)]
set_option maxHeartbeats 4000000 in
set_option maxRecDepth 100000 in
theorem rd_dlp_clear0 {p : Program} {l : Launch} {e : Env} {s : State} {m : MethodId} {args : Array Value} {below : List Frame} {meth : Method} {c : Code} {Q : State → Prop} {D : va_G} {cA : ClassId} {A : Nat → Prop} {h : Nat} {a : Nat → Nat} (E : rd_E p s m args meth c cX0_clear 2 none RX0 A) (hK : va_K D vwCl [(cA, .int)] s) {σ : rd_St} (kk : ∀ (H : Heap) (locs : List Loc) (ls : Array Slot), rd_W D (rd_dw h a cA) A s.heap H locs (rd_clr σ 0 18) → lv_has ls 2 [(0, .ref h)] → W p l e (rd_rm 0) s m args below meth c H locs 0 0 Q (F0 m 21 ls [])) :
    ∀ (f t : Nat), t ≤ 18 → 18 ≤ t + f → ∀ (H : Heap) (locs : List Loc) (ls : Array Slot), rd_W D (rd_dw h a cA) A s.heap H locs (rd_clr σ 0 t) → lv_has ls 2 [(0, .ref h), (1, .int (nI t))] → W p l e (rd_rm 0) s m args below meth c H locs 0 0 Q (F0 m 2 ls []) := by
  have hx := E.1
  have hb := E.2.1
  intro f
  induction f with
  | zero =>
    intro t ht hf H locs ls hw hl
    refine lv_iload_n hx hb dX0_clear_2 rfl (lv_at hl 1 rfl) ?_
    refine lv_bipush (v := nI 18) hx hb dX0_clear_3 (by decide) ?_
    refine n_ge (tgt := 21) hx hb dX0_clear_5 (by decide) (by omega) (by omega) (fun c5 => ?_) (fun c5 => ?_)
    · have e : t = 18 := by omega
      subst e
      exact kk H locs ls hw (lv_sub hl [0] rfl)
    · omega
  | succ f ih =>
    intro t ht hf H locs ls hw hl
    refine lv_iload_n hx hb dX0_clear_2 rfl (lv_at hl 1 rfl) ?_
    refine lv_bipush (v := nI 18) hx hb dX0_clear_3 (by decide) ?_
    refine n_ge (tgt := 21) hx hb dX0_clear_5 (by decide) (by omega) (by omega) (fun c5 => ?_) (fun c5 => ?_)
    · have e : t = 18 := by omega
      subst e
      exact kk H locs ls hw (lv_sub hl [0] rfl)
    · refine lv_aload_n hx hb dX0_clear_8 rfl (lv_at hl 0 rfl) ?_
      refine dg_ownCost E hK hw dX0_clear_9 ?_
      refine lv_iload_n hx hb dX0_clear_12 rfl (lv_at hl 1 rfl) ?_
      refine lv_iconst (v := nI 0) hx hb dX0_clear_13 (by decide) ?_
      refine ds_ownCost 0 E hK hw (by omega) rfl dX0_clear_14 (fun H locs hw => ?_)
      rw [rd_clr_put] at hw
      refine n_inc (lv' := [(1, .int (nI (t + 1))), (0, .ref h)]) hx hb dX0_clear_15 hl (k := 1) rfl (by decide) rfl (fun ls hl => ?_)
      refine lv_goto (tgt := 2) hx hb dX0_clear_18 (by decide) ?_
      exact ih (t + 1) (by omega) (by omega) H locs ls hw (lv_sub hl [1, 0] rfl)
set_option maxHeartbeats 4000000 in
set_option maxRecDepth 100000 in
theorem rd_dlp_clear1 {p : Program} {l : Launch} {e : Env} {s : State} {m : MethodId} {args : Array Value} {below : List Frame} {meth : Method} {c : Code} {Q : State → Prop} {D : va_G} {cA : ClassId} {A : Nat → Prop} {h : Nat} {a : Nat → Nat} (E : rd_E p s m args meth c cX0_clear 2 none RX0 A) (hK : va_K D vwCl [(cA, .int)] s) {σ : rd_St} (kk : ∀ (H : Heap) (locs : List Loc) (ls : Array Slot), rd_W D (rd_dw h a cA) A s.heap H locs (rd_clr σ 1 324) → lv_has ls 2 [(0, .ref h)] → W p l e (rd_rm 0) s m args below meth c H locs 0 0 Q (F0 m 43 ls [])) :
    ∀ (f t : Nat), t ≤ 324 → 324 ≤ t + f → ∀ (H : Heap) (locs : List Loc) (ls : Array Slot), rd_W D (rd_dw h a cA) A s.heap H locs (rd_clr σ 1 t) → lv_has ls 2 [(0, .ref h), (1, .int (nI t))] → W p l e (rd_rm 0) s m args below meth c H locs 0 0 Q (F0 m 23 ls []) := by
  have hx := E.1
  have hb := E.2.1
  intro f
  induction f with
  | zero =>
    intro t ht hf H locs ls hw hl
    refine lv_iload_n hx hb dX0_clear_23 rfl (lv_at hl 1 rfl) ?_
    refine lv_sipush (v := nI 324) hx hb dX0_clear_24 (by decide) ?_
    refine n_ge (tgt := 43) hx hb dX0_clear_27 (by decide) (by omega) (by omega) (fun c27 => ?_) (fun c27 => ?_)
    · have e : t = 324 := by omega
      subst e
      exact kk H locs ls hw (lv_sub hl [0] rfl)
    · omega
  | succ f ih =>
    intro t ht hf H locs ls hw hl
    refine lv_iload_n hx hb dX0_clear_23 rfl (lv_at hl 1 rfl) ?_
    refine lv_sipush (v := nI 324) hx hb dX0_clear_24 (by decide) ?_
    refine n_ge (tgt := 43) hx hb dX0_clear_27 (by decide) (by omega) (by omega) (fun c27 => ?_) (fun c27 => ?_)
    · have e : t = 324 := by omega
      subst e
      exact kk H locs ls hw (lv_sub hl [0] rfl)
    · refine lv_aload_n hx hb dX0_clear_30 rfl (lv_at hl 0 rfl) ?_
      refine dg_pairCost E hK hw dX0_clear_31 ?_
      refine lv_iload_n hx hb dX0_clear_34 rfl (lv_at hl 1 rfl) ?_
      refine lv_iconst (v := nI 0) hx hb dX0_clear_35 (by decide) ?_
      refine ds_pairCost 0 E hK hw (by omega) rfl dX0_clear_36 (fun H locs hw => ?_)
      rw [rd_clr_put] at hw
      refine n_inc (lv' := [(1, .int (nI (t + 1))), (0, .ref h)]) hx hb dX0_clear_37 hl (k := 1) rfl (by decide) rfl (fun ls hl => ?_)
      refine lv_goto (tgt := 23) hx hb dX0_clear_40 (by decide) ?_
      exact ih (t + 1) (by omega) (by omega) H locs ls hw (lv_sub hl [1, 0] rfl)
set_option maxHeartbeats 4000000 in
set_option maxRecDepth 100000 in
theorem rd_d_clear (l : Launch) (D : va_G) (cA : ClassId) (h : Nat) (a : Nat → Nat) (σ : rd_St) : rd_MV l yX0_clear cX0_clear 2 none 0 [.ref h] D cA (rd_dw h a cA) σ (fun u => u = rd_up (rd_clr (rd_clr σ 0 18) 1 324) 9 0 0) := by
  refine rd_entV (by decide) (Nat.le_of_ble_eq_true rfl) ?_
  intro p e s m below meth c A E hK hw ls hl
  have E : rd_E p s m _ meth c cX0_clear 2 none RX0 A := E
  have hx := E.1
  have hb := E.2.1
  have hl : lv_has ls 2 [(0, .ref h)] := hl
  refine lv_iconst (v := nI 0) hx hb dX0_clear_0 (by decide) ?_
  refine lv_istore_n (lv' := [(1, .int (nI 0)), (0, .ref h)]) hx hb dX0_clear_1 rfl hl (by decide) rfl (fun ls hl => ?_)
  rw [← rd_clr_0 σ 0] at hw
  refine rd_dlp_clear0 (σ := σ) E hK (fun H locs ls hw hl => ?_) 18 0 (by omega) (by omega) _ _ ls hw (lv_sub hl [1, 0] rfl)
  refine lv_iconst (v := nI 0) hx hb dX0_clear_21 (by decide) ?_
  refine lv_istore_n (lv' := [(1, .int (nI 0)), (0, .ref h)]) hx hb dX0_clear_22 rfl hl (by decide) rfl (fun ls hl => ?_)
  rw [← rd_clr_0 (rd_clr σ 0 18) 1] at hw
  refine rd_dlp_clear1 (σ := rd_clr σ 0 18) E hK (fun H locs ls hw hl => ?_) 324 0 (by omega) (by omega) _ _ ls hw (lv_sub hl [1, 0] rfl)
  refine lv_aload_n hx hb dX0_clear_43 rfl (lv_at hl 0 rfl) ?_
  refine lv_iconst (v := nI 0) hx hb dX0_clear_44 (by decide) ?_
  refine dp_solved 0 E hK hw (by omega) dX0_clear_45 (fun H locs hw => ?_)
  exact rd_retv E hK hw (rfl) dX0_clear_48
end
section
set_option maxRecDepth 100000
set_option maxHeartbeats 4000000 in
set_option maxRecDepth 100000 in
theorem rd_dlp_choose1 {p : Program} {l : Launch} {e : Env} {s : State} {m : MethodId} {args : Array Value} {below : List Frame} {meth : Method} {c : Code} {Q : State → Prop} {D : va_G} {cA : ClassId} {A : Nat → Prop} {h : Nat} {a : Nat → Nat} (E : rd_E p s m args meth c cX0_choose 8 none RX0 A) (hK : va_K D vwCl [(cA, .int)] s) {σ : rd_St} {k x j : Nat} (hk : k < 6) (hx3 : x < 3) (hkj : k < j) (hj : j < 6) (hB : rd_Bd σ) (kk : ∀ (H : Heap) (locs : List Loc) (ls : Array Slot), rd_W D (rd_dw h a cA) A s.heap H locs (rd_ch σ k x (j * 3 + 3)) → lv_has ls 8 [(0, .ref h), (1, .int (nI k)), (2, .int (nI x)), (4, .int (nI j))] → W p l e (rd_rm 2) s m args below meth c H locs 0 0 Q (F0 m 144 ls [])) :
    ∀ (f y : Nat), y ≤ 3 → 3 ≤ y + f → ∀ (H : Heap) (locs : List Loc) (ls : Array Slot), rd_W D (rd_dw h a cA) A s.heap H locs (rd_ch σ k x (j * 3 + y)) → lv_has ls 8 [(0, .ref h), (1, .int (nI k)), (2, .int (nI x)), (4, .int (nI j)), (5, .int (nI y))] → W p l e (rd_rm 2) s m args below meth c H locs 0 0 Q (F0 m 73 ls []) := by
  have hx := E.1
  have hb := E.2.1
  intro f
  induction f with
  | zero =>
    intro y hy hf H locs ls hw hl
    refine lv_iload hx hb dX0_choose_73 (lv_at hl 4 rfl) ?_
    refine lv_iconst (v := nI 3) hx hb dX0_choose_75 (by decide) ?_
    refine n_ge (tgt := 144) hx hb dX0_choose_76 (by decide) (by omega) (by omega) (fun c76 => ?_) (fun c76 => ?_)
    · have e : y = 3 := by omega
      subst e
      exact kk H locs ls hw (lv_sub hl [0, 1, 2, 3] rfl)
    · omega
  | succ f ih =>
    intro y hy hf H locs ls hw hl
    refine lv_iload hx hb dX0_choose_73 (lv_at hl 4 rfl) ?_
    refine lv_iconst (v := nI 3) hx hb dX0_choose_75 (by decide) ?_
    refine n_ge (tgt := 144) hx hb dX0_choose_76 (by decide) (by omega) (by omega) (fun c76 => ?_) (fun c76 => ?_)
    · have e : y = 3 := by omega
      subst e
      exact kk H locs ls hw (lv_sub hl [0, 1, 2, 3] rfl)
    · have hBc := rd_ch_Bd hB k x (j * 3 + y)
      refine lv_aload_n hx hb dX0_choose_79 rfl (lv_at hl 0 rfl) ?_
      refine lv_iload_n hx hb dX0_choose_80 rfl (lv_at hl 1 rfl) ?_
      refine lv_iload_n hx hb dX0_choose_81 rfl (lv_at hl 2 rfl) ?_
      refine lv_iload hx hb dX0_choose_82 (lv_at hl 3 rfl) ?_
      refine lv_iload hx hb dX0_choose_84 (lv_at hl 4 rfl) ?_
      refine rd_calli (As := [.int (nI k), .int (nI x), .int (nI j), .int (nI y)]) (nA := 4) E hK hw (rd_d_between l D cA h a (rd_ch σ k x (j * 3 + y)) k x j y hk hx3 hj (by omega) hBc) rfl rfl (lw_V q133 q135 qs10 q24 q136) (by decide +kernel) rfl ⟨by decide, by decide⟩ ⟨Nat.zero_le _, Nat.zero_le _⟩ hl.1 rfl (Nat.le_of_ble_eq_true rfl) dX0_choose_86 (fun r u H locs hq hw => ?_)
      obtain ⟨hu, hr⟩ := hq
      rw [hu] at hw
      rw [rd_ch_ne σ k x _ (c := 1) (by decide), rd_ch_ne σ k x _ (c := 9) (by decide)] at hr
      subst hr
      have hb1 := rd_bt_le (p := σ 1) (hB 1) (σ 9 1) k x j y
      have hb2 := hBc 6 (((k * 6 + j) * 3) + y)
      refine lv_istore (lv' := [(6, .int (nI (rd_bt (σ 1) (σ 9 1) k x j y))), (0, .ref h), (1, .int (nI k)), (2, .int (nI x)), (4, .int (nI j)), (5, .int (nI y))]) hx hb dX0_choose_89 hl (by decide) rfl (fun ls hl => ?_)
      refine lv_aload_n hx hb dX0_choose_91 rfl (lv_at hl 1 rfl) ?_
      refine dg_ahead E hK hw dX0_choose_92 ?_
      refine lv_iload_n hx hb dX0_choose_95 rfl (lv_at hl 2 rfl) ?_
      refine lv_bipush (v := nI 6) hx hb dX0_choose_96 (by decide) ?_
      refine n_mul hx hb dX0_choose_98 ?_
      refine lv_iload hx hb dX0_choose_99 (lv_at hl 4 rfl) ?_
      refine n_add hx hb dX0_choose_101 ?_
      refine lv_iconst (v := nI 3) hx hb dX0_choose_102 (by decide) ?_
      refine n_mul hx hb dX0_choose_103 ?_
      refine lv_iload hx hb dX0_choose_104 (lv_at hl 5 rfl) ?_
      refine n_add hx hb dX0_choose_106 ?_
      refine dl_ahead E hK hw (by omega) dX0_choose_107 ?_
      refine lv_istore (lv' := [(7, .int (nI ((rd_ch σ k x (j * 3 + y)) 6 ((((k * 6) + j) * 3) + y)))), (6, .int (nI (rd_bt (σ 1) (σ 9 1) k x j y))), (0, .ref h), (1, .int (nI k)), (2, .int (nI x)), (4, .int (nI j)), (5, .int (nI y))]) hx hb dX0_choose_108 hl (by decide) rfl (fun ls hl => ?_)
      refine lv_aload_n hx hb dX0_choose_110 rfl (lv_at hl 2 rfl) ?_
      refine dg_ahead E hK hw dX0_choose_111 ?_
      refine lv_iload_n hx hb dX0_choose_114 rfl (lv_at hl 3 rfl) ?_
      refine lv_iconst (v := nI 1) hx hb dX0_choose_115 (by decide) ?_
      refine n_add hx hb dX0_choose_116 ?_
      refine lv_bipush (v := nI 6) hx hb dX0_choose_117 (by decide) ?_
      refine n_mul hx hb dX0_choose_119 ?_
      refine lv_iload hx hb dX0_choose_120 (lv_at hl 5 rfl) ?_
      refine n_add hx hb dX0_choose_122 ?_
      refine lv_iconst (v := nI 3) hx hb dX0_choose_123 (by decide) ?_
      refine n_mul hx hb dX0_choose_124 ?_
      refine lv_iload hx hb dX0_choose_125 (lv_at hl 6 rfl) ?_
      refine n_add hx hb dX0_choose_127 ?_
      refine lv_aload_n hx hb dX0_choose_128 rfl (lv_at hl 2 rfl) ?_
      refine lv_iload hx hb dX0_choose_129 (lv_at hl 0 rfl) ?_
      refine lv_iload hx hb dX0_choose_131 (lv_at hl 1 rfl) ?_
      refine n_add hx hb dX0_choose_133 ?_
      refine rd_calli (As := [.int (nI (((rd_ch σ k x (j * 3 + y)) 6 ((((k * 6) + j) * 3) + y)) + (rd_bt (σ 1) (σ 9 1) k x j y)))]) (nA := 1) E hK hw (rd_d_capped l D cA h a (rd_ch σ k x (j * 3 + y)) _ (by omega)) rfl rfl (lw_V q129 q131 qs9 q24 q132) (by decide +kernel) rfl ⟨by decide, by decide⟩ ⟨Nat.zero_le _, Nat.zero_le _⟩ hl.1 rfl (Nat.le_of_ble_eq_true rfl) dX0_choose_134 (fun r u H locs hq hw => ?_)
      obtain ⟨hu, hr⟩ := hq
      rw [hu] at hw
      subst hr
      refine ds_ahead (min 100000 (((rd_ch σ k x (j * 3 + y)) 6 ((((k * 6) + j) * 3) + y)) + (rd_bt (σ 1) (σ 9 1) k x j y))) E hK hw (by omega) rfl dX0_choose_137 (fun H locs hw => ?_)
      rw [rd_ch_step σ k x j y _ _ hkj hj (by omega) rfl rfl] at hw
      refine n_inc (lv' := [(5, .int (nI (y + 1))), (7, .int (nI ((rd_ch σ k x (j * 3 + y)) 6 ((((k * 6) + j) * 3) + y)))), (6, .int (nI (rd_bt (σ 1) (σ 9 1) k x j y))), (0, .ref h), (1, .int (nI k)), (2, .int (nI x)), (4, .int (nI j))]) hx hb dX0_choose_138 hl (k := 6) rfl (by decide) rfl (fun ls hl => ?_)
      refine lv_goto (tgt := 73) hx hb dX0_choose_141 (by decide) ?_
      exact ih (y + 1) (by omega) (by omega) H locs ls hw (lv_sub hl [3, 4, 5, 6, 0] rfl)
set_option maxHeartbeats 4000000 in
set_option maxRecDepth 100000 in
theorem rd_dlp_choose2 {p : Program} {l : Launch} {e : Env} {s : State} {m : MethodId} {args : Array Value} {below : List Frame} {meth : Method} {c : Code} {Q : State → Prop} {D : va_G} {cA : ClassId} {A : Nat → Prop} {h : Nat} {a : Nat → Nat} (E : rd_E p s m args meth c cX0_choose 8 none RX0 A) (hK : va_K D vwCl [(cA, .int)] s) {σ : rd_St} {k x : Nat} (hk : k < 6) (hx3 : x < 3) (hB : rd_Bd σ) (kk : ∀ (H : Heap) (locs : List Loc) (ls : Array Slot), rd_W D (rd_dw h a cA) A s.heap H locs (rd_ch σ k x 18) → W p l e (rd_rm 2) s m args below meth c H locs 0 0 Q (F0 m 150 ls [])) :
    ∀ (f j : Nat), k < j → j ≤ 6 → 6 ≤ j + f → ∀ (H : Heap) (locs : List Loc) (ls : Array Slot), rd_W D (rd_dw h a cA) A s.heap H locs (rd_ch σ k x (j * 3)) → lv_has ls 8 [(0, .ref h), (1, .int (nI k)), (2, .int (nI x)), (4, .int (nI j))] → W p l e (rd_rm 2) s m args below meth c H locs 0 0 Q (F0 m 63 ls []) := by
  have hx := E.1
  have hb := E.2.1
  intro f
  induction f with
  | zero =>
    intro j hkj hj hf H locs ls hw hl
    refine lv_iload hx hb dX0_choose_63 (lv_at hl 3 rfl) ?_
    refine lv_bipush (v := nI 6) hx hb dX0_choose_65 (by decide) ?_
    refine n_ge (tgt := 150) hx hb dX0_choose_67 (by decide) (by omega) (by omega) (fun c67 => ?_) (fun c67 => ?_)
    · have e : j = 6 := by omega
      subst e
      exact kk H locs ls hw
    · omega
  | succ f ih =>
    intro j hkj hj hf H locs ls hw hl
    refine lv_iload hx hb dX0_choose_63 (lv_at hl 3 rfl) ?_
    refine lv_bipush (v := nI 6) hx hb dX0_choose_65 (by decide) ?_
    refine n_ge (tgt := 150) hx hb dX0_choose_67 (by decide) (by omega) (by omega) (fun c67 => ?_) (fun c67 => ?_)
    · have e : j = 6 := by omega
      subst e
      exact kk H locs ls hw
    · refine lv_iconst (v := nI 0) hx hb dX0_choose_70 (by decide) ?_
      refine lv_istore (lv' := [(5, .int (nI 0)), (0, .ref h), (1, .int (nI k)), (2, .int (nI x)), (4, .int (nI j))]) hx hb dX0_choose_71 hl (by decide) rfl (fun ls hl => ?_)
      refine rd_dlp_choose1 (σ := σ) (k := k) (x := x) (j := j) E hK hk hx3 hkj (by omega) hB (fun H locs ls hw hl => ?_) 3 0 (by omega) (by omega) H locs ls hw (lv_sub hl [1, 2, 3, 4, 0] rfl)
      rw [show j * 3 + 3 = (j + 1) * 3 by omega] at hw
      refine n_inc (lv' := [(4, .int (nI (j + 1))), (0, .ref h), (1, .int (nI k)), (2, .int (nI x))]) hx hb dX0_choose_144 hl (k := 3) rfl (by decide) rfl (fun ls hl => ?_)
      refine lv_goto (tgt := 63) hx hb dX0_choose_147 (by decide) ?_
      exact ih (j + 1) (by omega) (by omega) (by omega) H locs ls hw (lv_sub hl [1, 2, 3, 0] rfl)
set_option maxHeartbeats 4000000 in
set_option maxRecDepth 100000 in
theorem rd_d_choose (l : Launch) (D : va_G) (cA : ClassId) (h : Nat) (a : Nat → Nat) (σ : rd_St) (k x : Nat) (hk : k < 6) (hx3 : x < 3) (hB : rd_Bd σ) : rd_MV l yX0_choose cX0_choose 8 none 2 [.ref h, .int (nI k), .int (nI x)] D cA (rd_dw h a cA) σ (fun u => u = rd_choose σ k x) := by
  refine rd_entV (by decide) (Nat.le_of_ble_eq_true rfl) ?_
  intro p e s m below meth c A E hK hw ls hl
  have E : rd_E p s m _ meth c cX0_choose 8 none RX0 A := E
  have hx := E.1
  have hb := E.2.1
  have hl : lv_has ls 8 [(0, .ref h), (1, .int (nI k)), (2, .int (nI x))] := hl
  have hb0 := hB 0 (k * 3 + x)
  have hb0r := rd_rl_le hb0
  have hb5 := hB 5 k
  have hb6 := hB 6 ((k * 6 + k) * 3 + x)
  refine lv_aload_n hx hb dX0_choose_0 rfl (lv_at hl 0 rfl) ?_
  refine dg_chosen E hK hw dX0_choose_1 ?_
  refine lv_iload_n hx hb dX0_choose_4 rfl (lv_at hl 1 rfl) ?_
  refine lv_iload_n hx hb dX0_choose_5 rfl (lv_at hl 2 rfl) ?_
  refine ds_chosen (x + 1) E hK hw (by omega) ((rd_s1 _).symm) dX0_choose_6 (fun H locs hw => ?_)
  refine lv_aload_n hx hb dX0_choose_7 rfl (lv_at hl 0 rfl) ?_
  refine lv_aload_n hx hb dX0_choose_8 rfl (lv_at hl 0 rfl) ?_
  refine dg_ownCost E hK hw dX0_choose_9 ?_
  refine lv_iload_n hx hb dX0_choose_12 rfl (lv_at hl 1 rfl) ?_
  refine lv_iconst (v := nI 3) hx hb dX0_choose_13 (by decide) ?_
  refine n_mul hx hb dX0_choose_14 ?_
  refine lv_iload_n hx hb dX0_choose_15 rfl (lv_at hl 2 rfl) ?_
  refine n_add hx hb dX0_choose_16 ?_
  refine dl_ownCost E hK hw (by omega) dX0_choose_17 ?_
  refine n_as (congrArg nI (rd_up_ne σ (by omega))) ?_
  refine rd_calli (As := [.int (nI (σ 0 (k * 3 + x)))]) (nA := 1) E hK hw (rd_d_real l D cA h a (rd_up σ 4 k (x + 1)) (σ 0 (k * 3 + x)) (by omega)) rfl rfl (lw_V q125 q127 qs8 q24 q128) (by decide +kernel) rfl ⟨by decide, by decide⟩ ⟨Nat.zero_le _, Nat.zero_le _⟩ hl.1 rfl (Nat.le_of_ble_eq_true rfl) dX0_choose_18 (fun r u H locs hq hw => ?_)
  obtain ⟨hu, hr⟩ := hq
  rw [hu] at hw
  subst hr
  refine lv_aload_n hx hb dX0_choose_21 rfl (lv_at hl 0 rfl) ?_
  refine dg_ahead E hK hw dX0_choose_22 ?_
  refine lv_iload_n hx hb dX0_choose_25 rfl (lv_at hl 1 rfl) ?_
  refine lv_bipush (v := nI 6) hx hb dX0_choose_26 (by decide) ?_
  refine n_mul hx hb dX0_choose_28 ?_
  refine lv_iload_n hx hb dX0_choose_29 rfl (lv_at hl 1 rfl) ?_
  refine n_add hx hb dX0_choose_30 ?_
  refine lv_iconst (v := nI 3) hx hb dX0_choose_31 (by decide) ?_
  refine n_mul hx hb dX0_choose_32 ?_
  refine lv_iload_n hx hb dX0_choose_33 rfl (lv_at hl 2 rfl) ?_
  refine n_add hx hb dX0_choose_34 ?_
  refine dl_ahead E hK hw (by omega) dX0_choose_35 ?_
  refine n_as (congrArg nI (rd_up_ne σ (by omega))) ?_
  refine n_add hx hb dX0_choose_36 ?_
  refine lv_istore_n (lv' := [(3, .int (nI ((rd_rl (σ 0 (k * 3 + x))) + (σ 6 ((k * 6 + k) * 3 + x))))), (0, .ref h), (1, .int (nI k)), (2, .int (nI x))]) hx hb dX0_choose_37 rfl hl (by decide) rfl (fun ls hl => ?_)
  refine lv_aload_n hx hb dX0_choose_38 rfl (lv_at hl 1 rfl) ?_
  refine dg_spent E hK hw dX0_choose_39 ?_
  refine lv_iload_n hx hb dX0_choose_42 rfl (lv_at hl 2 rfl) ?_
  refine lv_iconst (v := nI 1) hx hb dX0_choose_43 (by decide) ?_
  refine n_add hx hb dX0_choose_44 ?_
  refine lv_aload_n hx hb dX0_choose_45 rfl (lv_at hl 1 rfl) ?_
  refine lv_aload_n hx hb dX0_choose_46 rfl (lv_at hl 1 rfl) ?_
  refine dg_spent E hK hw dX0_choose_47 ?_
  refine lv_iload_n hx hb dX0_choose_50 rfl (lv_at hl 2 rfl) ?_
  refine dl_spent E hK hw (by omega) dX0_choose_51 ?_
  refine n_as (congrArg nI (rd_up_ne σ (by omega))) ?_
  refine lv_iload_n hx hb dX0_choose_52 rfl (lv_at hl 0 rfl) ?_
  refine n_add hx hb dX0_choose_53 ?_
  refine rd_calli (As := [.int (nI ((σ 5 k) + ((rd_rl (σ 0 (k * 3 + x))) + (σ 6 ((k * 6 + k) * 3 + x)))))]) (nA := 1) E hK hw (rd_d_capped l D cA h a (rd_up σ 4 k (x + 1)) _ (by omega)) rfl rfl (lw_V q129 q131 qs9 q24 q132) (by decide +kernel) rfl ⟨by decide, by decide⟩ ⟨Nat.zero_le _, Nat.zero_le _⟩ hl.1 rfl (Nat.le_of_ble_eq_true rfl) dX0_choose_54 (fun r u H locs hq hw => ?_)
  obtain ⟨hu, hr⟩ := hq
  rw [hu] at hw
  subst hr
  refine ds_spent (min 100000 (σ 5 k + (rd_rl (σ 0 (k * 3 + x)) + σ 6 ((k * 6 + k) * 3 + x)))) E hK hw (by omega) rfl dX0_choose_57 (fun H locs hw => ?_)
  refine lv_iload_n hx hb dX0_choose_58 rfl (lv_at hl 2 rfl) ?_
  refine lv_iconst (v := nI 1) hx hb dX0_choose_59 (by decide) ?_
  refine n_add hx hb dX0_choose_60 ?_
  refine lv_istore (lv' := [(4, .int (nI (k + 1))), (3, .int (nI ((rd_rl (σ 0 (k * 3 + x))) + (σ 6 ((k * 6 + k) * 3 + x))))), (0, .ref h), (1, .int (nI k)), (2, .int (nI x))]) hx hb dX0_choose_61 hl (by decide) rfl (fun ls hl => ?_)
  have hw : rd_W D (rd_dw h a cA) A s.heap H locs (rd_chA σ k x) := hw
  rw [← rd_ch_0 (rd_chA σ k x) k x] at hw
  refine rd_dlp_choose2 (σ := rd_chA σ k x) (k := k) (x := x) E hK hk hx3 (rd_Bd_up (rd_Bd_up hB (by omega)) (by omega)) (fun H locs ls hw => ?_) 6 (k + 1) (by omega) (by omega) (by omega) H locs ls hw (lv_sub hl [2, 3, 4, 0] rfl)
  exact rd_retv E hK hw (rfl) dX0_choose_150
set_option maxHeartbeats 4000000 in
set_option maxRecDepth 100000 in
theorem rd_dlp_bound1 {p : Program} {l : Launch} {e : Env} {s : State} {m : MethodId} {args : Array Value} {below : List Frame} {meth : Method} {c : Code} {Q : State → Prop} {D : va_G} {cA : ClassId} {A : Nat → Prop} {h : Nat} {a : Nat → Nat} (E : rd_E p s m args meth c cX0_bound 7 (some .int) RX0 A) (hK : va_K D vwCl [(cA, .int)] s) {σ : rd_St} {H : Heap} {locs : List Loc} (hw : rd_W D (rd_dw h a cA) A s.heap H locs σ) {k j S : Nat} (hk : k < 6) (hj : j < 6) (hB : rd_Bd σ) (kk : ∀ (ls : Array Slot), lv_has ls 7 [(0, .ref h), (1, .int (nI k)), (2, .int (nI S)), (3, .int (nI j)), (4, .int (nI (rd_lS σ k j 3)))] → W p l e (rd_rm 1) s m args below meth c H locs 0 0 Q (F0 m 85 ls [])) :
    ∀ (f y : Nat), y ≤ 3 → 3 ≤ y + f → ∀ (ls : Array Slot), lv_has ls 7 [(0, .ref h), (1, .int (nI k)), (2, .int (nI S)), (3, .int (nI j)), (4, .int (nI (rd_lS σ k j y))), (5, .int (nI y))] → W p l e (rd_rm 1) s m args below meth c H locs 0 0 Q (F0 m 29 ls []) := by
  have hx := E.1
  have hb := E.2.1
  intro f
  induction f with
  | zero =>
    intro y hy hf ls hl
    refine lv_iload hx hb dX0_bound_29 (lv_at hl 5 rfl) ?_
    refine lv_iconst (v := nI 3) hx hb dX0_bound_31 (by decide) ?_
    refine n_ge (tgt := 85) hx hb dX0_bound_32 (by decide) (by omega) (by omega) (fun c32 => ?_) (fun c32 => ?_)
    · have e : y = 3 := by omega
      subst e
      exact kk ls (lv_sub hl [0, 1, 2, 3, 4] rfl)
    · omega
  | succ f ih =>
    intro y hy hf ls hl
    refine lv_iload hx hb dX0_bound_29 (lv_at hl 5 rfl) ?_
    refine lv_iconst (v := nI 3) hx hb dX0_bound_31 (by decide) ?_
    refine n_ge (tgt := 85) hx hb dX0_bound_32 (by decide) (by omega) (by omega) (fun c32 => ?_) (fun c32 => ?_)
    · have e : y = 3 := by omega
      subst e
      exact kk ls (lv_sub hl [0, 1, 2, 3, 4] rfl)
    · have hb3 := hB 3 j
      have hb6 := hB 6 (((k * 6) + j) * 3 + y)
      have hbl := rd_lS_100 σ k j y
      refine lv_aload_n hx hb dX0_bound_35 rfl (lv_at hl 0 rfl) ?_
      refine dg_ahead E hK hw dX0_bound_36 ?_
      refine lv_iload_n hx hb dX0_bound_39 rfl (lv_at hl 1 rfl) ?_
      refine lv_bipush (v := nI 6) hx hb dX0_bound_40 (by decide) ?_
      refine n_mul hx hb dX0_bound_42 ?_
      refine lv_iload_n hx hb dX0_bound_43 rfl (lv_at hl 3 rfl) ?_
      refine n_add hx hb dX0_bound_44 ?_
      refine lv_iconst (v := nI 3) hx hb dX0_bound_45 (by decide) ?_
      refine n_mul hx hb dX0_bound_46 ?_
      refine lv_iload hx hb dX0_bound_47 (lv_at hl 5 rfl) ?_
      refine n_add hx hb dX0_bound_49 ?_
      refine dl_ahead E hK hw (by omega) dX0_bound_50 ?_
      refine lv_istore (lv' := [(6, .int (nI (σ 6 ((((k * 6) + j) * 3) + y)))), (0, .ref h), (1, .int (nI k)), (2, .int (nI S)), (3, .int (nI j)), (4, .int (nI (rd_lS σ k j y))), (5, .int (nI y))]) hx hb dX0_bound_51 hl (by decide) rfl (fun ls hl => ?_)
      refine lv_aload_n hx hb dX0_bound_53 rfl (lv_at hl 1 rfl) ?_
      refine dg_allowed E hK hw dX0_bound_54 ?_
      refine lv_iload_n hx hb dX0_bound_57 rfl (lv_at hl 4 rfl) ?_
      refine dl_allowed E hK hw (by omega) dX0_bound_58 ?_
      refine lv_iload hx hb dX0_bound_59 (lv_at hl 6 rfl) ?_
      refine n_shr hx hb dX0_bound_61 (by omega) (by omega) ?_
      refine lv_iconst (v := nI 1) hx hb dX0_bound_62 (by decide) ?_
      refine n_and1 hx hb dX0_bound_63 (Nat.lt_of_le_of_lt (Nat.div_le_self _ _) (by omega)) ?_
      refine lv_iconst (v := nI 1) hx hb dX0_bound_64 (by decide) ?_
      refine n_ne (tgt := 79) hx hb dX0_bound_65 (by decide) (by have := Nat.mod_lt (σ 3 j / 2 ^ y) (show 0 < 2 by decide); omega) (by omega) (fun c65 => ?_) (fun c65 => ?_)
      · have e : rd_lS σ k j (y + 1) = rd_lS σ k j y := if_neg (fun q => c65 q.1)
        refine n_inc (lv' := [(5, .int (nI (y + 1))), (6, .int (nI (σ 6 ((((k * 6) + j) * 3) + y)))), (0, .ref h), (1, .int (nI k)), (2, .int (nI S)), (3, .int (nI j)), (4, .int (nI (rd_lS σ k j y)))]) hx hb dX0_bound_79 hl (k := 6) rfl (by decide) rfl (fun ls hl => ?_)
        refine lv_goto (tgt := 29) hx hb dX0_bound_82 (by decide) ?_
        rw [← e] at hl
        exact ih (y + 1) (by omega) (by omega) ls (lv_sub hl [2, 3, 4, 5, 6, 0] rfl)
      · refine lv_iload hx hb dX0_bound_68 (lv_at hl 0 rfl) ?_
        refine lv_iload hx hb dX0_bound_70 (lv_at hl 5 rfl) ?_
        refine n_ge (tgt := 79) hx hb dX0_bound_72 (by decide) (by omega) (by omega) (fun c72 => ?_) (fun c72 => ?_)
        · have e : rd_lS σ k j (y + 1) = rd_lS σ k j y := if_neg (fun q => absurd q.2 (Nat.not_lt.mpr c72))
          refine n_inc (lv' := [(5, .int (nI (y + 1))), (6, .int (nI (σ 6 ((((k * 6) + j) * 3) + y)))), (0, .ref h), (1, .int (nI k)), (2, .int (nI S)), (3, .int (nI j)), (4, .int (nI (rd_lS σ k j y)))]) hx hb dX0_bound_79 hl (k := 6) rfl (by decide) rfl (fun ls hl => ?_)
          refine lv_goto (tgt := 29) hx hb dX0_bound_82 (by decide) ?_
          rw [← e] at hl
          exact ih (y + 1) (by omega) (by omega) ls (lv_sub hl [2, 3, 4, 5, 6, 0] rfl)
        · refine lv_iload hx hb dX0_bound_75 (lv_at hl 0 rfl) ?_
          refine lv_istore (lv' := [(4, .int (nI (σ 6 ((((k * 6) + j) * 3) + y)))), (6, .int (nI (σ 6 ((((k * 6) + j) * 3) + y)))), (0, .ref h), (1, .int (nI k)), (2, .int (nI S)), (3, .int (nI j)), (5, .int (nI y))]) hx hb dX0_bound_77 hl (by decide) rfl (fun ls hl => ?_)
          have e : rd_lS σ k j (y + 1) = σ 6 ((k * 6 + j) * 3 + y) := if_pos ⟨c65, c72⟩
          refine n_inc (lv' := [(5, .int (nI (y + 1))), (4, .int (nI (σ 6 ((((k * 6) + j) * 3) + y)))), (6, .int (nI (σ 6 ((((k * 6) + j) * 3) + y)))), (0, .ref h), (1, .int (nI k)), (2, .int (nI S)), (3, .int (nI j))]) hx hb dX0_bound_79 hl (k := 6) rfl (by decide) rfl (fun ls hl => ?_)
          refine lv_goto (tgt := 29) hx hb dX0_bound_82 (by decide) ?_
          rw [← e] at hl
          exact ih (y + 1) (by omega) (by omega) ls (lv_sub hl [3, 4, 5, 6, 1, 0] rfl)
set_option maxHeartbeats 4000000 in
set_option maxRecDepth 100000 in
theorem rd_dlp_bound2 {p : Program} {l : Launch} {e : Env} {s : State} {m : MethodId} {args : Array Value} {below : List Frame} {meth : Method} {c : Code} {Q : State → Prop} {D : va_G} {cA : ClassId} {A : Nat → Prop} {h : Nat} {a : Nat → Nat} (E : rd_E p s m args meth c cX0_bound 7 (some .int) RX0 A) (hK : va_K D vwCl [(cA, .int)] s) {σ : rd_St} {H : Heap} {locs : List Loc} (hw : rd_W D (rd_dw h a cA) A s.heap H locs σ) {k : Nat} (hk : k < 6) (hB : rd_Bd σ) (kk : ∀ (ls : Array Slot), lv_has ls 7 [(0, .ref h), (1, .int (nI k)), (2, .int (nI (rd_bS σ k (6 - k))))] → W p l e (rd_rm 1) s m args below meth c H locs 0 0 Q (F0 m 96 ls [])) :
    ∀ (f t : Nat), k + t ≤ 6 → 6 ≤ k + t + f → ∀ (ls : Array Slot), lv_has ls 7 [(0, .ref h), (1, .int (nI k)), (2, .int (nI (rd_bS σ k t))), (3, .int (nI (k + t)))] → W p l e (rd_rm 1) s m args below meth c H locs 0 0 Q (F0 m 16 ls []) := by
  have hx := E.1
  have hb := E.2.1
  intro f
  induction f with
  | zero =>
    intro t ht hf ls hl
    refine lv_iload_n hx hb dX0_bound_16 rfl (lv_at hl 3 rfl) ?_
    refine lv_bipush (v := nI 6) hx hb dX0_bound_17 (by decide) ?_
    refine n_ge (tgt := 96) hx hb dX0_bound_19 (by decide) (by omega) (by omega) (fun c19 => ?_) (fun c19 => ?_)
    · have e : t = 6 - k := by omega
      subst e
      exact kk ls (lv_sub hl [0, 1, 2] rfl)
    · omega
  | succ f ih =>
    intro t ht hf ls hl
    refine lv_iload_n hx hb dX0_bound_16 rfl (lv_at hl 3 rfl) ?_
    refine lv_bipush (v := nI 6) hx hb dX0_bound_17 (by decide) ?_
    refine n_ge (tgt := 96) hx hb dX0_bound_19 (by decide) (by omega) (by omega) (fun c19 => ?_) (fun c19 => ?_)
    · have e : t = 6 - k := by omega
      subst e
      exact kk ls (lv_sub hl [0, 1, 2] rfl)
    · refine n_far E dX0_bound_22 ?_
      refine lv_istore (lv' := [(4, .int (nI 100000)), (0, .ref h), (1, .int (nI k)), (2, .int (nI (rd_bS σ k t))), (3, .int (nI (k + t)))]) hx hb dX0_bound_24 hl (by decide) rfl (fun ls hl => ?_)
      refine lv_iconst (v := nI 0) hx hb dX0_bound_26 (by decide) ?_
      refine lv_istore (lv' := [(5, .int (nI 0)), (4, .int (nI 100000)), (0, .ref h), (1, .int (nI k)), (2, .int (nI (rd_bS σ k t))), (3, .int (nI (k + t)))]) hx hb dX0_bound_27 hl (by decide) rfl (fun ls hl => ?_)
      refine rd_dlp_bound1 (σ := σ) (k := k) (j := k + t) (S := rd_bS σ k t) E hK hw hk (by omega) hB (fun ls hl => ?_) 3 0 (by omega) (by omega) ls (lv_sub hl [2, 3, 4, 5, 1, 0] rfl)
      refine lv_iload_n hx hb dX0_bound_85 rfl (lv_at hl 2 rfl) ?_
      refine lv_iload hx hb dX0_bound_86 (lv_at hl 4 rfl) ?_
      refine n_add hx hb dX0_bound_88 ?_
      refine lv_istore_n (lv' := [(2, .int (nI ((rd_bS σ k t) + (rd_lS σ k (k + t) 3)))), (0, .ref h), (1, .int (nI k)), (3, .int (nI (k + t))), (4, .int (nI (rd_lS σ k (k + t) 3)))]) hx hb dX0_bound_89 rfl hl (by decide) rfl (fun ls hl => ?_)
      refine n_inc (lv' := [(3, .int (nI ((k + t) + 1))), (2, .int (nI ((rd_bS σ k t) + (rd_lS σ k (k + t) 3)))), (0, .ref h), (1, .int (nI k)), (4, .int (nI (rd_lS σ k (k + t) 3)))]) hx hb dX0_bound_90 hl (k := 3) rfl (by decide) rfl (fun ls hl => ?_)
      refine lv_goto (tgt := 16) hx hb dX0_bound_93 (by decide) ?_
      exact ih (t + 1) (by omega) (by omega) ls (lv_sub hl [2, 3, 1, 0] rfl)
set_option maxHeartbeats 4000000 in
set_option maxRecDepth 100000 in
theorem rd_d_bound (l : Launch) (D : va_G) (cA : ClassId) (h : Nat) (a : Nat → Nat) (σ : rd_St) (k : Nat) (hk : k < 6) (hB : rd_Bd σ) : rd_MI l yX0_bound cX0_bound 7 (some .int) 1 [.ref h, .int (nI k)] D cA (rd_dw h a cA) σ (fun r u => u = σ ∧ r = nI (min 100000 (rd_bS σ k (6 - k)))) := by
  refine rd_entI (by decide) (Nat.le_of_ble_eq_true rfl) ?_
  intro p e s m below meth c A E hK hw ls hl
  have E : rd_E p s m _ meth c cX0_bound 7 (some .int) RX0 A := E
  have hx := E.1
  have hb := E.2.1
  have hl : lv_has ls 7 [(0, .ref h), (1, .int (nI k))] := hl
  refine lv_aload_n hx hb dX0_bound_0 rfl (lv_at hl 0 rfl) ?_
  refine dg_spent E hK hw dX0_bound_1 ?_
  refine lv_iload_n hx hb dX0_bound_4 rfl (lv_at hl 1 rfl) ?_
  refine dl_spent E hK hw (by omega) dX0_bound_5 ?_
  refine lv_aload_n hx hb dX0_bound_6 rfl (lv_at hl 0 rfl) ?_
  refine dg_dolls E hK hw dX0_bound_7 ?_
  refine lv_iload_n hx hb dX0_bound_10 rfl (lv_at hl 1 rfl) ?_
  refine dl_dolls E hK hw (by omega) dX0_bound_11 ?_
  refine n_add hx hb dX0_bound_12 ?_
  refine lv_istore_n (lv' := [(2, .int (nI ((σ 5 k) + (σ 2 k)))), (0, .ref h), (1, .int (nI k))]) hx hb dX0_bound_13 rfl hl (by decide) rfl (fun ls hl => ?_)
  refine lv_iload_n hx hb dX0_bound_14 rfl (lv_at hl 2 rfl) ?_
  refine lv_istore_n (lv' := [(3, .int (nI k)), (2, .int (nI ((σ 5 k) + (σ 2 k)))), (0, .ref h), (1, .int (nI k))]) hx hb dX0_bound_15 rfl hl (by decide) rfl (fun ls hl => ?_)
  refine rd_dlp_bound2 (σ := σ) (k := k) E hK hw hk hB (fun ls hl => ?_) 6 0 (by omega) (by omega) ls (lv_sub hl [2, 3, 1, 0] rfl)
  have hbb := rd_bS_100 hB k (6 - k)
  refine lv_aload_n hx hb dX0_bound_96 rfl (lv_at hl 0 rfl) ?_
  refine lv_iload_n hx hb dX0_bound_97 rfl (lv_at hl 2 rfl) ?_
  refine rd_calli (As := [.int (nI (rd_bS σ k (6 - k)))]) (nA := 1) E hK hw (rd_d_capped l D cA h a σ _ (by omega)) rfl rfl (lw_V q129 q131 qs9 q24 q132) (by decide +kernel) rfl ⟨by decide, by decide⟩ ⟨Nat.zero_le _, Nat.zero_le _⟩ hl.1 rfl (Nat.le_of_ble_eq_true rfl) dX0_bound_98 (fun r u H locs hq hw => ?_)
  obtain ⟨hu, hr⟩ := hq
  rw [hu] at hw
  subst hr
  exact rd_reti E hK hw (⟨rfl, rfl⟩) dX0_bound_101
set_option maxHeartbeats 4000000 in
set_option maxRecDepth 100000 in
theorem rd_dlp_next {p : Program} {l : Launch} {e : Env} {s : State} {m : MethodId} {args : Array Value} {below : List Frame} {meth : Method} {c : Code} {Q : State → Prop} {D : va_G} {cA : ClassId} {A : Nat → Prop} {h : Nat} {a : Nat → Nat} (E : rd_E p s m args meth c cX0_nextValue 4 (some .int) RX0 A) (hK : va_K D vwCl [(cA, .int)] s) {σ : rd_St} {H : Heap} {locs : List Loc} (hw : rd_W D (rd_dw h a cA) A s.heap H locs σ) {k z : Nat} (hk : k < 6) (hB : rd_Bd σ) (kk : ∀ (ls : Array Slot), lv_has ls 4 [(0, .ref h), (1, .int (nI k)), (2, .int (nI z))] → W p l e (rd_rm 0) s m args below meth c H locs 0 0 Q (F0 m 43 ls [])) :
    ∀ (f i x : Nat), i + f = 3 → x ≤ 100000 → rd_nx (σ 3 k) f x = z → ∀ (ls : Array Slot), lv_has ls 4 [(0, .ref h), (1, .int (nI k)), (2, .int (nI x)), (3, .int (nI i))] → W p l e (rd_rm 0) s m args below meth c H locs 0 0 Q (F0 m 11 ls []) := by
  have hx := E.1
  have hb := E.2.1
  intro f
  induction f with
  | zero =>
    intro i x hf hxb hz ls hl
    refine lv_iload_n hx hb dX0_nextValue_11 rfl (lv_at hl 3 rfl) ?_
    refine lv_iconst (v := nI 3) hx hb dX0_nextValue_12 (by decide) ?_
    refine n_ge (tgt := 43) hx hb dX0_nextValue_13 (by decide) (by omega) (by omega) (fun c13 => ?_) (fun c13 => ?_)
    · have e : x = z := hz
      subst e
      exact kk ls (lv_sub hl [0, 1, 2] rfl)
    · omega
  | succ f ih =>
    intro i x hf hxb hz ls hl
    refine lv_iload_n hx hb dX0_nextValue_11 rfl (lv_at hl 3 rfl) ?_
    refine lv_iconst (v := nI 3) hx hb dX0_nextValue_12 (by decide) ?_
    refine n_ge (tgt := 43) hx hb dX0_nextValue_13 (by decide) (by omega) (by omega) (fun c13 => ?_) (fun c13 => ?_)
    · omega
    · refine lv_iload_n hx hb dX0_nextValue_16 rfl (lv_at hl 2 rfl) ?_
      refine lv_iconst (v := nI 3) hx hb dX0_nextValue_17 (by decide) ?_
      refine n_ge (tgt := 43) hx hb dX0_nextValue_18 (by decide) (by omega) (by omega) (fun c18 => ?_) (fun c18 => ?_)
      · have e : x = z := by rw [← hz]; exact (if_neg (fun q => by omega)).symm
        subst e
        exact kk ls (lv_sub hl [0, 1, 2] rfl)
      · have hb3 := hB 3 k
        refine lv_aload_n hx hb dX0_nextValue_21 rfl (lv_at hl 0 rfl) ?_
        refine dg_allowed E hK hw dX0_nextValue_22 ?_
        refine lv_iload_n hx hb dX0_nextValue_25 rfl (lv_at hl 1 rfl) ?_
        refine dl_allowed E hK hw (by omega) dX0_nextValue_26 ?_
        refine lv_iload_n hx hb dX0_nextValue_27 rfl (lv_at hl 2 rfl) ?_
        refine n_shr hx hb dX0_nextValue_28 (by omega) (by omega) ?_
        refine lv_iconst (v := nI 1) hx hb dX0_nextValue_29 (by decide) ?_
        refine n_and1 hx hb dX0_nextValue_30 (Nat.lt_of_le_of_lt (Nat.div_le_self _ _) (by omega)) ?_
        refine n_ifne (tgt := 43) hx hb dX0_nextValue_31 (by decide) (by have := Nat.mod_lt (σ 3 k / 2 ^ x) (show 0 < 2 by decide); omega) (fun c31 => ?_) (fun c31 => ?_)
        · have e : x = z := by rw [← hz]; exact (if_neg (fun q => c31 q.2)).symm
          subst e
          exact kk ls (lv_sub hl [0, 1, 2] rfl)
        · have e : rd_nx (σ 3 k) f (x + 1) = z := by rw [← hz]; exact (if_pos ⟨c18, c31⟩).symm
          refine n_inc (lv' := [(2, .int (nI (x + 1))), (0, .ref h), (1, .int (nI k)), (3, .int (nI i))]) hx hb dX0_nextValue_34 hl (k := 2) rfl (by decide) rfl (fun ls hl => ?_)
          refine n_inc (lv' := [(3, .int (nI (i + 1))), (2, .int (nI (x + 1))), (0, .ref h), (1, .int (nI k))]) hx hb dX0_nextValue_37 hl (k := 3) rfl (by decide) rfl (fun ls hl => ?_)
          refine lv_goto (tgt := 11) hx hb dX0_nextValue_40 (by decide) ?_
          exact ih (i + 1) (x + 1) (by omega) (by omega) e ls (lv_sub hl [2, 3, 1, 0] rfl)
set_option maxHeartbeats 4000000 in
set_option maxRecDepth 100000 in
theorem rd_d_nextValue (l : Launch) (D : va_G) (cA : ClassId) (h : Nat) (a : Nat → Nat) (σ : rd_St) (k : Nat) (hk : k < 6) (hB : rd_Bd σ) : rd_MI l yX0_nextValue cX0_nextValue 4 (some .int) 0 [.ref h, .int (nI k)] D cA (rd_dw h a cA) σ (fun r u => u = σ ∧ r = nI (rd_nx (σ 3 k) 3 (σ 4 k))) := by
  refine rd_entI (by decide) (Nat.le_of_ble_eq_true rfl) ?_
  intro p e s m below meth c A E hK hw ls hl
  have E : rd_E p s m _ meth c cX0_nextValue 4 (some .int) RX0 A := E
  have hx := E.1
  have hb := E.2.1
  have hl : lv_has ls 4 [(0, .ref h), (1, .int (nI k))] := hl
  refine lv_aload_n hx hb dX0_nextValue_0 rfl (lv_at hl 0 rfl) ?_
  refine dg_chosen E hK hw dX0_nextValue_1 ?_
  refine lv_iload_n hx hb dX0_nextValue_4 rfl (lv_at hl 1 rfl) ?_
  refine dl_chosen E hK hw (by omega) dX0_nextValue_5 ?_
  refine lv_iconst (v := nI 1) hx hb dX0_nextValue_6 (by decide) ?_
  refine lv_iadd hx hb dX0_nextValue_7 ?_
  refine n_as (rd_a1 _) ?_
  refine lv_istore_n (lv' := [(2, .int (nI (σ 4 k))), (0, .ref h), (1, .int (nI k))]) hx hb dX0_nextValue_8 rfl hl (by decide) rfl (fun ls hl => ?_)
  refine lv_iconst (v := nI 0) hx hb dX0_nextValue_9 (by decide) ?_
  refine lv_istore_n (lv' := [(3, .int (nI 0)), (2, .int (nI (σ 4 k))), (0, .ref h), (1, .int (nI k))]) hx hb dX0_nextValue_10 rfl hl (by decide) rfl (fun ls hl => ?_)
  refine rd_dlp_next (σ := σ) (k := k) (z := rd_nx (σ 3 k) 3 (σ 4 k)) E hK hw hk hB (fun ls hl => ?_) 3 0 (σ 4 k) (by omega) (hB 4 k) rfl ls (lv_sub hl [2, 3, 1, 0] rfl)
  refine lv_iload_n hx hb dX0_nextValue_43 rfl (lv_at hl 2 rfl) ?_
  exact rd_reti E hK hw (⟨rfl, rfl⟩) dX0_nextValue_44
set_option maxHeartbeats 4000000 in
set_option maxRecDepth 100000 in
theorem rd_dlp_keep {p : Program} {l : Launch} {e : Env} {s : State} {m : MethodId} {args : Array Value} {below : List Frame} {meth : Method} {c : Code} {Q : State → Prop} {D : va_G} {cA : ClassId} {A : Nat → Prop} {h : Nat} {a : Nat → Nat} (E : rd_E p s m args meth c cX0_keep 3 none RX0 A) (hK : va_K D vwCl [(cA, .int)] s) {σ : rd_St} {st : Nat} (h4 : ∀ j, st ≤ j → j < 6 → 1 ≤ σ 4 j) (kk : ∀ (H : Heap) (locs : List Loc) (ls : Array Slot), rd_W D (rd_dw h a cA) A s.heap H locs (rd_kp σ st 6) → W p l e (rd_rm 0) s m args below meth c H locs 0 0 Q (F0 m 37 ls [])) :
    ∀ (f j : Nat), st ≤ j → j ≤ 6 → 6 ≤ j + f → ∀ (H : Heap) (locs : List Loc) (ls : Array Slot), rd_W D (rd_dw h a cA) A s.heap H locs (rd_kp σ st j) → lv_has ls 3 [(0, .ref h), (1, .int (nI st)), (2, .int (nI j))] → W p l e (rd_rm 0) s m args below meth c H locs 0 0 Q (F0 m 13 ls []) := by
  have hx := E.1
  have hb := E.2.1
  intro f
  induction f with
  | zero =>
    intro j hsj hj hf H locs ls hw hl
    refine lv_iload_n hx hb dX0_keep_13 rfl (lv_at hl 2 rfl) ?_
    refine lv_bipush (v := nI 6) hx hb dX0_keep_14 (by decide) ?_
    refine n_ge (tgt := 37) hx hb dX0_keep_16 (by decide) (by omega) (by omega) (fun c16 => ?_) (fun c16 => ?_)
    · have e : j = 6 := by omega
      subst e
      exact kk H locs ls hw
    · omega
  | succ f ih =>
    intro j hsj hj hf H locs ls hw hl
    refine lv_iload_n hx hb dX0_keep_13 rfl (lv_at hl 2 rfl) ?_
    refine lv_bipush (v := nI 6) hx hb dX0_keep_14 (by decide) ?_
    refine n_ge (tgt := 37) hx hb dX0_keep_16 (by decide) (by omega) (by omega) (fun c16 => ?_) (fun c16 => ?_)
    · have e : j = 6 := by omega
      subst e
      exact kk H locs ls hw
    · have e4 : rd_kp σ st j 4 = σ 4 := rd_kp_ne σ st j (by decide)
      have h41 : 1 ≤ rd_kp σ st j 4 j := by rw [e4]; exact h4 j hsj (by omega)
      refine lv_aload_n hx hb dX0_keep_19 rfl (lv_at hl 0 rfl) ?_
      refine dg_bestValue E hK hw dX0_keep_20 ?_
      refine lv_iload_n hx hb dX0_keep_23 rfl (lv_at hl 2 rfl) ?_
      refine lv_aload_n hx hb dX0_keep_24 rfl (lv_at hl 0 rfl) ?_
      refine dg_chosen E hK hw dX0_keep_25 ?_
      refine lv_iload_n hx hb dX0_keep_28 rfl (lv_at hl 2 rfl) ?_
      refine dl_chosen E hK hw (by omega) dX0_keep_29 ?_
      refine ds_bestValue (((rd_kp σ st j) 4 j) - 1) E hK hw (by omega) (pk_sub (b := 1) (h41)) dX0_keep_30 (fun H locs hw => ?_)
      rw [rd_kp_step σ st j _ hsj (by rw [e4])] at hw
      refine n_inc (lv' := [(2, .int (nI (j + 1))), (0, .ref h), (1, .int (nI st))]) hx hb dX0_keep_31 hl (k := 2) rfl (by decide) rfl (fun ls hl => ?_)
      refine lv_goto (tgt := 13) hx hb dX0_keep_34 (by decide) ?_
      exact ih (j + 1) (by omega) (by omega) (by omega) H locs ls hw (lv_sub hl [1, 2, 0] rfl)
set_option maxHeartbeats 4000000 in
set_option maxRecDepth 100000 in
theorem rd_d_keep (l : Launch) (D : va_G) (cA : ClassId) (h : Nat) (a : Nat → Nat) (σ : rd_St) (st : Nat) (hst : st < 6) (h4 : ∀ j, st ≤ j → j < 6 → 1 ≤ σ 4 j) : rd_MV l yX0_keep cX0_keep 3 none 0 [.ref h, .int (nI st)] D cA (rd_dw h a cA) σ (fun u => u = rd_keep σ st) := by
  refine rd_entV (by decide) (Nat.le_of_ble_eq_true rfl) ?_
  intro p e s m below meth c A E hK hw ls hl
  have E : rd_E p s m _ meth c cX0_keep 3 none RX0 A := E
  have hx := E.1
  have hb := E.2.1
  have hl : lv_has ls 3 [(0, .ref h), (1, .int (nI st))] := hl
  refine lv_aload_n hx hb dX0_keep_0 rfl (lv_at hl 0 rfl) ?_
  refine lv_aload_n hx hb dX0_keep_1 rfl (lv_at hl 0 rfl) ?_
  refine dg_spent E hK hw dX0_keep_2 ?_
  refine lv_bipush (v := nI 6) hx hb dX0_keep_5 (by decide) ?_
  refine dl_spent E hK hw (by omega) dX0_keep_7 ?_
  refine dp_best (σ 5 6) E hK hw dX0_keep_8 (fun H locs hw => ?_)
  refine lv_iload_n hx hb dX0_keep_11 rfl (lv_at hl 1 rfl) ?_
  refine lv_istore_n (lv' := [(2, .int (nI st)), (0, .ref h), (1, .int (nI st))]) hx hb dX0_keep_12 rfl hl (by decide) rfl (fun ls hl => ?_)
  rw [← rd_kp_0 (rd_up σ 9 2 (σ 5 6)) st] at hw
  refine rd_dlp_keep (σ := rd_up σ 9 2 (σ 5 6)) (st := st) E hK (fun j h1 h2 => by rw [rd_up_ne σ (by omega)]; exact h4 j h1 h2) (fun H locs ls hw => ?_) 6 st (by omega) (by omega) (by omega) _ _ ls hw (lv_sub hl [1, 2, 0] rfl)
  exact rd_retv E hK hw (rfl) dX0_keep_37
def rd_alw (σ : rd_St) (t : Nat) : rd_St := fun c i => if c = 3 ∧ i < t then 7 else σ c i
theorem rd_alw_0 (σ : rd_St) : rd_alw σ 0 = σ := by
  funext c i; unfold rd_alw; rw [if_neg (by omega)]
theorem rd_alw_put (σ : rd_St) (t : Nat) : rd_up (rd_alw σ t) 3 t 7 = rd_alw σ (t + 1) := by
  funext c i
  unfold rd_up rd_alw
  by_cases h1 : c = 3 ∧ i = t
  · rw [if_pos h1, if_pos ⟨h1.1, by omega⟩]
  · rw [if_neg h1]
    by_cases h2 : c = 3 ∧ i < t
    · rw [if_pos h2, if_pos ⟨h2.1, by omega⟩]
    · rw [if_neg h2, if_neg (fun q => h2 ⟨q.1, by
        have : ¬ i = t := fun w => h1 ⟨q.1, w⟩
        omega⟩)]
/-- all values allowed, neighbours free -/
def rd_all (σ : rd_St) : rd_St := rd_alw (rd_up σ 9 1 0) 6
set_option maxHeartbeats 4000000 in
set_option maxRecDepth 100000 in
theorem rd_dlp_all {p : Program} {l : Launch} {e : Env} {s : State} {m : MethodId} {args : Array Value} {below : List Frame} {meth : Method} {c : Code} {Q : State → Prop} {D : va_G} {cA : ClassId} {A : Nat → Prop} {h : Nat} {a : Nat → Nat} (E : rd_E p s m args meth c cX0_allowAll 2 none RX0 A) (hK : va_K D vwCl [(cA, .int)] s) {σ : rd_St} (kk : ∀ (H : Heap) (locs : List Loc) (ls : Array Slot), rd_W D (rd_dw h a cA) A s.heap H locs (rd_alw σ 6) → W p l e (rd_rm 0) s m args below meth c H locs 0 0 Q (F0 m 27 ls [])) :
    ∀ (f t : Nat), t ≤ 6 → 6 ≤ t + f → ∀ (H : Heap) (locs : List Loc) (ls : Array Slot), rd_W D (rd_dw h a cA) A s.heap H locs (rd_alw σ t) → lv_has ls 2 [(0, .ref h), (1, .int (nI t))] → W p l e (rd_rm 0) s m args below meth c H locs 0 0 Q (F0 m 7 ls []) := by
  have hx := E.1
  have hb := E.2.1
  intro f
  induction f with
  | zero =>
    intro t ht hf H locs ls hw hl
    refine lv_iload_n hx hb dX0_allowAll_7 rfl (lv_at hl 1 rfl) ?_
    refine lv_bipush (v := nI 6) hx hb dX0_allowAll_8 (by decide) ?_
    refine n_ge (tgt := 27) hx hb dX0_allowAll_10 (by decide) (by omega) (by omega) (fun c10 => ?_) (fun c10 => ?_)
    · have e : t = 6 := by omega
      subst e
      exact kk H locs ls hw
    · omega
  | succ f ih =>
    intro t ht hf H locs ls hw hl
    refine lv_iload_n hx hb dX0_allowAll_7 rfl (lv_at hl 1 rfl) ?_
    refine lv_bipush (v := nI 6) hx hb dX0_allowAll_8 (by decide) ?_
    refine n_ge (tgt := 27) hx hb dX0_allowAll_10 (by decide) (by omega) (by omega) (fun c10 => ?_) (fun c10 => ?_)
    · have e : t = 6 := by omega
      subst e
      exact kk H locs ls hw
    · refine lv_aload_n hx hb dX0_allowAll_13 rfl (lv_at hl 0 rfl) ?_
      refine dg_allowed E hK hw dX0_allowAll_14 ?_
      refine lv_iload_n hx hb dX0_allowAll_17 rfl (lv_at hl 1 rfl) ?_
      refine lv_bipush (v := nI 7) hx hb dX0_allowAll_18 (by decide) ?_
      refine ds_allowed 7 E hK hw (by omega) rfl dX0_allowAll_20 (fun H locs hw => ?_)
      rw [rd_alw_put] at hw
      refine n_inc (lv' := [(1, .int (nI (t + 1))), (0, .ref h)]) hx hb dX0_allowAll_21 hl (k := 1) rfl (by decide) rfl (fun ls hl => ?_)
      refine lv_goto (tgt := 7) hx hb dX0_allowAll_24 (by decide) ?_
      exact ih (t + 1) (by omega) (by omega) H locs ls hw (lv_sub hl [1, 0] rfl)
set_option maxHeartbeats 4000000 in
set_option maxRecDepth 100000 in
theorem rd_d_allowAll (l : Launch) (D : va_G) (cA : ClassId) (h : Nat) (a : Nat → Nat) (σ : rd_St) : rd_MV l yX0_allowAll cX0_allowAll 2 none 0 [.ref h] D cA (rd_dw h a cA) σ (fun u => u = rd_all σ) := by
  refine rd_entV (by decide) (Nat.le_of_ble_eq_true rfl) ?_
  intro p e s m below meth c A E hK hw ls hl
  have E : rd_E p s m _ meth c cX0_allowAll 2 none RX0 A := E
  have hx := E.1
  have hb := E.2.1
  have hl : lv_has ls 2 [(0, .ref h)] := hl
  refine lv_aload_n hx hb dX0_allowAll_0 rfl (lv_at hl 0 rfl) ?_
  refine lv_iconst (v := nI 0) hx hb dX0_allowAll_1 (by decide) ?_
  refine dp_differ 0 E hK hw (by omega) dX0_allowAll_2 (fun H locs hw => ?_)
  refine lv_iconst (v := nI 0) hx hb dX0_allowAll_5 (by decide) ?_
  refine lv_istore_n (lv' := [(1, .int (nI 0)), (0, .ref h)]) hx hb dX0_allowAll_6 rfl hl (by decide) rfl (fun ls hl => ?_)
  rw [← rd_alw_0 (rd_up σ 9 1 0)] at hw
  refine rd_dlp_all (σ := rd_up σ 9 1 0) E hK (fun H locs ls hw => ?_) 6 0 (by omega) (by omega) _ _ ls hw (lv_sub hl [1, 0] rfl)
  exact rd_retv E hK hw (rfl) dX0_allowAll_27
end
section
set_option maxRecDepth 100000
def rd_zr (σ : rd_St) (st t : Nat) : rd_St := fun c i => if c = 6 ∧ st * 18 ≤ i ∧ i < st * 18 + t then 0 else σ c i
theorem rd_zr_0 (σ : rd_St) (st : Nat) : rd_zr σ st 0 = σ := by
  funext c i; unfold rd_zr; rw [if_neg (by omega)]
theorem rd_zr_put (σ : rd_St) (st t : Nat) : rd_up (rd_zr σ st t) 6 (st * 18 + t) 0 = rd_zr σ st (t + 1) := by
  funext c i
  unfold rd_up rd_zr
  by_cases h1 : c = 6 ∧ i = st * 18 + t
  · rw [if_pos h1, if_pos ⟨h1.1, by omega, by omega⟩]
  · rw [if_neg h1]
    by_cases h2 : c = 6 ∧ st * 18 ≤ i ∧ i < st * 18 + t
    · rw [if_pos h2, if_pos ⟨h2.1, h2.2.1, by omega⟩]
    · rw [if_neg h2, if_neg (fun q => h2 ⟨q.1, q.2.1, by
        have : ¬ i = st * 18 + t := fun w => h1 ⟨q.1, w⟩
        omega⟩)]
theorem rd_zr_ne (σ : rd_St) (st t : Nat) {c : Nat} (h : c ≠ 6) : rd_zr σ st t c = σ c := by
  funext i; unfold rd_zr; rw [if_neg (fun q => h q.1)]
theorem rd_zr_Bd {σ : rd_St} (h : rd_Bd σ) (st t : Nat) : rd_Bd (rd_zr σ st t) := by
  intro c i; unfold rd_zr; split
  · omega
  · exact h c i
theorem rd_Fr_zr {σ0 σ : rd_St} (h : rd_Fr σ0 σ) (st t : Nat) : rd_Fr σ0 (rd_zr σ st t) := by
  obtain ⟨h0, h1, h2, h3, h8, h9, h10⟩ := h
  have key : ∀ c', c' ≠ 6 → rd_zr σ st t c' = σ c' := fun c' n => rd_zr_ne σ st t n
  exact ⟨(key 0 (by omega)).trans h0, (key 1 (by omega)).trans h1, (key 2 (by omega)).trans h2, (key 3 (by omega)).trans h3, (key 8 (by omega)).trans h8, (congrFun (key 9 (by omega)) 0).trans h9, (congrFun (key 9 (by omega)) 1).trans h10⟩
/-- the state in which the rounds begin -/
def rd_s0 (σ : rd_St) (st : Nat) : rd_St := rd_up (rd_zr (rd_up (rd_up σ 9 2 100000) 5 st 0) st 18) 4 st 0
theorem rd_s0_I {σ : rd_St} {st : Nat} (hst : st < 6) (hB : rd_Bd σ) : rd_I σ (rd_s0 σ st) st 0 0 := by
  have hF : rd_Fr σ (rd_s0 σ st) := rd_Fr_up (rd_Fr_zr (rd_Fr_up (rd_Fr_up (rd_Fr_rfl σ) (by omega)) (by omega)) _ _) (by omega)
  have hB1 : rd_Bd (rd_s0 σ st) := rd_Bd_up (rd_zr_Bd (rd_Bd_up (rd_Bd_up hB (by omega)) (by omega)) _ _) (by omega)
  refine rd_I_start hst hF hB1 ?_ ?_ (fun k hk => ?_) ?_
  · unfold rd_s0
    rw [rd_up_ne _ (by omega), rd_zr_ne _ _ _ (by decide), rd_up_ne _ (by omega), rd_up_self]
  · unfold rd_s0
    rw [rd_up_ne _ (by omega), rd_zr_ne _ _ _ (by decide), rd_up_self]
  · unfold rd_s0
    rw [rd_up_ne _ (by omega)]
    unfold rd_zr
    rw [if_pos ⟨rfl, by omega, by omega⟩]
  · unfold rd_s0
    rw [rd_up_self]
theorem rd_dead {st : Nat} (h : st < 6) : nI (st + 0) + (-1) < nI st := by
  rcases (show st = 0 ∨ st = 1 ∨ st = 2 ∨ st = 3 ∨ st = 4 ∨ st = 5 by omega) with q | q | q | q | q | q <;> subst q <;> decide
set_option maxHeartbeats 4000000 in
set_option maxRecDepth 100000 in
theorem rd_dlp_zero {p : Program} {l : Launch} {e : Env} {s : State} {m : MethodId} {args : Array Value} {below : List Frame} {meth : Method} {c : Code} {Q : State → Prop} {D : va_G} {cA : ClassId} {A : Nat → Prop} {h : Nat} {a : Nat → Nat} (E : rd_E p s m args meth c cX0_search 6 none RX0 A) (hK : va_K D vwCl [(cA, .int)] s) {σ : rd_St} {st : Nat} (hst : st < 6) (kk : ∀ (H : Heap) (locs : List Loc) (ls : Array Slot), rd_W D (rd_dw h a cA) A s.heap H locs (rd_zr σ st 18) → lv_has ls 6 [(0, .ref h), (1, .int (nI st))] → W p l e (rd_rm 3) s m args below meth c H locs 0 0 Q (F0 m 39 ls [])) :
    ∀ (f t : Nat), t ≤ 18 → 18 ≤ t + f → ∀ (H : Heap) (locs : List Loc) (ls : Array Slot), rd_W D (rd_dw h a cA) A s.heap H locs (rd_zr σ st t) → lv_has ls 6 [(0, .ref h), (1, .int (nI st)), (2, .int (nI t))] → W p l e (rd_rm 3) s m args below meth c H locs 0 0 Q (F0 m 15 ls []) := by
  have hx := E.1
  have hb := E.2.1
  intro f
  induction f with
  | zero =>
    intro t ht hf H locs ls hw hl
    refine lv_iload_n hx hb dX0_search_15 rfl (lv_at hl 2 rfl) ?_
    refine lv_bipush (v := nI 18) hx hb dX0_search_16 (by decide) ?_
    refine n_ge (tgt := 39) hx hb dX0_search_18 (by decide) (by omega) (by omega) (fun c18 => ?_) (fun c18 => ?_)
    · have e : t = 18 := by omega
      subst e
      exact kk H locs ls hw (lv_sub hl [0, 1] rfl)
    · omega
  | succ f ih =>
    intro t ht hf H locs ls hw hl
    refine lv_iload_n hx hb dX0_search_15 rfl (lv_at hl 2 rfl) ?_
    refine lv_bipush (v := nI 18) hx hb dX0_search_16 (by decide) ?_
    refine n_ge (tgt := 39) hx hb dX0_search_18 (by decide) (by omega) (by omega) (fun c18 => ?_) (fun c18 => ?_)
    · have e : t = 18 := by omega
      subst e
      exact kk H locs ls hw (lv_sub hl [0, 1] rfl)
    · refine lv_aload_n hx hb dX0_search_21 rfl (lv_at hl 0 rfl) ?_
      refine dg_ahead E hK hw dX0_search_22 ?_
      refine lv_iload_n hx hb dX0_search_25 rfl (lv_at hl 1 rfl) ?_
      refine lv_bipush (v := nI 18) hx hb dX0_search_26 (by decide) ?_
      refine n_mul hx hb dX0_search_28 ?_
      refine lv_iload_n hx hb dX0_search_29 rfl (lv_at hl 2 rfl) ?_
      refine n_add hx hb dX0_search_30 ?_
      refine lv_iconst (v := nI 0) hx hb dX0_search_31 (by decide) ?_
      refine ds_ahead 0 E hK hw (by omega) rfl dX0_search_32 (fun H locs hw => ?_)
      rw [rd_zr_put] at hw
      refine n_inc (lv' := [(2, .int (nI (t + 1))), (0, .ref h), (1, .int (nI st))]) hx hb dX0_search_33 hl (k := 2) rfl (by decide) rfl (fun ls hl => ?_)
      refine lv_goto (tgt := 15) hx hb dX0_search_36 (by decide) ?_
      exact ih (t + 1) (by omega) (by omega) H locs ls hw (lv_sub hl [1, 2, 0] rfl)
set_option maxHeartbeats 4000000 in
set_option maxRecDepth 100000 in
theorem rd_dlp_dead {p : Program} {l : Launch} {e : Env} {s : State} {m : MethodId} {args : Array Value} {below : List Frame} {meth : Method} {c : Code} {Q : State → Prop} {D : va_G} {cA : ClassId} {A : Nat → Prop} {h : Nat} {a : Nat → Nat} (E : rd_E p s m args meth c cX0_search 6 none RX0 A) (hK : va_K D vwCl [(cA, .int)] s) {st r : Nat} {z : Int32} (hz : z < nI st) (hr : r ≤ 2000) {H : Heap} {locs : List Loc} (kk : ∀ (ls : Array Slot), W p l e (rd_rm 3) s m args below meth c H locs 0 0 Q (F0 m 165 ls [])) :
    ∀ (ls : Array Slot), lv_has ls 6 [(0, .ref h), (1, .int (nI st)), (2, .int z), (3, .int (nI r))] → W p l e (rd_rm 3) s m args below meth c H locs 0 0 Q (F0 m 50 ls []) := by
  have hx := E.1
  have hb := E.2.1
  intro ls hl
  refine lv_iload_n hx hb dX0_search_50 rfl (lv_at hl 3 rfl) ?_
  refine lv_sipush (v := nI 4000) hx hb dX0_search_51 (by decide) ?_
  refine n_ge (tgt := 165) hx hb dX0_search_54 (by decide) (by omega) (by omega) (fun c54 => ?_) (fun c54 => ?_)
  · exact kk ls
  · refine lv_iload_n hx hb dX0_search_57 rfl (lv_at hl 2 rfl) ?_
    refine lv_iload_n hx hb dX0_search_58 rfl (lv_at hl 1 rfl) ?_
    refine lv_icmp_lt (tgt := 165) hx hb dX0_search_59 (by decide) (fun c59 => ?_) (fun c59 => ?_)
    · exact kk ls
    · exact absurd hz c59
set_option maxHeartbeats 4000000 in
set_option maxRecDepth 100000 in
theorem rd_dlp_rounds {p : Program} {l : Launch} {e : Env} {s : State} {m : MethodId} {args : Array Value} {below : List Frame} {meth : Method} {c : Code} {Q : State → Prop} {D : va_G} {cA : ClassId} {A : Nat → Prop} {h : Nat} {a : Nat → Nat} (E : rd_E p s m args meth c cX0_search 6 none RX0 A) (hK : va_K D vwCl [(cA, .int)] s) {σ0 : rd_St} {st : Nat} (hst : st < 6) (hdl : ∀ k, st < k → k < 6 → ∀ a, σ0 2 k ≤ rd_SP (σ0 0) (σ0 1) 0 (rd_dig a) k (6 - k)) (kk : ∀ (σ : rd_St) (H : Heap) (locs : List Loc) (ls : Array Slot), rd_Fr σ0 σ → rd_Bd σ → rd_Bs (rd_F (σ0 0) (σ0 1) (σ0 9 1) (σ0 3) st) σ st (3 ^ (6 - st)) → rd_W D (rd_dw h a cA) A s.heap H locs σ → W p l e (rd_rm 3) s m args below meth c H locs 0 0 Q (F0 m 165 ls [])) :
    ∀ (f n r : Nat) (σ : rd_St), 1456 ≤ r + f → rd_I σ0 σ st n r → ∀ (H : Heap) (locs : List Loc) (ls : Array Slot), rd_W D (rd_dw h a cA) A s.heap H locs σ → lv_has ls 6 [(0, .ref h), (1, .int (nI st)), (2, .int (nI (st + n))), (3, .int (nI r))] → W p l e (rd_rm 3) s m args below meth c H locs 0 0 Q (F0 m 50 ls []) := by
  have hx := E.1
  have hb := E.2.1
  intro f
  induction f with
  | zero =>
    intro n r σ hf hI
    have hR := hI.2.2.2.2.2.2
    have e : rd_RM (σ 4) st (n + 1) = rd_RM (σ 4) st n + ((3 - σ 4 (st + n)) * (2 * 3 ^ (5 - (st + n)) - 1) + 1) := rfl
    omega
  | succ f ih =>
    intro n r σ hf hI H locs ls hw hl
    have hR := hI.2.2.2.2.2.2
    have hkn := hI.1
    have hB := hI.2.2.1
    refine lv_iload_n hx hb dX0_search_50 rfl (lv_at hl 3 rfl) ?_
    refine lv_sipush (v := nI 4000) hx hb dX0_search_51 (by decide) ?_
    refine n_ge (tgt := 165) hx hb dX0_search_54 (by decide) (by omega) (by omega) (fun c54 => ?_) (fun c54 => ?_)
    · omega
    · refine lv_iload_n hx hb dX0_search_57 rfl (lv_at hl 2 rfl) ?_
      refine lv_iload_n hx hb dX0_search_58 rfl (lv_at hl 1 rfl) ?_
      refine n_lt (tgt := 165) hx hb dX0_search_59 (by decide) (by omega) (by omega) (fun c59 => ?_) (fun c59 => ?_)
      · omega
      · refine lv_aload_n hx hb dX0_search_62 rfl (lv_at hl 0 rfl) ?_
        refine lv_iload_n hx hb dX0_search_63 rfl (lv_at hl 2 rfl) ?_
        refine rd_calli (As := [.int (nI (st + n))]) (nA := 1) E hK hw (rd_d_nextValue l D cA h a σ (st + n) hkn hB) rfl rfl (lw_V q117 q119 qs6 q24 q120) (by decide +kernel) rfl ⟨by decide, by decide⟩ ⟨Nat.zero_le _, Nat.zero_le _⟩ hl.1 rfl (Nat.le_of_ble_eq_true rfl) dX0_search_64 (fun r u H locs hq hw => ?_)
        obtain ⟨hu, hr⟩ := hq
        rw [hu] at hw
        subst hr
        obtain ⟨x, hx0⟩ : ∃ x, x = rd_nx (σ 3 (st + n)) 3 (σ 4 (st + n)) := ⟨_, rfl⟩
        have hxle : x ≤ 3 := by rw [hx0]; exact rd_nx_le _ _ _ hI.2.2.2.2.1
        rw [← hx0]
        refine lv_istore (lv' := [(4, .int (nI x)), (0, .ref h), (1, .int (nI st)), (2, .int (nI (st + n))), (3, .int (nI r))]) hx hb dX0_search_67 hl (by decide) rfl (fun ls hl => ?_)
        refine lv_iload hx hb dX0_search_69 (lv_at hl 0 rfl) ?_
        refine lv_iconst (v := nI 2) hx hb dX0_search_71 (by decide) ?_
        refine n_le (tgt := 81) hx hb dX0_search_72 (by decide) (by omega) (by omega) (fun c72 => ?_) (fun c72 => ?_)
        · have hx3 : x < 3 := by omega
          refine lv_aload_n hx hb dX0_search_81 rfl (lv_at hl 1 rfl) ?_
          refine lv_iload_n hx hb dX0_search_82 rfl (lv_at hl 3 rfl) ?_
          refine lv_iload hx hb dX0_search_83 (lv_at hl 0 rfl) ?_
          refine rd_callv (As := [.int (nI (st + n)), .int (nI x)]) (nA := 2) E hK hw (rd_d_choose l D cA h a σ (st + n) x hkn hx3 hB) rfl rfl (lw_V q121 q123 qs7 q24 q124) (by decide +kernel) rfl ⟨by decide, by decide⟩ ⟨Nat.zero_le _, Nat.zero_le _⟩ hl.1 rfl (Nat.le_of_ble_eq_true rfl) dX0_search_85 (fun u H locs hq hw => ?_)
          rw [hq] at hw
          have hB1 : rd_Bd (rd_choose σ (st + n) x) := rd_choose_Bd hB hx3
          have hb92 := hB1 9 2
          have hb56 := hB1 5 6
          refine lv_iload_n hx hb dX0_search_88 rfl (lv_at hl 3 rfl) ?_
          refine lv_iconst (v := nI 1) hx hb dX0_search_89 (by decide) ?_
          refine n_add hx hb dX0_search_90 ?_
          refine lv_bipush (v := nI 6) hx hb dX0_search_91 (by decide) ?_
          refine n_ge (tgt := 106) hx hb dX0_search_93 (by decide) (by omega) (by omega) (fun c93 => ?_) (fun c93 => ?_)
          · have hk5 : st + n = 5 := by omega
            refine lv_aload_n hx hb dX0_search_106 rfl (lv_at hl 1 rfl) ?_
            refine dg_spent E hK hw dX0_search_107 ?_
            refine lv_bipush (v := nI 6) hx hb dX0_search_110 (by decide) ?_
            refine dl_spent E hK hw (by omega) dX0_search_112 ?_
            refine lv_istore (lv' := [(5, .int (nI ((rd_choose σ (st + n) x) 5 6))), (4, .int (nI x)), (0, .ref h), (1, .int (nI st)), (2, .int (nI (st + n))), (3, .int (nI r))]) hx hb dX0_search_113 hl (by decide) rfl (fun ls hl => ?_)
            refine lv_iload hx hb dX0_search_115 (lv_at hl 0 rfl) ?_
            refine lv_aload_n hx hb dX0_search_117 rfl (lv_at hl 2 rfl) ?_
            refine dg_best E hK hw dX0_search_118 ?_
            refine n_ge (tgt := 140) hx hb dX0_search_121 (by decide) (by omega) (by omega) (fun c121 => ?_) (fun c121 => ?_)
            · refine lv_iload hx hb dX0_search_140 (lv_at hl 0 rfl) ?_
              refine lv_aload_n hx hb dX0_search_142 rfl (lv_at hl 2 rfl) ?_
              refine dg_best E hK hw dX0_search_143 ?_
              refine n_ge (tgt := 159) hx hb dX0_search_146 (by decide) (by omega) (by omega) (fun c146 => ?_) (fun c146 => ?_)
              · refine n_inc (lv' := [(3, .int (nI (r + 1))), (5, .int (nI ((rd_choose σ (st + n) x) 5 6))), (4, .int (nI x)), (0, .ref h), (1, .int (nI st)), (2, .int (nI (st + n)))]) hx hb dX0_search_159 hl (k := 5) rfl (by decide) rfl (fun ls hl => ?_)
                refine lv_goto (tgt := 50) hx hb dX0_search_162 (by decide) ?_
                exact ih n (r + 1) (rd_choose σ (st + n) x) (by omega) (rd_I_leaf hI hx0 hx3 hk5 c121) H locs ls hw (lv_sub hl [3, 4, 5, 0] rfl)
              · omega
            · refine lv_iload_n hx hb dX0_search_124 rfl (lv_at hl 4 rfl) ?_
              refine lv_iconst (v := nI 1) hx hb dX0_search_125 (by decide) ?_
              refine n_add hx hb dX0_search_126 ?_
              refine lv_bipush (v := nI 6) hx hb dX0_search_127 (by decide) ?_
              refine n_ne (tgt := 140) hx hb dX0_search_129 (by decide) (by omega) (by omega) (fun c129 => ?_) (fun c129 => ?_)
              · omega
              · refine lv_aload_n hx hb dX0_search_132 rfl (lv_at hl 2 rfl) ?_
                refine lv_iload_n hx hb dX0_search_133 rfl (lv_at hl 3 rfl) ?_
                refine rd_callv (As := [.int (nI st)]) (nA := 1) E hK hw (rd_d_keep l D cA h a (rd_choose σ (st + n) x) st hst (fun j h1 h2 => ((rd_leaf hI hx0 hx3 hk5).1 j h1 h2).1)) rfl rfl (lw_V q141 q143 qs12 q24 q144) (by decide +kernel) rfl ⟨by decide, by decide⟩ ⟨Nat.zero_le _, Nat.zero_le _⟩ hl.1 rfl (Nat.le_of_ble_eq_true rfl) dX0_search_134 (fun u H locs hq hw => ?_)
                rw [hq] at hw
                refine lv_goto (tgt := 159) hx hb dX0_search_137 (by decide) ?_
                refine n_inc (lv' := [(3, .int (nI (r + 1))), (5, .int (nI ((rd_choose σ (st + n) x) 5 6))), (4, .int (nI x)), (0, .ref h), (1, .int (nI st)), (2, .int (nI (st + n)))]) hx hb dX0_search_159 hl (k := 5) rfl (by decide) rfl (fun ls hl => ?_)
                refine lv_goto (tgt := 50) hx hb dX0_search_162 (by decide) ?_
                exact ih n (r + 1) (rd_keep (rd_choose σ (st + n) x) st) (by omega) (rd_I_keep hI hx0 hx3 hk5 c121) H locs ls hw (lv_sub hl [3, 4, 5, 0] rfl)
          · have hk5 : st + n < 5 := by omega
            refine lv_aload_n hx hb dX0_search_96 rfl (lv_at hl 1 rfl) ?_
            refine lv_iload_n hx hb dX0_search_97 rfl (lv_at hl 3 rfl) ?_
            refine lv_iconst (v := nI 1) hx hb dX0_search_98 (by decide) ?_
            refine n_add hx hb dX0_search_99 ?_
            refine rd_calli (As := [.int (nI ((st + n) + 1))]) (nA := 1) E hK hw (rd_d_bound l D cA h a (rd_choose σ (st + n) x) (st + n + 1) (by omega) hB1) rfl rfl (lw_V q137 q139 qs11 q24 q140) (by decide +kernel) rfl ⟨by decide, by decide⟩ ⟨Nat.zero_le _, Nat.zero_le _⟩ hl.1 rfl (Nat.le_of_ble_eq_true rfl) dX0_search_100 (fun r u H locs hq hw => ?_)
            obtain ⟨hu, hr⟩ := hq
            rw [hu] at hw
            subst hr
            refine lv_goto (tgt := 113) hx hb dX0_search_103 (by decide) ?_
            refine lv_istore (lv' := [(5, .int (nI (min 100000 (rd_bS (rd_choose σ (st + n) x) (st + n + 1) (6 - (st + n + 1)))))), (4, .int (nI x)), (0, .ref h), (1, .int (nI st)), (2, .int (nI (st + n))), (3, .int (nI r))]) hx hb dX0_search_113 hl (by decide) rfl (fun ls hl => ?_)
            refine lv_iload hx hb dX0_search_115 (lv_at hl 0 rfl) ?_
            refine lv_aload_n hx hb dX0_search_117 rfl (lv_at hl 2 rfl) ?_
            refine dg_best E hK hw dX0_search_118 ?_
            refine n_ge (tgt := 140) hx hb dX0_search_121 (by decide) (by omega) (by omega) (fun c121 => ?_) (fun c121 => ?_)
            · refine lv_iload hx hb dX0_search_140 (lv_at hl 0 rfl) ?_
              refine lv_aload_n hx hb dX0_search_142 rfl (lv_at hl 2 rfl) ?_
              refine dg_best E hK hw dX0_search_143 ?_
              refine n_ge (tgt := 159) hx hb dX0_search_146 (by decide) (by omega) (by omega) (fun c146 => ?_) (fun c146 => ?_)
              · refine n_inc (lv' := [(3, .int (nI (r + 1))), (5, .int (nI (min 100000 (rd_bS (rd_choose σ (st + n) x) (st + n + 1) (6 - (st + n + 1)))))), (4, .int (nI x)), (0, .ref h), (1, .int (nI st)), (2, .int (nI (st + n)))]) hx hb dX0_search_159 hl (k := 5) rfl (by decide) rfl (fun ls hl => ?_)
                refine lv_goto (tgt := 50) hx hb dX0_search_162 (by decide) ?_
                exact ih n (r + 1) (rd_choose σ (st + n) x) (by omega) (rd_I_cut hI hx0 hx3 hk5 (hdl _ (by omega) (by omega)) c121) H locs ls hw (lv_sub hl [3, 4, 5, 0] rfl)
              · omega
            · refine lv_iload_n hx hb dX0_search_124 rfl (lv_at hl 4 rfl) ?_
              refine lv_iconst (v := nI 1) hx hb dX0_search_125 (by decide) ?_
              refine n_add hx hb dX0_search_126 ?_
              refine lv_bipush (v := nI 6) hx hb dX0_search_127 (by decide) ?_
              refine n_ne (tgt := 140) hx hb dX0_search_129 (by decide) (by omega) (by omega) (fun c129 => ?_) (fun c129 => ?_)
              · refine lv_iload hx hb dX0_search_140 (lv_at hl 0 rfl) ?_
                refine lv_aload_n hx hb dX0_search_142 rfl (lv_at hl 2 rfl) ?_
                refine dg_best E hK hw dX0_search_143 ?_
                refine n_ge (tgt := 159) hx hb dX0_search_146 (by decide) (by omega) (by omega) (fun c146 => ?_) (fun c146 => ?_)
                · omega
                · refine n_inc (lv' := [(2, .int (nI ((st + n) + 1))), (5, .int (nI (min 100000 (rd_bS (rd_choose σ (st + n) x) (st + n + 1) (6 - (st + n + 1)))))), (4, .int (nI x)), (0, .ref h), (1, .int (nI st)), (3, .int (nI r))]) hx hb dX0_search_149 hl (k := 4) rfl (by decide) rfl (fun ls hl => ?_)
                  refine lv_aload_n hx hb dX0_search_152 rfl (lv_at hl 3 rfl) ?_
                  refine dg_chosen E hK hw dX0_search_153 ?_
                  refine lv_iload_n hx hb dX0_search_156 rfl (lv_at hl 0 rfl) ?_
                  refine lv_iconst (v := -1) hx hb dX0_search_157 (by decide) ?_
                  refine ds_chosen 0 E hK hw (by omega) rd_m1 dX0_search_158 (fun H locs hw => ?_)
                  have hl : lv_has ls 6 [(2, .int (nI (st + (n + 1)))), (5, .int (nI (min 100000 (rd_bS (rd_choose σ (st + n) x) (st + n + 1) (6 - (st + n + 1)))))), (4, .int (nI x)), (0, .ref h), (1, .int (nI st)), (3, .int (nI r))] := hl
                  refine n_inc (lv' := [(3, .int (nI (r + 1))), (2, .int (nI (st + (n + 1)))), (5, .int (nI (min 100000 (rd_bS (rd_choose σ (st + n) x) (st + n + 1) (6 - (st + n + 1)))))), (4, .int (nI x)), (0, .ref h), (1, .int (nI st))]) hx hb dX0_search_159 hl (k := 5) rfl (by decide) rfl (fun ls hl => ?_)
                  refine lv_goto (tgt := 50) hx hb dX0_search_162 (by decide) ?_
                  exact ih (n + 1) (r + 1) (rd_up (rd_choose σ (st + n) x) 4 (st + (n + 1)) 0) (by omega) (rd_I_down hI hx0 hx3 hk5) H locs ls hw (lv_sub hl [4, 5, 1, 0] rfl)
              · omega
        · have hx3 : x = 3 := by omega
          rw [hx0] at hx3
          cases n with
          | zero =>
            refine lv_iinc (v := nI (st + 0) + (-1)) (lv' := [(2, .int (nI (st + 0) + (-1))), (4, .int (nI x)), (0, .ref h), (1, .int (nI st)), (3, .int (nI r))]) hx hb dX0_search_75 hl (k := 3) rfl rfl (by decide) rfl (fun ls hl => ?_)
            refine lv_goto (tgt := 159) hx hb dX0_search_78 (by decide) ?_
            refine n_inc (lv' := [(3, .int (nI (r + 1))), (2, .int (nI (st + 0) + (-1))), (4, .int (nI x)), (0, .ref h), (1, .int (nI st))]) hx hb dX0_search_159 hl (k := 4) rfl (by decide) rfl (fun ls hl => ?_)
            refine lv_goto (tgt := 50) hx hb dX0_search_162 (by decide) ?_
            exact rd_dlp_dead (a := a) (z := nI (st + 0) + (-1)) (r := r + 1) (st := st) E hK (rd_dead hst) (by omega) (fun ls => kk σ H locs ls hI.2.1 hB (rd_I_end hI hx3) hw) ls (lv_sub hl [3, 4, 1, 0] rfl)
          | succ n =>
            refine n_dec (x := st + n) (lv' := [(2, .int (nI (st + n))), (4, .int (nI x)), (0, .ref h), (1, .int (nI st)), (3, .int (nI r))]) hx hb dX0_search_75 hl (k := 3) rfl (by decide) rfl (fun ls hl => ?_)
            refine lv_goto (tgt := 159) hx hb dX0_search_78 (by decide) ?_
            refine n_inc (lv' := [(3, .int (nI (r + 1))), (2, .int (nI (st + n))), (4, .int (nI x)), (0, .ref h), (1, .int (nI st))]) hx hb dX0_search_159 hl (k := 4) rfl (by decide) rfl (fun ls hl => ?_)
            refine lv_goto (tgt := 50) hx hb dX0_search_162 (by decide) ?_
            exact ih n (r + 1) (σ) (by omega) (rd_I_back hI hx3) H locs ls hw (lv_sub hl [3, 4, 1, 0] rfl)
set_option maxHeartbeats 4000000 in
set_option maxRecDepth 100000 in
theorem rd_d_search (l : Launch) (D : va_G) (cA : ClassId) (h : Nat) (a : Nat → Nat) (σ : rd_St) (st : Nat) (hst : st < 6) (hB : rd_Bd σ) (hdl : ∀ k, st < k → k < 6 → ∀ a, σ 2 k ≤ rd_SP (σ 0) (σ 1) 0 (rd_dig a) k (6 - k)) : rd_MV l yX0_search cX0_search 6 none 3 [.ref h, .int (nI st)] D cA (rd_dw h a cA) σ (fun u => rd_Fr σ u ∧ rd_Bd u ∧ rd_Bs (rd_F (σ 0) (σ 1) (σ 9 1) (σ 3) st) u st (rd_M st)) := by
  refine rd_entV (by decide) (Nat.le_of_ble_eq_true rfl) ?_
  intro p e s m below meth c A E hK hw ls hl
  have E : rd_E p s m _ meth c cX0_search 6 none RX0 A := E
  have hx := E.1
  have hb := E.2.1
  have hl : lv_has ls 6 [(0, .ref h), (1, .int (nI st))] := hl
  refine lv_aload_n hx hb dX0_search_0 rfl (lv_at hl 0 rfl) ?_
  refine n_far E dX0_search_1 ?_
  refine dp_best 100000 E hK hw dX0_search_3 (fun H locs hw => ?_)
  refine lv_aload_n hx hb dX0_search_6 rfl (lv_at hl 0 rfl) ?_
  refine dg_spent E hK hw dX0_search_7 ?_
  refine lv_iload_n hx hb dX0_search_10 rfl (lv_at hl 1 rfl) ?_
  refine lv_iconst (v := nI 0) hx hb dX0_search_11 (by decide) ?_
  refine ds_spent 0 E hK hw (by omega) rfl dX0_search_12 (fun H locs hw => ?_)
  refine lv_iconst (v := nI 0) hx hb dX0_search_13 (by decide) ?_
  refine lv_istore_n (lv' := [(2, .int (nI 0)), (0, .ref h), (1, .int (nI st))]) hx hb dX0_search_14 rfl hl (by decide) rfl (fun ls hl => ?_)
  rw [← rd_zr_0 (rd_up (rd_up σ 9 2 100000) 5 st 0) st] at hw
  refine rd_dlp_zero (σ := rd_up (rd_up σ 9 2 100000) 5 st 0) (st := st) E hK hst (fun H locs ls hw hl => ?_) 18 0 (by omega) (by omega) _ _ ls hw (lv_sub hl [1, 2, 0] rfl)
  refine lv_iload_n hx hb dX0_search_39 rfl (lv_at hl 1 rfl) ?_
  refine lv_istore_n (lv' := [(2, .int (nI st)), (0, .ref h), (1, .int (nI st))]) hx hb dX0_search_40 rfl hl (by decide) rfl (fun ls hl => ?_)
  refine lv_aload_n hx hb dX0_search_41 rfl (lv_at hl 1 rfl) ?_
  refine dg_chosen E hK hw dX0_search_42 ?_
  refine lv_iload_n hx hb dX0_search_45 rfl (lv_at hl 2 rfl) ?_
  refine lv_iconst (v := -1) hx hb dX0_search_46 (by decide) ?_
  refine ds_chosen 0 E hK hw (by omega) rd_m1 dX0_search_47 (fun H locs hw => ?_)
  refine lv_iconst (v := nI 0) hx hb dX0_search_48 (by decide) ?_
  refine lv_istore_n (lv' := [(3, .int (nI 0)), (2, .int (nI st)), (0, .ref h), (1, .int (nI st))]) hx hb dX0_search_49 rfl hl (by decide) rfl (fun ls hl => ?_)
  refine rd_dlp_rounds (σ0 := σ) (st := st) E hK hst hdl (fun σ1 H locs ls hF hB1 hBs hw => ?_) 1456 0 0 (rd_s0 σ st) (by omega) (rd_s0_I hst hB) _ _ ls hw (lv_sub hl [2, 3, 1, 0] rfl)
  rw [← rd_M_eq st] at hBs
  exact rd_retv E hK hw (⟨hF, hB1, hBs⟩) dX0_search_165
end
section
/-! PURE: what the questions ask for -/
def rd_Fo (o p : Nat → Nat) (k : Nat) : Nat → Nat := rd_F o p 0 (fun _ => 7) k
/-- the least cost of the variables k to 5 -/
noncomputable def rd_V (o p : Nat → Nat) (k : Nat) : Nat := (rd_scan (rd_Fo o p k) (rd_M k)).1
/-- the first of the cheapest -/
noncomputable def rd_fd (o p : Nat → Nat) : Nat := (rd_scan (rd_Fo o p 0) (rd_M 0)).2
def rd_DK (σ : rd_St) : Prop := (∀ k, k < 6 → σ 2 k = rd_V (σ 0) (σ 1) k) ∧ (σ 2 0 < 100000 → ∀ j, j < 6 → σ 8 j = rd_dig (rd_fd (σ 0) (σ 1)) j)
def rd_Kp (σ u : rd_St) : Prop := u 0 = σ 0 ∧ u 1 = σ 1 ∧ rd_Bd u ∧ (u 9 0 ≠ 0 → rd_DK u)
theorem rd_DK_eq {σ u : rd_St} (h : rd_DK σ) (h0 : u 0 = σ 0) (h1 : u 1 = σ 1) (h2 : u 2 = σ 2) (h8 : u 8 = σ 8) : rd_DK u := by
  unfold rd_DK
  rw [h0, h1, h2, h8]
  exact h
theorem rd_F_al {o p : Nat → Nat} {df : Nat} {al al' : Nat → Nat} {st : Nat} (h : ∀ j, j < 6 → al j = al' j) : rd_F o p df al st = rd_F o p df al' st := by
  funext a
  unfold rd_F
  by_cases q : ∀ j, j < 6 → st ≤ j → rd_bit (al j) (rd_dig a j) = 1
  · rw [if_pos q, if_pos (fun j h1 h2 => by rw [← h j h1]; exact q j h1 h2)]
  · rw [if_neg q, if_neg (fun w => q (fun j h1 h2 => by rw [h j h1]; exact w j h1 h2))]
theorem rd_bit7 : ∀ d, d < 3 → rd_bit 7 d = 1 := by decide
theorem rd_Fo_eq (o p : Nat → Nat) (k a : Nat) : rd_Fo o p k a = min 100000 (rd_SP o p 0 (rd_dig a) k (6 - k)) := by
  unfold rd_Fo rd_F
  rw [if_pos (fun j _ _ => rd_bit7 _ (rd_dig_lt _ _))]
theorem rd_dig_mod {k j : Nat} (hk : k ≤ j) (hj : j < 6) (a : Nat) : rd_dig (a % 3 ^ (6 - k)) j = rd_dig a j := by
  unfold rd_dig
  rw [show 6 - k = (5 - j) + (1 + (j - k)) by omega, Nat.pow_add, Nat.mod_mul_right_div_self, Nat.pow_add, Nat.mod_mul_right_mod]
theorem rd_V_lb (o p : Nat → Nat) {k : Nat} (hk : k < 6) (a : Nat) : rd_V o p k ≤ rd_SP o p 0 (rd_dig a) k (6 - k) := by
  have h1 := rd_scan_le (rd_Fo o p k) (rd_M k) (a % 3 ^ (6 - k)) (by rw [rd_M_eq]; exact Nat.mod_lt _ (Nat.pow_pos (by decide)))
  rw [rd_Fo_eq] at h1
  have h2 : rd_SP o p 0 (rd_dig (a % 3 ^ (6 - k))) k (6 - k) = rd_SP o p 0 (rd_dig a) k (6 - k) := rd_SP_congr _ (fun t q => rd_dig_mod (by omega) (by omega) a)
  rw [h2] at h1
  unfold rd_V
  omega
theorem rd_V_100 (o p : Nat → Nat) (k : Nat) : rd_V o p k ≤ 100000 := rd_scan_100 _ _
/-- only the assignments with value x of variable j -/
def rd_Fw (o p : Nat → Nat) (j x a : Nat) : Nat := if rd_dig a j = x then rd_Fo o p 0 a else 100000
theorem rd_bitp : ∀ x, x < 3 → ∀ d, d < 3 → (rd_bit (1 * 2 ^ x) d = 1 ↔ d = x) := by decide
theorem rd_Fw_eq {o p : Nat → Nat} {al : Nat → Nat} {j x : Nat} (hj : j < 6) (hx : x < 3) (h1 : al j = 1 * 2 ^ x) (h2 : ∀ i, i < 6 → i ≠ j → al i = 7) : rd_F o p 0 al 0 = rd_Fw o p j x := by
  funext a
  unfold rd_Fw
  by_cases hd : rd_dig a j = x
  · rw [if_pos hd, rd_Fo_eq]
    unfold rd_F
    rw [if_pos]
    intro i hi _
    by_cases e : i = j
    · rw [e, h1, hd]; exact (rd_bitp x hx x hx).mpr rfl
    · rw [h2 i hi e]; exact rd_bit7 _ (rd_dig_lt _ _)
  · rw [if_neg hd]
    unfold rd_F
    rw [if_neg]
    intro h
    have := h j hj (by omega)
    rw [h1] at this
    exact hd ((rd_bitp x hx _ (rd_dig_lt _ _)).mp this)
/-- neighbours differ -/
def rd_zig (a : Nat) : Prop := ∀ i, i < 5 → rd_dig a i ≠ rd_dig a (i + 1)
theorem rd_bt_df {p : Nat → Nat} {df k x j y : Nat} (h : ¬ (j = k + 1 ∧ x = y)) : rd_bt p df k x j y = rd_bt p 0 k x j y := by
  unfold rd_bt
  rw [if_neg (fun q => h q.2), if_neg (fun q => q.1 rfl)]
theorem rd_AH_df {p : Nat → Nat} {df : Nat} {x : Nat → Nat} {n j y : Nat} (h : ∀ t, t < n → ¬ (j = t + 1 ∧ x t = y)) : rd_AH p df x 0 n j y = rd_AH p 0 x 0 n j y := by
  induction n with
  | zero => rfl
  | succ n ih =>
    show rd_AH p df x 0 n j y + rd_bt p df (0 + n) (x (0 + n)) j y = rd_AH p 0 x 0 n j y + rd_bt p 0 (0 + n) (x (0 + n)) j y
    rw [ih (fun t q => h t (by omega)), Nat.zero_add, rd_bt_df (h n (by omega))]
theorem rd_SP_df {o p : Nat → Nat} {df : Nat} {x : Nat → Nat} (n : Nat) (h : ∀ t, t + 1 < n → x t ≠ x (t + 1)) : rd_SP o p df x 0 n = rd_SP o p 0 x 0 n := by
  induction n with
  | zero => rfl
  | succ n ih =>
    show rd_SP o p df x 0 n + (rd_rl (o ((0 + n) * 3 + x (0 + n))) + rd_AH p df x 0 n (0 + n) (x (0 + n))) = rd_SP o p 0 x 0 n + (rd_rl (o ((0 + n) * 3 + x (0 + n))) + rd_AH p 0 x 0 n (0 + n) (x (0 + n)))
    rw [ih (fun t q => h t (by omega)), rd_AH_df (fun t q w => by
      have e := w.1
      rw [Nat.zero_add] at e
      have := h t (by omega)
      rw [Nat.zero_add, e] at w
      exact this w.2)]
theorem rd_SP_le (o p : Nat → Nat) (df : Nat) (x : Nat → Nat) (st n m : Nat) : rd_SP o p df x st n ≤ rd_SP o p df x st (n + m) := by
  induction m with
  | zero => exact Nat.le_refl _
  | succ m ih => exact Nat.le_trans ih (Nat.le_add_right _ _)
theorem rd_SP_zz {o p : Nat → Nat} {x : Nat → Nat} {i : Nat} (hi : i < 5) (h : x i = x (i + 1)) : 100000 ≤ rd_SP o p 1 x 0 6 := by
  have h1 := rd_SP_le o p 1 x 0 (i + 1 + 1) (4 - i)
  rw [show i + 1 + 1 + (4 - i) = 6 by omega] at h1
  have h2 : rd_SP o p 1 x 0 (i + 1 + 1) = rd_SP o p 1 x 0 (i + 1) + (rd_rl (o ((0 + (i + 1)) * 3 + x (0 + (i + 1)))) + (rd_AH p 1 x 0 i (0 + (i + 1)) (x (0 + (i + 1))) + rd_bt p 1 (0 + i) (x (0 + i)) (0 + (i + 1)) (x (0 + (i + 1))))) := rfl
  have h3 : rd_bt p 1 (0 + i) (x (0 + i)) (0 + (i + 1)) (x (0 + (i + 1))) = 100000 := by
    unfold rd_bt
    rw [if_pos ⟨by decide, by omega, by rw [Nat.zero_add, Nat.zero_add]; exact h⟩]
  omega
theorem rd_Fz_eq (o p : Nat → Nat) {al : Nat → Nat} (h7 : ∀ i, i < 6 → al i = 7) (a : Nat) : (rd_zig a → rd_F o p 1 al 0 a = rd_Fo o p 0 a) ∧ (¬ rd_zig a → rd_F o p 1 al 0 a = 100000) := by
  have e : rd_F o p 1 al 0 a = min 100000 (rd_SP o p 1 (rd_dig a) 0 6) := by
    unfold rd_F
    rw [if_pos (fun j h _ => by rw [h7 j h]; exact rd_bit7 _ (rd_dig_lt _ _))]
  rw [e, rd_Fo_eq]
  refine ⟨fun hz => ?_, fun hz => ?_⟩
  · rw [rd_SP_df 6 (fun t q => hz t (by omega))]
  · have : ∃ i, i < 5 ∧ rd_dig a i = rd_dig a (i + 1) := by
      by_cases q : ∃ i, i < 5 ∧ rd_dig a i = rd_dig a (i + 1)
      · exact q
      · exact absurd (fun i hi w => q ⟨i, hi, w⟩) hz
    obtain ⟨i, hi, hw⟩ := this
    have := rd_SP_zz (o := o) (p := p) (x := rd_dig a) hi hw
    omega
/-- all assignments but the first of the cheapest -/
noncomputable def rd_Fs (o p : Nat → Nat) (a : Nat) : Nat := if rd_V o p 0 < 100000 ∧ a = rd_fd o p then 100000 else rd_Fo o p 0 a
/-- values before i as in f, that of i another -/
def rd_a2 (f : Nat → Nat) (i j : Nat) : Nat := if j < i then 1 * 2 ^ f j else if j = i then 7 - 1 * 2 ^ f j else 7
noncomputable def rd_ls (G : Nat → Nat → Nat) : Nat → Nat
  | 0 => 100000
  | i + 1 => min (rd_ls G i) (rd_scan (G i) (rd_M 0)).1
theorem rd_ls_100 (G : Nat → Nat → Nat) (n : Nat) : rd_ls G n ≤ 100000 := by
  induction n with
  | zero => exact Nat.le_refl _
  | succ n ih => show min _ _ ≤ _; omega
theorem rd_ls_le (G : Nat → Nat → Nat) (n : Nat) : ∀ i, i < n → rd_ls G n ≤ (rd_scan (G i) (rd_M 0)).1 := by
  induction n with
  | zero => intro i h; omega
  | succ n ih =>
    intro i hi
    show min _ _ ≤ _
    rcases Nat.lt_or_ge i n with q | q
    · have := ih i q; omega
    · have e : i = n := by omega
      subst e; omega
theorem rd_ls_at (G : Nat → Nat → Nat) (n : Nat) : rd_ls G n = 100000 ∨ ∃ i, i < n ∧ rd_ls G n = (rd_scan (G i) (rd_M 0)).1 := by
  induction n with
  | zero => exact Or.inl rfl
  | succ n ih =>
    have e : rd_ls G (n + 1) = min (rd_ls G n) (rd_scan (G n) (rd_M 0)).1 := rfl
    rcases Nat.lt_or_ge (rd_ls G n) (rd_scan (G n) (rd_M 0)).1 with q | q
    · rcases ih with w | ⟨i, hi, w⟩
      · exact Or.inl (by omega)
      · exact Or.inr ⟨i, by omega, by omega⟩
    · exact Or.inr ⟨n, by omega, by omega⟩
theorem rd_bitn : ∀ x, x < 3 → ∀ d, d < 3 → (rd_bit (7 - 1 * 2 ^ x) d = 1 ↔ d ≠ x) := by decide
theorem rd_dig_inj {a b : Nat} (ha : a < 729) (hb : b < 729) (h : ∀ j, j < 6 → rd_dig a j = rd_dig b j) : a = b := by
  have h0 := h 0 (by omega)
  have h1 := h 1 (by omega)
  have h2 := h 2 (by omega)
  have h3 := h 3 (by omega)
  have h4 := h 4 (by omega)
  have h5 := h 5 (by omega)
  unfold rd_dig at h0 h1 h2 h3 h4 h5
  simp only [Nat.reduceSub, Nat.reducePow, Nat.reduceAdd, Nat.sub_self, Nat.pow_zero, Nat.div_one] at h0 h1 h2 h3 h4 h5
  omega
/-- the second best: the least over the first place that differs -/
theorem rd_second (o p : Nat → Nat) (hV : rd_V o p 0 < 100000) : rd_ls (fun i => rd_F o p 0 (rd_a2 (rd_dig (rd_fd o p)) i) 0) 6 = (rd_scan (rd_Fs o p) (rd_M 0)).1 := by
  have hfd : rd_fd o p < (rd_M 0) := by
    rcases rd_scan_at (rd_Fo o p 0) (rd_M 0) with q | q
    · exact absurd hV (by unfold rd_V; show ¬ (rd_scan (rd_Fo o p 0) (rd_M 0)).1 < 100000; omega)
    · exact q.1
  have hF : ∀ i a, i < 6 → rd_F o p 0 (rd_a2 (rd_dig (rd_fd o p)) i) 0 a = rd_Fo o p 0 a ∨ rd_F o p 0 (rd_a2 (rd_dig (rd_fd o p)) i) 0 a = 100000 := by
    intro i a hi
    rw [rd_Fo_eq]
    unfold rd_F
    split
    · exact Or.inl rfl
    · exact Or.inr rfl
  have hFo100 : ∀ a, rd_Fo o p 0 a ≤ 100000 := fun a => by rw [rd_Fo_eq]; omega
  apply Nat.le_antisymm
  · -- each code but fd is counted
    rcases rd_scan_at (rd_Fs o p) (rd_M 0) with q | ⟨q1, q2⟩
    · rw [q]; exact rd_ls_100 _ _
    · rw [← q2]
      generalize (rd_scan (rd_Fs o p) (rd_M 0)).2 = a at q1 q2 ⊢
      by_cases hs : a = rd_fd o p
      · unfold rd_Fs
        rw [if_pos ⟨hV, hs⟩]; exact rd_ls_100 _ _
      · have e : rd_Fs o p a = rd_Fo o p 0 a := by unfold rd_Fs; rw [if_neg (fun w => hs w.2)]
        rw [e]
        -- the first place that differs
        have hex : ∃ i, i < 6 ∧ rd_dig a i ≠ rd_dig (rd_fd o p) i := by
          by_cases w : ∃ i, i < 6 ∧ rd_dig a i ≠ rd_dig (rd_fd o p) i
          · exact w
          · exact absurd (rd_dig_inj (by rw [← rd_M0]; exact q1) (by rw [← rd_M0]; exact hfd) (fun j hj => by
              by_cases z : rd_dig a j = rd_dig (rd_fd o p) j
              · exact z
              · exact absurd ⟨j, hj, z⟩ w)) hs
        obtain ⟨i, ⟨hi, hne⟩, hmin⟩ := pk_least _ hex
        have hFi : rd_F o p 0 (rd_a2 (rd_dig (rd_fd o p)) i) 0 a = rd_Fo o p 0 a := by
          rw [rd_Fo_eq]
          unfold rd_F
          rw [if_pos]
          intro j hj _
          unfold rd_a2
          by_cases h1 : j < i
          · rw [if_pos h1]
            have : rd_dig a j = rd_dig (rd_fd o p) j := by
              by_cases z : rd_dig a j = rd_dig (rd_fd o p) j
              · exact z
              · exact absurd ⟨hj, z⟩ (hmin j h1)
            rw [this]
            exact (rd_bitp _ (rd_dig_lt _ _) _ (rd_dig_lt _ _)).mpr rfl
          · rw [if_neg h1]
            by_cases h2 : j = i
            · rw [if_pos h2, h2]
              exact (rd_bitn _ (rd_dig_lt _ _) _ (rd_dig_lt _ _)).mpr hne
            · rw [if_neg h2]
              exact rd_bit7 _ (rd_dig_lt _ _)
        have h1 := rd_ls_le (fun i => rd_F o p 0 (rd_a2 (rd_dig (rd_fd o p)) i) 0) 6 i hi
        have h2 := rd_scan_le (rd_F o p 0 (rd_a2 (rd_dig (rd_fd o p)) i) 0) (rd_M 0) a q1
        rw [hFi] at h2
        exact Nat.le_trans h1 h2
  · rcases rd_ls_at (fun i => rd_F o p 0 (rd_a2 (rd_dig (rd_fd o p)) i) 0) 6 with q | ⟨i, hi, q⟩
    · rw [q]; exact rd_scan_100 _ _
    · rw [q]
      show _ ≤ (rd_scan (rd_F o p 0 (rd_a2 (rd_dig (rd_fd o p)) i) 0) (rd_M 0)).1
      rcases rd_scan_at (rd_F o p 0 (rd_a2 (rd_dig (rd_fd o p)) i) 0) (rd_M 0) with w | ⟨w1, w2⟩
      · rw [w]; exact rd_scan_100 _ _
      · rw [← w2]
        generalize (rd_scan (rd_F o p 0 (rd_a2 (rd_dig (rd_fd o p)) i) 0) (rd_M 0)).2 = a at w1 ⊢
        have h1 := rd_scan_le (rd_Fs o p) (rd_M 0) a w1
        rcases hF i a hi with z | z
        · by_cases hs : a = rd_fd o p
          · -- fd itself isn't allowed at i
            have : rd_F o p 0 (rd_a2 (rd_dig (rd_fd o p)) i) 0 a = 100000 := by
              unfold rd_F
              rw [if_neg]
              intro hh
              have h3 := hh i hi (by omega)
              unfold rd_a2 at h3
              rw [if_neg (Nat.lt_irrefl i), if_pos rfl, hs] at h3
              exact (rd_bitn _ (rd_dig_lt _ _) _ (rd_dig_lt _ _)).mp h3 rfl
            rw [this]; exact rd_scan_100 _ _
          · rw [z]
            have e : rd_Fs o p a = rd_Fo o p 0 a := by unfold rd_Fs; rw [if_neg (fun w => hs w.2)]
            rw [e] at h1; exact h1
        · rw [z]; exact rd_scan_100 _ _
/-- how many of the first n values of variable j belong to a cheapest assignment -/
noncomputable def rd_ways (o p : Nat → Nat) (j : Nat) : Nat → Nat
  | 0 => 0
  | x + 1 => rd_ways o p j x + (if rd_V o p 0 < 100000 ∧ (rd_scan (rd_Fw o p j x) (rd_M 0)).1 = rd_V o p 0 then 1 else 0)
theorem rd_ways_s (o p : Nat → Nat) (j x : Nat) : rd_ways o p j (x + 1) = rd_ways o p j x + (if rd_V o p 0 < 100000 ∧ (rd_scan (rd_Fw o p j x) (rd_M 0)).1 = rd_V o p 0 then 1 else 0) := rfl
theorem rd_ways_le (o p : Nat → Nat) (j n : Nat) : rd_ways o p j n ≤ n := by
  induction n with
  | zero => exact Nat.le_refl _
  | succ n ih =>
    unfold rd_ways
    split <;> omega
theorem rd_ways_0 (o p : Nat → Nat) (j n : Nat) (h : ¬ rd_V o p 0 < 100000) : rd_ways o p j n = 0 := by
  induction n with
  | zero => rfl
  | succ n ih =>
    unfold rd_ways
    rw [ih, if_neg (fun q => h q.1)]
end
section
set_option maxRecDepth 100000
theorem rd_V0 (o p : Nat → Nat) : rd_V o p 0 = (rd_scan (rd_Fo o p 0) (rd_M 0)).1 := rfl
/-- while the dolls are solved: those from n on stand -/
def rd_SI (σ0 σ : rd_St) (n : Nat) : Prop := σ 0 = σ0 0 ∧ σ 1 = σ0 1 ∧ σ 9 1 = 0 ∧ (∀ j, j < 6 → σ 3 j = 7) ∧ rd_Bd σ ∧ ∀ k, n ≤ k → k < 6 → σ 2 k = rd_V (σ0 0) (σ0 1) k
theorem rd_SI_dl {σ0 σ : rd_St} {n : Nat} (h : rd_SI σ0 σ (n + 1)) : ∀ k, n < k → k < 6 → ∀ a, σ 2 k ≤ rd_SP (σ 0) (σ 1) 0 (rd_dig a) k (6 - k) := fun k h1 h2 a => by
  rw [h.2.2.2.2.2 k h1 h2, h.1, h.2.1]
  exact rd_V_lb _ _ h2 a
theorem rd_SI_F {σ0 σ : rd_St} {n : Nat} (h : rd_SI σ0 σ n) (k : Nat) : rd_F (σ 0) (σ 1) (σ 9 1) (σ 3) k = rd_Fo (σ0 0) (σ0 1) k := by
  rw [h.1, h.2.1, h.2.2.1]
  exact rd_F_al (fun j hj => h.2.2.2.1 j hj)
theorem rd_SI_step {σ0 σ u : rd_St} {n : Nat} (hn : n < 6) (h : rd_SI σ0 σ (n + 1)) (hF : rd_Fr σ u) (hB : rd_Bd u) (hS : rd_Bs (rd_F (σ 0) (σ 1) (σ 9 1) (σ 3) n) u n (rd_M n)) : rd_SI σ0 (rd_up u 2 n (u 9 2)) n := by
  rw [rd_SI_F h] at hS
  refine ⟨?_, ?_, ?_, fun j hj => ?_, rd_Bd_up hB (hB 9 2), fun k h1 h2 => ?_⟩
  · rw [← rd_upB u n _ (by decide), hF.1]; exact h.1
  · rw [← rd_upB u n _ (by decide), hF.2.1]; exact h.2.1
  · rw [rd_up_ne u (by omega), hF.2.2.2.2.2.2]; exact h.2.2.1
  · rw [rd_up_ne u (by omega), hF.2.2.2.1]; exact h.2.2.2.1 j hj
  · by_cases e : k = n
    · subst e
      rw [rd_up_self]; exact hS.1
    · rw [rd_up_ne u (by omega), hF.2.2.1]; exact h.2.2.2.2.2 k (by omega) h2
theorem rd_all_ne (σ : rd_St) {c : Nat} (h3 : c ≠ 3) (h9 : c ≠ 9) : rd_all σ c = σ c := by
  unfold rd_all
  funext i
  unfold rd_alw
  rw [if_neg (fun q => h3 q.1), rd_up_ne σ (fun q => h9 q.1)]
theorem rd_all_3 (σ : rd_St) {j : Nat} (h : j < 6) : rd_all σ 3 j = 7 := by
  unfold rd_all rd_alw
  rw [if_pos ⟨rfl, h⟩]
theorem rd_all_91 (σ : rd_St) : rd_all σ 9 1 = 0 := by
  unfold rd_all rd_alw
  rw [if_neg (by omega), rd_up_self]
theorem rd_all_90 (σ : rd_St) : rd_all σ 9 0 = σ 9 0 := by
  unfold rd_all rd_alw
  rw [if_neg (by omega), rd_up_ne σ (by omega)]
theorem rd_all_Bd {σ : rd_St} (h : rd_Bd σ) : rd_Bd (rd_all σ) := by
  intro c i
  unfold rd_all rd_alw
  split
  · omega
  · exact rd_Bd_up h (by omega) c i
def rd_fs (σ : rd_St) (t : Nat) : rd_St := fun c i => if c = 8 ∧ i < t then σ 7 i else σ c i
theorem rd_fs_0 (σ : rd_St) : rd_fs σ 0 = σ := by
  funext c i; unfold rd_fs; rw [if_neg (by omega)]
theorem rd_fs_7 (σ : rd_St) (t i : Nat) : rd_fs σ t 7 i = σ 7 i := by
  unfold rd_fs; rw [if_neg (by omega)]
theorem rd_fs_put (σ : rd_St) (t : Nat) : rd_up (rd_fs σ t) 8 t (rd_fs σ t 7 t) = rd_fs σ (t + 1) := by
  rw [rd_fs_7]
  funext c i
  unfold rd_up rd_fs
  by_cases h1 : c = 8 ∧ i = t
  · rw [if_pos h1, if_pos ⟨h1.1, by omega⟩, h1.2]
  · rw [if_neg h1]
    by_cases h2 : c = 8 ∧ i < t
    · rw [if_pos h2, if_pos ⟨h2.1, by omega⟩]
    · rw [if_neg h2, if_neg (fun q => h2 ⟨q.1, by
        have : ¬ i = t := fun w => h1 ⟨q.1, w⟩
        omega⟩)]
theorem rd_solved {σ0 σ : rd_St} (h : rd_SI σ0 σ 0) (h7 : σ 2 0 < 100000 → ∀ j, j < 6 → σ 7 j = rd_dig (rd_fd (σ0 0) (σ0 1)) j) : rd_Kp σ0 (rd_up (rd_fs σ 6) 9 0 1) ∧ rd_up (rd_fs σ 6) 9 0 1 9 0 ≠ 0 := by
  have e : ∀ c, c ≠ 8 → c ≠ 9 → rd_up (rd_fs σ 6) 9 0 1 c = σ c := fun c h8 h9 => by
    rw [← rd_upB _ 0 1 h9]
    funext i; unfold rd_fs; rw [if_neg (fun q => h8 q.1)]
  have e8 : ∀ j, j < 6 → rd_up (rd_fs σ 6) 9 0 1 8 j = σ 7 j := fun j hj => by
    rw [rd_up_ne _ (by omega)]
    unfold rd_fs; rw [if_pos ⟨rfl, hj⟩]
  have hB : rd_Bd (rd_fs σ 6) := fun c i => by
    unfold rd_fs; split
    · exact h.2.2.2.2.1 7 i
    · exact h.2.2.2.2.1 c i
  refine ⟨⟨(e 0 (by decide) (by decide)).trans h.1, (e 1 (by decide) (by decide)).trans h.2.1, rd_Bd_up hB (by omega), fun _ => ⟨fun k hk => ?_, fun q j hj => ?_⟩⟩, by rw [rd_up_self]; decide⟩
  · rw [e 0 (by decide) (by decide), e 1 (by decide) (by decide), e 2 (by decide) (by decide), h.1, h.2.1]
    exact h.2.2.2.2.2 k (Nat.zero_le k) hk
  · rw [e 2 (by decide) (by decide)] at q
    rw [e8 j hj, e 0 (by decide) (by decide), e 1 (by decide) (by decide), h.1, h.2.1]
    exact h7 q j hj
/-- a search behind 'solve' leaves the dolls and the costs -/
theorem rd_Kp_fr {σ u v w : rd_St} (h : rd_Kp σ u) (h9 : u 9 0 ≠ 0) (h0 : v 0 = u 0) (h1 : v 1 = u 1) (h2 : v 2 = u 2) (h8 : v 8 = u 8) (hv9 : v 9 0 = u 9 0) (hF : rd_Fr v w) (hB : rd_Bd w) : rd_Kp σ w ∧ w 9 0 ≠ 0 :=
  ⟨⟨(hF.1.trans h0).trans h.1, (hF.2.1.trans h1).trans h.2.1, hB, fun _ => rd_DK_eq (h.2.2.2 h9) (hF.1.trans h0) (hF.2.1.trans h1) (hF.2.2.1.trans h2) (hF.2.2.2.2.1.trans h8)⟩, by rw [hF.2.2.2.2.2.1, hv9]; exact h9⟩
theorem rd_dl {σ u v : rd_St} (h : rd_Kp σ u) (h9 : u 9 0 ≠ 0) (h0 : v 0 = u 0) (h1 : v 1 = u 1) (h2 : v 2 = u 2) : ∀ k, 0 < k → k < 6 → ∀ a, v 2 k ≤ rd_SP (v 0) (v 1) 0 (rd_dig a) k (6 - k) := fun k _ hk a => by
  rw [h2, (h.2.2.2 h9).1 k hk, h0, h1]
  exact rd_V_lb _ _ hk a
set_option maxHeartbeats 4000000 in
set_option maxRecDepth 100000 in
theorem rd_dlp_solve1 {p : Program} {l : Launch} {e : Env} {s : State} {m : MethodId} {args : Array Value} {below : List Frame} {meth : Method} {c : Code} {Q : State → Prop} {D : va_G} {cA : ClassId} {A : Nat → Prop} {h : Nat} {a : Nat → Nat} (E : rd_E p s m args meth c cX0_solve 2 none RX0 A) (hK : va_K D vwCl [(cA, .int)] s) {σ0 : rd_St} (kk : ∀ (σ : rd_St) (H : Heap) (locs : List Loc) (ls : Array Slot), rd_SI σ0 σ 0 → (σ 2 0 < 100000 → ∀ j, j < 6 → σ 7 j = rd_dig (rd_fd (σ0 0) (σ0 1)) j) → rd_W D (rd_dw h a cA) A s.heap H locs σ → lv_has ls 2 [(0, .ref h)] → W p l e (rd_rm 4) s m args below meth c H locs 0 0 Q (F0 m 47 ls [])) :
    ∀ (n : Nat) (σ : rd_St), n < 6 → rd_SI σ0 σ (n + 1) → ∀ (H : Heap) (locs : List Loc) (ls : Array Slot), rd_W D (rd_dw h a cA) A s.heap H locs σ → lv_has ls 2 [(0, .ref h), (1, .int (nI n))] → W p l e (rd_rm 4) s m args below meth c H locs 0 0 Q (F0 m 22 ls []) := by
  have hx := E.1
  have hb := E.2.1
  intro n
  induction n with
  | zero =>
    intro σ hn hI H locs ls hw hl
    refine lv_iload_n hx hb dX0_solve_22 rfl (lv_at hl 1 rfl) ?_
    refine n_iflt (tgt := 47) hx hb dX0_solve_23 (by decide) (by omega) ?_
    refine lv_aload_n hx hb dX0_solve_26 rfl (lv_at hl 0 rfl) ?_
    refine lv_iload_n hx hb dX0_solve_27 rfl (lv_at hl 1 rfl) ?_
    refine rd_callv (As := [.int (nI 0)]) (nA := 1) E hK hw (rd_d_search l D cA h a σ (0) hn hI.2.2.2.2.1 (rd_SI_dl hI)) rfl rfl (lw_V q112 q114 qs5 q24 q115) (by decide +kernel) rfl ⟨by decide, by decide⟩ ⟨Nat.zero_le _, Nat.zero_le _⟩ hl.1 rfl (Nat.le_of_ble_eq_true rfl) dX0_solve_28 (fun u H locs hq hw => ?_)
    obtain ⟨hF, hB, hBs⟩ := hq
    have hI2 := rd_SI_step hn hI hF hB hBs
    refine lv_aload_n hx hb dX0_solve_31 rfl (lv_at hl 0 rfl) ?_
    refine dg_dolls E hK hw dX0_solve_32 ?_
    refine lv_iload_n hx hb dX0_solve_35 rfl (lv_at hl 1 rfl) ?_
    refine lv_aload_n hx hb dX0_solve_36 rfl (lv_at hl 0 rfl) ?_
    refine dg_best E hK hw dX0_solve_37 ?_
    refine ds_dolls (u 9 2) E hK hw (by omega) rfl dX0_solve_40 (fun H locs hw => ?_)
    refine lv_iinc (v := -1) (lv' := [(1, .int (-1)), (0, .ref h)]) hx hb dX0_solve_41 hl (k := 1) rfl (by decide) (by decide) rfl (fun ls hl => ?_)
    refine lv_goto (tgt := 22) hx hb dX0_solve_44 (by decide) ?_
    refine lv_iload_n hx hb dX0_solve_22 rfl (lv_at hl 0 rfl) ?_
    refine lv_if_lt (tgt := 47) hx hb dX0_solve_23 (by decide) (fun c23 => ?_) (fun c23 => ?_)
    · rw [rd_SI_F hI] at hBs
      exact kk _ H locs ls hI2 (fun q j hj => by rw [rd_up_ne u (by omega)]; rw [rd_up_self] at q; exact hBs.2 q j (Nat.zero_le j) hj) hw (lv_sub hl [1] rfl)
    · exact absurd c23 (by decide)
  | succ n ih =>
    intro σ hn hI H locs ls hw hl
    refine lv_iload_n hx hb dX0_solve_22 rfl (lv_at hl 1 rfl) ?_
    refine n_iflt (tgt := 47) hx hb dX0_solve_23 (by decide) (by omega) ?_
    refine lv_aload_n hx hb dX0_solve_26 rfl (lv_at hl 0 rfl) ?_
    refine lv_iload_n hx hb dX0_solve_27 rfl (lv_at hl 1 rfl) ?_
    refine rd_callv (As := [.int (nI (n + 1))]) (nA := 1) E hK hw (rd_d_search l D cA h a σ (n + 1) hn hI.2.2.2.2.1 (rd_SI_dl hI)) rfl rfl (lw_V q112 q114 qs5 q24 q115) (by decide +kernel) rfl ⟨by decide, by decide⟩ ⟨Nat.zero_le _, Nat.zero_le _⟩ hl.1 rfl (Nat.le_of_ble_eq_true rfl) dX0_solve_28 (fun u H locs hq hw => ?_)
    obtain ⟨hF, hB, hBs⟩ := hq
    have hI2 := rd_SI_step hn hI hF hB hBs
    refine lv_aload_n hx hb dX0_solve_31 rfl (lv_at hl 0 rfl) ?_
    refine dg_dolls E hK hw dX0_solve_32 ?_
    refine lv_iload_n hx hb dX0_solve_35 rfl (lv_at hl 1 rfl) ?_
    refine lv_aload_n hx hb dX0_solve_36 rfl (lv_at hl 0 rfl) ?_
    refine dg_best E hK hw dX0_solve_37 ?_
    refine ds_dolls (u 9 2) E hK hw (by omega) rfl dX0_solve_40 (fun H locs hw => ?_)
    refine n_dec (lv' := [(1, .int (nI n)), (0, .ref h)]) hx hb dX0_solve_41 hl (k := 1) rfl (by decide) rfl (fun ls hl => ?_)
    refine lv_goto (tgt := 22) hx hb dX0_solve_44 (by decide) ?_
    exact ih _ (by omega) hI2 H locs ls hw (lv_sub hl [1, 0] rfl)
set_option maxHeartbeats 4000000 in
set_option maxRecDepth 100000 in
theorem rd_dlp_solve2 {p : Program} {l : Launch} {e : Env} {s : State} {m : MethodId} {args : Array Value} {below : List Frame} {meth : Method} {c : Code} {Q : State → Prop} {D : va_G} {cA : ClassId} {A : Nat → Prop} {h : Nat} {a : Nat → Nat} (E : rd_E p s m args meth c cX0_solve 2 none RX0 A) (hK : va_K D vwCl [(cA, .int)] s) {σ : rd_St} (kk : ∀ (H : Heap) (locs : List Loc) (ls : Array Slot), rd_W D (rd_dw h a cA) A s.heap H locs (rd_fs σ 6) → lv_has ls 2 [(0, .ref h)] → W p l e (rd_rm 4) s m args below meth c H locs 0 0 Q (F0 m 73 ls [])) :
    ∀ (f t : Nat), t ≤ 6 → 6 ≤ t + f → ∀ (H : Heap) (locs : List Loc) (ls : Array Slot), rd_W D (rd_dw h a cA) A s.heap H locs (rd_fs σ t) → lv_has ls 2 [(0, .ref h), (1, .int (nI t))] → W p l e (rd_rm 4) s m args below meth c H locs 0 0 Q (F0 m 49 ls []) := by
  have hx := E.1
  have hb := E.2.1
  intro f
  induction f with
  | zero =>
    intro t ht hf H locs ls hw hl
    refine lv_iload_n hx hb dX0_solve_49 rfl (lv_at hl 1 rfl) ?_
    refine lv_bipush (v := nI 6) hx hb dX0_solve_50 (by decide) ?_
    refine n_ge (tgt := 73) hx hb dX0_solve_52 (by decide) (by omega) (by omega) (fun c52 => ?_) (fun c52 => ?_)
    · have e : t = 6 := by omega
      subst e
      exact kk H locs ls hw (lv_sub hl [0] rfl)
    · omega
  | succ f ih =>
    intro t ht hf H locs ls hw hl
    refine lv_iload_n hx hb dX0_solve_49 rfl (lv_at hl 1 rfl) ?_
    refine lv_bipush (v := nI 6) hx hb dX0_solve_50 (by decide) ?_
    refine n_ge (tgt := 73) hx hb dX0_solve_52 (by decide) (by omega) (by omega) (fun c52 => ?_) (fun c52 => ?_)
    · have e : t = 6 := by omega
      subst e
      exact kk H locs ls hw (lv_sub hl [0] rfl)
    · refine lv_aload_n hx hb dX0_solve_55 rfl (lv_at hl 0 rfl) ?_
      refine dg_first E hK hw dX0_solve_56 ?_
      refine lv_iload_n hx hb dX0_solve_59 rfl (lv_at hl 1 rfl) ?_
      refine lv_aload_n hx hb dX0_solve_60 rfl (lv_at hl 0 rfl) ?_
      refine dg_bestValue E hK hw dX0_solve_61 ?_
      refine lv_iload_n hx hb dX0_solve_64 rfl (lv_at hl 1 rfl) ?_
      refine dl_bestValue E hK hw (by omega) dX0_solve_65 ?_
      refine ds_first ((rd_fs σ t) 7 t) E hK hw (by omega) rfl dX0_solve_66 (fun H locs hw => ?_)
      rw [rd_fs_put] at hw
      refine n_inc (lv' := [(1, .int (nI (t + 1))), (0, .ref h)]) hx hb dX0_solve_67 hl (k := 1) rfl (by decide) rfl (fun ls hl => ?_)
      refine lv_goto (tgt := 49) hx hb dX0_solve_70 (by decide) ?_
      exact ih (t + 1) (by omega) (by omega) H locs ls hw (lv_sub hl [1, 0] rfl)
set_option maxHeartbeats 4000000 in
set_option maxRecDepth 100000 in
theorem rd_d_solve (l : Launch) (D : va_G) (cA : ClassId) (h : Nat) (a : Nat → Nat) (σ : rd_St) (hB : rd_Bd σ) (hS : σ 9 0 ≠ 0 → rd_DK σ) : rd_MV l yX0_solve cX0_solve 2 none 4 [.ref h] D cA (rd_dw h a cA) σ (fun u => rd_Kp σ u ∧ u 9 0 ≠ 0) := by
  refine rd_entV (by decide) (Nat.le_of_ble_eq_true rfl) ?_
  intro p e s m below meth c A E hK hw ls hl
  have E : rd_E p s m _ meth c cX0_solve 2 none RX0 A := E
  have hx := E.1
  have hb := E.2.1
  have hl : lv_has ls 2 [(0, .ref h)] := hl
  have hb90 := hB 9 0
  refine lv_aload_n hx hb dX0_solve_0 rfl (lv_at hl 0 rfl) ?_
  refine dg_solved E hK hw dX0_solve_1 ?_
  refine n_ifeq (tgt := 8) hx hb dX0_solve_4 (by decide) (by omega) (fun c4 => ?_) (fun c4 => ?_)
  · refine lv_aload_n hx hb dX0_solve_8 rfl (lv_at hl 0 rfl) ?_
    refine rd_callv (As := []) (nA := 0) E hK hw (rd_d_allowAll l D cA h a σ) rfl rfl (lw_V q108 q110 qs4 q24 q111) (by decide +kernel) rfl ⟨by decide, by decide⟩ ⟨Nat.zero_le _, Nat.zero_le _⟩ hl.1 rfl (Nat.le_of_ble_eq_true rfl) dX0_solve_9 (fun u H locs hq hw => ?_)
    rw [hq] at hw
    refine lv_aload_n hx hb dX0_solve_12 rfl (lv_at hl 0 rfl) ?_
    refine dg_dolls E hK hw dX0_solve_13 ?_
    refine lv_bipush (v := nI 6) hx hb dX0_solve_16 (by decide) ?_
    refine lv_iconst (v := nI 0) hx hb dX0_solve_18 (by decide) ?_
    refine ds_dolls 0 E hK hw (by omega) rfl dX0_solve_19 (fun H locs hw => ?_)
    refine lv_iconst (v := nI 5) hx hb dX0_solve_20 (by decide) ?_
    refine lv_istore_n (lv' := [(1, .int (nI 5)), (0, .ref h)]) hx hb dX0_solve_21 rfl hl (by decide) rfl (fun ls hl => ?_)
    have hI : rd_SI σ (rd_up (rd_all σ) 2 6 0) (5 + 1) := ⟨by rw [← rd_upB _ 6 0 (by decide)]; exact rd_all_ne σ (by decide) (by decide), by rw [← rd_upB _ 6 0 (by decide)]; exact rd_all_ne σ (by decide) (by decide), by rw [rd_up_ne _ (by omega)]; exact rd_all_91 σ, fun j hj => by rw [rd_up_ne _ (by omega)]; exact rd_all_3 σ hj, rd_Bd_up (rd_all_Bd hB) (by omega), fun k h1 h2 => by omega⟩
    refine rd_dlp_solve1 (σ0 := σ) E hK (fun σ1 H locs ls hI h7 hw hl => ?_) 5 _ (by omega) hI _ _ ls hw (lv_sub hl [1, 0] rfl)
    refine lv_iconst (v := nI 0) hx hb dX0_solve_47 (by decide) ?_
    refine lv_istore_n (lv' := [(1, .int (nI 0)), (0, .ref h)]) hx hb dX0_solve_48 rfl hl (by decide) rfl (fun ls hl => ?_)
    rw [← rd_fs_0 σ1] at hw
    refine rd_dlp_solve2 (σ := σ1) E hK (fun H locs ls hw hl => ?_) 6 0 (by omega) (by omega) _ _ ls hw (lv_sub hl [1, 0] rfl)
    refine lv_aload_n hx hb dX0_solve_73 rfl (lv_at hl 0 rfl) ?_
    refine lv_iconst (v := nI 1) hx hb dX0_solve_74 (by decide) ?_
    refine dp_solved 1 E hK hw (by omega) dX0_solve_75 (fun H locs hw => ?_)
    exact rd_retv E hK hw (rd_solved hI h7) dX0_solve_78
  · exact rd_retv E hK hw (⟨⟨rfl, rfl, hB, hS⟩, c4⟩) dX0_solve_7
set_option maxHeartbeats 4000000 in
set_option maxRecDepth 100000 in
theorem rd_d_doll (l : Launch) (D : va_G) (cA : ClassId) (h : Nat) (a : Nat → Nat) (σ : rd_St) (i : Int32) (hB : rd_Bd σ) (hS : σ 9 0 ≠ 0 → rd_DK σ) : rd_MI l yX0_doll cX0_doll 2 (some .int) 5 [.ref h, .int i] D cA (rd_dw h a cA) σ (fun r u => rd_Kp σ u ∧ ((∃ j, rd_okV i j ∧ r = rd_an (rd_V (σ 0) (σ 1) j)) ∨ ((¬ ∃ j, rd_okV i j) ∧ r = -1))) := by
  refine rd_entI (by decide) (Nat.le_of_ble_eq_true rfl) ?_
  intro p e s m below meth c A E hK hw ls hl
  have E : rd_E p s m _ meth c cX0_doll 2 (some .int) RX0 A := E
  have hx := E.1
  have hb := E.2.1
  have hl : lv_has ls 2 [(0, .ref h), (1, .int i)] := hl
  refine lv_aload_n hx hb dX0_doll_0 rfl (lv_at hl 0 rfl) ?_
  refine lv_iload_n hx hb dX0_doll_1 rfl (lv_at hl 1 rfl) ?_
  refine rd_calli (As := [.int i]) (nA := 1) E hK hw (rd_d_badVariable l D cA h a σ i) rfl rfl (lw_V q76 q78 qs0 q24 q79) (by decide +kernel) rfl ⟨by decide, by decide⟩ ⟨Nat.zero_le _, Nat.zero_le _⟩ hl.1 rfl (Nat.le_of_ble_eq_true rfl) dX0_doll_2 (fun r u H locs hq hw => ?_)
  obtain ⟨hu, t1, rfl, ht1, hkt1⟩ := hq
  rw [hu] at hw
  refine n_ifeq (tgt := 10) hx hb dX0_doll_5 (by decide) (by omega) (fun c5 => ?_) (fun c5 => ?_)
  · obtain ⟨j, hj, rfl⟩ := hkt1.mp c5
    refine lv_aload_n hx hb dX0_doll_10 rfl (lv_at hl 0 rfl) ?_
    refine rd_callv (As := []) (nA := 0) E hK hw (rd_d_solve l D cA h a σ hB hS) rfl rfl (lw_V q104 q106 qs3 q24 q107) (by decide +kernel) rfl ⟨by decide, by decide⟩ ⟨Nat.zero_le _, Nat.zero_le _⟩ hl.1 rfl (Nat.le_of_ble_eq_true rfl) dX0_doll_11 (fun u H locs hq hw => ?_)
    obtain ⟨hKp, h90⟩ := hq
    have hDK := hKp.2.2.2 h90
    have hBu := hKp.2.2.1
    obtain ⟨u1, hu1⟩ : ∃ z, z = u := ⟨_, rfl⟩
    rw [← hu1] at hKp h90 hDK hBu hw
    have hb2 := hBu 2 j
    refine lv_aload_n hx hb dX0_doll_14 rfl (lv_at hl 0 rfl) ?_
    refine lv_aload_n hx hb dX0_doll_15 rfl (lv_at hl 0 rfl) ?_
    refine dg_dolls E hK hw dX0_doll_16 ?_
    refine lv_iload_n hx hb dX0_doll_19 rfl (lv_at hl 1 rfl) ?_
    refine dl_dolls E hK hw (by omega) dX0_doll_20 ?_
    refine rd_calli (As := [.int (nI (u1 2 j))]) (nA := 1) E hK hw (rd_d_answer l D cA h a u1 _ (by omega)) rfl rfl (lw_V q145 q147 qs13 q24 q148) (by decide +kernel) rfl ⟨by decide, by decide⟩ ⟨Nat.zero_le _, Nat.zero_le _⟩ hl.1 rfl (Nat.le_of_ble_eq_true rfl) dX0_doll_21 (fun r u H locs hq hw => ?_)
    obtain ⟨hu, rfl⟩ := hq
    rw [hu] at hw
    exact rd_reti E hK hw (⟨hKp, Or.inl ⟨j, ⟨hj, rfl⟩, by rw [hDK.1 j hj, hKp.1, hKp.2.1]⟩⟩) dX0_doll_24
  · refine lv_iconst (v := -1) hx hb dX0_doll_8 (by decide) ?_
    exact rd_reti E hK hw (⟨⟨rfl, rfl, hB, hS⟩, Or.inr ⟨fun q => c5 (hkt1.mpr q), rfl⟩⟩) dX0_doll_9
set_option maxHeartbeats 4000000 in
set_option maxRecDepth 100000 in
theorem rd_d_cheapest (l : Launch) (D : va_G) (cA : ClassId) (h : Nat) (a : Nat → Nat) (σ : rd_St) (hB : rd_Bd σ) (hS : σ 9 0 ≠ 0 → rd_DK σ) : rd_MI l yX0_cheapest cX0_cheapest 1 (some .int) 6 [.ref h] D cA (rd_dw h a cA) σ (fun r u => rd_Kp σ u ∧ r = rd_an (rd_V (σ 0) (σ 1) 0)) := by
  refine rd_entI (by decide) (Nat.le_of_ble_eq_true rfl) ?_
  intro p e s m below meth c A E hK hw ls hl
  have E : rd_E p s m _ meth c cX0_cheapest 1 (some .int) RX0 A := E
  have hx := E.1
  have hb := E.2.1
  have hl : lv_has ls 1 [(0, .ref h)] := hl
  refine lv_aload_n hx hb dX0_cheapest_0 rfl (lv_at hl 0 rfl) ?_
  refine lv_iconst (v := nI 0) hx hb dX0_cheapest_1 (by decide) ?_
  refine rd_calli (As := [.int (nI 0)]) (nA := 1) E hK hw (rd_d_doll l D cA h a σ (nI 0) hB hS) rfl rfl (lw_V q153 q101 q102 q24 q103) (by decide +kernel) rfl ⟨by decide, by decide⟩ ⟨Nat.zero_le _, Nat.zero_le _⟩ hl.1 rfl (Nat.le_of_ble_eq_true rfl) dX0_cheapest_2 (fun r u H locs hq hw => ?_)
  obtain ⟨hKp, hr⟩ := hq
  have hr0 : r = rd_an (rd_V (σ 0) (σ 1) 0) := by
    rcases hr with ⟨j, ⟨hj, hj2⟩, hr⟩ | ⟨hr, _⟩
    · have e := (nI_eq (by decide) (by omega)).mp hj2
      rw [hr, ← e]
    · exact absurd ⟨0, by decide, rfl⟩ hr
  exact rd_reti E hK hw (⟨hKp, hr0⟩) dX0_cheapest_5
set_option maxHeartbeats 4000000 in
set_option maxRecDepth 100000 in
theorem rd_d_value (l : Launch) (D : va_G) (cA : ClassId) (h : Nat) (a : Nat → Nat) (σ : rd_St) (i : Int32) (hB : rd_Bd σ) (hS : σ 9 0 ≠ 0 → rd_DK σ) : rd_MI l yX0_value cX0_value 2 (some .int) 5 [.ref h, .int i] D cA (rd_dw h a cA) σ (fun r u => rd_Kp σ u ∧ ((∃ j, rd_okV i j ∧ r = if rd_V (σ 0) (σ 1) 0 < 100000 then nI (rd_dig (rd_fd (σ 0) (σ 1)) j) else -4) ∨ ((¬ ∃ j, rd_okV i j) ∧ r = -1))) := by
  refine rd_entI (by decide) (Nat.le_of_ble_eq_true rfl) ?_
  intro p e s m below meth c A E hK hw ls hl
  have E : rd_E p s m _ meth c cX0_value 2 (some .int) RX0 A := E
  have hx := E.1
  have hb := E.2.1
  have hl : lv_has ls 2 [(0, .ref h), (1, .int i)] := hl
  refine lv_aload_n hx hb dX0_value_0 rfl (lv_at hl 0 rfl) ?_
  refine lv_iload_n hx hb dX0_value_1 rfl (lv_at hl 1 rfl) ?_
  refine rd_calli (As := [.int i]) (nA := 1) E hK hw (rd_d_badVariable l D cA h a σ i) rfl rfl (lw_V q76 q78 qs0 q24 q79) (by decide +kernel) rfl ⟨by decide, by decide⟩ ⟨Nat.zero_le _, Nat.zero_le _⟩ hl.1 rfl (Nat.le_of_ble_eq_true rfl) dX0_value_2 (fun r u H locs hq hw => ?_)
  obtain ⟨hu, t1, rfl, ht1, hkt1⟩ := hq
  rw [hu] at hw
  refine n_ifeq (tgt := 10) hx hb dX0_value_5 (by decide) (by omega) (fun c5 => ?_) (fun c5 => ?_)
  · obtain ⟨j, hj, rfl⟩ := hkt1.mp c5
    refine lv_aload_n hx hb dX0_value_10 rfl (lv_at hl 0 rfl) ?_
    refine rd_callv (As := []) (nA := 0) E hK hw (rd_d_solve l D cA h a σ hB hS) rfl rfl (lw_V q104 q106 qs3 q24 q107) (by decide +kernel) rfl ⟨by decide, by decide⟩ ⟨Nat.zero_le _, Nat.zero_le _⟩ hl.1 rfl (Nat.le_of_ble_eq_true rfl) dX0_value_11 (fun u H locs hq hw => ?_)
    obtain ⟨hKp, h90⟩ := hq
    have hDK := hKp.2.2.2 h90
    have hBu := hKp.2.2.1
    obtain ⟨u1, hu1⟩ : ∃ z, z = u := ⟨_, rfl⟩
    rw [← hu1] at hKp h90 hDK hBu hw
    have hb2 := hBu 2 0
    have hV : u1 2 0 = rd_V (σ 0) (σ 1) 0 := by rw [hDK.1 0 (by omega), hKp.1, hKp.2.1]
    refine lv_aload_n hx hb dX0_value_14 rfl (lv_at hl 0 rfl) ?_
    refine dg_dolls E hK hw dX0_value_15 ?_
    refine lv_iconst (v := nI 0) hx hb dX0_value_18 (by decide) ?_
    refine dl_dolls E hK hw (by omega) dX0_value_19 ?_
    refine n_far E dX0_value_20 ?_
    refine n_lt (tgt := 30) hx hb dX0_value_22 (by decide) (by omega) (by omega) (fun c22 => ?_) (fun c22 => ?_)
    · refine lv_aload_n hx hb dX0_value_30 rfl (lv_at hl 0 rfl) ?_
      refine dg_first E hK hw dX0_value_31 ?_
      refine lv_iload_n hx hb dX0_value_34 rfl (lv_at hl 1 rfl) ?_
      refine dl_first E hK hw (by omega) dX0_value_35 ?_
      exact rd_reti E hK hw (⟨hKp, Or.inl ⟨j, ⟨hj, rfl⟩, by rw [if_pos (by rw [← hV]; exact c22), hDK.2 c22 j hj, hKp.1, hKp.2.1]⟩⟩) dX0_value_36
    · refine lv_bipush (v := -4) hx hb dX0_value_25 (by decide) ?_
      refine lv_goto (tgt := 36) hx hb dX0_value_27 (by decide) ?_
      exact rd_reti E hK hw (⟨hKp, Or.inl ⟨j, ⟨hj, rfl⟩, by rw [if_neg (by rw [← hV]; omega)]⟩⟩) dX0_value_36
  · refine lv_iconst (v := -1) hx hb dX0_value_8 (by decide) ?_
    exact rd_reti E hK hw (⟨⟨rfl, rfl, hB, hS⟩, Or.inr ⟨fun q => c5 (hkt1.mpr q), rfl⟩⟩) dX0_value_9
end
section
set_option maxRecDepth 100000
theorem rd_p3 : ∀ y, y < 3 → 1 * 2 ^ y < 2 ^ 32 ∧ 1 * 2 ^ y ≤ 100000 := by decide
set_option maxHeartbeats 4000000 in
set_option maxRecDepth 100000 in
theorem rd_d_with (l : Launch) (D : va_G) (cA : ClassId) (h : Nat) (a : Nat → Nat) (σ : rd_St) (i x : Int32) (hB : rd_Bd σ) (hS : σ 9 0 ≠ 0 → rd_DK σ) : rd_MI l yX0_with cX0_with 3 (some .int) 5 [.ref h, .int i, .int x] D cA (rd_dw h a cA) σ (fun r u => rd_Kp σ u ∧ ((∃ j x', rd_okV i j ∧ x' < 3 ∧ x = nI x' ∧ r = rd_an (rd_scan (rd_Fw (σ 0) (σ 1) j x') (rd_M 0)).1) ∨ ((¬ ∃ j x', rd_okV i j ∧ x' < 3 ∧ x = nI x') ∧ r = -1))) := by
  refine rd_entI (by decide) (Nat.le_of_ble_eq_true rfl) ?_
  intro p e s m below meth c A E hK hw ls hl
  have E : rd_E p s m _ meth c cX0_with 3 (some .int) RX0 A := E
  have hx := E.1
  have hb := E.2.1
  have hl : lv_has ls 3 [(0, .ref h), (1, .int i), (2, .int x)] := hl
  refine lv_aload_n hx hb dX0_with_0 rfl (lv_at hl 0 rfl) ?_
  refine lv_iload_n hx hb dX0_with_1 rfl (lv_at hl 1 rfl) ?_
  refine rd_calli (As := [.int i]) (nA := 1) E hK hw (rd_d_badVariable l D cA h a σ i) rfl rfl (lw_V q76 q78 qs0 q24 q79) (by decide +kernel) rfl ⟨by decide, by decide⟩ ⟨Nat.zero_le _, Nat.zero_le _⟩ hl.1 rfl (Nat.le_of_ble_eq_true rfl) dX0_with_2 (fun r u H locs hq hw => ?_)
  obtain ⟨hu, t1, rfl, ht1, hkt1⟩ := hq
  rw [hu] at hw
  refine n_ifne (tgt := 17) hx hb dX0_with_5 (by decide) (by omega) (fun c5 => ?_) (fun c5 => ?_)
  · refine lv_iconst (v := -1) hx hb dX0_with_17 (by decide) ?_
    exact rd_reti E hK hw (⟨⟨rfl, rfl, hB, hS⟩, Or.inr ⟨fun ⟨j, x', q1, q2, q3⟩ => c5 (hkt1.mpr ⟨j, q1⟩), rfl⟩⟩) dX0_with_18
  · refine lv_iload_n hx hb dX0_with_8 rfl (lv_at hl 2 rfl) ?_
    refine lv_if_lt (tgt := 17) hx hb dX0_with_9 (by decide) (fun c9 => ?_) (fun c9 => ?_)
    · refine lv_iconst (v := -1) hx hb dX0_with_17 (by decide) ?_
      exact rd_reti E hK hw (⟨⟨rfl, rfl, hB, hS⟩, Or.inr ⟨fun ⟨j, x', q1, q2, q3⟩ => rd_neg c9 (by omega) q3, rfl⟩⟩) dX0_with_18
    · refine lv_iload_n hx hb dX0_with_12 rfl (lv_at hl 2 rfl) ?_
      refine lv_iconst (v := nI 2) hx hb dX0_with_13 (by decide) ?_
      refine lv_icmp_le (tgt := 19) hx hb dX0_with_14 (by decide) (fun c14 => ?_) (fun c14 => ?_)
      · obtain ⟨j, hj, rfl⟩ := hkt1.mp c5
        obtain ⟨x', hx', rfl⟩ := rd_in (by decide) c9 c14
        refine lv_aload_n hx hb dX0_with_19 rfl (lv_at hl 0 rfl) ?_
        refine rd_callv (As := []) (nA := 0) E hK hw (rd_d_solve l D cA h a σ hB hS) rfl rfl (lw_V q104 q106 qs3 q24 q107) (by decide +kernel) rfl ⟨by decide, by decide⟩ ⟨Nat.zero_le _, Nat.zero_le _⟩ hl.1 rfl (Nat.le_of_ble_eq_true rfl) dX0_with_20 (fun u H locs hq hw => ?_)
        obtain ⟨hKp, h90⟩ := hq
        have hDK := hKp.2.2.2 h90
        have hBu := hKp.2.2.1
        obtain ⟨u1, hu1⟩ : ∃ z, z = u := ⟨_, rfl⟩
        rw [← hu1] at hKp h90 hDK hBu hw
        refine lv_aload_n hx hb dX0_with_23 rfl (lv_at hl 0 rfl) ?_
        refine rd_callv (As := []) (nA := 0) E hK hw (rd_d_allowAll l D cA h a u1) rfl rfl (lw_V q108 q110 qs4 q24 q111) (by decide +kernel) rfl ⟨by decide, by decide⟩ ⟨Nat.zero_le _, Nat.zero_le _⟩ hl.1 rfl (Nat.le_of_ble_eq_true rfl) dX0_with_24 (fun u H locs hq hw => ?_)
        rw [hq] at hw
        have hp3 := rd_p3 x' (by omega)
        refine lv_aload_n hx hb dX0_with_27 rfl (lv_at hl 0 rfl) ?_
        refine dg_allowed E hK hw dX0_with_28 ?_
        refine lv_iload_n hx hb dX0_with_31 rfl (lv_at hl 1 rfl) ?_
        refine lv_iconst (v := nI 1) hx hb dX0_with_32 (by decide) ?_
        refine lv_iload_n hx hb dX0_with_33 rfl (lv_at hl 2 rfl) ?_
        refine n_shl hx hb dX0_with_34 (by omega) (by exact hp3.1) ?_
        refine ds_allowed (1 * 2 ^ x') E hK hw (by omega) rfl dX0_with_35 (fun H locs hw => ?_)
        have hv0 : (rd_up (rd_all u1) 3 j (1 * 2 ^ x')) 0 = u1 0 := by rw [← rd_upB _ _ _ (by decide)]; exact rd_all_ne u1 (by decide) (by decide)
        have hv1 : (rd_up (rd_all u1) 3 j (1 * 2 ^ x')) 1 = u1 1 := by rw [← rd_upB _ _ _ (by decide)]; exact rd_all_ne u1 (by decide) (by decide)
        have hv2 : (rd_up (rd_all u1) 3 j (1 * 2 ^ x')) 2 = u1 2 := by rw [← rd_upB _ _ _ (by decide)]; exact rd_all_ne u1 (by decide) (by decide)
        have hv8 : (rd_up (rd_all u1) 3 j (1 * 2 ^ x')) 8 = u1 8 := by rw [← rd_upB _ _ _ (by decide)]; exact rd_all_ne u1 (by decide) (by decide)
        have hv9 : (rd_up (rd_all u1) 3 j (1 * 2 ^ x')) 9 0 = u1 9 0 := by rw [rd_up_ne _ (by omega)]; exact rd_all_90 u1
        have hv91 : (rd_up (rd_all u1) 3 j (1 * 2 ^ x')) 9 1 = 0 := by rw [rd_up_ne _ (by omega)]; exact rd_all_91 u1
        have hBv : rd_Bd (rd_up (rd_all u1) 3 j (1 * 2 ^ x')) := rd_Bd_up (rd_all_Bd hBu) hp3.2
        refine lv_aload_n hx hb dX0_with_36 rfl (lv_at hl 0 rfl) ?_
        refine lv_iconst (v := nI 0) hx hb dX0_with_37 (by decide) ?_
        refine rd_callv (As := [.int (nI 0)]) (nA := 1) E hK hw (rd_d_search l D cA h a (rd_up (rd_all u1) 3 j (1 * 2 ^ x')) 0 (by omega) hBv (rd_dl hKp h90 hv0 hv1 hv2)) rfl rfl (lw_V q112 q114 qs5 q24 q115) (by decide +kernel) rfl ⟨by decide, by decide⟩ ⟨Nat.zero_le _, Nat.zero_le _⟩ hl.1 rfl (Nat.le_of_ble_eq_true rfl) dX0_with_38 (fun u H locs hq hw => ?_)
        obtain ⟨hF, hB2, hBs⟩ := hq
        obtain ⟨hKp2, h902⟩ := rd_Kp_fr hKp h90 hv0 hv1 hv2 hv8 hv9 hF hB2
        have hFw : rd_F ((rd_up (rd_all u1) 3 j (1 * 2 ^ x')) 0) ((rd_up (rd_all u1) 3 j (1 * 2 ^ x')) 1) ((rd_up (rd_all u1) 3 j (1 * 2 ^ x')) 9 1) ((rd_up (rd_all u1) 3 j (1 * 2 ^ x')) 3) 0 = rd_Fw (σ 0) (σ 1) j x' := by
          rw [hv0, hv1, hv91, hKp.1, hKp.2.1]
          exact rd_Fw_eq hj (by omega) (rd_up_self _ _ _ _) (fun i hi ne => by rw [rd_up_ne _ (by omega)]; exact rd_all_3 u1 hi)
        rw [hFw] at hBs
        have hb92 := hB2 9 2
        refine lv_aload_n hx hb dX0_with_41 rfl (lv_at hl 0 rfl) ?_
        refine lv_aload_n hx hb dX0_with_42 rfl (lv_at hl 0 rfl) ?_
        refine dg_best E hK hw dX0_with_43 ?_
        refine rd_calli (As := [.int (nI (u 9 2))]) (nA := 1) E hK hw (rd_d_answer l D cA h a u _ (by omega)) rfl rfl (lw_V q145 q147 qs13 q24 q148) (by decide +kernel) rfl ⟨by decide, by decide⟩ ⟨Nat.zero_le _, Nat.zero_le _⟩ hl.1 rfl (Nat.le_of_ble_eq_true rfl) dX0_with_46 (fun r u H locs hq hw => ?_)
        obtain ⟨hu, rfl⟩ := hq
        rw [hu] at hw
        exact rd_reti E hK hw (⟨hKp2, Or.inl ⟨j, x', ⟨hj, rfl⟩, by omega, rfl, by rw [hBs.1]⟩⟩) dX0_with_49
      · refine lv_iconst (v := -1) hx hb dX0_with_17 (by decide) ?_
        exact rd_reti E hK hw (⟨⟨rfl, rfl, hB, hS⟩, Or.inr ⟨fun ⟨j, x', q1, q2, q3⟩ => rd_big (by decide) c14 (by omega) q3, rfl⟩⟩) dX0_with_18
noncomputable def rd_Zs (o p : Nat → Nat) : Nat := (rd_scan (rd_F o p 1 (fun _ => 7) 0) (rd_M 0)).1
set_option maxHeartbeats 4000000 in
set_option maxRecDepth 100000 in
theorem rd_d_zigzag (l : Launch) (D : va_G) (cA : ClassId) (h : Nat) (a : Nat → Nat) (σ : rd_St) (hB : rd_Bd σ) (hS : σ 9 0 ≠ 0 → rd_DK σ) : rd_MI l yX0_zigzag cX0_zigzag 1 (some .int) 5 [.ref h] D cA (rd_dw h a cA) σ (fun r u => rd_Kp σ u ∧ r = rd_an (rd_Zs (σ 0) (σ 1))) := by
  refine rd_entI (by decide) (Nat.le_of_ble_eq_true rfl) ?_
  intro p e s m below meth c A E hK hw ls hl
  have E : rd_E p s m _ meth c cX0_zigzag 1 (some .int) RX0 A := E
  have hx := E.1
  have hb := E.2.1
  have hl : lv_has ls 1 [(0, .ref h)] := hl
  refine lv_aload_n hx hb dX0_zigzag_0 rfl (lv_at hl 0 rfl) ?_
  refine rd_callv (As := []) (nA := 0) E hK hw (rd_d_solve l D cA h a σ hB hS) rfl rfl (lw_V q104 q106 qs3 q24 q107) (by decide +kernel) rfl ⟨by decide, by decide⟩ ⟨Nat.zero_le _, Nat.zero_le _⟩ hl.1 rfl (Nat.le_of_ble_eq_true rfl) dX0_zigzag_1 (fun u H locs hq hw => ?_)
  obtain ⟨hKp, h90⟩ := hq
  have hDK := hKp.2.2.2 h90
  have hBu := hKp.2.2.1
  obtain ⟨u1, hu1⟩ : ∃ z, z = u := ⟨_, rfl⟩
  rw [← hu1] at hKp h90 hDK hBu hw
  refine lv_aload_n hx hb dX0_zigzag_4 rfl (lv_at hl 0 rfl) ?_
  refine rd_callv (As := []) (nA := 0) E hK hw (rd_d_allowAll l D cA h a u1) rfl rfl (lw_V q108 q110 qs4 q24 q111) (by decide +kernel) rfl ⟨by decide, by decide⟩ ⟨Nat.zero_le _, Nat.zero_le _⟩ hl.1 rfl (Nat.le_of_ble_eq_true rfl) dX0_zigzag_5 (fun u H locs hq hw => ?_)
  rw [hq] at hw
  refine lv_aload_n hx hb dX0_zigzag_8 rfl (lv_at hl 0 rfl) ?_
  refine lv_iconst (v := nI 1) hx hb dX0_zigzag_9 (by decide) ?_
  refine dp_differ 1 E hK hw (by omega) dX0_zigzag_10 (fun H locs hw => ?_)
  have hv0 : (rd_up (rd_all u1) 9 1 1) 0 = u1 0 := by rw [← rd_upB _ _ _ (by decide)]; exact rd_all_ne u1 (by decide) (by decide)
  have hv1 : (rd_up (rd_all u1) 9 1 1) 1 = u1 1 := by rw [← rd_upB _ _ _ (by decide)]; exact rd_all_ne u1 (by decide) (by decide)
  have hv2 : (rd_up (rd_all u1) 9 1 1) 2 = u1 2 := by rw [← rd_upB _ _ _ (by decide)]; exact rd_all_ne u1 (by decide) (by decide)
  have hv8 : (rd_up (rd_all u1) 9 1 1) 8 = u1 8 := by rw [← rd_upB _ _ _ (by decide)]; exact rd_all_ne u1 (by decide) (by decide)
  have hv9 : (rd_up (rd_all u1) 9 1 1) 9 0 = u1 9 0 := by rw [rd_up_ne _ (by omega)]; exact rd_all_90 u1
  have hBv : rd_Bd (rd_up (rd_all u1) 9 1 1) := rd_Bd_up (rd_all_Bd hBu) (by omega)
  refine lv_aload_n hx hb dX0_zigzag_13 rfl (lv_at hl 0 rfl) ?_
  refine lv_iconst (v := nI 0) hx hb dX0_zigzag_14 (by decide) ?_
  refine rd_callv (As := [.int (nI 0)]) (nA := 1) E hK hw (rd_d_search l D cA h a (rd_up (rd_all u1) 9 1 1) 0 (by omega) hBv (rd_dl hKp h90 hv0 hv1 hv2)) rfl rfl (lw_V q112 q114 qs5 q24 q115) (by decide +kernel) rfl ⟨by decide, by decide⟩ ⟨Nat.zero_le _, Nat.zero_le _⟩ hl.1 rfl (Nat.le_of_ble_eq_true rfl) dX0_zigzag_15 (fun u H locs hq hw => ?_)
  obtain ⟨hF, hB2, hBs⟩ := hq
  obtain ⟨hKp2, h902⟩ := rd_Kp_fr hKp h90 hv0 hv1 hv2 hv8 hv9 hF hB2
  have hFz : rd_F ((rd_up (rd_all u1) 9 1 1) 0) ((rd_up (rd_all u1) 9 1 1) 1) ((rd_up (rd_all u1) 9 1 1) 9 1) ((rd_up (rd_all u1) 9 1 1) 3) 0 = rd_F (σ 0) (σ 1) 1 (fun _ => 7) 0 := by
    rw [hv0, hv1, rd_up_self, hKp.1, hKp.2.1]
    exact rd_F_al (fun j hj => by rw [rd_up_ne _ (by omega)]; exact rd_all_3 u1 hj)
  rw [hFz] at hBs
  have hb92 := hB2 9 2
  refine lv_aload_n hx hb dX0_zigzag_18 rfl (lv_at hl 0 rfl) ?_
  refine lv_aload_n hx hb dX0_zigzag_19 rfl (lv_at hl 0 rfl) ?_
  refine dg_best E hK hw dX0_zigzag_20 ?_
  refine rd_calli (As := [.int (nI (u 9 2))]) (nA := 1) E hK hw (rd_d_answer l D cA h a u _ (by omega)) rfl rfl (lw_V q145 q147 qs13 q24 q148) (by decide +kernel) rfl ⟨by decide, by decide⟩ ⟨Nat.zero_le _, Nat.zero_le _⟩ hl.1 rfl (Nat.le_of_ble_eq_true rfl) dX0_zigzag_23 (fun r u H locs hq hw => ?_)
  obtain ⟨hu, rfl⟩ := hq
  rw [hu] at hw
  exact rd_reti E hK hw (⟨hKp2, by unfold rd_Zs; rw [hBs.1]⟩) dX0_zigzag_26
end
section
set_option maxRecDepth 100000
theorem rd_an_lt {n : Nat} (h : n < 100000) : rd_an n = nI n := if_pos h
theorem rd_an_ge {n : Nat} (h : ¬ n < 100000) : rd_an n = -4 := if_neg h
theorem rd_an_neg : (-4 : Int32) < 0 := by decide
theorem rd_an_eq {c v : Nat} (hc : c ≤ 100000) (hv : v ≤ 100000) (h : rd_an c = rd_an v) : c = v := by
  by_cases h1 : c < 100000
  · by_cases h2 : v < 100000
    · rw [rd_an_lt h1, rd_an_lt h2] at h
      exact (nI_eq (by omega) (by omega)).mp h
    · rw [rd_an_lt h1, rd_an_ge h2] at h
      exact absurd h.symm (rd_neg rd_an_neg (by omega))
  · by_cases h2 : v < 100000
    · rw [rd_an_ge h1, rd_an_lt h2] at h
      exact absurd h (rd_neg rd_an_neg (by omega))
    · omega
theorem rd_an_pos {c : Nat} (h : ¬ rd_an c < 0) : c < 100000 := by
  by_cases h1 : c < 100000
  · exact h1
  · rw [rd_an_ge h1] at h; exact absurd rd_an_neg h
set_option maxHeartbeats 4000000 in
set_option maxRecDepth 100000 in
theorem rd_dlp_settled {p : Program} {l : Launch} {e : Env} {s : State} {m : MethodId} {args : Array Value} {below : List Frame} {meth : Method} {c : Code} {Q : State → Prop} {D : va_G} {cA : ClassId} {A : Nat → Prop} {h : Nat} {a : Nat → Nat} (E : rd_E p s m args meth c cX0_settled 6 (some .boolean) RX0 A) (hK : va_K D vwCl [(cA, .int)] s) {σ0 : rd_St} {j : Nat} (hj : j < 6) (kk : ∀ (σ : rd_St) (H : Heap) (locs : List Loc) (ls : Array Slot), rd_Kp σ0 σ → rd_W D (rd_dw h a cA) A s.heap H locs σ → lv_has ls 6 [(0, .ref h), (1, .int (nI j)), (2, .int (rd_an (rd_V (σ0 0) (σ0 1) 0))), (3, .int (nI (rd_ways (σ0 0) (σ0 1) j 3)))] → W p l e (rd_rm 7) s m args below meth c H locs 0 0 Q (F0 m 55 ls [])) :
    ∀ (f x : Nat) (σ : rd_St), x ≤ 3 → 3 ≤ x + f → rd_Kp σ0 σ → ∀ (H : Heap) (locs : List Loc) (ls : Array Slot), rd_W D (rd_dw h a cA) A s.heap H locs σ → lv_has ls 6 [(0, .ref h), (1, .int (nI j)), (2, .int (rd_an (rd_V (σ0 0) (σ0 1) 0))), (3, .int (nI (rd_ways (σ0 0) (σ0 1) j x))), (4, .int (nI x))] → W p l e (rd_rm 7) s m args below meth c H locs 0 0 Q (F0 m 20 ls []) := by
  have hx := E.1
  have hb := E.2.1
  intro f
  induction f with
  | zero =>
    intro x σ hx3 hf hKp H locs ls hw hl
    refine lv_iload hx hb dX0_settled_20 (lv_at hl 4 rfl) ?_
    refine lv_iconst (v := nI 3) hx hb dX0_settled_22 (by decide) ?_
    refine n_ge (tgt := 55) hx hb dX0_settled_23 (by decide) (by omega) (by omega) (fun c23 => ?_) (fun c23 => ?_)
    · have e : x = 3 := by omega
      subst e
      exact kk σ H locs ls hKp hw (lv_sub hl [0, 1, 2, 3] rfl)
    · omega
  | succ f ih =>
    intro x σ hx3 hf hKp H locs ls hw hl
    refine lv_iload hx hb dX0_settled_20 (lv_at hl 4 rfl) ?_
    refine lv_iconst (v := nI 3) hx hb dX0_settled_22 (by decide) ?_
    refine n_ge (tgt := 55) hx hb dX0_settled_23 (by decide) (by omega) (by omega) (fun c23 => ?_) (fun c23 => ?_)
    · have e : x = 3 := by omega
      subst e
      exact kk σ H locs ls hKp hw (lv_sub hl [0, 1, 2, 3] rfl)
    · refine lv_aload_n hx hb dX0_settled_26 rfl (lv_at hl 0 rfl) ?_
      refine lv_iload_n hx hb dX0_settled_27 rfl (lv_at hl 1 rfl) ?_
      refine lv_iload hx hb dX0_settled_28 (lv_at hl 4 rfl) ?_
      refine rd_calli (As := [.int (nI j), .int (nI x)]) (nA := 2) E hK hw (rd_d_with l D cA h a σ (nI j) (nI x) hKp.2.2.1 hKp.2.2.2) rfl rfl (lw_V q167 q159 q160 q24 q161) (by decide +kernel) rfl ⟨by decide, by decide⟩ ⟨Nat.zero_le _, Nat.zero_le _⟩ hl.1 rfl (Nat.le_of_ble_eq_true rfl) dX0_settled_30 (fun r u H locs hq hw => ?_)
      obtain ⟨hKp1, hr⟩ := hq
      have hr0 : r = rd_an (rd_scan (rd_Fw (σ0 0) (σ0 1) j x) (rd_M 0)).1 := by
        rcases hr with ⟨j', x', ⟨hj', ej⟩, hx', ex, hr⟩ | ⟨hr, _⟩
        · have e1 := (nI_eq (by omega) (by omega)).mp ej
          have e2 := (nI_eq (by omega) (by omega)).mp ex
          rw [hr, ← e1, ← e2, hKp.1, hKp.2.1]
        · exact absurd ⟨j, x, ⟨hj, rfl⟩, by omega, rfl⟩ hr
      subst hr0
      have hKp2 : rd_Kp σ0 u := ⟨hKp1.1.trans hKp.1, hKp1.2.1.trans hKp.2.1, hKp1.2.2.1, hKp1.2.2.2⟩
      have hwl := rd_ways_le (σ0 0) (σ0 1) j x
      have hc1 := rd_scan_100 (rd_Fw (σ0 0) (σ0 1) j x) (rd_M 0)
      have hc2 := rd_V_100 (σ0 0) (σ0 1) 0
      refine lv_istore (lv' := [(5, .int (rd_an (rd_scan (rd_Fw (σ0 0) (σ0 1) j x) (rd_M 0)).1)), (0, .ref h), (1, .int (nI j)), (2, .int (rd_an (rd_V (σ0 0) (σ0 1) 0))), (3, .int (nI (rd_ways (σ0 0) (σ0 1) j x))), (4, .int (nI x))]) hx hb dX0_settled_33 hl (by decide) rfl (fun ls hl => ?_)
      refine lv_iload hx hb dX0_settled_35 (lv_at hl 0 rfl) ?_
      refine lv_iload_n hx hb dX0_settled_37 rfl (lv_at hl 3 rfl) ?_
      refine lv_icmp_ne (tgt := 49) hx hb dX0_settled_38 (by decide) (fun c38 => ?_) (fun c38 => ?_)
      · have e : rd_ways (σ0 0) (σ0 1) j (x + 1) = rd_ways (σ0 0) (σ0 1) j x := by rw [rd_ways_s, if_neg (fun q => c38 (by rw [q.2])), Nat.add_zero]
        refine n_inc (lv' := [(4, .int (nI (x + 1))), (5, .int (rd_an (rd_scan (rd_Fw (σ0 0) (σ0 1) j x) (rd_M 0)).1)), (0, .ref h), (1, .int (nI j)), (2, .int (rd_an (rd_V (σ0 0) (σ0 1) 0))), (3, .int (nI (rd_ways (σ0 0) (σ0 1) j x)))]) hx hb dX0_settled_49 hl (k := 5) rfl (by decide) rfl (fun ls hl => ?_)
        refine lv_goto (tgt := 20) hx hb dX0_settled_52 (by decide) ?_
        rw [← e] at hl
        exact ih (x + 1) u (by omega) (by omega) hKp2 H locs ls hw (lv_sub hl [2, 3, 4, 5, 0] rfl)
      · refine lv_iload hx hb dX0_settled_41 (lv_at hl 0 rfl) ?_
        refine lv_if_lt (tgt := 49) hx hb dX0_settled_43 (by decide) (fun c43 => ?_) (fun c43 => ?_)
        · have e : rd_ways (σ0 0) (σ0 1) j (x + 1) = rd_ways (σ0 0) (σ0 1) j x := by rw [rd_ways_s, if_neg (fun q => by rw [q.2, rd_an_lt q.1] at c43; exact absurd c43 (nI_pos (by omega))), Nat.add_zero]
          refine n_inc (lv' := [(4, .int (nI (x + 1))), (5, .int (rd_an (rd_scan (rd_Fw (σ0 0) (σ0 1) j x) (rd_M 0)).1)), (0, .ref h), (1, .int (nI j)), (2, .int (rd_an (rd_V (σ0 0) (σ0 1) 0))), (3, .int (nI (rd_ways (σ0 0) (σ0 1) j x)))]) hx hb dX0_settled_49 hl (k := 5) rfl (by decide) rfl (fun ls hl => ?_)
          refine lv_goto (tgt := 20) hx hb dX0_settled_52 (by decide) ?_
          rw [← e] at hl
          exact ih (x + 1) u (by omega) (by omega) hKp2 H locs ls hw (lv_sub hl [2, 3, 4, 5, 0] rfl)
        · have e : rd_ways (σ0 0) (σ0 1) j (x + 1) = rd_ways (σ0 0) (σ0 1) j x + 1 := by rw [rd_ways_s, if_pos ⟨by have := rd_an_pos c43; have := rd_an_eq hc1 hc2 c38; omega, rd_an_eq hc1 hc2 c38⟩]
          refine n_inc (lv' := [(3, .int (nI ((rd_ways (σ0 0) (σ0 1) j x) + 1))), (5, .int (rd_an (rd_scan (rd_Fw (σ0 0) (σ0 1) j x) (rd_M 0)).1)), (0, .ref h), (1, .int (nI j)), (2, .int (rd_an (rd_V (σ0 0) (σ0 1) 0))), (4, .int (nI x))]) hx hb dX0_settled_46 hl (k := 4) rfl (by decide) rfl (fun ls hl => ?_)
          refine n_inc (lv' := [(4, .int (nI (x + 1))), (3, .int (nI ((rd_ways (σ0 0) (σ0 1) j x) + 1))), (5, .int (rd_an (rd_scan (rd_Fw (σ0 0) (σ0 1) j x) (rd_M 0)).1)), (0, .ref h), (1, .int (nI j)), (2, .int (rd_an (rd_V (σ0 0) (σ0 1) 0)))]) hx hb dX0_settled_49 hl (k := 5) rfl (by decide) rfl (fun ls hl => ?_)
          refine lv_goto (tgt := 20) hx hb dX0_settled_52 (by decide) ?_
          rw [← e] at hl
          exact ih (x + 1) u (by omega) (by omega) hKp2 H locs ls hw (lv_sub hl [3, 4, 5, 1, 0] rfl)
set_option maxHeartbeats 4000000 in
set_option maxRecDepth 100000 in
theorem rd_d_settled (l : Launch) (D : va_G) (cA : ClassId) (h : Nat) (a : Nat → Nat) (σ : rd_St) (i : Int32) (hB : rd_Bd σ) (hS : σ 9 0 ≠ 0 → rd_DK σ) : rd_MI l yX0_settled cX0_settled 6 (some .boolean) 7 [.ref h, .int i] D cA (rd_dw h a cA) σ (fun r u => rd_Kp σ u ∧ ((∃ j, rd_okV i j ∧ r = nI (if rd_ways (σ 0) (σ 1) j 3 = 1 then 1 else 0)) ∨ ((¬ ∃ j, rd_okV i j) ∧ r = nI 0))) := by
  refine rd_entI (by decide) (Nat.le_of_ble_eq_true rfl) ?_
  intro p e s m below meth c A E hK hw ls hl
  have E : rd_E p s m _ meth c cX0_settled 6 (some .boolean) RX0 A := E
  have hx := E.1
  have hb := E.2.1
  have hl : lv_has ls 6 [(0, .ref h), (1, .int i)] := hl
  refine lv_aload_n hx hb dX0_settled_0 rfl (lv_at hl 0 rfl) ?_
  refine lv_iload_n hx hb dX0_settled_1 rfl (lv_at hl 1 rfl) ?_
  refine rd_calli (As := [.int i]) (nA := 1) E hK hw (rd_d_badVariable l D cA h a σ i) rfl rfl (lw_V q76 q78 qs0 q24 q79) (by decide +kernel) rfl ⟨by decide, by decide⟩ ⟨Nat.zero_le _, Nat.zero_le _⟩ hl.1 rfl (Nat.le_of_ble_eq_true rfl) dX0_settled_2 (fun r u H locs hq hw => ?_)
  obtain ⟨hu, t1, rfl, ht1, hkt1⟩ := hq
  rw [hu] at hw
  refine n_ifeq (tgt := 10) hx hb dX0_settled_5 (by decide) (by omega) (fun c5 => ?_) (fun c5 => ?_)
  · obtain ⟨j, hj, rfl⟩ := hkt1.mp c5
    refine lv_aload_n hx hb dX0_settled_10 rfl (lv_at hl 0 rfl) ?_
    refine rd_calli (As := []) (nA := 0) E hK hw (rd_d_cheapest l D cA h a σ hB hS) rfl rfl (lw_V q166 q150 q151 q24 q152) (by decide +kernel) rfl ⟨by decide, by decide⟩ ⟨Nat.zero_le _, Nat.zero_le _⟩ hl.1 rfl (Nat.le_of_ble_eq_true rfl) dX0_settled_11 (fun r u H locs hq hw => ?_)
    obtain ⟨hKp, rfl⟩ := hq
    refine lv_istore_n (lv' := [(2, .int (rd_an (rd_V (σ 0) (σ 1) 0))), (0, .ref h), (1, .int (nI j))]) hx hb dX0_settled_14 rfl hl (by decide) rfl (fun ls hl => ?_)
    refine lv_iconst (v := nI 0) hx hb dX0_settled_15 (by decide) ?_
    refine lv_istore_n (lv' := [(3, .int (nI 0)), (2, .int (rd_an (rd_V (σ 0) (σ 1) 0))), (0, .ref h), (1, .int (nI j))]) hx hb dX0_settled_16 rfl hl (by decide) rfl (fun ls hl => ?_)
    refine lv_iconst (v := nI 0) hx hb dX0_settled_17 (by decide) ?_
    refine lv_istore (lv' := [(4, .int (nI 0)), (3, .int (nI 0)), (2, .int (rd_an (rd_V (σ 0) (σ 1) 0))), (0, .ref h), (1, .int (nI j))]) hx hb dX0_settled_18 hl (by decide) rfl (fun ls hl => ?_)
    refine rd_dlp_settled (σ0 := σ) (j := j) E hK hj (fun σ1 H locs ls hKp hw hl => ?_) 3 0 u (by omega) (by omega) hKp _ _ ls hw (lv_sub hl [3, 4, 2, 1, 0] rfl)
    have hwl := rd_ways_le (σ 0) (σ 1) j 3
    refine lv_iload_n hx hb dX0_settled_55 rfl (lv_at hl 3 rfl) ?_
    refine lv_iconst (v := nI 1) hx hb dX0_settled_56 (by decide) ?_
    refine n_ne (tgt := 64) hx hb dX0_settled_57 (by decide) (by omega) (by omega) (fun c57 => ?_) (fun c57 => ?_)
    · refine lv_iconst (v := nI 0) hx hb dX0_settled_64 (by decide) ?_
      exact rd_retz E hK hw rfl (⟨hKp, Or.inl ⟨j, ⟨hj, rfl⟩, by rw [if_neg c57]⟩⟩) dX0_settled_65
    · refine lv_iconst (v := nI 1) hx hb dX0_settled_60 (by decide) ?_
      refine lv_goto (tgt := 65) hx hb dX0_settled_61 (by decide) ?_
      exact rd_retz E hK hw rfl (⟨hKp, Or.inl ⟨j, ⟨hj, rfl⟩, by rw [if_pos c57]⟩⟩) dX0_settled_65
  · refine lv_iconst (v := nI 0) hx hb dX0_settled_8 (by decide) ?_
    exact rd_retz E hK hw rfl (⟨⟨rfl, rfl, hB, hS⟩, Or.inr ⟨fun q => c5 (hkt1.mpr q), rfl⟩⟩) dX0_settled_9
end
section
set_option maxRecDepth 100000
/-- the first t variables hold to 'first' -/
def rd_sj (σ : rd_St) (t : Nat) : rd_St := fun c i => if c = 3 ∧ i < t then 1 * 2 ^ σ 8 i else σ c i
theorem rd_sj_0 (σ : rd_St) : rd_sj σ 0 = σ := by
  funext c i; unfold rd_sj; rw [if_neg (by omega)]
theorem rd_sj_ne (σ : rd_St) (t : Nat) {c : Nat} (h : c ≠ 3) : rd_sj σ t c = σ c := by
  funext i; unfold rd_sj; rw [if_neg (fun q => h q.1)]
theorem rd_sj_put (σ : rd_St) (t : Nat) : rd_up (rd_sj σ t) 3 t (1 * 2 ^ σ 8 t) = rd_sj σ (t + 1) := by
  funext c i
  unfold rd_up rd_sj
  by_cases h1 : c = 3 ∧ i = t
  · rw [if_pos h1, if_pos ⟨h1.1, by omega⟩, h1.2]
  · rw [if_neg h1]
    by_cases h2 : c = 3 ∧ i < t
    · rw [if_pos h2, if_pos ⟨h2.1, by omega⟩]
    · rw [if_neg h2, if_neg (fun q => h2 ⟨q.1, by
        have : ¬ i = t := fun w => h1 ⟨q.1, w⟩
        omega⟩)]
theorem rd_not7 : ∀ f, f < 3 → nI 7 &&& (nI (1 * 2 ^ f) ^^^ (-1)) = nI (7 - 1 * 2 ^ f) := by decide
theorem rd_sj_Bd {σ : rd_St} (h : rd_Bd σ) (h8 : ∀ j, j < 6 → σ 8 j < 3) {t : Nat} (ht : t ≤ 6) : rd_Bd (rd_sj σ t) := by
  intro c i; unfold rd_sj; split
  · next q => exact (rd_p3 _ (h8 i (by omega))).2
  · exact h c i
set_option maxHeartbeats 4000000 in
set_option maxRecDepth 100000 in
theorem rd_dlp_second1 {p : Program} {l : Launch} {e : Env} {s : State} {m : MethodId} {args : Array Value} {below : List Frame} {meth : Method} {c : Code} {Q : State → Prop} {D : va_G} {cA : ClassId} {A : Nat → Prop} {h : Nat} {a : Nat → Nat} (E : rd_E p s m args meth c cX0_second 4 (some .int) RX0 A) (hK : va_K D vwCl [(cA, .int)] s) {σ : rd_St} {S i : Nat} (hi : i < 6) (h8 : ∀ j, j < 6 → σ 8 j < 3) (kk : ∀ (H : Heap) (locs : List Loc) (ls : Array Slot), rd_W D (rd_dw h a cA) A s.heap H locs (rd_sj σ i) → lv_has ls 4 [(0, .ref h), (1, .int (nI S)), (2, .int (nI i))] → W p l e (rd_rm 5) s m args below meth c H locs 0 0 Q (F0 m 60 ls [])) :
    ∀ (f t : Nat), t ≤ i → i ≤ t + f → ∀ (H : Heap) (locs : List Loc) (ls : Array Slot), rd_W D (rd_dw h a cA) A s.heap H locs (rd_sj σ t) → lv_has ls 4 [(0, .ref h), (1, .int (nI S)), (2, .int (nI i)), (3, .int (nI t))] → W p l e (rd_rm 5) s m args below meth c H locs 0 0 Q (F0 m 35 ls []) := by
  have hx := E.1
  have hb := E.2.1
  intro f
  induction f with
  | zero =>
    intro t ht hf H locs ls hw hl
    refine lv_iload_n hx hb dX0_second_35 rfl (lv_at hl 3 rfl) ?_
    refine lv_iload_n hx hb dX0_second_36 rfl (lv_at hl 2 rfl) ?_
    refine n_ge (tgt := 60) hx hb dX0_second_37 (by decide) (by omega) (by omega) (fun c37 => ?_) (fun c37 => ?_)
    · have e : t = i := by omega
      subst e
      exact kk H locs ls hw (lv_sub hl [0, 1, 2] rfl)
    · omega
  | succ f ih =>
    intro t ht hf H locs ls hw hl
    refine lv_iload_n hx hb dX0_second_35 rfl (lv_at hl 3 rfl) ?_
    refine lv_iload_n hx hb dX0_second_36 rfl (lv_at hl 2 rfl) ?_
    refine n_ge (tgt := 60) hx hb dX0_second_37 (by decide) (by omega) (by omega) (fun c37 => ?_) (fun c37 => ?_)
    · have e : t = i := by omega
      subst e
      exact kk H locs ls hw (lv_sub hl [0, 1, 2] rfl)
    · have h8t := h8 t (by omega)
      have hp3 := rd_p3 _ h8t
      refine lv_aload_n hx hb dX0_second_40 rfl (lv_at hl 0 rfl) ?_
      refine dg_allowed E hK hw dX0_second_41 ?_
      refine lv_iload_n hx hb dX0_second_44 rfl (lv_at hl 3 rfl) ?_
      refine lv_iconst (v := nI 1) hx hb dX0_second_45 (by decide) ?_
      refine lv_aload_n hx hb dX0_second_46 rfl (lv_at hl 0 rfl) ?_
      refine dg_first E hK hw dX0_second_47 ?_
      refine lv_iload_n hx hb dX0_second_50 rfl (lv_at hl 3 rfl) ?_
      refine dl_first E hK hw (by omega) dX0_second_51 ?_
      refine n_as (congrArg nI (congrFun (rd_sj_ne σ t (by decide)) t)) ?_
      refine n_shl hx hb dX0_second_52 (by omega) (by exact hp3.1) ?_
      refine ds_allowed (1 * 2 ^ (σ 8 t)) E hK hw (by omega) rfl dX0_second_53 (fun H locs hw => ?_)
      rw [rd_sj_put] at hw
      refine n_inc (lv' := [(3, .int (nI (t + 1))), (0, .ref h), (1, .int (nI S)), (2, .int (nI i))]) hx hb dX0_second_54 hl (k := 3) rfl (by decide) rfl (fun ls hl => ?_)
      refine lv_goto (tgt := 35) hx hb dX0_second_57 (by decide) ?_
      exact ih (t + 1) (by omega) (by omega) H locs ls hw (lv_sub hl [1, 2, 3, 0] rfl)
noncomputable def rd_G (o p : Nat → Nat) (i : Nat) : Nat → Nat := rd_F o p 0 (rd_a2 (rd_dig (rd_fd o p)) i) 0
theorem rd_G6 (o p : Nat → Nat) (hV : rd_V o p 0 < 100000) : rd_ls (rd_G o p) 6 = (rd_scan (rd_Fs o p) (rd_M 0)).1 := rd_second o p hV
theorem rd_ls_s (G : Nat → Nat → Nat) (i : Nat) : rd_ls G (i + 1) = min (rd_ls G i) (rd_scan (G i) (rd_M 0)).1 := rfl
set_option maxHeartbeats 4000000 in
set_option maxRecDepth 100000 in
theorem rd_dlp_second2 {p : Program} {l : Launch} {e : Env} {s : State} {m : MethodId} {args : Array Value} {below : List Frame} {meth : Method} {c : Code} {Q : State → Prop} {D : va_G} {cA : ClassId} {A : Nat → Prop} {h : Nat} {a : Nat → Nat} (E : rd_E p s m args meth c cX0_second 4 (some .int) RX0 A) (hK : va_K D vwCl [(cA, .int)] s) {σ0 : rd_St} (hV : rd_V (σ0 0) (σ0 1) 0 < 100000) (kk : ∀ (σ : rd_St) (H : Heap) (locs : List Loc) (ls : Array Slot), rd_Kp σ0 σ → rd_W D (rd_dw h a cA) A s.heap H locs σ → lv_has ls 4 [(0, .ref h), (1, .int (nI (rd_ls (rd_G (σ0 0) (σ0 1)) 6)))] → W p l e (rd_rm 5) s m args below meth c H locs 0 0 Q (F0 m 107 ls [])) :
    ∀ (f i : Nat) (σ : rd_St), i ≤ 6 → 6 ≤ i + f → rd_Kp σ0 σ → σ 9 0 ≠ 0 → ∀ (H : Heap) (locs : List Loc) (ls : Array Slot), rd_W D (rd_dw h a cA) A s.heap H locs σ → lv_has ls 4 [(0, .ref h), (1, .int (nI (rd_ls (rd_G (σ0 0) (σ0 1)) i))), (2, .int (nI i))] → W p l e (rd_rm 5) s m args below meth c H locs 0 0 Q (F0 m 23 ls []) := by
  have hx := E.1
  have hb := E.2.1
  intro f
  induction f with
  | zero =>
    intro i σ hi hf hKp h90 H locs ls hw hl
    refine lv_iload_n hx hb dX0_second_23 rfl (lv_at hl 2 rfl) ?_
    refine lv_bipush (v := nI 6) hx hb dX0_second_24 (by decide) ?_
    refine n_ge (tgt := 107) hx hb dX0_second_26 (by decide) (by omega) (by omega) (fun c26 => ?_) (fun c26 => ?_)
    · have e : i = 6 := by omega
      subst e
      exact kk σ H locs ls hKp hw (lv_sub hl [0, 1] rfl)
    · omega
  | succ f ih =>
    intro i σ hi hf hKp h90 H locs ls hw hl
    refine lv_iload_n hx hb dX0_second_23 rfl (lv_at hl 2 rfl) ?_
    refine lv_bipush (v := nI 6) hx hb dX0_second_24 (by decide) ?_
    refine n_ge (tgt := 107) hx hb dX0_second_26 (by decide) (by omega) (by omega) (fun c26 => ?_) (fun c26 => ?_)
    · have e : i = 6 := by omega
      subst e
      exact kk σ H locs ls hKp hw (lv_sub hl [0, 1] rfl)
    · have hDK := hKp.2.2.2 h90
      have hV2 : σ 2 0 < 100000 := by rw [hDK.1 0 (by omega), hKp.1, hKp.2.1]; exact hV
      have h8e : ∀ j, j < 6 → σ 8 j = rd_dig (rd_fd (σ0 0) (σ0 1)) j := fun j hj => by rw [hDK.2 hV2 j hj, hKp.1, hKp.2.1]
      refine lv_aload_n hx hb dX0_second_29 rfl (lv_at hl 0 rfl) ?_
      refine rd_callv (As := []) (nA := 0) E hK hw (rd_d_allowAll l D cA h a σ) rfl rfl (lw_V q108 q110 qs4 q24 q111) (by decide +kernel) rfl ⟨by decide, by decide⟩ ⟨Nat.zero_le _, Nat.zero_le _⟩ hl.1 rfl (Nat.le_of_ble_eq_true rfl) dX0_second_30 (fun u H locs hq hw => ?_)
      rw [hq] at hw
      have e8 : rd_all σ 8 = σ 8 := rd_all_ne σ (by decide) (by decide)
      have h8 : ∀ j, j < 6 → rd_all σ 8 j < 3 := fun j hj => by rw [e8, h8e j hj]; exact rd_dig_lt _ _
      refine lv_iconst (v := nI 0) hx hb dX0_second_33 (by decide) ?_
      refine lv_istore_n (lv' := [(3, .int (nI 0)), (0, .ref h), (1, .int (nI (rd_ls (rd_G (σ0 0) (σ0 1)) i))), (2, .int (nI i))]) hx hb dX0_second_34 rfl hl (by decide) rfl (fun ls hl => ?_)
      rw [← rd_sj_0 (rd_all σ)] at hw
      refine rd_dlp_second1 (σ := rd_all σ) (S := rd_ls (rd_G (σ0 0) (σ0 1)) i) (i := i) E hK (by omega) h8 (fun H locs ls hw hl => ?_) i 0 (by omega) (by omega) _ _ ls hw (lv_sub hl [1, 2, 3, 0] rfl)
      have h8i := h8 i (by omega)
      have hp3 := rd_p3 _ h8i
      refine lv_aload_n hx hb dX0_second_60 rfl (lv_at hl 0 rfl) ?_
      refine dg_allowed E hK hw dX0_second_61 ?_
      refine lv_iload_n hx hb dX0_second_64 rfl (lv_at hl 2 rfl) ?_
      refine lv_bipush (v := nI 7) hx hb dX0_second_65 (by decide) ?_
      refine lv_iconst (v := nI 1) hx hb dX0_second_67 (by decide) ?_
      refine lv_aload_n hx hb dX0_second_68 rfl (lv_at hl 0 rfl) ?_
      refine dg_first E hK hw dX0_second_69 ?_
      refine lv_iload_n hx hb dX0_second_72 rfl (lv_at hl 2 rfl) ?_
      refine dl_first E hK hw (by omega) dX0_second_73 ?_
      refine n_as (congrArg nI (congrFun (rd_sj_ne (rd_all σ) i (by decide)) i)) ?_
      refine n_shl hx hb dX0_second_74 (by omega) (by exact hp3.1) ?_
      refine lv_iconst (v := -1) hx hb dX0_second_75 (by decide) ?_
      refine lv_ixor hx hb dX0_second_76 ?_
      refine lv_iand hx hb dX0_second_77 ?_
      refine n_as (rd_not7 _ h8i) ?_
      refine ds_allowed (7 - 1 * 2 ^ rd_all σ 8 i) E hK hw (by omega) rfl dX0_second_78 (fun H locs hw => ?_)
      have hv0 : (rd_up (rd_sj (rd_all σ) i) 3 i (7 - 1 * 2 ^ rd_all σ 8 i)) 0 = σ 0 := by rw [← rd_upB _ _ _ (by decide), rd_sj_ne _ _ (by decide)]; exact rd_all_ne σ (by decide) (by decide)
      have hv1 : (rd_up (rd_sj (rd_all σ) i) 3 i (7 - 1 * 2 ^ rd_all σ 8 i)) 1 = σ 1 := by rw [← rd_upB _ _ _ (by decide), rd_sj_ne _ _ (by decide)]; exact rd_all_ne σ (by decide) (by decide)
      have hv2 : (rd_up (rd_sj (rd_all σ) i) 3 i (7 - 1 * 2 ^ rd_all σ 8 i)) 2 = σ 2 := by rw [← rd_upB _ _ _ (by decide), rd_sj_ne _ _ (by decide)]; exact rd_all_ne σ (by decide) (by decide)
      have hv8 : (rd_up (rd_sj (rd_all σ) i) 3 i (7 - 1 * 2 ^ rd_all σ 8 i)) 8 = σ 8 := by rw [← rd_upB _ _ _ (by decide), rd_sj_ne _ _ (by decide)]; exact rd_all_ne σ (by decide) (by decide)
      have hv9 : (rd_up (rd_sj (rd_all σ) i) 3 i (7 - 1 * 2 ^ rd_all σ 8 i)) 9 0 = σ 9 0 := by rw [rd_up_ne _ (by omega), rd_sj_ne _ _ (by decide)]; exact rd_all_90 σ
      have hv91 : (rd_up (rd_sj (rd_all σ) i) 3 i (7 - 1 * 2 ^ rd_all σ 8 i)) 9 1 = 0 := by rw [rd_up_ne _ (by omega), rd_sj_ne _ _ (by decide)]; exact rd_all_91 σ
      have hBv : rd_Bd (rd_up (rd_sj (rd_all σ) i) 3 i (7 - 1 * 2 ^ rd_all σ 8 i)) := rd_Bd_up (rd_sj_Bd (rd_all_Bd hKp.2.2.1) h8 (by omega)) (by omega)
      refine lv_aload_n hx hb dX0_second_79 rfl (lv_at hl 0 rfl) ?_
      refine lv_iconst (v := nI 0) hx hb dX0_second_80 (by decide) ?_
      refine rd_callv (As := [.int (nI 0)]) (nA := 1) E hK hw (rd_d_search l D cA h a (rd_up (rd_sj (rd_all σ) i) 3 i (7 - 1 * 2 ^ rd_all σ 8 i)) 0 (by omega) hBv (rd_dl hKp h90 hv0 hv1 hv2)) rfl rfl (lw_V q112 q114 qs5 q24 q115) (by decide +kernel) rfl ⟨by decide, by decide⟩ ⟨Nat.zero_le _, Nat.zero_le _⟩ hl.1 rfl (Nat.le_of_ble_eq_true rfl) dX0_second_81 (fun u H locs hq hw => ?_)
      obtain ⟨hF, hB2, hBs⟩ := hq
      obtain ⟨hKp2, h902⟩ := rd_Kp_fr hKp h90 hv0 hv1 hv2 hv8 hv9 hF hB2
      have hFs : rd_F ((rd_up (rd_sj (rd_all σ) i) 3 i (7 - 1 * 2 ^ rd_all σ 8 i)) 0) ((rd_up (rd_sj (rd_all σ) i) 3 i (7 - 1 * 2 ^ rd_all σ 8 i)) 1) ((rd_up (rd_sj (rd_all σ) i) 3 i (7 - 1 * 2 ^ rd_all σ 8 i)) 9 1) ((rd_up (rd_sj (rd_all σ) i) 3 i (7 - 1 * 2 ^ rd_all σ 8 i)) 3) 0 = rd_G (σ0 0) (σ0 1) i := by
        unfold rd_G
        rw [hv0, hv1, hv91, hKp.1, hKp.2.1]
        refine rd_F_al (fun j hj => ?_)
        unfold rd_a2
        by_cases h1 : j = i
        · rw [h1, rd_up_self, if_neg (Nat.lt_irrefl i), if_pos rfl, e8, h8e i (by omega)]
        · rw [rd_up_ne _ (by omega)]
          unfold rd_sj
          by_cases h2 : j < i
          · rw [if_pos ⟨rfl, h2⟩, if_pos h2, e8, h8e j hj]
          · rw [if_neg (fun q => h2 q.2), if_neg h2, if_neg h1]; exact rd_all_3 σ hj
      rw [hFs] at hBs
      have hb92 := hB2 9 2
      have hl100 := rd_ls_100 (rd_G (σ0 0) (σ0 1)) i
      have hls : rd_ls (rd_G (σ0 0) (σ0 1)) (i + 1) = min (rd_ls (rd_G (σ0 0) (σ0 1)) i) (u 9 2) := by rw [hBs.1]; exact rd_ls_s _ _
      refine lv_aload_n hx hb dX0_second_84 rfl (lv_at hl 0 rfl) ?_
      refine dg_best E hK hw dX0_second_85 ?_
      refine lv_iload_n hx hb dX0_second_88 rfl (lv_at hl 1 rfl) ?_
      refine n_ge (tgt := 99) hx hb dX0_second_89 (by decide) (by omega) (by omega) (fun c89 => ?_) (fun c89 => ?_)
      · refine lv_iload_n hx hb dX0_second_99 rfl (lv_at hl 1 rfl) ?_
        refine lv_istore_n (lv' := [(1, .int (nI (rd_ls (rd_G (σ0 0) (σ0 1)) i))), (0, .ref h), (2, .int (nI i))]) hx hb dX0_second_100 rfl hl (by decide) rfl (fun ls hl => ?_)
        refine n_inc (lv' := [(2, .int (nI (i + 1))), (1, .int (nI (rd_ls (rd_G (σ0 0) (σ0 1)) i))), (0, .ref h)]) hx hb dX0_second_101 hl (k := 2) rfl (by decide) rfl (fun ls hl => ?_)
        refine lv_goto (tgt := 23) hx hb dX0_second_104 (by decide) ?_
        have e : rd_ls (rd_G (σ0 0) (σ0 1)) (i + 1) = rd_ls (rd_G (σ0 0) (σ0 1)) i := by omega
        rw [← e] at hl
        exact ih (i + 1) u (by omega) (by omega) hKp2 h902 H locs ls hw (lv_sub hl [2, 1, 0] rfl)
      · refine lv_aload_n hx hb dX0_second_92 rfl (lv_at hl 0 rfl) ?_
        refine dg_best E hK hw dX0_second_93 ?_
        refine lv_goto (tgt := 100) hx hb dX0_second_96 (by decide) ?_
        refine lv_istore_n (lv' := [(1, .int (nI (u 9 2))), (0, .ref h), (2, .int (nI i))]) hx hb dX0_second_100 rfl hl (by decide) rfl (fun ls hl => ?_)
        refine n_inc (lv' := [(2, .int (nI (i + 1))), (1, .int (nI (u 9 2))), (0, .ref h)]) hx hb dX0_second_101 hl (k := 2) rfl (by decide) rfl (fun ls hl => ?_)
        refine lv_goto (tgt := 23) hx hb dX0_second_104 (by decide) ?_
        have e : rd_ls (rd_G (σ0 0) (σ0 1)) (i + 1) = u 9 2 := by omega
        rw [← e] at hl
        exact ih (i + 1) u (by omega) (by omega) hKp2 h902 H locs ls hw (lv_sub hl [2, 1, 0] rfl)
set_option maxHeartbeats 4000000 in
set_option maxRecDepth 100000 in
theorem rd_d_second (l : Launch) (D : va_G) (cA : ClassId) (h : Nat) (a : Nat → Nat) (σ : rd_St) (hB : rd_Bd σ) (hS : σ 9 0 ≠ 0 → rd_DK σ) : rd_MI l yX0_second cX0_second 4 (some .int) 5 [.ref h] D cA (rd_dw h a cA) σ (fun r u => rd_Kp σ u ∧ r = rd_an (rd_scan (rd_Fs (σ 0) (σ 1)) (rd_M 0)).1) := by
  refine rd_entI (by decide) (Nat.le_of_ble_eq_true rfl) ?_
  intro p e s m below meth c A E hK hw ls hl
  have E : rd_E p s m _ meth c cX0_second 4 (some .int) RX0 A := E
  have hx := E.1
  have hb := E.2.1
  have hl : lv_has ls 4 [(0, .ref h)] := hl
  refine lv_aload_n hx hb dX0_second_0 rfl (lv_at hl 0 rfl) ?_
  refine rd_callv (As := []) (nA := 0) E hK hw (rd_d_solve l D cA h a σ hB hS) rfl rfl (lw_V q104 q106 qs3 q24 q107) (by decide +kernel) rfl ⟨by decide, by decide⟩ ⟨Nat.zero_le _, Nat.zero_le _⟩ hl.1 rfl (Nat.le_of_ble_eq_true rfl) dX0_second_1 (fun u H locs hq hw => ?_)
  obtain ⟨hKp, h90⟩ := hq
  have hDK := hKp.2.2.2 h90
  have hBu := hKp.2.2.1
  obtain ⟨u1, hu1⟩ : ∃ z, z = u := ⟨_, rfl⟩
  rw [← hu1] at hKp h90 hDK hBu hw
  have hb2 := hBu 2 0
  have hV : u1 2 0 = rd_V (σ 0) (σ 1) 0 := by rw [hDK.1 0 (by omega), hKp.1, hKp.2.1]
  refine lv_aload_n hx hb dX0_second_4 rfl (lv_at hl 0 rfl) ?_
  refine dg_dolls E hK hw dX0_second_5 ?_
  refine lv_iconst (v := nI 0) hx hb dX0_second_8 (by decide) ?_
  refine dl_dolls E hK hw (by omega) dX0_second_9 ?_
  refine n_far E dX0_second_10 ?_
  refine n_lt (tgt := 18) hx hb dX0_second_12 (by decide) (by omega) (by omega) (fun c12 => ?_) (fun c12 => ?_)
  · refine n_far E dX0_second_18 ?_
    refine lv_istore_n (lv' := [(1, .int (nI 100000)), (0, .ref h)]) hx hb dX0_second_20 rfl hl (by decide) rfl (fun ls hl => ?_)
    refine lv_iconst (v := nI 0) hx hb dX0_second_21 (by decide) ?_
    refine lv_istore_n (lv' := [(2, .int (nI 0)), (1, .int (nI 100000)), (0, .ref h)]) hx hb dX0_second_22 rfl hl (by decide) rfl (fun ls hl => ?_)
    rw [hV] at c12
    refine rd_dlp_second2 (σ0 := σ) E hK c12 (fun σ1 H locs ls hKp hw hl => ?_) 6 0 u1 (by omega) (by omega) hKp h90 _ _ ls hw (lv_sub hl [2, 1, 0] rfl)
    rw [rd_G6 _ _ c12] at hl
    have hb1 := rd_scan_100 (rd_Fs (σ 0) (σ 1)) (rd_M 0)
    refine lv_aload_n hx hb dX0_second_107 rfl (lv_at hl 0 rfl) ?_
    refine lv_iload_n hx hb dX0_second_108 rfl (lv_at hl 1 rfl) ?_
    refine rd_calli (As := [.int (nI ((rd_scan (rd_Fs (σ 0) (σ 1)) (rd_M 0)).1))]) (nA := 1) E hK hw (rd_d_answer l D cA h a σ1 _ (by omega)) rfl rfl (lw_V q145 q147 qs13 q24 q148) (by decide +kernel) rfl ⟨by decide, by decide⟩ ⟨Nat.zero_le _, Nat.zero_le _⟩ hl.1 rfl (Nat.le_of_ble_eq_true rfl) dX0_second_109 (fun r u H locs hq hw => ?_)
    obtain ⟨hu, rfl⟩ := hq
    rw [hu] at hw
    exact rd_reti E hK hw (⟨hKp, rfl⟩) dX0_second_112
  · have hs : rd_scan (rd_Fs (σ 0) (σ 1)) (rd_M 0) = rd_scan (rd_Fo (σ 0) (σ 1) 0) (rd_M 0) := rd_scan_congr (rd_M 0) (fun a _ => by unfold rd_Fs; rw [if_neg (fun q => by omega)])
    refine lv_bipush (v := -4) hx hb dX0_second_15 (by decide) ?_
    exact rd_reti E hK hw (⟨hKp, by rw [hs]; rw [← rd_V0]; exact (rd_an_ge (by rw [hV] at c12; exact Nat.not_lt.mpr c12)).symm⟩) dX0_second_17
end
section
/-! PURE: the reference's sums -/
def rd_Cs (σ : rd_St) : Prop := (∀ i, σ 0 i ≤ 30 ∨ σ 0 i = 99) ∧ ∀ i, σ 1 i ≤ 30 ∨ σ 1 i = 99
def rd_RI (p : Nat → Nat) (x : Nat → Nat) (i : Nat) : Nat → Nat
  | 0 => 0
  | m + 1 => rd_RI p x i m + rd_rl (p ((i * 6 + (i + 1 + m)) * 9 + x i * 3 + x (i + 1 + m)))
def rd_RG (o p : Nat → Nat) (x : Nat → Nat) (st N : Nat) : Nat → Nat
  | 0 => 0
  | n + 1 => rd_RG o p x st N n + (rd_rl (o ((st + n) * 3 + x (st + n))) + rd_RI p x (st + n) (N - 1 - n))
theorem rd_RG_A (o p x : Nat → Nat) (st N n : Nat) (h : n ≤ N) : rd_RG o p x st (N + 1) n = rd_RG o p x st N n + rd_AH p 0 x st n (st + N) (x (st + N)) := by
  induction n with
  | zero => rfl
  | succ n ih =>
    show rd_RG o p x st (N + 1) n + (rd_rl (o ((st + n) * 3 + x (st + n))) + rd_RI p x (st + n) (N + 1 - 1 - n)) = rd_RG o p x st N n + (rd_rl (o ((st + n) * 3 + x (st + n))) + rd_RI p x (st + n) (N - 1 - n)) + (rd_AH p 0 x st n (st + N) (x (st + N)) + rd_bt p 0 (st + n) (x (st + n)) (st + N) (x (st + N)))
    rw [ih (by omega), show N + 1 - 1 - n = (N - 1 - n) + 1 by omega]
    have e : rd_RI p x (st + n) (N - 1 - n + 1) = rd_RI p x (st + n) (N - 1 - n) + rd_rl (p (((st + n) * 6 + (st + n + 1 + (N - 1 - n))) * 9 + x (st + n) * 3 + x (st + n + 1 + (N - 1 - n)))) := rfl
    rw [e, show st + n + 1 + (N - 1 - n) = st + N by omega]
    have e2 : rd_bt p 0 (st + n) (x (st + n)) (st + N) (x (st + N)) = rd_rl (p (((st + n) * 6 + (st + N)) * 9 + x (st + n) * 3 + x (st + N))) := if_neg (fun q => q.1 rfl)
    rw [e2]
    omega
theorem rd_RG_SP (o p x : Nat → Nat) (st N : Nat) : rd_RG o p x st N N = rd_SP o p 0 x st N := by
  induction N with
  | zero => rfl
  | succ N ih =>
    show rd_RG o p x st (N + 1) N + (rd_rl (o ((st + N) * 3 + x (st + N))) + rd_RI p x (st + N) (N + 1 - 1 - N)) = rd_SP o p 0 x st N + (rd_rl (o ((st + N) * 3 + x (st + N))) + rd_AH p 0 x st N (st + N) (x (st + N)))
    rw [rd_RG_A o p x st N N (Nat.le_refl N), ih, show N + 1 - 1 - N = 0 by omega]
    have e : rd_RI p x (st + N) 0 = 0 := rfl
    omega
theorem rd_RG_le (o p x : Nat → Nat) (st N n m : Nat) : rd_RG o p x st N n ≤ rd_RG o p x st N (n + m) := by
  induction m with
  | zero => exact Nat.le_refl _
  | succ m ih => exact Nat.le_trans ih (Nat.le_add_right _ _)
theorem rd_RI_le (p x : Nat → Nat) (i n m : Nat) : rd_RI p x i n ≤ rd_RI p x i (n + m) := by
  induction m with
  | zero => exact Nat.le_refl _
  | succ m ih => exact Nat.le_trans ih (Nat.le_add_right _ _)
theorem rd_an_min (n : Nat) : rd_an (min 100000 n) = rd_an n := by
  by_cases h : n < 100000
  · rw [show min 100000 n = n by omega]
  · rw [rd_an_ge h, rd_an_ge (by omega)]
/-- a barred own cost: no assignment -/
theorem rd_bar1 {o p x : Nat → Nat} {st n : Nat} (h : st + n < 6) (hb : o ((st + n) * 3 + x (st + n)) = 99) : ¬ rd_SP o p 0 x st (6 - st) < 100000 := by
  have h1 := rd_RG_le o p x st (6 - st) (n + 1) (5 - (st + n))
  rw [show n + 1 + (5 - (st + n)) = 6 - st by omega, rd_RG_SP] at h1
  have e : rd_RG o p x st (6 - st) (n + 1) = rd_RG o p x st (6 - st) n + (rd_rl (o ((st + n) * 3 + x (st + n))) + rd_RI p x (st + n) (6 - st - 1 - n)) := rfl
  rw [hb] at e
  have e2 : rd_rl 99 = 100000 := rfl
  omega
theorem rd_bar2 {o p x : Nat → Nat} {st n m : Nat} (h : st + n + 1 + m < 6) (hb : p (((st + n) * 6 + (st + n + 1 + m)) * 9 + x (st + n) * 3 + x (st + n + 1 + m)) = 99) : ¬ rd_SP o p 0 x st (6 - st) < 100000 := by
  have h1 := rd_RG_le o p x st (6 - st) (n + 1) (5 - (st + n))
  rw [show n + 1 + (5 - (st + n)) = 6 - st by omega, rd_RG_SP] at h1
  have e : rd_RG o p x st (6 - st) (n + 1) = rd_RG o p x st (6 - st) n + (rd_rl (o ((st + n) * 3 + x (st + n))) + rd_RI p x (st + n) (6 - st - 1 - n)) := rfl
  have h2 := rd_RI_le p x (st + n) (m + 1) (6 - st - 1 - n - (m + 1))
  rw [show m + 1 + (6 - st - 1 - n - (m + 1)) = 6 - st - 1 - n by omega] at h2
  have e3 : rd_RI p x (st + n) (m + 1) = rd_RI p x (st + n) m + rd_rl (p (((st + n) * 6 + (st + n + 1 + m)) * 9 + x (st + n) * 3 + x (st + n + 1 + m))) := rfl
  rw [hb] at e3
  have e2 : rd_rl 99 = 100000 := rfl
  omega
theorem rd_scan_y {F : Nat → Nat} {n : Nat} (h : F n < (rd_scan F n).1) : rd_scan F (n + 1) = (F n, n) := if_pos h
theorem rd_scan_n {F : Nat → Nat} {n : Nat} (h : ¬ F n < (rd_scan F n).1) : rd_scan F (n + 1) = rd_scan F n := if_neg h
/-- the found code as the reference has it -/
def rd_fn (z : Nat × Nat) : Int32 := if z.1 < 100000 then nI z.2 else -4
theorem rd_an_le {c b : Nat} (hc : c < 100000) (hb : b < 100000) : rd_an b ≤ rd_an c ↔ b ≤ c := by
  rw [rd_an_lt hc, rd_an_lt hb]
  exact nI_leI (by omega) (by omega)
theorem rd_pow729 {i : Nat} (h : i ≤ 5) : 3 ^ (6 - i) ≤ 729 := by
  rcases (show i = 0 ∨ i = 1 ∨ i = 2 ∨ i = 3 ∨ i = 4 ∨ i = 5 by omega) with q | q | q | q | q | q <;> subst q <;> decide
theorem rd_Fo_100 (o p : Nat → Nat) (k a : Nat) : rd_Fo o p k a ≤ 100000 := by rw [rd_Fo_eq]; omega
end
section
set_option maxRecDepth 100000
set_option maxHeartbeats 4000000 in
set_option maxRecDepth 100000 in
theorem rd_m_isVariable (l : Launch) (D : va_G) (cA : ClassId) (h : Nat) (a : Nat → Nat) (σ : rd_St) (x : Int32) : rd_MI l yX1_isVariable cX1_isVariable 2 (some .boolean) 0 [.ref h, .int x] D cA (rd_mw h a cA) σ (fun r u => u = σ ∧ rd_B (¬ ∃ j, rd_okV x j) r) := by
  refine rd_entI (by decide) (Nat.le_of_ble_eq_true rfl) ?_
  intro p e s m below meth c A E hK hw ls hl
  have E : rd_E p s m _ meth c cX1_isVariable 2 (some .boolean) RX1 A := E
  have hx := E.1
  have hb := E.2.1
  have hl : lv_has ls 2 [(0, .ref h), (1, .int x)] := hl
  refine lv_iload_n hx hb dX1_isVariable_0 rfl (lv_at hl 1 rfl) ?_
  refine lv_if_lt (tgt := 13) hx hb dX1_isVariable_1 (by decide) (fun c1 => ?_) (fun c1 => ?_)
  · refine lv_iconst (v := nI 0) hx hb dX1_isVariable_13 (by decide) ?_
    exact rd_retz E hK hw rfl (⟨rfl, rd_b0 (fun ⟨j, hj, e⟩ => rd_neg c1 (by omega) e)⟩) dX1_isVariable_14
  · refine lv_iload_n hx hb dX1_isVariable_4 rfl (lv_at hl 1 rfl) ?_
    refine lv_iconst (v := nI 5) hx hb dX1_isVariable_5 (by decide) ?_
    refine lv_icmp_gt (tgt := 13) hx hb dX1_isVariable_6 (by decide) (fun c6 => ?_) (fun c6 => ?_)
    · refine lv_iconst (v := nI 0) hx hb dX1_isVariable_13 (by decide) ?_
      exact rd_retz E hK hw rfl (⟨rfl, rd_b0 (fun ⟨j, hj, e⟩ => rd_big2 (by decide) c6 (by omega) e)⟩) dX1_isVariable_14
    · obtain ⟨j, hj, e⟩ := rd_in2 (by decide) c1 c6
      refine lv_iconst (v := nI 1) hx hb dX1_isVariable_9 (by decide) ?_
      refine lv_goto (tgt := 14) hx hb dX1_isVariable_10 (by decide) ?_
      exact rd_retz E hK hw rfl (⟨rfl, rd_b1 (fun q => q ⟨j, by omega, e⟩)⟩) dX1_isVariable_14
set_option maxHeartbeats 4000000 in
set_option maxRecDepth 100000 in
theorem rd_m_isValue (l : Launch) (D : va_G) (cA : ClassId) (h : Nat) (a : Nat → Nat) (σ : rd_St) (x : Int32) : rd_MI l yX1_isValue cX1_isValue 2 (some .boolean) 0 [.ref h, .int x] D cA (rd_mw h a cA) σ (fun r u => u = σ ∧ rd_B (¬ ∃ j, j < 3 ∧ x = nI j) r) := by
  refine rd_entI (by decide) (Nat.le_of_ble_eq_true rfl) ?_
  intro p e s m below meth c A E hK hw ls hl
  have E : rd_E p s m _ meth c cX1_isValue 2 (some .boolean) RX1 A := E
  have hx := E.1
  have hb := E.2.1
  have hl : lv_has ls 2 [(0, .ref h), (1, .int x)] := hl
  refine lv_iload_n hx hb dX1_isValue_0 rfl (lv_at hl 1 rfl) ?_
  refine lv_if_lt (tgt := 13) hx hb dX1_isValue_1 (by decide) (fun c1 => ?_) (fun c1 => ?_)
  · refine lv_iconst (v := nI 0) hx hb dX1_isValue_13 (by decide) ?_
    exact rd_retz E hK hw rfl (⟨rfl, rd_b0 (fun ⟨j, hj, e⟩ => rd_neg c1 (by omega) e)⟩) dX1_isValue_14
  · refine lv_iload_n hx hb dX1_isValue_4 rfl (lv_at hl 1 rfl) ?_
    refine lv_iconst (v := nI 2) hx hb dX1_isValue_5 (by decide) ?_
    refine lv_icmp_gt (tgt := 13) hx hb dX1_isValue_6 (by decide) (fun c6 => ?_) (fun c6 => ?_)
    · refine lv_iconst (v := nI 0) hx hb dX1_isValue_13 (by decide) ?_
      exact rd_retz E hK hw rfl (⟨rfl, rd_b0 (fun ⟨j, hj, e⟩ => rd_big2 (by decide) c6 (by omega) e)⟩) dX1_isValue_14
    · obtain ⟨j, hj, e⟩ := rd_in2 (by decide) c1 c6
      refine lv_iconst (v := nI 1) hx hb dX1_isValue_9 (by decide) ?_
      refine lv_goto (tgt := 14) hx hb dX1_isValue_10 (by decide) ?_
      exact rd_retz E hK hw rfl (⟨rfl, rd_b1 (fun q => q ⟨j, by omega, e⟩)⟩) dX1_isValue_14
set_option maxHeartbeats 4000000 in
set_option maxRecDepth 100000 in
theorem rd_m_isCost (l : Launch) (D : va_G) (cA : ClassId) (h : Nat) (a : Nat → Nat) (σ : rd_St) (x : Int32) : rd_MI l yX1_isCost cX1_isCost 2 (some .boolean) 0 [.ref h, .int x] D cA (rd_mw h a cA) σ (fun r u => u = σ ∧ rd_B (¬ ∃ n, rd_okC x n) r) := by
  refine rd_entI (by decide) (Nat.le_of_ble_eq_true rfl) ?_
  intro p e s m below meth c A E hK hw ls hl
  have E : rd_E p s m _ meth c cX1_isCost 2 (some .boolean) RX1 A := E
  have hx := E.1
  have hb := E.2.1
  have hl : lv_has ls 2 [(0, .ref h), (1, .int x)] := hl
  refine lv_iload_n hx hb dX1_isCost_0 rfl (lv_at hl 1 rfl) ?_
  refine lv_if_lt (tgt := 10) hx hb dX1_isCost_1 (by decide) (fun c1 => ?_) (fun c1 => ?_)
  · refine lv_iload_n hx hb dX1_isCost_10 rfl (lv_at hl 1 rfl) ?_
    refine lv_bipush (v := nI 99) hx hb dX1_isCost_11 (by decide) ?_
    refine lv_icmp_ne (tgt := 20) hx hb dX1_isCost_13 (by decide) (fun c13 => ?_) (fun c13 => ?_)
    · refine lv_iconst (v := nI 0) hx hb dX1_isCost_20 (by decide) ?_
      exact rd_retz E hK hw rfl (⟨rfl, rd_b0 (rd_c1 c1 c13)⟩) dX1_isCost_21
    · refine lv_iconst (v := nI 1) hx hb dX1_isCost_16 (by decide) ?_
      refine lv_goto (tgt := 21) hx hb dX1_isCost_17 (by decide) ?_
      exact rd_retz E hK hw rfl (⟨rfl, rd_b1 (fun q => q ⟨99, Or.inr rfl, c13⟩)⟩) dX1_isCost_21
  · refine lv_iload_n hx hb dX1_isCost_4 rfl (lv_at hl 1 rfl) ?_
    refine lv_bipush (v := nI 30) hx hb dX1_isCost_5 (by decide) ?_
    refine lv_icmp_le (tgt := 16) hx hb dX1_isCost_7 (by decide) (fun c7 => ?_) (fun c7 => ?_)
    · refine lv_iconst (v := nI 1) hx hb dX1_isCost_16 (by decide) ?_
      refine lv_goto (tgt := 21) hx hb dX1_isCost_17 (by decide) ?_
      exact rd_retz E hK hw rfl (⟨rfl, rd_b1 (fun q => q (rd_c0 c1 c7))⟩) dX1_isCost_21
    · refine lv_iload_n hx hb dX1_isCost_10 rfl (lv_at hl 1 rfl) ?_
      refine lv_bipush (v := nI 99) hx hb dX1_isCost_11 (by decide) ?_
      refine lv_icmp_ne (tgt := 20) hx hb dX1_isCost_13 (by decide) (fun c13 => ?_) (fun c13 => ?_)
      · refine lv_iconst (v := nI 0) hx hb dX1_isCost_20 (by decide) ?_
        exact rd_retz E hK hw rfl (⟨rfl, rd_b0 (rd_c2 c7 c13)⟩) dX1_isCost_21
      · refine lv_iconst (v := nI 1) hx hb dX1_isCost_16 (by decide) ?_
        refine lv_goto (tgt := 21) hx hb dX1_isCost_17 (by decide) ?_
        exact rd_retz E hK hw rfl (⟨rfl, rd_b1 (fun q => q ⟨99, Or.inr rfl, c13⟩)⟩) dX1_isCost_21
set_option maxHeartbeats 4000000 in
set_option maxRecDepth 100000 in
theorem rd_m_isPair (l : Launch) (D : va_G) (cA : ClassId) (h : Nat) (a : Nat → Nat) (σ : rd_St) (x : Int32) : rd_MI l yX1_isPair cX1_isPair 2 (some .boolean) 0 [.ref h, .int x] D cA (rd_mw h a cA) σ (fun r u => u = σ ∧ rd_B (¬ ∃ n, rd_okP x n) r) := by
  refine rd_entI (by decide) (Nat.le_of_ble_eq_true rfl) ?_
  intro p e s m below meth c A E hK hw ls hl
  have E : rd_E p s m _ meth c cX1_isPair 2 (some .boolean) RX1 A := E
  have hx := E.1
  have hb := E.2.1
  have hl : lv_has ls 2 [(0, .ref h), (1, .int x)] := hl
  refine lv_iload_n hx hb dX1_isPair_0 rfl (lv_at hl 1 rfl) ?_
  refine lv_if_lt (tgt := 25) hx hb dX1_isPair_1 (by decide) (fun c1 => ?_) (fun c1 => ?_)
  · refine lv_iconst (v := nI 0) hx hb dX1_isPair_25 (by decide) ?_
    exact rd_retz E hK hw rfl (⟨rfl, rd_b0 (fun ⟨j, hj, _, e⟩ => rd_neg c1 (by omega) e)⟩) dX1_isPair_26
  · refine lv_iload_n hx hb dX1_isPair_4 rfl (lv_at hl 1 rfl) ?_
    refine lv_bipush (v := nI 35) hx hb dX1_isPair_5 (by decide) ?_
    refine lv_icmp_gt (tgt := 25) hx hb dX1_isPair_7 (by decide) (fun c7 => ?_) (fun c7 => ?_)
    · refine lv_iconst (v := nI 0) hx hb dX1_isPair_25 (by decide) ?_
      exact rd_retz E hK hw rfl (⟨rfl, rd_b0 (fun ⟨j, hj, _, e⟩ => rd_big2 (by decide) c7 hj e)⟩) dX1_isPair_26
    · obtain ⟨n, hn, rfl⟩ := rd_in2 (by decide) c1 c7
      refine lv_iload_n hx hb dX1_isPair_10 rfl (lv_at hl 1 rfl) ?_
      refine lv_bipush (v := nI 6) hx hb dX1_isPair_11 (by decide) ?_
      refine n_div hx hb dX1_isPair_13 (by omega) (by omega) (by omega) ?_
      refine lv_iload_n hx hb dX1_isPair_14 rfl (lv_at hl 1 rfl) ?_
      refine lv_bipush (v := nI 6) hx hb dX1_isPair_15 (by decide) ?_
      refine n_rem hx hb dX1_isPair_17 (by omega) (by omega) (by omega) ?_
      refine n_ge (tgt := 25) hx hb dX1_isPair_18 (by decide) (by omega) (by omega) (fun c18 => ?_) (fun c18 => ?_)
      · refine lv_iconst (v := nI 0) hx hb dX1_isPair_25 (by decide) ?_
        exact rd_retz E hK hw rfl (⟨rfl, rd_b0 (fun ⟨j, hj, hj2, e⟩ => by have := (nI_eq (by omega) (by omega)).mp e; subst this; omega)⟩) dX1_isPair_26
      · refine lv_iconst (v := nI 1) hx hb dX1_isPair_21 (by decide) ?_
        refine lv_goto (tgt := 26) hx hb dX1_isPair_22 (by decide) ?_
        exact rd_retz E hK hw rfl (⟨rfl, rd_b1 (fun q => q ⟨n, hn, c18, rfl⟩)⟩) dX1_isPair_26
set_option maxHeartbeats 4000000 in
set_option maxRecDepth 100000 in
theorem rd_m_own (l : Launch) (D : va_G) (cA : ClassId) (h : Nat) (a : Nat → Nat) (σ : rd_St) (i x c0 : Int32) : rd_MI l yX1_own cX1_own 5 (some .int) 1 [.ref h, .int i, .int x, .int c0] D cA (rd_mw h a cA) σ (fun r u => (∃ i' x' c', rd_okO i x c0 i' x' c' ∧ r = nI (σ 0 (i' * 3 + x')) ∧ u = rd_up σ 0 (i' * 3 + x') c') ∨ ((¬ ∃ i' x' c', rd_okO i x c0 i' x' c') ∧ r = -1 ∧ u = σ)) := by
  refine rd_entI (by decide) (Nat.le_of_ble_eq_true rfl) ?_
  intro p e s m below meth c A E hK hw ls hl
  have E : rd_E p s m _ meth c cX1_own 5 (some .int) RX1 A := E
  have hx := E.1
  have hb := E.2.1
  have hl : lv_has ls 5 [(0, .ref h), (1, .int i), (2, .int x), (3, .int c0)] := hl
  refine lv_aload_n hx hb dX1_own_0 rfl (lv_at hl 0 rfl) ?_
  refine lv_iload_n hx hb dX1_own_1 rfl (lv_at hl 1 rfl) ?_
  refine rd_calli (As := [.int i]) (nA := 1) E hK hw (rd_m_isVariable l D cA h a σ i) rfl rfl (lw_V q193 q195 qs14 q25 q196) (by decide +kernel) rfl ⟨by decide, by decide⟩ ⟨Nat.zero_le _, Nat.zero_le _⟩ hl.1 rfl (Nat.le_of_ble_eq_true rfl) dX1_own_2 (fun r u H locs hq hw => ?_)
  obtain ⟨hu, t1, rfl, ht1, hkt1⟩ := hq
  rw [hu] at hw
  refine n_ifeq (tgt := 24) hx hb dX1_own_5 (by decide) (by omega) (fun c5 => ?_) (fun c5 => ?_)
  · refine lv_iconst (v := -1) hx hb dX1_own_24 (by decide) ?_
    exact rd_reti E hK hw (Or.inr ⟨fun ⟨i', x', c', q⟩ => hkt1.mp c5 ⟨i', q.1, q.2.2.2.1⟩, rfl, rfl⟩) dX1_own_25
  · refine lv_aload_n hx hb dX1_own_8 rfl (lv_at hl 0 rfl) ?_
    refine lv_iload_n hx hb dX1_own_9 rfl (lv_at hl 2 rfl) ?_
    refine rd_calli (As := [.int x]) (nA := 1) E hK hw (rd_m_isValue l D cA h a σ x) rfl rfl (lw_V q197 q199 qs15 q25 q200) (by decide +kernel) rfl ⟨by decide, by decide⟩ ⟨Nat.zero_le _, Nat.zero_le _⟩ hl.1 rfl (Nat.le_of_ble_eq_true rfl) dX1_own_10 (fun r u H locs hq hw => ?_)
    obtain ⟨hu, t2, rfl, ht2, hkt2⟩ := hq
    rw [hu] at hw
    refine n_ifeq (tgt := 24) hx hb dX1_own_13 (by decide) (by omega) (fun c13 => ?_) (fun c13 => ?_)
    · refine lv_iconst (v := -1) hx hb dX1_own_24 (by decide) ?_
      exact rd_reti E hK hw (Or.inr ⟨fun ⟨i', x', c', q⟩ => hkt2.mp c13 ⟨x', q.2.1, q.2.2.2.2.1⟩, rfl, rfl⟩) dX1_own_25
    · refine lv_aload_n hx hb dX1_own_16 rfl (lv_at hl 0 rfl) ?_
      refine lv_iload_n hx hb dX1_own_17 rfl (lv_at hl 3 rfl) ?_
      refine rd_calli (As := [.int c0]) (nA := 1) E hK hw (rd_m_isCost l D cA h a σ c0) rfl rfl (lw_V q201 q203 qs16 q25 q204) (by decide +kernel) rfl ⟨by decide, by decide⟩ ⟨Nat.zero_le _, Nat.zero_le _⟩ hl.1 rfl (Nat.le_of_ble_eq_true rfl) dX1_own_18 (fun r u H locs hq hw => ?_)
      obtain ⟨hu, t3, rfl, ht3, hkt3⟩ := hq
      rw [hu] at hw
      refine n_ifne (tgt := 26) hx hb dX1_own_21 (by decide) (by omega) (fun c21 => ?_) (fun c21 => ?_)
      · obtain ⟨i', hi', rfl⟩ := Classical.byContradiction (fun q => c5 (hkt1.mpr q))
        obtain ⟨x', hx', rfl⟩ := Classical.byContradiction (fun q => c13 (hkt2.mpr q))
        obtain ⟨c', hc', rfl⟩ := Classical.byContradiction (fun q => c21 (hkt3.mpr q))
        refine lv_aload_n hx hb dX1_own_26 rfl (lv_at hl 0 rfl) ?_
        refine mg_owns E hK hw dX1_own_27 ?_
        refine lv_iconst (v := nI 3) hx hb dX1_own_30 (by decide) ?_
        refine lv_iload_n hx hb dX1_own_31 rfl (lv_at hl 1 rfl) ?_
        refine n_mul hx hb dX1_own_32 ?_
        refine lv_iload_n hx hb dX1_own_33 rfl (lv_at hl 2 rfl) ?_
        refine n_add hx hb dX1_own_34 ?_
        refine ml_owns E hK hw (by omega) dX1_own_35 ?_
        refine lv_istore (lv' := [(4, .int (nI (σ 0 ((3 * i') + x')))), (0, .ref h), (1, .int (nI i')), (2, .int (nI x')), (3, .int (nI c'))]) hx hb dX1_own_36 hl (by decide) rfl (fun ls hl => ?_)
        refine lv_aload_n hx hb dX1_own_38 rfl (lv_at hl 1 rfl) ?_
        refine mg_owns E hK hw dX1_own_39 ?_
        refine lv_iconst (v := nI 3) hx hb dX1_own_42 (by decide) ?_
        refine lv_iload_n hx hb dX1_own_43 rfl (lv_at hl 2 rfl) ?_
        refine n_mul hx hb dX1_own_44 ?_
        refine lv_iload_n hx hb dX1_own_45 rfl (lv_at hl 3 rfl) ?_
        refine n_add hx hb dX1_own_46 ?_
        refine lv_iload_n hx hb dX1_own_47 rfl (lv_at hl 4 rfl) ?_
        refine ms_owns c' E hK hw (by omega) rfl dX1_own_48 (fun H locs hw => ?_)
        refine lv_iload hx hb dX1_own_49 (lv_at hl 0 rfl) ?_
        exact rd_reti E hK hw (Or.inl ⟨i', x', c', ⟨hi', hx', hc', rfl, rfl, rfl⟩, by rw [Nat.mul_comm 3 i'], by rw [Nat.mul_comm 3 i']⟩) dX1_own_51
      · refine lv_iconst (v := -1) hx hb dX1_own_24 (by decide) ?_
        exact rd_reti E hK hw (Or.inr ⟨fun ⟨i', x', c', q⟩ => hkt3.mp c21 ⟨c', q.2.2.1, q.2.2.2.2.2⟩, rfl, rfl⟩) dX1_own_25
set_option maxHeartbeats 4000000 in
set_option maxRecDepth 100000 in
theorem rd_m_pair (l : Launch) (D : va_G) (cA : ClassId) (h : Nat) (a : Nat → Nat) (σ : rd_St) (q v c0 : Int32) : rd_MI l yX1_pair cX1_pair 5 (some .int) 1 [.ref h, .int q, .int v, .int c0] D cA (rd_mw h a cA) σ (fun r u => (∃ n v' c', rd_okQ q v c0 n v' c' ∧ r = nI (σ 1 (n * 9 + v')) ∧ u = rd_up σ 1 (n * 9 + v') c') ∨ ((¬ ∃ n v' c', rd_okQ q v c0 n v' c') ∧ r = -1 ∧ u = σ)) := by
  refine rd_entI (by decide) (Nat.le_of_ble_eq_true rfl) ?_
  intro p e s m below meth c A E hK hw ls hl
  have E : rd_E p s m _ meth c cX1_pair 5 (some .int) RX1 A := E
  have hx := E.1
  have hb := E.2.1
  have hl : lv_has ls 5 [(0, .ref h), (1, .int q), (2, .int v), (3, .int c0)] := hl
  refine lv_aload_n hx hb dX1_pair_0 rfl (lv_at hl 0 rfl) ?_
  refine lv_iload_n hx hb dX1_pair_1 rfl (lv_at hl 1 rfl) ?_
  refine rd_calli (As := [.int q]) (nA := 1) E hK hw (rd_m_isPair l D cA h a σ q) rfl rfl (lw_V q209 q211 qs17 q25 q212) (by decide +kernel) rfl ⟨by decide, by decide⟩ ⟨Nat.zero_le _, Nat.zero_le _⟩ hl.1 rfl (Nat.le_of_ble_eq_true rfl) dX1_pair_2 (fun r u H locs hq hw => ?_)
  obtain ⟨hu, t1, rfl, ht1, hkt1⟩ := hq
  rw [hu] at hw
  refine n_ifeq (tgt := 26) hx hb dX1_pair_5 (by decide) (by omega) (fun c5 => ?_) (fun c5 => ?_)
  · refine lv_iconst (v := -1) hx hb dX1_pair_26 (by decide) ?_
    exact rd_reti E hK hw (Or.inr ⟨fun ⟨n, v', c', z⟩ => hkt1.mp c5 ⟨n, z.1, z.2.1, z.2.2.2.2.1⟩, rfl, rfl⟩) dX1_pair_27
  · refine lv_iload_n hx hb dX1_pair_8 rfl (lv_at hl 2 rfl) ?_
    refine lv_if_lt (tgt := 26) hx hb dX1_pair_9 (by decide) (fun c9 => ?_) (fun c9 => ?_)
    · refine lv_iconst (v := -1) hx hb dX1_pair_26 (by decide) ?_
      exact rd_reti E hK hw (Or.inr ⟨fun ⟨n, v', c', z⟩ => rd_neg c9 (by have := z.2.2.1; omega) z.2.2.2.2.2.1, rfl, rfl⟩) dX1_pair_27
    · refine lv_iload_n hx hb dX1_pair_12 rfl (lv_at hl 2 rfl) ?_
      refine lv_bipush (v := nI 8) hx hb dX1_pair_13 (by decide) ?_
      refine lv_icmp_gt (tgt := 26) hx hb dX1_pair_15 (by decide) (fun c15 => ?_) (fun c15 => ?_)
      · refine lv_iconst (v := -1) hx hb dX1_pair_26 (by decide) ?_
        exact rd_reti E hK hw (Or.inr ⟨fun ⟨n, v', c', z⟩ => rd_big2 (by decide) c15 z.2.2.1 z.2.2.2.2.2.1, rfl, rfl⟩) dX1_pair_27
      · refine lv_aload_n hx hb dX1_pair_18 rfl (lv_at hl 0 rfl) ?_
        refine lv_iload_n hx hb dX1_pair_19 rfl (lv_at hl 3 rfl) ?_
        refine rd_calli (As := [.int c0]) (nA := 1) E hK hw (rd_m_isCost l D cA h a σ c0) rfl rfl (lw_V q201 q203 qs16 q25 q204) (by decide +kernel) rfl ⟨by decide, by decide⟩ ⟨Nat.zero_le _, Nat.zero_le _⟩ hl.1 rfl (Nat.le_of_ble_eq_true rfl) dX1_pair_20 (fun r u H locs hq hw => ?_)
        obtain ⟨hu, t2, rfl, ht2, hkt2⟩ := hq
        rw [hu] at hw
        refine n_ifne (tgt := 28) hx hb dX1_pair_23 (by decide) (by omega) (fun c23 => ?_) (fun c23 => ?_)
        · obtain ⟨n, hn, hn2, rfl⟩ := Classical.byContradiction (fun q => c5 (hkt1.mpr q))
          obtain ⟨v', hv', rfl⟩ := rd_in2 (by decide) c9 c15
          obtain ⟨c', hc', rfl⟩ := Classical.byContradiction (fun q => c23 (hkt2.mpr q))
          have hn9 := rd_pq hn hn2
          refine lv_aload_n hx hb dX1_pair_28 rfl (lv_at hl 0 rfl) ?_
          refine mg_pairs E hK hw dX1_pair_29 ?_
          refine lv_bipush (v := nI 9) hx hb dX1_pair_32 (by decide) ?_
          refine lv_iload_n hx hb dX1_pair_34 rfl (lv_at hl 1 rfl) ?_
          refine n_mul hx hb dX1_pair_35 ?_
          refine lv_iload_n hx hb dX1_pair_36 rfl (lv_at hl 2 rfl) ?_
          refine n_add hx hb dX1_pair_37 ?_
          refine ml_pairs E hK hw (by omega) dX1_pair_38 ?_
          refine lv_istore (lv' := [(4, .int (nI (σ 1 ((9 * n) + v')))), (0, .ref h), (1, .int (nI n)), (2, .int (nI v')), (3, .int (nI c'))]) hx hb dX1_pair_39 hl (by decide) rfl (fun ls hl => ?_)
          refine lv_aload_n hx hb dX1_pair_41 rfl (lv_at hl 1 rfl) ?_
          refine mg_pairs E hK hw dX1_pair_42 ?_
          refine lv_bipush (v := nI 9) hx hb dX1_pair_45 (by decide) ?_
          refine lv_iload_n hx hb dX1_pair_47 rfl (lv_at hl 2 rfl) ?_
          refine n_mul hx hb dX1_pair_48 ?_
          refine lv_iload_n hx hb dX1_pair_49 rfl (lv_at hl 3 rfl) ?_
          refine n_add hx hb dX1_pair_50 ?_
          refine lv_iload_n hx hb dX1_pair_51 rfl (lv_at hl 4 rfl) ?_
          refine ms_pairs c' E hK hw (by omega) rfl dX1_pair_52 (fun H locs hw => ?_)
          refine lv_iload hx hb dX1_pair_53 (lv_at hl 0 rfl) ?_
          exact rd_reti E hK hw (Or.inl ⟨n, v', c', ⟨hn, hn2, hv', hc', rfl, rfl, rfl⟩, by rw [Nat.mul_comm 9 n], by rw [Nat.mul_comm 9 n]⟩) dX1_pair_55
        · refine lv_iconst (v := -1) hx hb dX1_pair_26 (by decide) ?_
          exact rd_reti E hK hw (Or.inr ⟨fun ⟨n, v', c', z⟩ => hkt2.mp c23 ⟨c', z.2.2.2.1, z.2.2.2.2.2.2⟩, rfl, rfl⟩) dX1_pair_27
set_option maxHeartbeats 4000000 in
set_option maxRecDepth 100000 in
theorem rd_mlp_relate {p : Program} {l : Launch} {e : Env} {s : State} {m : MethodId} {args : Array Value} {below : List Frame} {meth : Method} {c : Code} {Q : State → Prop} {D : va_G} {cA : ClassId} {A : Nat → Prop} {h : Nat} {a : Nat → Nat} (E : rd_E p s m args meth c cX1_relate 6 (some .int) RX1 A) (hK : va_K D vwCl [(cA, .int)] s) {σ : rd_St} {n c' : Nat} {sm : Int32} (hn : n ≤ 29) (kk : ∀ (H : Heap) (locs : List Loc) (ls : Array Slot), rd_W D (rd_mw h a cA) A s.heap H locs (rd_rel σ n c' (rd_fl sm) 9) → lv_has ls 6 [(0, .ref h), (1, .int (nI n)), (2, .int sm), (3, .int (nI c'))] → W p l e (rd_rm 1) s m args below meth c H locs 0 0 Q (F0 m 79 ls [])) :
    ∀ (f t : Nat), t ≤ 9 → 9 ≤ t + f → ∀ (H : Heap) (locs : List Loc) (ls : Array Slot), rd_W D (rd_mw h a cA) A s.heap H locs (rd_rel σ n c' (rd_fl sm) t) → lv_has ls 6 [(0, .ref h), (1, .int (nI n)), (2, .int sm), (3, .int (nI c')), (4, .int (nI t))] → W p l e (rd_rm 1) s m args below meth c H locs 0 0 Q (F0 m 21 ls []) := by
  have hx := E.1
  have hb := E.2.1
  intro f
  induction f with
  | zero => 
    intro t ht hf H locs ls hw hl
    refine lv_iload hx hb dX1_relate_21 (lv_at hl 4 rfl) ?_
    refine lv_bipush (v := nI 9) hx hb dX1_relate_23 (by decide) ?_
    refine n_ge (tgt := 79) hx hb dX1_relate_25 (by decide) (by omega) (by omega) (fun c25 => ?_) (fun c25 => ?_)
    · have e : t = 9 := by omega
      subst e
      exact kk H locs ls hw (lv_sub hl [0, 1, 2, 3] rfl)
    · omega
  | succ f ih =>
    intro t ht hf H locs ls hw hl
    refine lv_iload hx hb dX1_relate_21 (lv_at hl 4 rfl) ?_
    refine lv_bipush (v := nI 9) hx hb dX1_relate_23 (by decide) ?_
    refine n_ge (tgt := 79) hx hb dX1_relate_25 (by decide) (by omega) (by omega) (fun c25 => ?_) (fun c25 => ?_)
    · have e : t = 9 := by omega
      subst e
      exact kk H locs ls hw (lv_sub hl [0, 1, 2, 3] rfl)
    · refine lv_iload hx hb dX1_relate_28 (lv_at hl 4 rfl) ?_
      refine lv_iconst (v := nI 3) hx hb dX1_relate_30 (by decide) ?_
      refine n_div hx hb dX1_relate_31 (by omega) (by omega) (by omega) ?_
      refine lv_iload hx hb dX1_relate_32 (lv_at hl 4 rfl) ?_
      refine lv_iconst (v := nI 3) hx hb dX1_relate_34 (by decide) ?_
      refine n_rem hx hb dX1_relate_35 (by omega) (by omega) (by omega) ?_
      refine n_ne (tgt := 43) hx hb dX1_relate_36 (by decide) (by omega) (by omega) (fun c36 => ?_) (fun c36 => ?_)
      · refine lv_iconst (v := nI 0) hx hb dX1_relate_43 (by decide) ?_
        refine lv_istore (lv' := [(5, .int (nI 0)), (0, .ref h), (1, .int (nI n)), (2, .int sm), (3, .int (nI c')), (4, .int (nI t))]) hx hb dX1_relate_44 hl (by decide) rfl (fun ls hl => ?_)
        refine lv_iload hx hb dX1_relate_46 (lv_at hl 0 rfl) ?_
        refine lv_iload_n hx hb dX1_relate_48 rfl (lv_at hl 3 rfl) ?_
        refine lv_if_eq (tgt := 56) hx hb dX1_relate_49 (by decide) (fun c49 => ?_) (fun c49 => ?_)
        · refine lv_iconst (v := nI 0) hx hb dX1_relate_56 (by decide) ?_
          refine n_ne (tgt := 73) hx hb dX1_relate_57 (by decide) (by omega) (by omega) (fun c57 => ?_) (fun c57 => ?_)
          · omega
          · have hz : (if t / 3 = t % 3 then 1 else 0) = rd_fl sm := by rw [if_neg c36]; unfold rd_fl; rw [if_pos c49]
            refine lv_aload_n hx hb dX1_relate_60 rfl (lv_at hl 1 rfl) ?_
            refine mg_pairs E hK hw dX1_relate_61 ?_
            refine lv_bipush (v := nI 9) hx hb dX1_relate_64 (by decide) ?_
            refine lv_iload_n hx hb dX1_relate_66 rfl (lv_at hl 2 rfl) ?_
            refine n_mul hx hb dX1_relate_67 ?_
            refine lv_iload hx hb dX1_relate_68 (lv_at hl 5 rfl) ?_
            refine n_add hx hb dX1_relate_70 ?_
            refine lv_iload_n hx hb dX1_relate_71 rfl (lv_at hl 4 rfl) ?_
            refine ms_pairs c' E hK hw (by omega) rfl dX1_relate_72 (fun H locs hw => ?_)
            rw [Nat.mul_comm 9 n, rd_rel_put σ n c' (rd_fl sm) t hz] at hw
            refine n_inc (lv' := [(4, .int (nI (t + 1))), (5, .int (nI 0)), (0, .ref h), (1, .int (nI n)), (2, .int sm), (3, .int (nI c'))]) hx hb dX1_relate_73 hl (k := 5) rfl (by decide) rfl (fun ls hl => ?_)
            refine lv_goto (tgt := 21) hx hb dX1_relate_76 (by decide) ?_
            exact ih (t + 1) (by omega) (by omega) H locs ls hw (lv_sub hl [2, 3, 4, 5, 0] rfl)
        · refine lv_iconst (v := nI 1) hx hb dX1_relate_52 (by decide) ?_
          refine lv_goto (tgt := 57) hx hb dX1_relate_53 (by decide) ?_
          refine n_ne (tgt := 73) hx hb dX1_relate_57 (by decide) (by omega) (by omega) (fun c57 => ?_) (fun c57 => ?_)
          · have hz : ¬ (if t / 3 = t % 3 then 1 else 0) = rd_fl sm := by rw [if_neg c36]; unfold rd_fl; rw [if_neg c49]; omega
            rw [rd_rel_not σ n c' (rd_fl sm) t hz] at hw
            refine n_inc (lv' := [(4, .int (nI (t + 1))), (5, .int (nI 0)), (0, .ref h), (1, .int (nI n)), (2, .int sm), (3, .int (nI c'))]) hx hb dX1_relate_73 hl (k := 5) rfl (by decide) rfl (fun ls hl => ?_)
            refine lv_goto (tgt := 21) hx hb dX1_relate_76 (by decide) ?_
            exact ih (t + 1) (by omega) (by omega) H locs ls hw (lv_sub hl [2, 3, 4, 5, 0] rfl)
          · omega
      · refine lv_iconst (v := nI 1) hx hb dX1_relate_39 (by decide) ?_
        refine lv_goto (tgt := 44) hx hb dX1_relate_40 (by decide) ?_
        refine lv_istore (lv' := [(5, .int (nI 1)), (0, .ref h), (1, .int (nI n)), (2, .int sm), (3, .int (nI c')), (4, .int (nI t))]) hx hb dX1_relate_44 hl (by decide) rfl (fun ls hl => ?_)
        refine lv_iload hx hb dX1_relate_46 (lv_at hl 0 rfl) ?_
        refine lv_iload_n hx hb dX1_relate_48 rfl (lv_at hl 3 rfl) ?_
        refine lv_if_eq (tgt := 56) hx hb dX1_relate_49 (by decide) (fun c49 => ?_) (fun c49 => ?_)
        · refine lv_iconst (v := nI 0) hx hb dX1_relate_56 (by decide) ?_
          refine n_ne (tgt := 73) hx hb dX1_relate_57 (by decide) (by omega) (by omega) (fun c57 => ?_) (fun c57 => ?_)
          · have hz : ¬ (if t / 3 = t % 3 then 1 else 0) = rd_fl sm := by rw [if_pos c36]; unfold rd_fl; rw [if_pos c49]; omega
            rw [rd_rel_not σ n c' (rd_fl sm) t hz] at hw
            refine n_inc (lv' := [(4, .int (nI (t + 1))), (5, .int (nI 1)), (0, .ref h), (1, .int (nI n)), (2, .int sm), (3, .int (nI c'))]) hx hb dX1_relate_73 hl (k := 5) rfl (by decide) rfl (fun ls hl => ?_)
            refine lv_goto (tgt := 21) hx hb dX1_relate_76 (by decide) ?_
            exact ih (t + 1) (by omega) (by omega) H locs ls hw (lv_sub hl [2, 3, 4, 5, 0] rfl)
          · omega
        · refine lv_iconst (v := nI 1) hx hb dX1_relate_52 (by decide) ?_
          refine lv_goto (tgt := 57) hx hb dX1_relate_53 (by decide) ?_
          refine n_ne (tgt := 73) hx hb dX1_relate_57 (by decide) (by omega) (by omega) (fun c57 => ?_) (fun c57 => ?_)
          · omega
          · have hz : (if t / 3 = t % 3 then 1 else 0) = rd_fl sm := by rw [if_pos c36]; unfold rd_fl; rw [if_neg c49]
            refine lv_aload_n hx hb dX1_relate_60 rfl (lv_at hl 1 rfl) ?_
            refine mg_pairs E hK hw dX1_relate_61 ?_
            refine lv_bipush (v := nI 9) hx hb dX1_relate_64 (by decide) ?_
            refine lv_iload_n hx hb dX1_relate_66 rfl (lv_at hl 2 rfl) ?_
            refine n_mul hx hb dX1_relate_67 ?_
            refine lv_iload hx hb dX1_relate_68 (lv_at hl 5 rfl) ?_
            refine n_add hx hb dX1_relate_70 ?_
            refine lv_iload_n hx hb dX1_relate_71 rfl (lv_at hl 4 rfl) ?_
            refine ms_pairs c' E hK hw (by omega) rfl dX1_relate_72 (fun H locs hw => ?_)
            rw [Nat.mul_comm 9 n, rd_rel_put σ n c' (rd_fl sm) t hz] at hw
            refine n_inc (lv' := [(4, .int (nI (t + 1))), (5, .int (nI 1)), (0, .ref h), (1, .int (nI n)), (2, .int sm), (3, .int (nI c'))]) hx hb dX1_relate_73 hl (k := 5) rfl (by decide) rfl (fun ls hl => ?_)
            refine lv_goto (tgt := 21) hx hb dX1_relate_76 (by decide) ?_
            exact ih (t + 1) (by omega) (by omega) H locs ls hw (lv_sub hl [2, 3, 4, 5, 0] rfl)
set_option maxHeartbeats 4000000 in
set_option maxRecDepth 100000 in
theorem rd_m_relate (l : Launch) (D : va_G) (cA : ClassId) (h : Nat) (a : Nat → Nat) (σ : rd_St) (q sm c0 : Int32) : rd_MI l yX1_relate cX1_relate 6 (some .int) 1 [.ref h, .int q, .int sm, .int c0] D cA (rd_mw h a cA) σ (fun r u => (∃ n c', rd_okR q c0 n c' ∧ r = 0 ∧ u = rd_rel σ n c' (rd_fl sm) 9) ∨ ((¬ ∃ n c', rd_okR q c0 n c') ∧ r = -1 ∧ u = σ)) := by
  refine rd_entI (by decide) (Nat.le_of_ble_eq_true rfl) ?_
  intro p e s m below meth c A E hK hw ls hl
  have E : rd_E p s m _ meth c cX1_relate 6 (some .int) RX1 A := E
  have hx := E.1
  have hb := E.2.1
  have hl : lv_has ls 6 [(0, .ref h), (1, .int q), (2, .int sm), (3, .int c0)] := hl
  refine lv_aload_n hx hb dX1_relate_0 rfl (lv_at hl 0 rfl) ?_
  refine lv_iload_n hx hb dX1_relate_1 rfl (lv_at hl 1 rfl) ?_
  refine rd_calli (As := [.int q]) (nA := 1) E hK hw (rd_m_isPair l D cA h a σ q) rfl rfl (lw_V q209 q211 qs17 q25 q212) (by decide +kernel) rfl ⟨by decide, by decide⟩ ⟨Nat.zero_le _, Nat.zero_le _⟩ hl.1 rfl (Nat.le_of_ble_eq_true rfl) dX1_relate_2 (fun r u H locs hq hw => ?_)
  obtain ⟨hu, t1, rfl, ht1, hkt1⟩ := hq
  rw [hu] at hw
  refine n_ifeq (tgt := 16) hx hb dX1_relate_5 (by decide) (by omega) (fun c5 => ?_) (fun c5 => ?_)
  · refine lv_iconst (v := -1) hx hb dX1_relate_16 (by decide) ?_
    exact rd_reti E hK hw (Or.inr ⟨fun ⟨n, c', z⟩ => hkt1.mp c5 ⟨n, z.1, z.2.1, z.2.2.2.1⟩, rfl, rfl⟩) dX1_relate_17
  · refine lv_aload_n hx hb dX1_relate_8 rfl (lv_at hl 0 rfl) ?_
    refine lv_iload_n hx hb dX1_relate_9 rfl (lv_at hl 3 rfl) ?_
    refine rd_calli (As := [.int c0]) (nA := 1) E hK hw (rd_m_isCost l D cA h a σ c0) rfl rfl (lw_V q201 q203 qs16 q25 q204) (by decide +kernel) rfl ⟨by decide, by decide⟩ ⟨Nat.zero_le _, Nat.zero_le _⟩ hl.1 rfl (Nat.le_of_ble_eq_true rfl) dX1_relate_10 (fun r u H locs hq hw => ?_)
    obtain ⟨hu, t2, rfl, ht2, hkt2⟩ := hq
    rw [hu] at hw
    refine n_ifne (tgt := 18) hx hb dX1_relate_13 (by decide) (by omega) (fun c13 => ?_) (fun c13 => ?_)
    · obtain ⟨n, hn, hn2, rfl⟩ := Classical.byContradiction (fun q => c5 (hkt1.mpr q))
      obtain ⟨c', hc', rfl⟩ := Classical.byContradiction (fun q => c13 (hkt2.mpr q))
      have hn9 := rd_pq hn hn2
      refine lv_iconst (v := nI 0) hx hb dX1_relate_18 (by decide) ?_
      refine lv_istore (lv' := [(4, .int (nI 0)), (0, .ref h), (1, .int (nI n)), (2, .int sm), (3, .int (nI c'))]) hx hb dX1_relate_19 hl (by decide) rfl (fun ls hl => ?_)
      rw [← rd_rel_0 σ n c' (rd_fl sm)] at hw
      refine rd_mlp_relate (σ := σ) (n := n) (c' := c') (sm := sm) E hK hn9 (fun H locs ls hw hl => ?_) 9 0 (by omega) (by omega) _ _ ls hw (lv_sub hl [1, 2, 3, 4, 0] rfl)
      refine lv_iconst (v := nI 0) hx hb dX1_relate_79 (by decide) ?_
      exact rd_reti E hK hw (Or.inl ⟨n, c', ⟨hn, hn2, hc', rfl, rfl⟩, rfl, rfl⟩) dX1_relate_80
    · refine lv_iconst (v := -1) hx hb dX1_relate_16 (by decide) ?_
      exact rd_reti E hK hw (Or.inr ⟨fun ⟨n, c', z⟩ => hkt2.mp c13 ⟨c', z.2.2.1, z.2.2.2.2⟩, rfl, rfl⟩) dX1_relate_17
set_option maxHeartbeats 4000000 in
set_option maxRecDepth 100000 in
theorem rd_mlp_clear0 {p : Program} {l : Launch} {e : Env} {s : State} {m : MethodId} {args : Array Value} {below : List Frame} {meth : Method} {c : Code} {Q : State → Prop} {D : va_G} {cA : ClassId} {A : Nat → Prop} {h : Nat} {a : Nat → Nat} (E : rd_E p s m args meth c cX1_clear 2 none RX1 A) (hK : va_K D vwCl [(cA, .int)] s) {σ : rd_St} (kk : ∀ (H : Heap) (locs : List Loc) (ls : Array Slot), rd_W D (rd_mw h a cA) A s.heap H locs (rd_clr σ 0 18) → lv_has ls 2 [(0, .ref h)] → W p l e (rd_rm 0) s m args below meth c H locs 0 0 Q (F0 m 21 ls [])) :
    ∀ (f t : Nat), t ≤ 18 → 18 ≤ t + f → ∀ (H : Heap) (locs : List Loc) (ls : Array Slot), rd_W D (rd_mw h a cA) A s.heap H locs (rd_clr σ 0 t) → lv_has ls 2 [(0, .ref h), (1, .int (nI t))] → W p l e (rd_rm 0) s m args below meth c H locs 0 0 Q (F0 m 2 ls []) := by
  have hx := E.1
  have hb := E.2.1
  intro f
  induction f with
  | zero =>
    intro t ht hf H locs ls hw hl
    refine lv_iload_n hx hb dX1_clear_2 rfl (lv_at hl 1 rfl) ?_
    refine lv_bipush (v := nI 18) hx hb dX1_clear_3 (by decide) ?_
    refine n_ge (tgt := 21) hx hb dX1_clear_5 (by decide) (by omega) (by omega) (fun c5 => ?_) (fun c5 => ?_)
    · have e : t = 18 := by omega
      subst e
      exact kk H locs ls hw (lv_sub hl [0] rfl)
    · omega
  | succ f ih =>
    intro t ht hf H locs ls hw hl
    refine lv_iload_n hx hb dX1_clear_2 rfl (lv_at hl 1 rfl) ?_
    refine lv_bipush (v := nI 18) hx hb dX1_clear_3 (by decide) ?_
    refine n_ge (tgt := 21) hx hb dX1_clear_5 (by decide) (by omega) (by omega) (fun c5 => ?_) (fun c5 => ?_)
    · have e : t = 18 := by omega
      subst e
      exact kk H locs ls hw (lv_sub hl [0] rfl)
    · refine lv_aload_n hx hb dX1_clear_8 rfl (lv_at hl 0 rfl) ?_
      refine mg_owns E hK hw dX1_clear_9 ?_
      refine lv_iload_n hx hb dX1_clear_12 rfl (lv_at hl 1 rfl) ?_
      refine lv_iconst (v := nI 0) hx hb dX1_clear_13 (by decide) ?_
      refine ms_owns 0 E hK hw (by omega) rfl dX1_clear_14 (fun H locs hw => ?_)
      rw [rd_clr_put] at hw
      refine n_inc (lv' := [(1, .int (nI (t + 1))), (0, .ref h)]) hx hb dX1_clear_15 hl (k := 1) rfl (by decide) rfl (fun ls hl => ?_)
      refine lv_goto (tgt := 2) hx hb dX1_clear_18 (by decide) ?_
      exact ih (t + 1) (by omega) (by omega) H locs ls hw (lv_sub hl [1, 0] rfl)
set_option maxHeartbeats 4000000 in
set_option maxRecDepth 100000 in
theorem rd_mlp_clear1 {p : Program} {l : Launch} {e : Env} {s : State} {m : MethodId} {args : Array Value} {below : List Frame} {meth : Method} {c : Code} {Q : State → Prop} {D : va_G} {cA : ClassId} {A : Nat → Prop} {h : Nat} {a : Nat → Nat} (E : rd_E p s m args meth c cX1_clear 2 none RX1 A) (hK : va_K D vwCl [(cA, .int)] s) {σ : rd_St} (kk : ∀ (H : Heap) (locs : List Loc) (ls : Array Slot), rd_W D (rd_mw h a cA) A s.heap H locs (rd_clr σ 1 324) → lv_has ls 2 [(0, .ref h)] → W p l e (rd_rm 0) s m args below meth c H locs 0 0 Q (F0 m 43 ls [])) :
    ∀ (f t : Nat), t ≤ 324 → 324 ≤ t + f → ∀ (H : Heap) (locs : List Loc) (ls : Array Slot), rd_W D (rd_mw h a cA) A s.heap H locs (rd_clr σ 1 t) → lv_has ls 2 [(0, .ref h), (1, .int (nI t))] → W p l e (rd_rm 0) s m args below meth c H locs 0 0 Q (F0 m 23 ls []) := by
  have hx := E.1
  have hb := E.2.1
  intro f
  induction f with
  | zero =>
    intro t ht hf H locs ls hw hl
    refine lv_iload_n hx hb dX1_clear_23 rfl (lv_at hl 1 rfl) ?_
    refine lv_sipush (v := nI 324) hx hb dX1_clear_24 (by decide) ?_
    refine n_ge (tgt := 43) hx hb dX1_clear_27 (by decide) (by omega) (by omega) (fun c27 => ?_) (fun c27 => ?_)
    · have e : t = 324 := by omega
      subst e
      exact kk H locs ls hw (lv_sub hl [0] rfl)
    · omega
  | succ f ih =>
    intro t ht hf H locs ls hw hl
    refine lv_iload_n hx hb dX1_clear_23 rfl (lv_at hl 1 rfl) ?_
    refine lv_sipush (v := nI 324) hx hb dX1_clear_24 (by decide) ?_
    refine n_ge (tgt := 43) hx hb dX1_clear_27 (by decide) (by omega) (by omega) (fun c27 => ?_) (fun c27 => ?_)
    · have e : t = 324 := by omega
      subst e
      exact kk H locs ls hw (lv_sub hl [0] rfl)
    · refine lv_aload_n hx hb dX1_clear_30 rfl (lv_at hl 0 rfl) ?_
      refine mg_pairs E hK hw dX1_clear_31 ?_
      refine lv_iload_n hx hb dX1_clear_34 rfl (lv_at hl 1 rfl) ?_
      refine lv_iconst (v := nI 0) hx hb dX1_clear_35 (by decide) ?_
      refine ms_pairs 0 E hK hw (by omega) rfl dX1_clear_36 (fun H locs hw => ?_)
      rw [rd_clr_put] at hw
      refine n_inc (lv' := [(1, .int (nI (t + 1))), (0, .ref h)]) hx hb dX1_clear_37 hl (k := 1) rfl (by decide) rfl (fun ls hl => ?_)
      refine lv_goto (tgt := 23) hx hb dX1_clear_40 (by decide) ?_
      exact ih (t + 1) (by omega) (by omega) H locs ls hw (lv_sub hl [1, 0] rfl)
set_option maxHeartbeats 4000000 in
set_option maxRecDepth 100000 in
theorem rd_m_clear (l : Launch) (D : va_G) (cA : ClassId) (h : Nat) (a : Nat → Nat) (σ : rd_St) : rd_MV l yX1_clear cX1_clear 2 none 0 [.ref h] D cA (rd_mw h a cA) σ (fun u => u = rd_clr (rd_clr σ 0 18) 1 324) := by
  refine rd_entV (by decide) (Nat.le_of_ble_eq_true rfl) ?_
  intro p e s m below meth c A E hK hw ls hl
  have E : rd_E p s m _ meth c cX1_clear 2 none RX1 A := E
  have hx := E.1
  have hb := E.2.1
  have hl : lv_has ls 2 [(0, .ref h)] := hl
  refine lv_iconst (v := nI 0) hx hb dX1_clear_0 (by decide) ?_
  refine lv_istore_n (lv' := [(1, .int (nI 0)), (0, .ref h)]) hx hb dX1_clear_1 rfl hl (by decide) rfl (fun ls hl => ?_)
  rw [← rd_clr_0 σ 0] at hw
  refine rd_mlp_clear0 (σ := σ) E hK (fun H locs ls hw hl => ?_) 18 0 (by omega) (by omega) _ _ ls hw (lv_sub hl [1, 0] rfl)
  refine lv_iconst (v := nI 0) hx hb dX1_clear_21 (by decide) ?_
  refine lv_istore_n (lv' := [(1, .int (nI 0)), (0, .ref h)]) hx hb dX1_clear_22 rfl hl (by decide) rfl (fun ls hl => ?_)
  rw [← rd_clr_0 (rd_clr σ 0 18) 1] at hw
  refine rd_mlp_clear1 (σ := rd_clr σ 0 18) E hK (fun H locs ls hw hl => ?_) 324 0 (by omega) (by omega) _ _ ls hw (lv_sub hl [1, 0] rfl)
  exact rd_retv E hK hw (rfl) dX1_clear_43
end
section
set_option maxRecDepth 100000
set_option maxHeartbeats 4000000 in
set_option maxRecDepth 100000 in
theorem rd_mlp_digit {p : Program} {l : Launch} {e : Env} {s : State} {m : MethodId} {args : Array Value} {below : List Frame} {meth : Method} {c : Code} {Q : State → Prop} {D : va_G} {cA : ClassId} {A : Nat → Prop} {h : Nat} {a : Nat → Nat} (E : rd_E p s m args meth c cX1_digit 5 (some .int) RX1 A) (hK : va_K D vwCl [(cA, .int)] s) {σ : rd_St} {H : Heap} {locs : List Loc} (hw : rd_W D (rd_mw h a cA) A s.heap H locs σ) {b i : Nat} (hbb : b < 2 ^ 31) (hi : i ≤ 5) (kk : ∀ (ls : Array Slot), lv_has ls 5 [(0, .ref h), (1, .int (nI b)), (2, .int (nI i)), (3, .int (nI (b / 3 ^ (5 - i))))] → W p l e (rd_rm 0) s m args below meth c H locs 0 0 Q (F0 m 21 ls [])) :
    ∀ (f : Nat), i + f ≤ 5 → ∀ (ls : Array Slot), lv_has ls 5 [(0, .ref h), (1, .int (nI b)), (2, .int (nI i)), (3, .int (nI (b / 3 ^ (5 - (i + f))))), (4, .int (nI (i + f)))] → W p l e (rd_rm 0) s m args below meth c H locs 0 0 Q (F0 m 5 ls []) := by
  have hx := E.1
  have hb := E.2.1
  intro f
  induction f with
  | zero =>
    intro hf ls hl
    refine lv_iload hx hb dX1_digit_5 (lv_at hl 4 rfl) ?_
    refine lv_iload_n hx hb dX1_digit_7 rfl (lv_at hl 2 rfl) ?_
    refine n_le (tgt := 21) hx hb dX1_digit_8 (by decide) (by omega) (by omega) (fun c8 => ?_) (fun c8 => ?_)
    · exact kk ls (lv_sub hl [0, 1, 2, 3] rfl)
    · omega
  | succ f ih =>
    intro hf ls hl
    refine lv_iload hx hb dX1_digit_5 (lv_at hl 4 rfl) ?_
    refine lv_iload_n hx hb dX1_digit_7 rfl (lv_at hl 2 rfl) ?_
    refine n_le (tgt := 21) hx hb dX1_digit_8 (by decide) (by omega) (by omega) (fun c8 => ?_) (fun c8 => ?_)
    · omega
    · have hd := Nat.div_le_self b (3 ^ (5 - (i + (f + 1))))
      refine lv_iload_n hx hb dX1_digit_11 rfl (lv_at hl 3 rfl) ?_
      refine lv_iconst (v := nI 3) hx hb dX1_digit_12 (by decide) ?_
      refine n_div hx hb dX1_digit_13 (by omega) (by omega) (by omega) ?_
      refine n_as (congrArg nI (by rw [Nat.div_div_eq_div_mul, ← Nat.pow_succ, show (5 - (i + (f + 1))).succ = 5 - (i + f) by omega])) ?_
      refine lv_istore_n (lv' := [(3, .int (nI (b / 3 ^ (5 - (i + f))))), (0, .ref h), (1, .int (nI b)), (2, .int (nI i)), (4, .int (nI (i + (f + 1))))]) hx hb dX1_digit_14 rfl hl (by decide) rfl (fun ls hl => ?_)
      refine n_dec (x := i + f) (lv' := [(4, .int (nI (i + f))), (3, .int (nI (b / 3 ^ (5 - (i + f))))), (0, .ref h), (1, .int (nI b)), (2, .int (nI i))]) hx hb dX1_digit_15 hl (k := 4) rfl (by decide) rfl (fun ls hl => ?_)
      refine lv_goto (tgt := 5) hx hb dX1_digit_18 (by decide) ?_
      exact ih (by omega) ls (lv_sub hl [2, 3, 4, 1, 0] rfl)
set_option maxHeartbeats 4000000 in
set_option maxRecDepth 100000 in
theorem rd_m_digit (l : Launch) (D : va_G) (cA : ClassId) (h : Nat) (a : Nat → Nat) (σ : rd_St) (b i : Nat) (hbb : b < 2 ^ 31) (hi : i ≤ 5) : rd_MI l yX1_digit cX1_digit 5 (some .int) 0 [.ref h, .int (nI b), .int (nI i)] D cA (rd_mw h a cA) σ (fun r u => u = σ ∧ r = nI (rd_dig b i)) := by
  refine rd_entI (by decide) (Nat.le_of_ble_eq_true rfl) ?_
  intro p e s m below meth c A E hK hw ls hl
  have E : rd_E p s m _ meth c cX1_digit 5 (some .int) RX1 A := E
  have hx := E.1
  have hb := E.2.1
  have hl : lv_has ls 5 [(0, .ref h), (1, .int (nI b)), (2, .int (nI i))] := hl
  refine lv_iload_n hx hb dX1_digit_0 rfl (lv_at hl 1 rfl) ?_
  refine lv_istore_n (lv' := [(3, .int (nI b)), (0, .ref h), (1, .int (nI b)), (2, .int (nI i))]) hx hb dX1_digit_1 rfl hl (by decide) rfl (fun ls hl => ?_)
  refine lv_iconst (v := nI 5) hx hb dX1_digit_2 (by decide) ?_
  refine lv_istore (lv' := [(4, .int (nI 5)), (3, .int (nI b)), (0, .ref h), (1, .int (nI b)), (2, .int (nI i))]) hx hb dX1_digit_3 hl (by decide) rfl (fun ls hl => ?_)
  obtain ⟨f, hf⟩ : ∃ f, 5 = i + f := ⟨5 - i, by omega⟩
  have e : b = b / 3 ^ (5 - (i + f)) := by rw [← hf]; simp
  have hl := lv_sub hl [2, 3, 4, 1, 0] rfl
  have hl2 : lv_has ls 5 [(0, .ref h), (1, .int (nI b)), (2, .int (nI i)), (3, .int (nI (b / 3 ^ (5 - (i + f))))), (4, .int (nI (i + f)))] := by rw [← hf, show 5 - 5 = 0 from rfl, Nat.pow_zero, Nat.div_one]; exact hl
  refine rd_mlp_digit (σ := σ) (b := b) (i := i) E hK hw hbb hi (fun ls hl => ?_) f (by omega) ls hl2
  have hd := Nat.div_le_self b (3 ^ (5 - i))
  refine lv_iload_n hx hb dX1_digit_21 rfl (lv_at hl 3 rfl) ?_
  refine lv_iconst (v := nI 3) hx hb dX1_digit_22 (by decide) ?_
  refine n_rem hx hb dX1_digit_23 (by omega) (by omega) (by omega) ?_
  exact rd_reti E hK hw (⟨rfl, rfl⟩) dX1_digit_24
set_option maxHeartbeats 4000000 in
set_option maxRecDepth 100000 in
theorem rd_mlp_cost1 {p : Program} {l : Launch} {e : Env} {s : State} {m : MethodId} {args : Array Value} {below : List Frame} {meth : Method} {c : Code} {Q : State → Prop} {D : va_G} {cA : ClassId} {A : Nat → Prop} {h : Nat} {a : Nat → Nat} (E : rd_E p s m args meth c cX1_cost 9 (some .int) RX1 A) (hK : va_K D vwCl [(cA, .int)] s) {σ : rd_St} {b st n : Nat} (hbb : b < 2 ^ 31) (hn : st + n < 6) (hC : rd_Cs σ) (hs0 : rd_RG (σ 0) (σ 1) (rd_dig b) st (6 - st) n ≤ n * 180) (ho : rd_rl (σ 0 ((st + n) * 3 + rd_dig b (st + n))) ≤ 30) (kb : ∀ (H : Heap) (locs : List Loc) (ls : Array Slot), ¬ rd_SP (σ 0) (σ 1) 0 (rd_dig b) st (6 - st) < 100000 → rd_W D (rd_mw h a cA) A s.heap H locs σ → W p l e (rd_rm 1) s m args below meth c H locs 0 0 Q (F0 m 111 ls [])) (kk : ∀ (H : Heap) (locs : List Loc) (ls : Array Slot), rd_RG (σ 0) (σ 1) (rd_dig b) st (6 - st) (n + 1) ≤ (n + 1) * 180 → rd_W D (rd_mw h a cA) A s.heap H locs σ → lv_has ls 9 [(0, .ref h), (1, .int (nI b)), (2, .int (nI st)), (3, .int (nI (rd_RG (σ 0) (σ 1) (rd_dig b) st (6 - st) n + (rd_rl (σ 0 ((st + n) * 3 + rd_dig b (st + n))) + rd_RI (σ 1) (rd_dig b) (st + n) (5 - (st + n)))))), (4, .int (nI (st + n)))] → W p l e (rd_rm 1) s m args below meth c H locs 0 0 Q (F0 m 125 ls [])) :
    ∀ (f g : Nat), st + n + 1 + g ≤ 6 → 6 ≤ st + n + 1 + g + f → rd_RI (σ 1) (rd_dig b) (st + n) g ≤ g * 30 → ∀ (H : Heap) (locs : List Loc) (ls : Array Slot), rd_W D (rd_mw h a cA) A s.heap H locs σ → lv_has ls 9 [(0, .ref h), (1, .int (nI b)), (2, .int (nI st)), (3, .int (nI (rd_RG (σ 0) (σ 1) (rd_dig b) st (6 - st) n + (rd_rl (σ 0 ((st + n) * 3 + rd_dig b (st + n))) + rd_RI (σ 1) (rd_dig b) (st + n) g)))), (4, .int (nI (st + n))), (5, .int (nI (rd_dig b (st + n)))), (6, .int (nI (st + n + 1 + g)))] → W p l e (rd_rm 1) s m args below meth c H locs 0 0 Q (F0 m 62 ls []) := by
  have hx := E.1
  have hb := E.2.1
  intro f
  induction f with
  | zero =>
    intro g hm hf hri H locs ls hw hl
    refine lv_iload hx hb dX1_cost_62 (lv_at hl 6 rfl) ?_
    refine lv_bipush (v := nI 6) hx hb dX1_cost_64 (by decide) ?_
    refine n_ge (tgt := 125) hx hb dX1_cost_66 (by decide) (by omega) (by omega) (fun c66 => ?_) (fun c66 => ?_)
    · have e : g = 5 - (st + n) := by omega
      have e2 : rd_RG (σ 0) (σ 1) (rd_dig b) st (6 - st) (n + 1) = rd_RG (σ 0) (σ 1) (rd_dig b) st (6 - st) n + (rd_rl (σ 0 ((st + n) * 3 + rd_dig b (st + n))) + rd_RI (σ 1) (rd_dig b) (st + n) (6 - st - 1 - n)) := rfl
      rw [show 6 - st - 1 - n = g by omega] at e2
      have e3 : rd_RG (σ 0) (σ 1) (rd_dig b) st (6 - st) (n + 1) ≤ (n + 1) * 180 := by omega
      subst e
      exact kk H locs ls e3 hw (lv_sub hl [0, 1, 2, 3, 4] rfl)
    · omega
  | succ f ih =>
    intro g hm hf hri H locs ls hw hl
    refine lv_iload hx hb dX1_cost_62 (lv_at hl 6 rfl) ?_
    refine lv_bipush (v := nI 6) hx hb dX1_cost_64 (by decide) ?_
    refine n_ge (tgt := 125) hx hb dX1_cost_66 (by decide) (by omega) (by omega) (fun c66 => ?_) (fun c66 => ?_)
    · have e : g = 5 - (st + n) := by omega
      have e2 : rd_RG (σ 0) (σ 1) (rd_dig b) st (6 - st) (n + 1) = rd_RG (σ 0) (σ 1) (rd_dig b) st (6 - st) n + (rd_rl (σ 0 ((st + n) * 3 + rd_dig b (st + n))) + rd_RI (σ 1) (rd_dig b) (st + n) (6 - st - 1 - n)) := rfl
      rw [show 6 - st - 1 - n = g by omega] at e2
      have e3 : rd_RG (σ 0) (σ 1) (rd_dig b) st (6 - st) (n + 1) ≤ (n + 1) * 180 := by omega
      subst e
      exact kk H locs ls e3 hw (lv_sub hl [0, 1, 2, 3, 4] rfl)
    · refine lv_aload_n hx hb dX1_cost_69 rfl (lv_at hl 0 rfl) ?_
      refine lv_iload_n hx hb dX1_cost_70 rfl (lv_at hl 1 rfl) ?_
      refine lv_iload hx hb dX1_cost_71 (lv_at hl 6 rfl) ?_
      refine rd_calli (As := [.int (nI b), .int (nI (st + n + 1 + g))]) (nA := 2) E hK hw (rd_m_digit l D cA h a σ b (st + n + 1 + g) hbb (by omega)) rfl rfl (lw_V q229 q231 qs19 q25 q232) (by decide +kernel) rfl ⟨by decide, by decide⟩ ⟨Nat.zero_le _, Nat.zero_le _⟩ hl.1 rfl (Nat.le_of_ble_eq_true rfl) dX1_cost_73 (fun r u H locs hq hw => ?_)
      obtain ⟨hu, rfl⟩ := hq
      rw [hu] at hw
      have hd1 := rd_dig_lt b (st + n)
      have hd2 := rd_dig_lt b (st + n + 1 + g)
      have hc := hC.2 (((st + n) * 6 + (st + n + 1 + g)) * 9 + rd_dig b (st + n) * 3 + rd_dig b (st + n + 1 + g))
      refine lv_istore (lv' := [(7, .int (nI (rd_dig b (st + n + 1 + g)))), (0, .ref h), (1, .int (nI b)), (2, .int (nI st)), (3, .int (nI (rd_RG (σ 0) (σ 1) (rd_dig b) st (6 - st) n + (rd_rl (σ 0 ((st + n) * 3 + rd_dig b (st + n))) + rd_RI (σ 1) (rd_dig b) (st + n) g)))), (4, .int (nI (st + n))), (5, .int (nI (rd_dig b (st + n)))), (6, .int (nI (st + n + 1 + g)))]) hx hb dX1_cost_76 hl (by decide) rfl (fun ls hl => ?_)
      refine lv_aload_n hx hb dX1_cost_78 rfl (lv_at hl 1 rfl) ?_
      refine mg_pairs E hK hw dX1_cost_79 ?_
      refine lv_bipush (v := nI 9) hx hb dX1_cost_82 (by decide) ?_
      refine lv_bipush (v := nI 6) hx hb dX1_cost_84 (by decide) ?_
      refine lv_iload hx hb dX1_cost_86 (lv_at hl 5 rfl) ?_
      refine n_mul hx hb dX1_cost_88 ?_
      refine lv_iload hx hb dX1_cost_89 (lv_at hl 7 rfl) ?_
      refine n_add hx hb dX1_cost_91 ?_
      refine n_mul hx hb dX1_cost_92 ?_
      refine lv_iconst (v := nI 3) hx hb dX1_cost_93 (by decide) ?_
      refine lv_iload hx hb dX1_cost_94 (lv_at hl 6 rfl) ?_
      refine n_mul hx hb dX1_cost_96 ?_
      refine n_add hx hb dX1_cost_97 ?_
      refine lv_iload hx hb dX1_cost_98 (lv_at hl 0 rfl) ?_
      refine n_add hx hb dX1_cost_100 ?_
      refine ml_pairs E hK hw (by omega) dX1_cost_101 ?_
      refine n_as (congrArg nI (show σ 1 (((9 * ((6 * (st + n)) + (st + n + 1 + g))) + (3 * (rd_dig b (st + n)))) + (rd_dig b (st + n + 1 + g))) = σ 1 (((st + n) * 6 + (st + n + 1 + g)) * 9 + rd_dig b (st + n) * 3 + rd_dig b (st + n + 1 + g)) from congrArg (σ 1) (by omega))) ?_
      refine lv_istore (lv' := [(8, .int (nI (σ 1 (((st + n) * 6 + (st + n + 1 + g)) * 9 + rd_dig b (st + n) * 3 + rd_dig b (st + n + 1 + g))))), (7, .int (nI (rd_dig b (st + n + 1 + g)))), (0, .ref h), (1, .int (nI b)), (2, .int (nI st)), (3, .int (nI (rd_RG (σ 0) (σ 1) (rd_dig b) st (6 - st) n + (rd_rl (σ 0 ((st + n) * 3 + rd_dig b (st + n))) + rd_RI (σ 1) (rd_dig b) (st + n) g)))), (4, .int (nI (st + n))), (5, .int (nI (rd_dig b (st + n)))), (6, .int (nI (st + n + 1 + g)))]) hx hb dX1_cost_102 hl (by decide) rfl (fun ls hl => ?_)
      refine lv_iload hx hb dX1_cost_104 (lv_at hl 0 rfl) ?_
      refine lv_bipush (v := nI 99) hx hb dX1_cost_106 (by decide) ?_
      refine n_ne (tgt := 114) hx hb dX1_cost_108 (by decide) (by omega) (by omega) (fun c108 => ?_) (fun c108 => ?_)
      · refine lv_iload_n hx hb dX1_cost_114 rfl (lv_at hl 5 rfl) ?_
        refine lv_iload hx hb dX1_cost_115 (lv_at hl 0 rfl) ?_
        refine n_add hx hb dX1_cost_117 ?_
        refine lv_istore_n (lv' := [(3, .int (nI ((rd_RG (σ 0) (σ 1) (rd_dig b) st (6 - st) n + (rd_rl (σ 0 ((st + n) * 3 + rd_dig b (st + n))) + rd_RI (σ 1) (rd_dig b) (st + n) g)) + (σ 1 (((st + n) * 6 + (st + n + 1 + g)) * 9 + rd_dig b (st + n) * 3 + rd_dig b (st + n + 1 + g)))))), (8, .int (nI (σ 1 (((st + n) * 6 + (st + n + 1 + g)) * 9 + rd_dig b (st + n) * 3 + rd_dig b (st + n + 1 + g))))), (7, .int (nI (rd_dig b (st + n + 1 + g)))), (0, .ref h), (1, .int (nI b)), (2, .int (nI st)), (4, .int (nI (st + n))), (5, .int (nI (rd_dig b (st + n)))), (6, .int (nI (st + n + 1 + g)))]) hx hb dX1_cost_118 rfl hl (by decide) rfl (fun ls hl => ?_)
        have er : rd_rl (σ 1 (((st + n) * 6 + (st + n + 1 + g)) * 9 + rd_dig b (st + n) * 3 + rd_dig b (st + n + 1 + g))) = σ 1 (((st + n) * 6 + (st + n + 1 + g)) * 9 + rd_dig b (st + n) * 3 + rd_dig b (st + n + 1 + g)) := if_neg c108
        have e2 : rd_RI (σ 1) (rd_dig b) (st + n) (g + 1) = rd_RI (σ 1) (rd_dig b) (st + n) g + rd_rl (σ 1 (((st + n) * 6 + (st + n + 1 + g)) * 9 + rd_dig b (st + n) * 3 + rd_dig b (st + n + 1 + g))) := rfl
        rw [er] at e2
        have e3 : (rd_RG (σ 0) (σ 1) (rd_dig b) st (6 - st) n + (rd_rl (σ 0 ((st + n) * 3 + rd_dig b (st + n))) + rd_RI (σ 1) (rd_dig b) (st + n) g)) + σ 1 (((st + n) * 6 + (st + n + 1 + g)) * 9 + rd_dig b (st + n) * 3 + rd_dig b (st + n + 1 + g)) = rd_RG (σ 0) (σ 1) (rd_dig b) st (6 - st) n + (rd_rl (σ 0 ((st + n) * 3 + rd_dig b (st + n))) + rd_RI (σ 1) (rd_dig b) (st + n) (g + 1)) := by omega
        rw [e3] at hl
        refine n_inc (lv' := [(6, .int (nI ((st + n + 1 + g) + 1))), (3, .int (nI (rd_RG (σ 0) (σ 1) (rd_dig b) st (6 - st) n + (rd_rl (σ 0 ((st + n) * 3 + rd_dig b (st + n))) + rd_RI (σ 1) (rd_dig b) (st + n) (g + 1))))), (8, .int (nI (σ 1 (((st + n) * 6 + (st + n + 1 + g)) * 9 + rd_dig b (st + n) * 3 + rd_dig b (st + n + 1 + g))))), (7, .int (nI (rd_dig b (st + n + 1 + g)))), (0, .ref h), (1, .int (nI b)), (2, .int (nI st)), (4, .int (nI (st + n))), (5, .int (nI (rd_dig b (st + n))))]) hx hb dX1_cost_119 hl (k := 8) rfl (by decide) rfl (fun ls hl => ?_)
        refine lv_goto (tgt := 62) hx hb dX1_cost_122 (by decide) ?_
        exact ih (g + 1) (by omega) (by omega) (by omega) H locs ls hw (lv_sub hl [4, 5, 6, 1, 7, 8, 0] rfl)
      · exact kb H locs ls (rd_bar2 (by omega) c108) hw
set_option maxHeartbeats 4000000 in
set_option maxRecDepth 100000 in
theorem rd_mlp_cost2 {p : Program} {l : Launch} {e : Env} {s : State} {m : MethodId} {args : Array Value} {below : List Frame} {meth : Method} {c : Code} {Q : State → Prop} {D : va_G} {cA : ClassId} {A : Nat → Prop} {h : Nat} {a : Nat → Nat} (E : rd_E p s m args meth c cX1_cost 9 (some .int) RX1 A) (hK : va_K D vwCl [(cA, .int)] s) {σ : rd_St} {b st : Nat} (hbb : b < 2 ^ 31) (hst : st ≤ 5) (hC : rd_Cs σ) (kb : ∀ (H : Heap) (locs : List Loc) (ls : Array Slot), ¬ rd_SP (σ 0) (σ 1) 0 (rd_dig b) st (6 - st) < 100000 → rd_W D (rd_mw h a cA) A s.heap H locs σ → W p l e (rd_rm 1) s m args below meth c H locs 0 0 Q (F0 m 38 ls [])) (kb2 : ∀ (H : Heap) (locs : List Loc) (ls : Array Slot), ¬ rd_SP (σ 0) (σ 1) 0 (rd_dig b) st (6 - st) < 100000 → rd_W D (rd_mw h a cA) A s.heap H locs σ → W p l e (rd_rm 1) s m args below meth c H locs 0 0 Q (F0 m 111 ls [])) (kk : ∀ (H : Heap) (locs : List Loc) (ls : Array Slot), rd_SP (σ 0) (σ 1) 0 (rd_dig b) st (6 - st) < 100000 → rd_W D (rd_mw h a cA) A s.heap H locs σ → lv_has ls 9 [(0, .ref h), (1, .int (nI b)), (2, .int (nI st)), (3, .int (nI (rd_RG (σ 0) (σ 1) (rd_dig b) st (6 - st) (6 - st))))] → W p l e (rd_rm 1) s m args below meth c H locs 0 0 Q (F0 m 131 ls [])) :
    ∀ (f n : Nat), st + n ≤ 6 → 6 ≤ st + n + f → rd_RG (σ 0) (σ 1) (rd_dig b) st (6 - st) n ≤ n * 180 → ∀ (H : Heap) (locs : List Loc) (ls : Array Slot), rd_W D (rd_mw h a cA) A s.heap H locs σ → lv_has ls 9 [(0, .ref h), (1, .int (nI b)), (2, .int (nI st)), (3, .int (nI (rd_RG (σ 0) (σ 1) (rd_dig b) st (6 - st) n))), (4, .int (nI (st + n)))] → W p l e (rd_rm 1) s m args below meth c H locs 0 0 Q (F0 m 5 ls []) := by
  have hx := E.1
  have hb := E.2.1
  intro f
  induction f with
  | zero =>
    intro n hn hf hs0 H locs ls hw hl
    refine lv_iload hx hb dX1_cost_5 (lv_at hl 4 rfl) ?_
    refine lv_bipush (v := nI 6) hx hb dX1_cost_7 (by decide) ?_
    refine n_ge (tgt := 131) hx hb dX1_cost_9 (by decide) (by omega) (by omega) (fun c9 => ?_) (fun c9 => ?_)
    · have e : n = 6 - st := by omega
      subst e
      have hT := hs0
      rw [rd_RG_SP] at hT
      exact kk H locs ls (by omega) hw (lv_sub hl [0, 1, 2, 3] rfl)
    · omega
  | succ f ih =>
    intro n hn hf hs0 H locs ls hw hl
    refine lv_iload hx hb dX1_cost_5 (lv_at hl 4 rfl) ?_
    refine lv_bipush (v := nI 6) hx hb dX1_cost_7 (by decide) ?_
    refine n_ge (tgt := 131) hx hb dX1_cost_9 (by decide) (by omega) (by omega) (fun c9 => ?_) (fun c9 => ?_)
    · have e : n = 6 - st := by omega
      subst e
      have hT := hs0
      rw [rd_RG_SP] at hT
      exact kk H locs ls (by omega) hw (lv_sub hl [0, 1, 2, 3] rfl)
    · refine lv_aload_n hx hb dX1_cost_12 rfl (lv_at hl 0 rfl) ?_
      refine lv_iload_n hx hb dX1_cost_13 rfl (lv_at hl 1 rfl) ?_
      refine lv_iload hx hb dX1_cost_14 (lv_at hl 4 rfl) ?_
      refine rd_calli (As := [.int (nI b), .int (nI (st + n))]) (nA := 2) E hK hw (rd_m_digit l D cA h a σ b (st + n) hbb (by omega)) rfl rfl (lw_V q229 q231 qs19 q25 q232) (by decide +kernel) rfl ⟨by decide, by decide⟩ ⟨Nat.zero_le _, Nat.zero_le _⟩ hl.1 rfl (Nat.le_of_ble_eq_true rfl) dX1_cost_16 (fun r u H locs hq hw => ?_)
      obtain ⟨hu, rfl⟩ := hq
      rw [hu] at hw
      have hd1 := rd_dig_lt b (st + n)
      have hc := hC.1 ((st + n) * 3 + rd_dig b (st + n))
      refine lv_istore (lv' := [(5, .int (nI (rd_dig b (st + n)))), (0, .ref h), (1, .int (nI b)), (2, .int (nI st)), (3, .int (nI (rd_RG (σ 0) (σ 1) (rd_dig b) st (6 - st) n))), (4, .int (nI (st + n)))]) hx hb dX1_cost_19 hl (by decide) rfl (fun ls hl => ?_)
      refine lv_aload_n hx hb dX1_cost_21 rfl (lv_at hl 1 rfl) ?_
      refine mg_owns E hK hw dX1_cost_22 ?_
      refine lv_iconst (v := nI 3) hx hb dX1_cost_25 (by decide) ?_
      refine lv_iload hx hb dX1_cost_26 (lv_at hl 5 rfl) ?_
      refine n_mul hx hb dX1_cost_28 ?_
      refine lv_iload hx hb dX1_cost_29 (lv_at hl 0 rfl) ?_
      refine n_add hx hb dX1_cost_31 ?_
      refine ml_owns E hK hw (by omega) dX1_cost_32 ?_
      refine n_as (congrArg nI (show σ 0 ((3 * (st + n)) + (rd_dig b (st + n))) = σ 0 ((st + n) * 3 + rd_dig b (st + n)) from congrArg (σ 0) (by omega))) ?_
      refine lv_bipush (v := nI 99) hx hb dX1_cost_33 (by decide) ?_
      refine n_ne (tgt := 41) hx hb dX1_cost_35 (by decide) (by omega) (by omega) (fun c35 => ?_) (fun c35 => ?_)
      · have er : rd_rl (σ 0 ((st + n) * 3 + rd_dig b (st + n))) = σ 0 ((st + n) * 3 + rd_dig b (st + n)) := if_neg c35
        refine lv_iload_n hx hb dX1_cost_41 rfl (lv_at hl 4 rfl) ?_
        refine lv_aload_n hx hb dX1_cost_42 rfl (lv_at hl 1 rfl) ?_
        refine mg_owns E hK hw dX1_cost_43 ?_
        refine lv_iconst (v := nI 3) hx hb dX1_cost_46 (by decide) ?_
        refine lv_iload hx hb dX1_cost_47 (lv_at hl 5 rfl) ?_
        refine n_mul hx hb dX1_cost_49 ?_
        refine lv_iload hx hb dX1_cost_50 (lv_at hl 0 rfl) ?_
        refine n_add hx hb dX1_cost_52 ?_
        refine ml_owns E hK hw (by omega) dX1_cost_53 ?_
        refine n_as (congrArg nI (show σ 0 ((3 * (st + n)) + (rd_dig b (st + n))) = σ 0 ((st + n) * 3 + rd_dig b (st + n)) from congrArg (σ 0) (by omega))) ?_
        refine n_as (congrArg nI (show σ 0 ((st + n) * 3 + rd_dig b (st + n)) = rd_rl (σ 0 ((st + n) * 3 + rd_dig b (st + n))) from er.symm)) ?_
        refine n_add hx hb dX1_cost_54 ?_
        refine lv_istore_n (lv' := [(3, .int (nI ((rd_RG (σ 0) (σ 1) (rd_dig b) st (6 - st) n) + (rd_rl (σ 0 ((st + n) * 3 + rd_dig b (st + n))))))), (5, .int (nI (rd_dig b (st + n)))), (0, .ref h), (1, .int (nI b)), (2, .int (nI st)), (4, .int (nI (st + n)))]) hx hb dX1_cost_55 rfl hl (by decide) rfl (fun ls hl => ?_)
        refine lv_iload hx hb dX1_cost_56 (lv_at hl 5 rfl) ?_
        refine lv_iconst (v := nI 1) hx hb dX1_cost_58 (by decide) ?_
        refine n_add hx hb dX1_cost_59 ?_
        refine lv_istore (lv' := [(6, .int (nI ((st + n) + 1))), (3, .int (nI ((rd_RG (σ 0) (σ 1) (rd_dig b) st (6 - st) n) + (rd_rl (σ 0 ((st + n) * 3 + rd_dig b (st + n))))))), (5, .int (nI (rd_dig b (st + n)))), (0, .ref h), (1, .int (nI b)), (2, .int (nI st)), (4, .int (nI (st + n)))]) hx hb dX1_cost_60 hl (by decide) rfl (fun ls hl => ?_)
        refine rd_mlp_cost1 (σ := σ) (b := b) (st := st) (n := n) E hK hbb (by omega) hC hs0 (by omega) kb2 (fun H locs ls hs1 hw hl => ?_) 6 0 (by omega) (by omega) (Nat.le_refl 0) H locs ls hw (lv_sub hl [3, 4, 5, 1, 6, 2, 0] rfl)
        have e2 : rd_RG (σ 0) (σ 1) (rd_dig b) st (6 - st) (n + 1) = rd_RG (σ 0) (σ 1) (rd_dig b) st (6 - st) n + (rd_rl (σ 0 ((st + n) * 3 + rd_dig b (st + n))) + rd_RI (σ 1) (rd_dig b) (st + n) (6 - st - 1 - n)) := rfl
        rw [show 6 - st - 1 - n = 5 - (st + n) by omega] at e2
        rw [← e2] at hl
        refine n_inc (lv' := [(4, .int (nI ((st + n) + 1))), (0, .ref h), (1, .int (nI b)), (2, .int (nI st)), (3, .int (nI (rd_RG (σ 0) (σ 1) (rd_dig b) st (6 - st) (n + 1))))]) hx hb dX1_cost_125 hl (k := 4) rfl (by decide) rfl (fun ls hl => ?_)
        refine lv_goto (tgt := 5) hx hb dX1_cost_128 (by decide) ?_
        exact ih (n + 1) (by omega) (by omega) hs1 H locs ls hw (lv_sub hl [1, 2, 3, 4, 0] rfl)
      · exact kb H locs ls (rd_bar1 (by omega) c35) hw
set_option maxHeartbeats 4000000 in
set_option maxRecDepth 100000 in
theorem rd_m_cost (l : Launch) (D : va_G) (cA : ClassId) (h : Nat) (a : Nat → Nat) (σ : rd_St) (b st : Nat) (hbb : b < 2 ^ 31) (hst : st ≤ 5) (hC : rd_Cs σ) : rd_MI l yX1_cost cX1_cost 9 (some .int) 1 [.ref h, .int (nI b), .int (nI st)] D cA (rd_mw h a cA) σ (fun r u => u = σ ∧ r = rd_an (rd_Fo (σ 0) (σ 1) st b)) := by
  refine rd_entI (by decide) (Nat.le_of_ble_eq_true rfl) ?_
  intro p e s m below meth c A E hK hw ls hl
  have E : rd_E p s m _ meth c cX1_cost 9 (some .int) RX1 A := E
  have hx := E.1
  have hb := E.2.1
  have hl : lv_has ls 9 [(0, .ref h), (1, .int (nI b)), (2, .int (nI st))] := hl
  refine lv_iconst (v := nI 0) hx hb dX1_cost_0 (by decide) ?_
  refine lv_istore_n (lv' := [(3, .int (nI 0)), (0, .ref h), (1, .int (nI b)), (2, .int (nI st))]) hx hb dX1_cost_1 rfl hl (by decide) rfl (fun ls hl => ?_)
  refine lv_iload_n hx hb dX1_cost_2 rfl (lv_at hl 3 rfl) ?_
  refine lv_istore (lv' := [(4, .int (nI st)), (3, .int (nI 0)), (0, .ref h), (1, .int (nI b)), (2, .int (nI st))]) hx hb dX1_cost_3 hl (by decide) rfl (fun ls hl => ?_)
  refine rd_mlp_cost2 (σ := σ) (b := b) (st := st) E hK hbb hst hC (fun H locs ls hT hw => ?_) (fun H locs ls hT hw => ?_) (fun H locs ls hT hw hl => ?_) 6 0 (by omega) (by omega) (Nat.le_refl 0) _ _ ls hw (lv_sub hl [2, 3, 4, 1, 0] rfl)
  · refine lv_bipush (v := -4) hx hb dX1_cost_38 (by decide) ?_
    exact rd_reti E hK hw (⟨rfl, by rw [rd_Fo_eq, rd_an_min, rd_an_ge hT]⟩) dX1_cost_40
  · refine lv_bipush (v := -4) hx hb dX1_cost_111 (by decide) ?_
    exact rd_reti E hK hw (⟨rfl, by rw [rd_Fo_eq, rd_an_min, rd_an_ge hT]⟩) dX1_cost_113
  · refine lv_iload_n hx hb dX1_cost_131 rfl (lv_at hl 3 rfl) ?_
    exact rd_reti E hK hw (⟨rfl, by rw [rd_Fo_eq, rd_an_min, rd_an_lt hT, rd_RG_SP]⟩) dX1_cost_132
set_option maxHeartbeats 4000000 in
set_option maxRecDepth 100000 in
theorem rd_m_isBetter (l : Launch) (D : va_G) (cA : ClassId) (h : Nat) (a : Nat → Nat) (σ : rd_St) (k b : Nat) (hk : k ≤ 100000) (hbb : b ≤ 100000) : rd_MI l yX1_isBetter cX1_isBetter 3 (some .boolean) 0 [.ref h, .int (rd_an k), .int (rd_an b)] D cA (rd_mw h a cA) σ (fun r u => u = σ ∧ rd_B (¬ k < b) r) := by
  refine rd_entI (by decide) (Nat.le_of_ble_eq_true rfl) ?_
  intro p e s m below meth c A E hK hw ls hl
  have E : rd_E p s m _ meth c cX1_isBetter 3 (some .boolean) RX1 A := E
  have hx := E.1
  have hb := E.2.1
  have hl : lv_has ls 3 [(0, .ref h), (1, .int (rd_an k)), (2, .int (rd_an b))] := hl
  refine lv_iload_n hx hb dX1_isBetter_0 rfl (lv_at hl 1 rfl) ?_
  refine lv_bipush (v := -4) hx hb dX1_isBetter_1 (by decide) ?_
  refine lv_icmp_eq (tgt := 21) hx hb dX1_isBetter_3 (by decide) (fun c3 => ?_) (fun c3 => ?_)
  · refine lv_iconst (v := nI 0) hx hb dX1_isBetter_21 (by decide) ?_
    exact rd_retz E hK hw rfl (⟨rfl, rd_b0 (fun q => by rw [rd_an_lt (by omega)] at c3; exact rd_neg rd_an_neg (by omega) c3.symm)⟩) dX1_isBetter_22
  · have hk2 : k < 100000 := Classical.byContradiction (fun q => c3 (rd_an_ge q))
    refine lv_iload_n hx hb dX1_isBetter_6 rfl (lv_at hl 2 rfl) ?_
    refine lv_bipush (v := -4) hx hb dX1_isBetter_7 (by decide) ?_
    refine lv_icmp_eq (tgt := 17) hx hb dX1_isBetter_9 (by decide) (fun c9 => ?_) (fun c9 => ?_)
    · have hb2 : ¬ b < 100000 := fun w => by rw [rd_an_lt w] at c9; exact rd_neg rd_an_neg (by omega) c9.symm
      refine lv_iconst (v := nI 1) hx hb dX1_isBetter_17 (by decide) ?_
      refine lv_goto (tgt := 22) hx hb dX1_isBetter_18 (by decide) ?_
      exact rd_retz E hK hw rfl (⟨rfl, rd_b1 (fun q => q (by omega))⟩) dX1_isBetter_22
    · have hb2 : b < 100000 := Classical.byContradiction (fun q => c9 (rd_an_ge q))
      refine lv_iload_n hx hb dX1_isBetter_12 rfl (lv_at hl 1 rfl) ?_
      refine lv_iload_n hx hb dX1_isBetter_13 rfl (lv_at hl 2 rfl) ?_
      refine lv_icmp_ge (tgt := 21) hx hb dX1_isBetter_14 (by decide) (fun c14 => ?_) (fun c14 => ?_)
      · refine lv_iconst (v := nI 0) hx hb dX1_isBetter_21 (by decide) ?_
        exact rd_retz E hK hw rfl (⟨rfl, rd_b0 (Nat.not_lt.mpr ((rd_an_le hk2 hb2).mp c14))⟩) dX1_isBetter_22
      · refine lv_iconst (v := nI 1) hx hb dX1_isBetter_17 (by decide) ?_
        refine lv_goto (tgt := 22) hx hb dX1_isBetter_18 (by decide) ?_
        exact rd_retz E hK hw rfl (⟨rfl, rd_b1 (fun q => c14 ((rd_an_le hk2 hb2).mpr (Nat.not_lt.mp q)))⟩) dX1_isBetter_22
end
section
set_option maxRecDepth 100000
set_option maxHeartbeats 4000000 in
set_option maxRecDepth 100000 in
theorem rd_mlp_doll1 {p : Program} {l : Launch} {e : Env} {s : State} {m : MethodId} {args : Array Value} {below : List Frame} {meth : Method} {c : Code} {Q : State → Prop} {D : va_G} {cA : ClassId} {A : Nat → Prop} {h : Nat} {a : Nat → Nat} (E : rd_E p s m args meth c cX1_doll 6 (some .int) RX1 A) (hK : va_K D vwCl [(cA, .int)] s) {H : Heap} {locs : List Loc} {i : Nat} (hi : i ≤ 5) (kk : ∀ (ls : Array Slot), lv_has ls 6 [(0, .ref h), (1, .int (nI i)), (2, .int (nI (3 ^ (6 - i))))] → W p l e (rd_rm 2) s m args below meth c H locs 0 0 Q (F0 m 30 ls [])) :
    ∀ (f t : Nat), i + t ≤ 6 → 6 ≤ i + t + f → ∀ (ls : Array Slot), lv_has ls 6 [(0, .ref h), (1, .int (nI i)), (2, .int (nI (3 ^ t))), (3, .int (nI (i + t)))] → W p l e (rd_rm 2) s m args below meth c H locs 0 0 Q (F0 m 14 ls []) := by
  have hx := E.1
  have hb := E.2.1
  intro f
  induction f with
  | zero =>
    intro t ht hf ls hl
    refine lv_iload_n hx hb dX1_doll_14 rfl (lv_at hl 3 rfl) ?_
    refine lv_bipush (v := nI 6) hx hb dX1_doll_15 (by decide) ?_
    refine n_ge (tgt := 30) hx hb dX1_doll_17 (by decide) (by omega) (by omega) (fun c17 => ?_) (fun c17 => ?_)
    · have e : t = 6 - i := by omega
      subst e
      exact kk ls (lv_sub hl [0, 1, 2] rfl)
    · omega
  | succ f ih =>
    intro t ht hf ls hl
    refine lv_iload_n hx hb dX1_doll_14 rfl (lv_at hl 3 rfl) ?_
    refine lv_bipush (v := nI 6) hx hb dX1_doll_15 (by decide) ?_
    refine n_ge (tgt := 30) hx hb dX1_doll_17 (by decide) (by omega) (by omega) (fun c17 => ?_) (fun c17 => ?_)
    · have e : t = 6 - i := by omega
      subst e
      exact kk ls (lv_sub hl [0, 1, 2] rfl)
    · refine lv_iconst (v := nI 3) hx hb dX1_doll_20 (by decide) ?_
      refine lv_iload_n hx hb dX1_doll_21 rfl (lv_at hl 2 rfl) ?_
      refine n_mul hx hb dX1_doll_22 ?_
      refine n_as (congrArg nI ((Nat.pow_succ'.symm : 3 * 3 ^ t = 3 ^ (t + 1)))) ?_
      refine lv_istore_n (lv' := [(2, .int (nI (3 ^ (t + 1)))), (0, .ref h), (1, .int (nI i)), (3, .int (nI (i + t)))]) hx hb dX1_doll_23 rfl hl (by decide) rfl (fun ls hl => ?_)
      refine n_inc (lv' := [(3, .int (nI ((i + t) + 1))), (2, .int (nI (3 ^ (t + 1)))), (0, .ref h), (1, .int (nI i))]) hx hb dX1_doll_24 hl (k := 3) rfl (by decide) rfl (fun ls hl => ?_)
      refine lv_goto (tgt := 14) hx hb dX1_doll_27 (by decide) ?_
      exact ih (t + 1) (by omega) (by omega) ls (lv_sub hl [2, 3, 1, 0] rfl)
set_option maxHeartbeats 4000000 in
set_option maxRecDepth 100000 in
theorem rd_mlp_doll2 {p : Program} {l : Launch} {e : Env} {s : State} {m : MethodId} {args : Array Value} {below : List Frame} {meth : Method} {c : Code} {Q : State → Prop} {D : va_G} {cA : ClassId} {A : Nat → Prop} {h : Nat} {a : Nat → Nat} (E : rd_E p s m args meth c cX1_doll 6 (some .int) RX1 A) (hK : va_K D vwCl [(cA, .int)] s) {σ : rd_St} {i : Nat} (hi : i ≤ 5) (hC : rd_Cs σ) (kk : ∀ (H : Heap) (locs : List Loc) (ls : Array Slot), rd_W D (rd_mw h a cA) A s.heap H locs σ → lv_has ls 6 [(0, .ref h), (1, .int (nI i)), (2, .int (nI (3 ^ (6 - i)))), (3, .int (rd_an (rd_scan (rd_Fo (σ 0) (σ 1) i) (3 ^ (6 - i))).1))] → W p l e (rd_rm 2) s m args below meth c H locs 0 0 Q (F0 m 74 ls [])) :
    ∀ (f k : Nat), k ≤ 3 ^ (6 - i) → 3 ^ (6 - i) ≤ k + f → ∀ (H : Heap) (locs : List Loc) (ls : Array Slot), rd_W D (rd_mw h a cA) A s.heap H locs σ → lv_has ls 6 [(0, .ref h), (1, .int (nI i)), (2, .int (nI (3 ^ (6 - i)))), (3, .int (rd_an (rd_scan (rd_Fo (σ 0) (σ 1) i) k).1)), (4, .int (nI k))] → W p l e (rd_rm 2) s m args below meth c H locs 0 0 Q (F0 m 36 ls []) := by
  have hx := E.1
  have hb := E.2.1
  have h729 := rd_pow729 hi
  intro f
  induction f with
  | zero =>
    intro k hk hf H locs ls hw hl
    refine lv_iload hx hb dX1_doll_36 (lv_at hl 4 rfl) ?_
    refine lv_iload_n hx hb dX1_doll_38 rfl (lv_at hl 2 rfl) ?_
    refine n_ge (tgt := 74) hx hb dX1_doll_39 (by decide) (by omega) (by omega) (fun c39 => ?_) (fun c39 => ?_)
    · have e : k = 3 ^ (6 - i) := by omega
      rw [e] at hl
      exact kk H locs ls hw (lv_sub hl [0, 1, 2, 3] rfl)
    · omega
  | succ f ih =>
    intro k hk hf H locs ls hw hl
    refine lv_iload hx hb dX1_doll_36 (lv_at hl 4 rfl) ?_
    refine lv_iload_n hx hb dX1_doll_38 rfl (lv_at hl 2 rfl) ?_
    refine n_ge (tgt := 74) hx hb dX1_doll_39 (by decide) (by omega) (by omega) (fun c39 => ?_) (fun c39 => ?_)
    · have e : k = 3 ^ (6 - i) := by omega
      rw [e] at hl
      exact kk H locs ls hw (lv_sub hl [0, 1, 2, 3] rfl)
    · refine lv_aload_n hx hb dX1_doll_42 rfl (lv_at hl 0 rfl) ?_
      refine lv_iload hx hb dX1_doll_43 (lv_at hl 4 rfl) ?_
      refine lv_iload_n hx hb dX1_doll_45 rfl (lv_at hl 1 rfl) ?_
      refine rd_calli (As := [.int (nI k), .int (nI i)]) (nA := 2) E hK hw (rd_m_cost l D cA h a σ k i (by omega) (by omega) hC) rfl rfl (lw_V q225 q227 qs18 q25 q228) (by decide +kernel) rfl ⟨by decide, by decide⟩ ⟨Nat.zero_le _, Nat.zero_le _⟩ hl.1 rfl (Nat.le_of_ble_eq_true rfl) dX1_doll_46 (fun r u H locs hq hw => ?_)
      obtain ⟨hu, rfl⟩ := hq
      rw [hu] at hw
      refine lv_istore (lv' := [(5, .int (rd_an (rd_Fo (σ 0) (σ 1) i k))), (0, .ref h), (1, .int (nI i)), (2, .int (nI (3 ^ (6 - i)))), (3, .int (rd_an (rd_scan (rd_Fo (σ 0) (σ 1) i) k).1)), (4, .int (nI k))]) hx hb dX1_doll_49 hl (by decide) rfl (fun ls hl => ?_)
      refine lv_aload_n hx hb dX1_doll_51 rfl (lv_at hl 1 rfl) ?_
      refine lv_iload hx hb dX1_doll_52 (lv_at hl 0 rfl) ?_
      refine lv_iload_n hx hb dX1_doll_54 rfl (lv_at hl 4 rfl) ?_
      refine rd_calli (As := [.int (rd_an (rd_Fo (σ 0) (σ 1) i k)), .int (rd_an (rd_scan (rd_Fo (σ 0) (σ 1) i) k).1)]) (nA := 2) E hK hw (rd_m_isBetter l D cA h a σ (rd_Fo (σ 0) (σ 1) i k) ((rd_scan (rd_Fo (σ 0) (σ 1) i) k).1) (rd_Fo_100 _ _ _ _) (rd_scan_100 _ _)) rfl rfl (lw_V q233 q235 qs20 q25 q236) (by decide +kernel) rfl ⟨by decide, by decide⟩ ⟨Nat.zero_le _, Nat.zero_le _⟩ hl.1 rfl (Nat.le_of_ble_eq_true rfl) dX1_doll_55 (fun r u H locs hq hw => ?_)
      obtain ⟨hu, t1, rfl, ht1, hkt1⟩ := hq
      rw [hu] at hw
      refine n_ifeq (tgt := 66) hx hb dX1_doll_58 (by decide) (by omega) (fun c58 => ?_) (fun c58 => ?_)
      · have e := rd_scan_n (hkt1.mp c58)
        refine lv_iload_n hx hb dX1_doll_66 rfl (lv_at hl 4 rfl) ?_
        refine lv_istore_n (lv' := [(3, .int (rd_an (rd_scan (rd_Fo (σ 0) (σ 1) i) k).1)), (5, .int (rd_an (rd_Fo (σ 0) (σ 1) i k))), (0, .ref h), (1, .int (nI i)), (2, .int (nI (3 ^ (6 - i)))), (4, .int (nI k))]) hx hb dX1_doll_67 rfl hl (by decide) rfl (fun ls hl => ?_)
        refine n_inc (lv' := [(4, .int (nI (k + 1))), (3, .int (rd_an (rd_scan (rd_Fo (σ 0) (σ 1) i) k).1)), (5, .int (rd_an (rd_Fo (σ 0) (σ 1) i k))), (0, .ref h), (1, .int (nI i)), (2, .int (nI (3 ^ (6 - i))))]) hx hb dX1_doll_68 hl (k := 5) rfl (by decide) rfl (fun ls hl => ?_)
        refine lv_goto (tgt := 36) hx hb dX1_doll_71 (by decide) ?_
        rw [← e] at hl
        exact ih (k + 1) (by omega) (by omega) H locs ls hw (lv_sub hl [3, 4, 5, 1, 0] rfl)
      · have e : (rd_scan (rd_Fo (σ 0) (σ 1) i) (k + 1)).1 = rd_Fo (σ 0) (σ 1) i k := congrArg Prod.fst (rd_scan_y (Classical.byContradiction fun q => c58 (hkt1.mpr q)))
        refine lv_iload hx hb dX1_doll_61 (lv_at hl 0 rfl) ?_
        refine lv_goto (tgt := 67) hx hb dX1_doll_63 (by decide) ?_
        refine lv_istore_n (lv' := [(3, .int (rd_an (rd_Fo (σ 0) (σ 1) i k))), (5, .int (rd_an (rd_Fo (σ 0) (σ 1) i k))), (0, .ref h), (1, .int (nI i)), (2, .int (nI (3 ^ (6 - i)))), (4, .int (nI k))]) hx hb dX1_doll_67 rfl hl (by decide) rfl (fun ls hl => ?_)
        refine n_inc (lv' := [(4, .int (nI (k + 1))), (3, .int (rd_an (rd_Fo (σ 0) (σ 1) i k))), (5, .int (rd_an (rd_Fo (σ 0) (σ 1) i k))), (0, .ref h), (1, .int (nI i)), (2, .int (nI (3 ^ (6 - i))))]) hx hb dX1_doll_68 hl (k := 5) rfl (by decide) rfl (fun ls hl => ?_)
        refine lv_goto (tgt := 36) hx hb dX1_doll_71 (by decide) ?_
        rw [← e] at hl
        exact ih (k + 1) (by omega) (by omega) H locs ls hw (lv_sub hl [3, 4, 5, 1, 0] rfl)
set_option maxHeartbeats 4000000 in
set_option maxRecDepth 100000 in
theorem rd_m_doll (l : Launch) (D : va_G) (cA : ClassId) (h : Nat) (a : Nat → Nat) (σ : rd_St) (i : Int32) (hC : rd_Cs σ) : rd_MI l yX1_doll cX1_doll 6 (some .int) 2 [.ref h, .int i] D cA (rd_mw h a cA) σ (fun r u => u = σ ∧ ((∃ j, rd_okV i j ∧ r = rd_an (rd_V (σ 0) (σ 1) j)) ∨ ((¬ ∃ j, rd_okV i j) ∧ r = -1))) := by
  refine rd_entI (by decide) (Nat.le_of_ble_eq_true rfl) ?_
  intro p e s m below meth c A E hK hw ls hl
  have E : rd_E p s m _ meth c cX1_doll 6 (some .int) RX1 A := E
  have hx := E.1
  have hb := E.2.1
  have hl : lv_has ls 6 [(0, .ref h), (1, .int i)] := hl
  refine lv_aload_n hx hb dX1_doll_0 rfl (lv_at hl 0 rfl) ?_
  refine lv_iload_n hx hb dX1_doll_1 rfl (lv_at hl 1 rfl) ?_
  refine rd_calli (As := [.int i]) (nA := 1) E hK hw (rd_m_isVariable l D cA h a σ i) rfl rfl (lw_V q193 q195 qs14 q25 q196) (by decide +kernel) rfl ⟨by decide, by decide⟩ ⟨Nat.zero_le _, Nat.zero_le _⟩ hl.1 rfl (Nat.le_of_ble_eq_true rfl) dX1_doll_2 (fun r u H locs hq hw => ?_)
  obtain ⟨hu, t1, rfl, ht1, hkt1⟩ := hq
  rw [hu] at hw
  refine n_ifne (tgt := 10) hx hb dX1_doll_5 (by decide) (by omega) (fun c5 => ?_) (fun c5 => ?_)
  · obtain ⟨j, hj, rfl⟩ := Classical.byContradiction (fun q => c5 (hkt1.mpr q))
    have h729 := rd_pow729 (show j ≤ 5 by omega)
    refine lv_iconst (v := nI 1) hx hb dX1_doll_10 (by decide) ?_
    refine lv_istore_n (lv' := [(2, .int (nI 1)), (0, .ref h), (1, .int (nI j))]) hx hb dX1_doll_11 rfl hl (by decide) rfl (fun ls hl => ?_)
    refine lv_iload_n hx hb dX1_doll_12 rfl (lv_at hl 2 rfl) ?_
    refine lv_istore_n (lv' := [(3, .int (nI j)), (2, .int (nI 1)), (0, .ref h), (1, .int (nI j))]) hx hb dX1_doll_13 rfl hl (by decide) rfl (fun ls hl => ?_)
    refine rd_mlp_doll1 (a := a) (i := j) E hK (by omega) (fun ls hl => ?_) 6 0 (by omega) (by omega) ls (lv_sub hl [2, 3, 1, 0] rfl)
    refine lv_bipush (v := -4) hx hb dX1_doll_30 (by decide) ?_
    refine lv_istore_n (lv' := [(3, .int (-4)), (0, .ref h), (1, .int (nI j)), (2, .int (nI (3 ^ (6 - j))))]) hx hb dX1_doll_32 rfl hl (by decide) rfl (fun ls hl => ?_)
    refine lv_iconst (v := nI 0) hx hb dX1_doll_33 (by decide) ?_
    refine lv_istore (lv' := [(4, .int (nI 0)), (3, .int (-4)), (0, .ref h), (1, .int (nI j)), (2, .int (nI (3 ^ (6 - j))))]) hx hb dX1_doll_34 hl (by decide) rfl (fun ls hl => ?_)
    refine rd_mlp_doll2 (σ := σ) (i := j) E hK (by omega) hC (fun H locs ls hw hl => ?_) (3 ^ (6 - j)) 0 (Nat.zero_le _) (Nat.le_of_eq (Nat.zero_add _).symm) _ _ ls hw (lv_sub hl [2, 3, 4, 1, 0] rfl)
    refine lv_iload_n hx hb dX1_doll_74 rfl (lv_at hl 3 rfl) ?_
    exact rd_reti E hK hw (⟨rfl, Or.inl ⟨j, ⟨hj, rfl⟩, by rw [← rd_M_eq]; rfl⟩⟩) dX1_doll_75
  · refine lv_iconst (v := -1) hx hb dX1_doll_8 (by decide) ?_
    exact rd_reti E hK hw (⟨rfl, Or.inr ⟨hkt1.mp c5, rfl⟩⟩) dX1_doll_9
set_option maxHeartbeats 4000000 in
set_option maxRecDepth 100000 in
theorem rd_m_cheapest (l : Launch) (D : va_G) (cA : ClassId) (h : Nat) (a : Nat → Nat) (σ : rd_St) (hC : rd_Cs σ) : rd_MI l yX1_cheapest cX1_cheapest 1 (some .int) 3 [.ref h] D cA (rd_mw h a cA) σ (fun r u => u = σ ∧ r = rd_an (rd_V (σ 0) (σ 1) 0)) := by
  refine rd_entI (by decide) (Nat.le_of_ble_eq_true rfl) ?_
  intro p e s m below meth c A E hK hw ls hl
  have E : rd_E p s m _ meth c cX1_cheapest 1 (some .int) RX1 A := E
  have hx := E.1
  have hb := E.2.1
  have hl : lv_has ls 1 [(0, .ref h)] := hl
  refine lv_aload_n hx hb dX1_cheapest_0 rfl (lv_at hl 0 rfl) ?_
  refine lv_iconst (v := nI 0) hx hb dX1_cheapest_1 (by decide) ?_
  refine rd_calli (As := [.int (nI 0)]) (nA := 1) E hK hw (rd_m_doll l D cA h a σ (nI 0) hC) rfl rfl (lw_V q241 q222 q223 q25 q224) (by decide +kernel) rfl ⟨by decide, by decide⟩ ⟨Nat.zero_le _, Nat.zero_le _⟩ hl.1 rfl (Nat.le_of_ble_eq_true rfl) dX1_cheapest_2 (fun r u H locs hq hw => ?_)
  obtain ⟨hu, hr⟩ := hq
  rw [hu] at hw
  have hr0 : r = rd_an (rd_V (σ 0) (σ 1) 0) := by
    rcases hr with ⟨j, ⟨hj, hj2⟩, hr⟩ | ⟨hr, _⟩
    · have e := (nI_eq (by decide) (by omega)).mp hj2
      rw [hr, ← e]
    · exact absurd ⟨0, by decide, rfl⟩ hr
  exact rd_reti E hK hw (⟨rfl, hr0⟩) dX1_cheapest_5
set_option maxHeartbeats 4000000 in
set_option maxRecDepth 100000 in
theorem rd_mlp_first {p : Program} {l : Launch} {e : Env} {s : State} {m : MethodId} {args : Array Value} {below : List Frame} {meth : Method} {c : Code} {Q : State → Prop} {D : va_G} {cA : ClassId} {A : Nat → Prop} {h : Nat} {a : Nat → Nat} (E : rd_E p s m args meth c cX1_first 5 (some .int) RX1 A) (hK : va_K D vwCl [(cA, .int)] s) {σ : rd_St} (hC : rd_Cs σ) (kk : ∀ (H : Heap) (locs : List Loc) (ls : Array Slot), rd_W D (rd_mw h a cA) A s.heap H locs σ → lv_has ls 5 [(0, .ref h), (2, .int (rd_fn (rd_scan (rd_Fo (σ 0) (σ 1) 0) (rd_M 0))))] → W p l e (rd_rm 2) s m args below meth c H locs 0 0 Q (F0 m 44 ls [])) :
    ∀ (f k : Nat), k ≤ 729 → 729 ≤ k + f → ∀ (H : Heap) (locs : List Loc) (ls : Array Slot), rd_W D (rd_mw h a cA) A s.heap H locs σ → lv_has ls 5 [(0, .ref h), (1, .int (rd_an (rd_scan (rd_Fo (σ 0) (σ 1) 0) k).1)), (2, .int (rd_fn (rd_scan (rd_Fo (σ 0) (σ 1) 0) k))), (3, .int (nI k))] → W p l e (rd_rm 2) s m args below meth c H locs 0 0 Q (F0 m 8 ls []) := by
  have hx := E.1
  have hb := E.2.1
  intro f
  induction f with
  | zero =>
    intro k hk hf H locs ls hw hl
    refine lv_iload_n hx hb dX1_first_8 rfl (lv_at hl 3 rfl) ?_
    refine lv_sipush (v := nI 729) hx hb dX1_first_9 (by decide) ?_
    refine n_ge (tgt := 44) hx hb dX1_first_12 (by decide) (by omega) (by omega) (fun c12 => ?_) (fun c12 => ?_)
    · have e : k = rd_M 0 := by rw [rd_M0]; omega
      subst e
      exact kk H locs ls hw (lv_sub hl [0, 2] rfl)
    · omega
  | succ f ih =>
    intro k hk hf H locs ls hw hl
    refine lv_iload_n hx hb dX1_first_8 rfl (lv_at hl 3 rfl) ?_
    refine lv_sipush (v := nI 729) hx hb dX1_first_9 (by decide) ?_
    refine n_ge (tgt := 44) hx hb dX1_first_12 (by decide) (by omega) (by omega) (fun c12 => ?_) (fun c12 => ?_)
    · have e : k = rd_M 0 := by rw [rd_M0]; omega
      subst e
      exact kk H locs ls hw (lv_sub hl [0, 2] rfl)
    · refine lv_aload_n hx hb dX1_first_15 rfl (lv_at hl 0 rfl) ?_
      refine lv_iload_n hx hb dX1_first_16 rfl (lv_at hl 3 rfl) ?_
      refine lv_iconst (v := nI 0) hx hb dX1_first_17 (by decide) ?_
      refine rd_calli (As := [.int (nI k), .int (nI 0)]) (nA := 2) E hK hw (rd_m_cost l D cA h a σ k 0 (by omega) (by omega) hC) rfl rfl (lw_V q225 q227 qs18 q25 q228) (by decide +kernel) rfl ⟨by decide, by decide⟩ ⟨Nat.zero_le _, Nat.zero_le _⟩ hl.1 rfl (Nat.le_of_ble_eq_true rfl) dX1_first_18 (fun r u H locs hq hw => ?_)
      obtain ⟨hu, rfl⟩ := hq
      rw [hu] at hw
      refine lv_istore (lv' := [(4, .int (rd_an (rd_Fo (σ 0) (σ 1) 0 k))), (0, .ref h), (1, .int (rd_an (rd_scan (rd_Fo (σ 0) (σ 1) 0) k).1)), (2, .int (rd_fn (rd_scan (rd_Fo (σ 0) (σ 1) 0) k))), (3, .int (nI k))]) hx hb dX1_first_21 hl (by decide) rfl (fun ls hl => ?_)
      refine lv_aload_n hx hb dX1_first_23 rfl (lv_at hl 1 rfl) ?_
      refine lv_iload hx hb dX1_first_24 (lv_at hl 0 rfl) ?_
      refine lv_iload_n hx hb dX1_first_26 rfl (lv_at hl 2 rfl) ?_
      refine rd_calli (As := [.int (rd_an (rd_Fo (σ 0) (σ 1) 0 k)), .int (rd_an (rd_scan (rd_Fo (σ 0) (σ 1) 0) k).1)]) (nA := 2) E hK hw (rd_m_isBetter l D cA h a σ (rd_Fo (σ 0) (σ 1) 0 k) ((rd_scan (rd_Fo (σ 0) (σ 1) 0) k).1) (rd_Fo_100 _ _ _ _) (rd_scan_100 _ _)) rfl rfl (lw_V q233 q235 qs20 q25 q236) (by decide +kernel) rfl ⟨by decide, by decide⟩ ⟨Nat.zero_le _, Nat.zero_le _⟩ hl.1 rfl (Nat.le_of_ble_eq_true rfl) dX1_first_27 (fun r u H locs hq hw => ?_)
      obtain ⟨hu, t1, rfl, ht1, hkt1⟩ := hq
      rw [hu] at hw
      refine n_ifeq (tgt := 38) hx hb dX1_first_30 (by decide) (by omega) (fun c30 => ?_) (fun c30 => ?_)
      · have e := rd_scan_n (hkt1.mp c30)
        refine n_inc (lv' := [(3, .int (nI (k + 1))), (4, .int (rd_an (rd_Fo (σ 0) (σ 1) 0 k))), (0, .ref h), (1, .int (rd_an (rd_scan (rd_Fo (σ 0) (σ 1) 0) k).1)), (2, .int (rd_fn (rd_scan (rd_Fo (σ 0) (σ 1) 0) k)))]) hx hb dX1_first_38 hl (k := 4) rfl (by decide) rfl (fun ls hl => ?_)
        refine lv_goto (tgt := 8) hx hb dX1_first_41 (by decide) ?_
        rw [← e] at hl
        exact ih (k + 1) (by omega) (by omega) H locs ls hw (lv_sub hl [2, 3, 4, 0] rfl)
      · have hlt := Classical.byContradiction fun q => c30 (hkt1.mpr q)
        have e0 := rd_scan_y hlt
        have e : (rd_scan (rd_Fo (σ 0) (σ 1) 0) (k + 1)).1 = rd_Fo (σ 0) (σ 1) 0 k := congrArg Prod.fst e0
        have e2 : rd_fn (rd_scan (rd_Fo (σ 0) (σ 1) 0) (k + 1)) = nI k := by rw [e0]; exact if_pos (Nat.lt_of_lt_of_le hlt (rd_scan_100 _ _))
        refine lv_iload hx hb dX1_first_33 (lv_at hl 0 rfl) ?_
        refine lv_istore_n (lv' := [(1, .int (rd_an (rd_Fo (σ 0) (σ 1) 0 k))), (4, .int (rd_an (rd_Fo (σ 0) (σ 1) 0 k))), (0, .ref h), (2, .int (rd_fn (rd_scan (rd_Fo (σ 0) (σ 1) 0) k))), (3, .int (nI k))]) hx hb dX1_first_35 rfl hl (by decide) rfl (fun ls hl => ?_)
        refine lv_iload_n hx hb dX1_first_36 rfl (lv_at hl 4 rfl) ?_
        refine lv_istore_n (lv' := [(2, .int (nI k)), (1, .int (rd_an (rd_Fo (σ 0) (σ 1) 0 k))), (4, .int (rd_an (rd_Fo (σ 0) (σ 1) 0 k))), (0, .ref h), (3, .int (nI k))]) hx hb dX1_first_37 rfl hl (by decide) rfl (fun ls hl => ?_)
        refine n_inc (lv' := [(3, .int (nI (k + 1))), (2, .int (nI k)), (1, .int (rd_an (rd_Fo (σ 0) (σ 1) 0 k))), (4, .int (rd_an (rd_Fo (σ 0) (σ 1) 0 k))), (0, .ref h)]) hx hb dX1_first_38 hl (k := 4) rfl (by decide) rfl (fun ls hl => ?_)
        refine lv_goto (tgt := 8) hx hb dX1_first_41 (by decide) ?_
        rw [← e, ← e2] at hl
        exact ih (k + 1) (by omega) (by omega) H locs ls hw (lv_sub hl [4, 2, 1, 0] rfl)
set_option maxHeartbeats 4000000 in
set_option maxRecDepth 100000 in
theorem rd_m_first (l : Launch) (D : va_G) (cA : ClassId) (h : Nat) (a : Nat → Nat) (σ : rd_St) (hC : rd_Cs σ) : rd_MI l yX1_first cX1_first 5 (some .int) 2 [.ref h] D cA (rd_mw h a cA) σ (fun r u => u = σ ∧ r = rd_fn (rd_scan (rd_Fo (σ 0) (σ 1) 0) (rd_M 0))) := by
  refine rd_entI (by decide) (Nat.le_of_ble_eq_true rfl) ?_
  intro p e s m below meth c A E hK hw ls hl
  have E : rd_E p s m _ meth c cX1_first 5 (some .int) RX1 A := E
  have hx := E.1
  have hb := E.2.1
  have hl : lv_has ls 5 [(0, .ref h)] := hl
  refine lv_bipush (v := -4) hx hb dX1_first_0 (by decide) ?_
  refine lv_istore_n (lv' := [(1, .int (-4)), (0, .ref h)]) hx hb dX1_first_2 rfl hl (by decide) rfl (fun ls hl => ?_)
  refine lv_bipush (v := -4) hx hb dX1_first_3 (by decide) ?_
  refine lv_istore_n (lv' := [(2, .int (-4)), (1, .int (-4)), (0, .ref h)]) hx hb dX1_first_5 rfl hl (by decide) rfl (fun ls hl => ?_)
  refine lv_iconst (v := nI 0) hx hb dX1_first_6 (by decide) ?_
  refine lv_istore_n (lv' := [(3, .int (nI 0)), (2, .int (-4)), (1, .int (-4)), (0, .ref h)]) hx hb dX1_first_7 rfl hl (by decide) rfl (fun ls hl => ?_)
  refine rd_mlp_first (σ := σ) E hK hC (fun H locs ls hw hl => ?_) 729 0 (by omega) (by omega) _ _ ls hw (lv_sub hl [3, 2, 1, 0] rfl)
  refine lv_iload_n hx hb dX1_first_44 rfl (lv_at hl 1 rfl) ?_
  exact rd_reti E hK hw (⟨rfl, rfl⟩) dX1_first_45
theorem rd_fd_lt {o p : Nat → Nat} (h : rd_V o p 0 < 100000) : rd_fd o p < 729 := by
  rcases rd_scan_at (rd_Fo o p 0) (rd_M 0) with q | q
  · rw [rd_V0] at h; omega
  · rw [← rd_M0]; exact q.1
theorem rd_fn_lt {o p : Nat → Nat} (h : rd_V o p 0 < 100000) : rd_fn (rd_scan (rd_Fo o p 0) (rd_M 0)) = nI (rd_fd o p) := if_pos h
theorem rd_fn_ge {o p : Nat → Nat} (h : ¬ rd_V o p 0 < 100000) : rd_fn (rd_scan (rd_Fo o p 0) (rd_M 0)) = -4 := if_neg h
set_option maxHeartbeats 4000000 in
set_option maxRecDepth 100000 in
theorem rd_m_value (l : Launch) (D : va_G) (cA : ClassId) (h : Nat) (a : Nat → Nat) (σ : rd_St) (i : Int32) (hC : rd_Cs σ) : rd_MI l yX1_value cX1_value 3 (some .int) 3 [.ref h, .int i] D cA (rd_mw h a cA) σ (fun r u => u = σ ∧ ((∃ j, rd_okV i j ∧ r = if rd_V (σ 0) (σ 1) 0 < 100000 then nI (rd_dig (rd_fd (σ 0) (σ 1)) j) else -4) ∨ ((¬ ∃ j, rd_okV i j) ∧ r = -1))) := by
  refine rd_entI (by decide) (Nat.le_of_ble_eq_true rfl) ?_
  intro p e s m below meth c A E hK hw ls hl
  have E : rd_E p s m _ meth c cX1_value 3 (some .int) RX1 A := E
  have hx := E.1
  have hb := E.2.1
  have hl : lv_has ls 3 [(0, .ref h), (1, .int i)] := hl
  refine lv_aload_n hx hb dX1_value_0 rfl (lv_at hl 0 rfl) ?_
  refine lv_iload_n hx hb dX1_value_1 rfl (lv_at hl 1 rfl) ?_
  refine rd_calli (As := [.int i]) (nA := 1) E hK hw (rd_m_isVariable l D cA h a σ i) rfl rfl (lw_V q193 q195 qs14 q25 q196) (by decide +kernel) rfl ⟨by decide, by decide⟩ ⟨Nat.zero_le _, Nat.zero_le _⟩ hl.1 rfl (Nat.le_of_ble_eq_true rfl) dX1_value_2 (fun r u H locs hq hw => ?_)
  obtain ⟨hu, t1, rfl, ht1, hkt1⟩ := hq
  rw [hu] at hw
  refine n_ifne (tgt := 10) hx hb dX1_value_5 (by decide) (by omega) (fun c5 => ?_) (fun c5 => ?_)
  · obtain ⟨j, hj, rfl⟩ := Classical.byContradiction (fun q => c5 (hkt1.mpr q))
    refine lv_aload_n hx hb dX1_value_10 rfl (lv_at hl 0 rfl) ?_
    refine rd_calli (As := []) (nA := 0) E hK hw (rd_m_first l D cA h a σ hC) rfl rfl (lw_V q246 q248 qs21 q25 q249) (by decide +kernel) rfl ⟨by decide, by decide⟩ ⟨Nat.zero_le _, Nat.zero_le _⟩ hl.1 rfl (Nat.le_of_ble_eq_true rfl) dX1_value_11 (fun r u H locs hq hw => ?_)
    obtain ⟨hu, rfl⟩ := hq
    rw [hu] at hw
    refine lv_istore_n (lv' := [(2, .int (rd_fn (rd_scan (rd_Fo (σ 0) (σ 1) 0) (rd_M 0)))), (0, .ref h), (1, .int (nI j))]) hx hb dX1_value_14 rfl hl (by decide) rfl (fun ls hl => ?_)
    refine lv_iload_n hx hb dX1_value_15 rfl (lv_at hl 0 rfl) ?_
    refine lv_bipush (v := -4) hx hb dX1_value_16 (by decide) ?_
    refine lv_icmp_ne (tgt := 26) hx hb dX1_value_18 (by decide) (fun c18 => ?_) (fun c18 => ?_)
    · have hV : rd_V (σ 0) (σ 1) 0 < 100000 := Classical.byContradiction (fun q => c18 (rd_fn_ge q))
      have hfl := rd_fd_lt hV
      rw [rd_fn_lt hV] at hl
      refine lv_aload_n hx hb dX1_value_26 rfl (lv_at hl 1 rfl) ?_
      refine lv_iload_n hx hb dX1_value_27 rfl (lv_at hl 0 rfl) ?_
      refine lv_iload_n hx hb dX1_value_28 rfl (lv_at hl 2 rfl) ?_
      refine rd_calli (As := [.int (nI (rd_fd (σ 0) (σ 1))), .int (nI j)]) (nA := 2) E hK hw (rd_m_digit l D cA h a σ (rd_fd (σ 0) (σ 1)) j (by omega) (by omega)) rfl rfl (lw_V q229 q231 qs19 q25 q232) (by decide +kernel) rfl ⟨by decide, by decide⟩ ⟨Nat.zero_le _, Nat.zero_le _⟩ hl.1 rfl (Nat.le_of_ble_eq_true rfl) dX1_value_29 (fun r u H locs hq hw => ?_)
      obtain ⟨hu, rfl⟩ := hq
      rw [hu] at hw
      exact rd_reti E hK hw (⟨rfl, Or.inl ⟨j, ⟨hj, rfl⟩, (if_pos hV).symm⟩⟩) dX1_value_32
    · have hV : ¬ rd_V (σ 0) (σ 1) 0 < 100000 := fun q => by have := rd_fd_lt q; rw [rd_fn_lt q] at c18; exact rd_neg rd_an_neg (by omega) c18.symm
      refine lv_bipush (v := -4) hx hb dX1_value_21 (by decide) ?_
      refine lv_goto (tgt := 32) hx hb dX1_value_23 (by decide) ?_
      exact rd_reti E hK hw (⟨rfl, Or.inl ⟨j, ⟨hj, rfl⟩, (if_neg hV).symm⟩⟩) dX1_value_32
  · refine lv_iconst (v := -1) hx hb dX1_value_8 (by decide) ?_
    exact rd_reti E hK hw (⟨rfl, Or.inr ⟨hkt1.mp c5, rfl⟩⟩) dX1_value_9
end
section
set_option maxRecDepth 100000
theorem rd_Fw_100 (o p : Nat → Nat) (j x a : Nat) : rd_Fw o p j x a ≤ 100000 := by
  unfold rd_Fw; split
  · exact rd_Fo_100 _ _ _ _
  · exact Nat.le_refl _
set_option maxHeartbeats 4000000 in
set_option maxRecDepth 100000 in
theorem rd_mlp_with {p : Program} {l : Launch} {e : Env} {s : State} {m : MethodId} {args : Array Value} {below : List Frame} {meth : Method} {c : Code} {Q : State → Prop} {D : va_G} {cA : ClassId} {A : Nat → Prop} {h : Nat} {a : Nat → Nat} (E : rd_E p s m args meth c cX1_with 6 (some .int) RX1 A) (hK : va_K D vwCl [(cA, .int)] s) {σ : rd_St} {j x : Nat} (hC : rd_Cs σ) (hj : j < 6) (hx3 : x < 3) (kk : ∀ (H : Heap) (locs : List Loc) (ls : Array Slot), rd_W D (rd_mw h a cA) A s.heap H locs σ → lv_has ls 6 [(0, .ref h), (3, .int (rd_an (rd_scan (rd_Fw (σ 0) (σ 1) j x) (rd_M 0)).1))] → W p l e (rd_rm 2) s m args below meth c H locs 0 0 Q (F0 m 75 ls [])) :
    ∀ (f k : Nat), k ≤ 729 → 729 ≤ k + f → ∀ (H : Heap) (locs : List Loc) (ls : Array Slot), rd_W D (rd_mw h a cA) A s.heap H locs σ → lv_has ls 6 [(0, .ref h), (1, .int (nI j)), (2, .int (nI x)), (3, .int (rd_an (rd_scan (rd_Fw (σ 0) (σ 1) j x) k).1)), (4, .int (nI k))] → W p l e (rd_rm 2) s m args below meth c H locs 0 0 Q (F0 m 24 ls []) := by
  have hx := E.1
  have hb := E.2.1
  intro f
  induction f with
  | zero =>
    intro k hk hf H locs ls hw hl
    refine lv_iload hx hb dX1_with_24 (lv_at hl 4 rfl) ?_
    refine lv_sipush (v := nI 729) hx hb dX1_with_26 (by decide) ?_
    refine n_ge (tgt := 75) hx hb dX1_with_29 (by decide) (by omega) (by omega) (fun c29 => ?_) (fun c29 => ?_)
    · have e : k = rd_M 0 := by rw [rd_M0]; omega
      subst e
      exact kk H locs ls hw (lv_sub hl [0, 3] rfl)
    · omega
  | succ f ih =>
    intro k hk hf H locs ls hw hl
    refine lv_iload hx hb dX1_with_24 (lv_at hl 4 rfl) ?_
    refine lv_sipush (v := nI 729) hx hb dX1_with_26 (by decide) ?_
    refine n_ge (tgt := 75) hx hb dX1_with_29 (by decide) (by omega) (by omega) (fun c29 => ?_) (fun c29 => ?_)
    · have e : k = rd_M 0 := by rw [rd_M0]; omega
      subst e
      exact kk H locs ls hw (lv_sub hl [0, 3] rfl)
    · refine lv_aload_n hx hb dX1_with_32 rfl (lv_at hl 0 rfl) ?_
      refine lv_iload hx hb dX1_with_33 (lv_at hl 4 rfl) ?_
      refine lv_iload_n hx hb dX1_with_35 rfl (lv_at hl 1 rfl) ?_
      refine rd_calli (As := [.int (nI k), .int (nI j)]) (nA := 2) E hK hw (rd_m_digit l D cA h a σ k j (by omega) (by omega)) rfl rfl (lw_V q229 q231 qs19 q25 q232) (by decide +kernel) rfl ⟨by decide, by decide⟩ ⟨Nat.zero_le _, Nat.zero_le _⟩ hl.1 rfl (Nat.le_of_ble_eq_true rfl) dX1_with_36 (fun r u H locs hq hw => ?_)
      obtain ⟨hu, rfl⟩ := hq
      rw [hu] at hw
      have hd1 := rd_dig_lt k j
      refine lv_iload_n hx hb dX1_with_39 rfl (lv_at hl 2 rfl) ?_
      refine n_ne (tgt := 69) hx hb dX1_with_40 (by decide) (by omega) (by omega) (fun c40 => ?_) (fun c40 => ?_)
      · have hF : rd_Fw (σ 0) (σ 1) j x k = 100000 := if_neg c40
        have e := rd_scan_n (F := rd_Fw (σ 0) (σ 1) j x) (n := k) (by rw [hF]; exact Nat.not_lt.mpr (rd_scan_100 _ _))
        refine n_inc (lv' := [(4, .int (nI (k + 1))), (0, .ref h), (1, .int (nI j)), (2, .int (nI x)), (3, .int (rd_an (rd_scan (rd_Fw (σ 0) (σ 1) j x) k).1))]) hx hb dX1_with_69 hl (k := 4) rfl (by decide) rfl (fun ls hl => ?_)
        refine lv_goto (tgt := 24) hx hb dX1_with_72 (by decide) ?_
        rw [← e] at hl
        exact ih (k + 1) (by omega) (by omega) H locs ls hw (lv_sub hl [1, 2, 3, 4, 0] rfl)
      · have hF : rd_Fw (σ 0) (σ 1) j x k = rd_Fo (σ 0) (σ 1) 0 k := if_pos c40
        refine lv_aload_n hx hb dX1_with_43 rfl (lv_at hl 0 rfl) ?_
        refine lv_iload hx hb dX1_with_44 (lv_at hl 4 rfl) ?_
        refine lv_iconst (v := nI 0) hx hb dX1_with_46 (by decide) ?_
        refine rd_calli (As := [.int (nI k), .int (nI 0)]) (nA := 2) E hK hw (rd_m_cost l D cA h a σ k 0 (by omega) (by omega) hC) rfl rfl (lw_V q225 q227 qs18 q25 q228) (by decide +kernel) rfl ⟨by decide, by decide⟩ ⟨Nat.zero_le _, Nat.zero_le _⟩ hl.1 rfl (Nat.le_of_ble_eq_true rfl) dX1_with_47 (fun r u H locs hq hw => ?_)
        obtain ⟨hu, rfl⟩ := hq
        rw [hu] at hw
        rw [← hF]
        refine lv_istore (lv' := [(5, .int (rd_an (rd_Fw (σ 0) (σ 1) j x k))), (0, .ref h), (1, .int (nI j)), (2, .int (nI x)), (3, .int (rd_an (rd_scan (rd_Fw (σ 0) (σ 1) j x) k).1)), (4, .int (nI k))]) hx hb dX1_with_50 hl (by decide) rfl (fun ls hl => ?_)
        refine lv_aload_n hx hb dX1_with_52 rfl (lv_at hl 1 rfl) ?_
        refine lv_iload hx hb dX1_with_53 (lv_at hl 0 rfl) ?_
        refine lv_iload_n hx hb dX1_with_55 rfl (lv_at hl 4 rfl) ?_
        refine rd_calli (As := [.int (rd_an (rd_Fw (σ 0) (σ 1) j x k)), .int (rd_an (rd_scan (rd_Fw (σ 0) (σ 1) j x) k).1)]) (nA := 2) E hK hw (rd_m_isBetter l D cA h a σ (rd_Fw (σ 0) (σ 1) j x k) ((rd_scan (rd_Fw (σ 0) (σ 1) j x) k).1) (rd_Fw_100 _ _ _ _ _) (rd_scan_100 _ _)) rfl rfl (lw_V q233 q235 qs20 q25 q236) (by decide +kernel) rfl ⟨by decide, by decide⟩ ⟨Nat.zero_le _, Nat.zero_le _⟩ hl.1 rfl (Nat.le_of_ble_eq_true rfl) dX1_with_56 (fun r u H locs hq hw => ?_)
        obtain ⟨hu, t1, rfl, ht1, hkt1⟩ := hq
        rw [hu] at hw
        refine n_ifeq (tgt := 67) hx hb dX1_with_59 (by decide) (by omega) (fun c59 => ?_) (fun c59 => ?_)
        · have e := rd_scan_n (hkt1.mp c59)
          refine lv_iload_n hx hb dX1_with_67 rfl (lv_at hl 4 rfl) ?_
          refine lv_istore_n (lv' := [(3, .int (rd_an (rd_scan (rd_Fw (σ 0) (σ 1) j x) k).1)), (5, .int (rd_an (rd_Fw (σ 0) (σ 1) j x k))), (0, .ref h), (1, .int (nI j)), (2, .int (nI x)), (4, .int (nI k))]) hx hb dX1_with_68 rfl hl (by decide) rfl (fun ls hl => ?_)
          refine n_inc (lv' := [(4, .int (nI (k + 1))), (3, .int (rd_an (rd_scan (rd_Fw (σ 0) (σ 1) j x) k).1)), (5, .int (rd_an (rd_Fw (σ 0) (σ 1) j x k))), (0, .ref h), (1, .int (nI j)), (2, .int (nI x))]) hx hb dX1_with_69 hl (k := 5) rfl (by decide) rfl (fun ls hl => ?_)
          refine lv_goto (tgt := 24) hx hb dX1_with_72 (by decide) ?_
          rw [← e] at hl
          exact ih (k + 1) (by omega) (by omega) H locs ls hw (lv_sub hl [3, 4, 5, 1, 0] rfl)
        · have e : (rd_scan (rd_Fw (σ 0) (σ 1) j x) (k + 1)).1 = rd_Fw (σ 0) (σ 1) j x k := congrArg Prod.fst (rd_scan_y (Classical.byContradiction fun q => c59 (hkt1.mpr q)))
          refine lv_iload hx hb dX1_with_62 (lv_at hl 0 rfl) ?_
          refine lv_goto (tgt := 68) hx hb dX1_with_64 (by decide) ?_
          refine lv_istore_n (lv' := [(3, .int (rd_an (rd_Fw (σ 0) (σ 1) j x k))), (5, .int (rd_an (rd_Fw (σ 0) (σ 1) j x k))), (0, .ref h), (1, .int (nI j)), (2, .int (nI x)), (4, .int (nI k))]) hx hb dX1_with_68 rfl hl (by decide) rfl (fun ls hl => ?_)
          refine n_inc (lv' := [(4, .int (nI (k + 1))), (3, .int (rd_an (rd_Fw (σ 0) (σ 1) j x k))), (5, .int (rd_an (rd_Fw (σ 0) (σ 1) j x k))), (0, .ref h), (1, .int (nI j)), (2, .int (nI x))]) hx hb dX1_with_69 hl (k := 5) rfl (by decide) rfl (fun ls hl => ?_)
          refine lv_goto (tgt := 24) hx hb dX1_with_72 (by decide) ?_
          rw [← e] at hl
          exact ih (k + 1) (by omega) (by omega) H locs ls hw (lv_sub hl [3, 4, 5, 1, 0] rfl)
set_option maxHeartbeats 4000000 in
set_option maxRecDepth 100000 in
theorem rd_m_with (l : Launch) (D : va_G) (cA : ClassId) (h : Nat) (a : Nat → Nat) (σ : rd_St) (i x : Int32) (hC : rd_Cs σ) : rd_MI l yX1_with cX1_with 6 (some .int) 2 [.ref h, .int i, .int x] D cA (rd_mw h a cA) σ (fun r u => u = σ ∧ ((∃ j x', rd_okV i j ∧ x' < 3 ∧ x = nI x' ∧ r = rd_an (rd_scan (rd_Fw (σ 0) (σ 1) j x') (rd_M 0)).1) ∨ ((¬ ∃ j x', rd_okV i j ∧ x' < 3 ∧ x = nI x') ∧ r = -1))) := by
  refine rd_entI (by decide) (Nat.le_of_ble_eq_true rfl) ?_
  intro p e s m below meth c A E hK hw ls hl
  have E : rd_E p s m _ meth c cX1_with 6 (some .int) RX1 A := E
  have hx := E.1
  have hb := E.2.1
  have hl : lv_has ls 6 [(0, .ref h), (1, .int i), (2, .int x)] := hl
  refine lv_aload_n hx hb dX1_with_0 rfl (lv_at hl 0 rfl) ?_
  refine lv_iload_n hx hb dX1_with_1 rfl (lv_at hl 1 rfl) ?_
  refine rd_calli (As := [.int i]) (nA := 1) E hK hw (rd_m_isVariable l D cA h a σ i) rfl rfl (lw_V q193 q195 qs14 q25 q196) (by decide +kernel) rfl ⟨by decide, by decide⟩ ⟨Nat.zero_le _, Nat.zero_le _⟩ hl.1 rfl (Nat.le_of_ble_eq_true rfl) dX1_with_2 (fun r u H locs hq hw => ?_)
  obtain ⟨hu, t1, rfl, ht1, hkt1⟩ := hq
  rw [hu] at hw
  refine n_ifeq (tgt := 16) hx hb dX1_with_5 (by decide) (by omega) (fun c5 => ?_) (fun c5 => ?_)
  · refine lv_iconst (v := -1) hx hb dX1_with_16 (by decide) ?_
    exact rd_reti E hK hw (⟨rfl, Or.inr ⟨fun ⟨j, x', q1, q2, q3⟩ => hkt1.mp c5 ⟨j, q1⟩, rfl⟩⟩) dX1_with_17
  · refine lv_aload_n hx hb dX1_with_8 rfl (lv_at hl 0 rfl) ?_
    refine lv_iload_n hx hb dX1_with_9 rfl (lv_at hl 2 rfl) ?_
    refine rd_calli (As := [.int x]) (nA := 1) E hK hw (rd_m_isValue l D cA h a σ x) rfl rfl (lw_V q197 q199 qs15 q25 q200) (by decide +kernel) rfl ⟨by decide, by decide⟩ ⟨Nat.zero_le _, Nat.zero_le _⟩ hl.1 rfl (Nat.le_of_ble_eq_true rfl) dX1_with_10 (fun r u H locs hq hw => ?_)
    obtain ⟨hu, t2, rfl, ht2, hkt2⟩ := hq
    rw [hu] at hw
    refine n_ifne (tgt := 18) hx hb dX1_with_13 (by decide) (by omega) (fun c13 => ?_) (fun c13 => ?_)
    · obtain ⟨j, hj, rfl⟩ := Classical.byContradiction (fun q => c5 (hkt1.mpr q))
      obtain ⟨x', hx', rfl⟩ := Classical.byContradiction (fun q => c13 (hkt2.mpr q))
      refine lv_bipush (v := -4) hx hb dX1_with_18 (by decide) ?_
      refine lv_istore_n (lv' := [(3, .int (-4)), (0, .ref h), (1, .int (nI j)), (2, .int (nI x'))]) hx hb dX1_with_20 rfl hl (by decide) rfl (fun ls hl => ?_)
      refine lv_iconst (v := nI 0) hx hb dX1_with_21 (by decide) ?_
      refine lv_istore (lv' := [(4, .int (nI 0)), (3, .int (-4)), (0, .ref h), (1, .int (nI j)), (2, .int (nI x'))]) hx hb dX1_with_22 hl (by decide) rfl (fun ls hl => ?_)
      refine rd_mlp_with (σ := σ) (j := j) (x := x') E hK hC hj hx' (fun H locs ls hw hl => ?_) 729 0 (by omega) (by omega) _ _ ls hw (lv_sub hl [2, 3, 4, 1, 0] rfl)
      refine lv_iload_n hx hb dX1_with_75 rfl (lv_at hl 1 rfl) ?_
      exact rd_reti E hK hw (⟨rfl, Or.inl ⟨j, x', ⟨hj, rfl⟩, hx', rfl, rfl⟩⟩) dX1_with_76
    · refine lv_iconst (v := -1) hx hb dX1_with_16 (by decide) ?_
      exact rd_reti E hK hw (⟨rfl, Or.inr ⟨fun ⟨j, x', q1, q2, q3⟩ => hkt2.mp c13 ⟨x', q2, q3⟩, rfl⟩⟩) dX1_with_17
set_option maxHeartbeats 4000000 in
set_option maxRecDepth 100000 in
theorem rd_mlp_settled {p : Program} {l : Launch} {e : Env} {s : State} {m : MethodId} {args : Array Value} {below : List Frame} {meth : Method} {c : Code} {Q : State → Prop} {D : va_G} {cA : ClassId} {A : Nat → Prop} {h : Nat} {a : Nat → Nat} (E : rd_E p s m args meth c cX1_settled 5 (some .boolean) RX1 A) (hK : va_K D vwCl [(cA, .int)] s) {σ : rd_St} {j : Nat} (hj : j < 6) (hC : rd_Cs σ) (hV : rd_V (σ 0) (σ 1) 0 < 100000) (kk : ∀ (H : Heap) (locs : List Loc) (ls : Array Slot), rd_W D (rd_mw h a cA) A s.heap H locs σ → lv_has ls 5 [(0, .ref h), (3, .int (nI (rd_ways (σ 0) (σ 1) j 3)))] → W p l e (rd_rm 4) s m args below meth c H locs 0 0 Q (F0 m 57 ls [])) :
    ∀ (f x : Nat), x ≤ 3 → 3 ≤ x + f → ∀ (H : Heap) (locs : List Loc) (ls : Array Slot), rd_W D (rd_mw h a cA) A s.heap H locs σ → lv_has ls 5 [(0, .ref h), (1, .int (nI j)), (2, .int (rd_an (rd_V (σ 0) (σ 1) 0))), (3, .int (nI (rd_ways (σ 0) (σ 1) j x))), (4, .int (nI x))] → W p l e (rd_rm 4) s m args below meth c H locs 0 0 Q (F0 m 26 ls []) := by
  have hx := E.1
  have hb := E.2.1
  intro f
  induction f with
  | zero =>
    intro x hx3 hf H locs ls hw hl
    refine lv_iload hx hb dX1_settled_26 (lv_at hl 4 rfl) ?_
    refine lv_iconst (v := nI 3) hx hb dX1_settled_28 (by decide) ?_
    refine n_ge (tgt := 57) hx hb dX1_settled_29 (by decide) (by omega) (by omega) (fun c29 => ?_) (fun c29 => ?_)
    · have e : x = 3 := by omega
      subst e
      exact kk H locs ls hw (lv_sub hl [0, 3] rfl)
    · omega
  | succ f ih =>
    intro x hx3 hf H locs ls hw hl
    refine lv_iload hx hb dX1_settled_26 (lv_at hl 4 rfl) ?_
    refine lv_iconst (v := nI 3) hx hb dX1_settled_28 (by decide) ?_
    refine n_ge (tgt := 57) hx hb dX1_settled_29 (by decide) (by omega) (by omega) (fun c29 => ?_) (fun c29 => ?_)
    · have e : x = 3 := by omega
      subst e
      exact kk H locs ls hw (lv_sub hl [0, 3] rfl)
    · refine lv_aload_n hx hb dX1_settled_32 rfl (lv_at hl 0 rfl) ?_
      refine lv_iload_n hx hb dX1_settled_33 rfl (lv_at hl 1 rfl) ?_
      refine lv_iload hx hb dX1_settled_34 (lv_at hl 4 rfl) ?_
      refine rd_calli (As := [.int (nI j), .int (nI x)]) (nA := 2) E hK hw (rd_m_with l D cA h a σ (nI j) (nI x) hC) rfl rfl (lw_V q259 q251 q252 q25 q253) (by decide +kernel) rfl ⟨by decide, by decide⟩ ⟨Nat.zero_le _, Nat.zero_le _⟩ hl.1 rfl (Nat.le_of_ble_eq_true rfl) dX1_settled_36 (fun r u H locs hq hw => ?_)
      obtain ⟨hu, hr⟩ := hq
      rw [hu] at hw
      have hr0 : r = rd_an (rd_scan (rd_Fw (σ 0) (σ 1) j x) (rd_M 0)).1 := by
        rcases hr with ⟨j', x', ⟨hj', ej⟩, hx', ex, hr⟩ | ⟨hr, _⟩
        · have e1 := (nI_eq (by omega) (by omega)).mp ej
          have e2 := (nI_eq (by omega) (by omega)).mp ex
          rw [hr, ← e1, ← e2]
        · exact absurd ⟨j, x, ⟨hj, rfl⟩, by omega, rfl⟩ hr
      subst hr0
      have hwl := rd_ways_le (σ 0) (σ 1) j x
      have hc1 := rd_scan_100 (rd_Fw (σ 0) (σ 1) j x) (rd_M 0)
      refine lv_iload_n hx hb dX1_settled_39 rfl (lv_at hl 2 rfl) ?_
      refine lv_icmp_ne (tgt := 49) hx hb dX1_settled_40 (by decide) (fun c40 => ?_) (fun c40 => ?_)
      · have e : rd_ways (σ 0) (σ 1) j (x + 1) = rd_ways (σ 0) (σ 1) j x := by rw [rd_ways_s, if_neg (fun q => c40 (by rw [q.2])), Nat.add_zero]
        refine lv_iload_n hx hb dX1_settled_49 rfl (lv_at hl 3 rfl) ?_
        refine lv_istore_n (lv' := [(3, .int (nI (rd_ways (σ 0) (σ 1) j x))), (0, .ref h), (1, .int (nI j)), (2, .int (rd_an (rd_V (σ 0) (σ 1) 0))), (4, .int (nI x))]) hx hb dX1_settled_50 rfl hl (by decide) rfl (fun ls hl => ?_)
        refine n_inc (lv' := [(4, .int (nI (x + 1))), (3, .int (nI (rd_ways (σ 0) (σ 1) j x))), (0, .ref h), (1, .int (nI j)), (2, .int (rd_an (rd_V (σ 0) (σ 1) 0)))]) hx hb dX1_settled_51 hl (k := 4) rfl (by decide) rfl (fun ls hl => ?_)
        refine lv_goto (tgt := 26) hx hb dX1_settled_54 (by decide) ?_
        rw [← e] at hl
        exact ih (x + 1) (by omega) (by omega) H locs ls hw (lv_sub hl [2, 3, 4, 1, 0] rfl)
      · have e : rd_ways (σ 0) (σ 1) j (x + 1) = rd_ways (σ 0) (σ 1) j x + 1 := by rw [rd_ways_s, if_pos ⟨hV, rd_an_eq hc1 (by omega) c40⟩]
        refine lv_iload_n hx hb dX1_settled_43 rfl (lv_at hl 3 rfl) ?_
        refine lv_iconst (v := nI 1) hx hb dX1_settled_44 (by decide) ?_
        refine n_add hx hb dX1_settled_45 ?_
        refine lv_goto (tgt := 50) hx hb dX1_settled_46 (by decide) ?_
        refine lv_istore_n (lv' := [(3, .int (nI ((rd_ways (σ 0) (σ 1) j x) + 1))), (0, .ref h), (1, .int (nI j)), (2, .int (rd_an (rd_V (σ 0) (σ 1) 0))), (4, .int (nI x))]) hx hb dX1_settled_50 rfl hl (by decide) rfl (fun ls hl => ?_)
        refine n_inc (lv' := [(4, .int (nI (x + 1))), (3, .int (nI ((rd_ways (σ 0) (σ 1) j x) + 1))), (0, .ref h), (1, .int (nI j)), (2, .int (rd_an (rd_V (σ 0) (σ 1) 0)))]) hx hb dX1_settled_51 hl (k := 4) rfl (by decide) rfl (fun ls hl => ?_)
        refine lv_goto (tgt := 26) hx hb dX1_settled_54 (by decide) ?_
        rw [← e] at hl
        exact ih (x + 1) (by omega) (by omega) H locs ls hw (lv_sub hl [2, 3, 4, 1, 0] rfl)
set_option maxHeartbeats 4000000 in
set_option maxRecDepth 100000 in
theorem rd_m_settled (l : Launch) (D : va_G) (cA : ClassId) (h : Nat) (a : Nat → Nat) (σ : rd_St) (i : Int32) (hC : rd_Cs σ) : rd_MI l yX1_settled cX1_settled 5 (some .boolean) 4 [.ref h, .int i] D cA (rd_mw h a cA) σ (fun r u => u = σ ∧ ((∃ j, rd_okV i j ∧ r = nI (if rd_ways (σ 0) (σ 1) j 3 = 1 then 1 else 0)) ∨ ((¬ ∃ j, rd_okV i j) ∧ r = nI 0))) := by
  refine rd_entI (by decide) (Nat.le_of_ble_eq_true rfl) ?_
  intro p e s m below meth c A E hK hw ls hl
  have E : rd_E p s m _ meth c cX1_settled 5 (some .boolean) RX1 A := E
  have hx := E.1
  have hb := E.2.1
  have hl : lv_has ls 5 [(0, .ref h), (1, .int i)] := hl
  refine lv_aload_n hx hb dX1_settled_0 rfl (lv_at hl 0 rfl) ?_
  refine rd_calli (As := []) (nA := 0) E hK hw (rd_m_cheapest l D cA h a σ hC) rfl rfl (lw_V q258 q238 q239 q25 q240) (by decide +kernel) rfl ⟨by decide, by decide⟩ ⟨Nat.zero_le _, Nat.zero_le _⟩ hl.1 rfl (Nat.le_of_ble_eq_true rfl) dX1_settled_1 (fun r u H locs hq hw => ?_)
  obtain ⟨hu, rfl⟩ := hq
  rw [hu] at hw
  refine lv_istore_n (lv' := [(2, .int (rd_an (rd_V (σ 0) (σ 1) 0))), (0, .ref h), (1, .int i)]) hx hb dX1_settled_4 rfl hl (by decide) rfl (fun ls hl => ?_)
  refine lv_aload_n hx hb dX1_settled_5 rfl (lv_at hl 1 rfl) ?_
  refine lv_iload_n hx hb dX1_settled_6 rfl (lv_at hl 2 rfl) ?_
  refine rd_calli (As := [.int i]) (nA := 1) E hK hw (rd_m_isVariable l D cA h a σ i) rfl rfl (lw_V q193 q195 qs14 q25 q196) (by decide +kernel) rfl ⟨by decide, by decide⟩ ⟨Nat.zero_le _, Nat.zero_le _⟩ hl.1 rfl (Nat.le_of_ble_eq_true rfl) dX1_settled_7 (fun r u H locs hq hw => ?_)
  obtain ⟨hu, t1, rfl, ht1, hkt1⟩ := hq
  rw [hu] at hw
  refine n_ifeq (tgt := 19) hx hb dX1_settled_10 (by decide) (by omega) (fun c10 => ?_) (fun c10 => ?_)
  · refine lv_iconst (v := nI 0) hx hb dX1_settled_19 (by decide) ?_
    exact rd_retz E hK hw rfl (⟨rfl, Or.inr ⟨hkt1.mp c10, rfl⟩⟩) dX1_settled_20
  · refine lv_iload_n hx hb dX1_settled_13 rfl (lv_at hl 0 rfl) ?_
    refine lv_bipush (v := -4) hx hb dX1_settled_14 (by decide) ?_
    refine lv_icmp_ne (tgt := 21) hx hb dX1_settled_16 (by decide) (fun c16 => ?_) (fun c16 => ?_)
    · obtain ⟨j, hj, rfl⟩ := Classical.byContradiction (fun q => c10 (hkt1.mpr q))
      have hV : rd_V (σ 0) (σ 1) 0 < 100000 := Classical.byContradiction (fun q => c16 (rd_an_ge q))
      refine lv_iconst (v := nI 0) hx hb dX1_settled_21 (by decide) ?_
      refine lv_istore_n (lv' := [(3, .int (nI 0)), (2, .int (rd_an (rd_V (σ 0) (σ 1) 0))), (0, .ref h), (1, .int (nI j))]) hx hb dX1_settled_22 rfl hl (by decide) rfl (fun ls hl => ?_)
      refine lv_iconst (v := nI 0) hx hb dX1_settled_23 (by decide) ?_
      refine lv_istore (lv' := [(4, .int (nI 0)), (3, .int (nI 0)), (2, .int (rd_an (rd_V (σ 0) (σ 1) 0))), (0, .ref h), (1, .int (nI j))]) hx hb dX1_settled_24 hl (by decide) rfl (fun ls hl => ?_)
      refine rd_mlp_settled (σ := σ) (j := j) E hK hj hC hV (fun H locs ls hw hl => ?_) 3 0 (by omega) (by omega) _ _ ls hw (lv_sub hl [3, 4, 2, 1, 0] rfl)
      have hwl := rd_ways_le (σ 0) (σ 1) j 3
      refine lv_iload_n hx hb dX1_settled_57 rfl (lv_at hl 1 rfl) ?_
      refine lv_iconst (v := nI 1) hx hb dX1_settled_58 (by decide) ?_
      refine n_ne (tgt := 66) hx hb dX1_settled_59 (by decide) (by omega) (by omega) (fun c59 => ?_) (fun c59 => ?_)
      · refine lv_iconst (v := nI 0) hx hb dX1_settled_66 (by decide) ?_
        exact rd_retz E hK hw rfl (⟨rfl, Or.inl ⟨j, ⟨hj, rfl⟩, by rw [if_neg c59]⟩⟩) dX1_settled_67
      · refine lv_iconst (v := nI 1) hx hb dX1_settled_62 (by decide) ?_
        refine lv_goto (tgt := 67) hx hb dX1_settled_63 (by decide) ?_
        exact rd_retz E hK hw rfl (⟨rfl, Or.inl ⟨j, ⟨hj, rfl⟩, by rw [if_pos c59]⟩⟩) dX1_settled_67
    · obtain ⟨j, hj, rfl⟩ := Classical.byContradiction (fun q => c10 (hkt1.mpr q))
      have hV : ¬ rd_V (σ 0) (σ 1) 0 < 100000 := fun q => by rw [rd_an_lt q] at c16; exact rd_neg rd_an_neg (by omega) c16.symm
      refine lv_iconst (v := nI 0) hx hb dX1_settled_19 (by decide) ?_
      exact rd_retz E hK hw rfl (⟨rfl, Or.inl ⟨j, ⟨hj, rfl⟩, by rw [rd_ways_0 _ _ _ _ hV]; rfl⟩⟩) dX1_settled_20
theorem rd_Fs_100 (o p : Nat → Nat) (a : Nat) : rd_Fs o p a ≤ 100000 := by
  unfold rd_Fs; split
  · exact Nat.le_refl _
  · exact rd_Fo_100 _ _ _ _
theorem rd_fn_eq {o p : Nat → Nat} {k : Nat} (hk : k < 2 ^ 31) : nI k = rd_fn (rd_scan (rd_Fo o p 0) (rd_M 0)) ↔ (rd_V o p 0 < 100000 ∧ k = rd_fd o p) := by
  by_cases h : rd_V o p 0 < 100000
  · rw [rd_fn_lt h]
    have h2 := rd_fd_lt h
    exact ⟨fun q => ⟨h, (nI_eq hk (by omega)).mp q⟩, fun q => by rw [q.2]⟩
  · rw [rd_fn_ge h]
    exact ⟨fun q => absurd q.symm (rd_neg rd_an_neg hk), fun q => absurd q.1 h⟩
set_option maxHeartbeats 4000000 in
set_option maxRecDepth 100000 in
theorem rd_mlp_second {p : Program} {l : Launch} {e : Env} {s : State} {m : MethodId} {args : Array Value} {below : List Frame} {meth : Method} {c : Code} {Q : State → Prop} {D : va_G} {cA : ClassId} {A : Nat → Prop} {h : Nat} {a : Nat → Nat} (E : rd_E p s m args meth c cX1_second 5 (some .int) RX1 A) (hK : va_K D vwCl [(cA, .int)] s) {σ : rd_St} (hC : rd_Cs σ) (kk : ∀ (H : Heap) (locs : List Loc) (ls : Array Slot), rd_W D (rd_mw h a cA) A s.heap H locs σ → lv_has ls 5 [(0, .ref h), (2, .int (rd_an (rd_scan (rd_Fs (σ 0) (σ 1)) (rd_M 0)).1))] → W p l e (rd_rm 3) s m args below meth c H locs 0 0 Q (F0 m 53 ls [])) :
    ∀ (f k : Nat), k ≤ 729 → 729 ≤ k + f → ∀ (H : Heap) (locs : List Loc) (ls : Array Slot), rd_W D (rd_mw h a cA) A s.heap H locs σ → lv_has ls 5 [(0, .ref h), (1, .int (rd_fn (rd_scan (rd_Fo (σ 0) (σ 1) 0) (rd_M 0)))), (2, .int (rd_an (rd_scan (rd_Fs (σ 0) (σ 1)) k).1)), (3, .int (nI k))] → W p l e (rd_rm 3) s m args below meth c H locs 0 0 Q (F0 m 10 ls []) := by
  have hx := E.1
  have hb := E.2.1
  intro f
  induction f with
  | zero =>
    intro k hk hf H locs ls hw hl
    refine lv_iload_n hx hb dX1_second_10 rfl (lv_at hl 3 rfl) ?_
    refine lv_sipush (v := nI 729) hx hb dX1_second_11 (by decide) ?_
    refine n_ge (tgt := 53) hx hb dX1_second_14 (by decide) (by omega) (by omega) (fun c14 => ?_) (fun c14 => ?_)
    · have e : k = rd_M 0 := by rw [rd_M0]; omega
      subst e
      exact kk H locs ls hw (lv_sub hl [0, 2] rfl)
    · omega
  | succ f ih =>
    intro k hk hf H locs ls hw hl
    refine lv_iload_n hx hb dX1_second_10 rfl (lv_at hl 3 rfl) ?_
    refine lv_sipush (v := nI 729) hx hb dX1_second_11 (by decide) ?_
    refine n_ge (tgt := 53) hx hb dX1_second_14 (by decide) (by omega) (by omega) (fun c14 => ?_) (fun c14 => ?_)
    · have e : k = rd_M 0 := by rw [rd_M0]; omega
      subst e
      exact kk H locs ls hw (lv_sub hl [0, 2] rfl)
    · refine lv_iload_n hx hb dX1_second_17 rfl (lv_at hl 3 rfl) ?_
      refine lv_iload_n hx hb dX1_second_18 rfl (lv_at hl 1 rfl) ?_
      refine lv_icmp_eq (tgt := 47) hx hb dX1_second_19 (by decide) (fun c19 => ?_) (fun c19 => ?_)
      · have hF : rd_Fs (σ 0) (σ 1) k = 100000 := if_pos ((rd_fn_eq (by omega)).mp c19)
        have e := rd_scan_n (F := rd_Fs (σ 0) (σ 1)) (n := k) (by rw [hF]; exact Nat.not_lt.mpr (rd_scan_100 _ _))
        refine n_inc (lv' := [(3, .int (nI (k + 1))), (0, .ref h), (1, .int (rd_fn (rd_scan (rd_Fo (σ 0) (σ 1) 0) (rd_M 0)))), (2, .int (rd_an (rd_scan (rd_Fs (σ 0) (σ 1)) k).1))]) hx hb dX1_second_47 hl (k := 3) rfl (by decide) rfl (fun ls hl => ?_)
        refine lv_goto (tgt := 10) hx hb dX1_second_50 (by decide) ?_
        rw [← e] at hl
        exact ih (k + 1) (by omega) (by omega) H locs ls hw (lv_sub hl [1, 2, 3, 0] rfl)
      · have hF : rd_Fs (σ 0) (σ 1) k = rd_Fo (σ 0) (σ 1) 0 k := if_neg (fun q => c19 ((rd_fn_eq (by omega)).mpr q))
        refine lv_aload_n hx hb dX1_second_22 rfl (lv_at hl 0 rfl) ?_
        refine lv_iload_n hx hb dX1_second_23 rfl (lv_at hl 3 rfl) ?_
        refine lv_iconst (v := nI 0) hx hb dX1_second_24 (by decide) ?_
        refine rd_calli (As := [.int (nI k), .int (nI 0)]) (nA := 2) E hK hw (rd_m_cost l D cA h a σ k 0 (by omega) (by omega) hC) rfl rfl (lw_V q225 q227 qs18 q25 q228) (by decide +kernel) rfl ⟨by decide, by decide⟩ ⟨Nat.zero_le _, Nat.zero_le _⟩ hl.1 rfl (Nat.le_of_ble_eq_true rfl) dX1_second_25 (fun r u H locs hq hw => ?_)
        obtain ⟨hu, rfl⟩ := hq
        rw [hu] at hw
        rw [← hF]
        refine lv_istore (lv' := [(4, .int (rd_an (rd_Fs (σ 0) (σ 1) k))), (0, .ref h), (1, .int (rd_fn (rd_scan (rd_Fo (σ 0) (σ 1) 0) (rd_M 0)))), (2, .int (rd_an (rd_scan (rd_Fs (σ 0) (σ 1)) k).1)), (3, .int (nI k))]) hx hb dX1_second_28 hl (by decide) rfl (fun ls hl => ?_)
        refine lv_aload_n hx hb dX1_second_30 rfl (lv_at hl 1 rfl) ?_
        refine lv_iload hx hb dX1_second_31 (lv_at hl 0 rfl) ?_
        refine lv_iload_n hx hb dX1_second_33 rfl (lv_at hl 3 rfl) ?_
        refine rd_calli (As := [.int (rd_an (rd_Fs (σ 0) (σ 1) k)), .int (rd_an (rd_scan (rd_Fs (σ 0) (σ 1)) k).1)]) (nA := 2) E hK hw (rd_m_isBetter l D cA h a σ (rd_Fs (σ 0) (σ 1) k) ((rd_scan (rd_Fs (σ 0) (σ 1)) k).1) (rd_Fs_100 _ _ _) (rd_scan_100 _ _)) rfl rfl (lw_V q233 q235 qs20 q25 q236) (by decide +kernel) rfl ⟨by decide, by decide⟩ ⟨Nat.zero_le _, Nat.zero_le _⟩ hl.1 rfl (Nat.le_of_ble_eq_true rfl) dX1_second_34 (fun r u H locs hq hw => ?_)
        obtain ⟨hu, t1, rfl, ht1, hkt1⟩ := hq
        rw [hu] at hw
        refine n_ifeq (tgt := 45) hx hb dX1_second_37 (by decide) (by omega) (fun c37 => ?_) (fun c37 => ?_)
        · have e := rd_scan_n (hkt1.mp c37)
          refine lv_iload_n hx hb dX1_second_45 rfl (lv_at hl 3 rfl) ?_
          refine lv_istore_n (lv' := [(2, .int (rd_an (rd_scan (rd_Fs (σ 0) (σ 1)) k).1)), (4, .int (rd_an (rd_Fs (σ 0) (σ 1) k))), (0, .ref h), (1, .int (rd_fn (rd_scan (rd_Fo (σ 0) (σ 1) 0) (rd_M 0)))), (3, .int (nI k))]) hx hb dX1_second_46 rfl hl (by decide) rfl (fun ls hl => ?_)
          refine n_inc (lv' := [(3, .int (nI (k + 1))), (2, .int (rd_an (rd_scan (rd_Fs (σ 0) (σ 1)) k).1)), (4, .int (rd_an (rd_Fs (σ 0) (σ 1) k))), (0, .ref h), (1, .int (rd_fn (rd_scan (rd_Fo (σ 0) (σ 1) 0) (rd_M 0))))]) hx hb dX1_second_47 hl (k := 4) rfl (by decide) rfl (fun ls hl => ?_)
          refine lv_goto (tgt := 10) hx hb dX1_second_50 (by decide) ?_
          rw [← e] at hl
          exact ih (k + 1) (by omega) (by omega) H locs ls hw (lv_sub hl [3, 4, 1, 0] rfl)
        · have e : (rd_scan (rd_Fs (σ 0) (σ 1)) (k + 1)).1 = rd_Fs (σ 0) (σ 1) k := congrArg Prod.fst (rd_scan_y (Classical.byContradiction fun q => c37 (hkt1.mpr q)))
          refine lv_iload hx hb dX1_second_40 (lv_at hl 0 rfl) ?_
          refine lv_goto (tgt := 46) hx hb dX1_second_42 (by decide) ?_
          refine lv_istore_n (lv' := [(2, .int (rd_an (rd_Fs (σ 0) (σ 1) k))), (4, .int (rd_an (rd_Fs (σ 0) (σ 1) k))), (0, .ref h), (1, .int (rd_fn (rd_scan (rd_Fo (σ 0) (σ 1) 0) (rd_M 0)))), (3, .int (nI k))]) hx hb dX1_second_46 rfl hl (by decide) rfl (fun ls hl => ?_)
          refine n_inc (lv' := [(3, .int (nI (k + 1))), (2, .int (rd_an (rd_Fs (σ 0) (σ 1) k))), (4, .int (rd_an (rd_Fs (σ 0) (σ 1) k))), (0, .ref h), (1, .int (rd_fn (rd_scan (rd_Fo (σ 0) (σ 1) 0) (rd_M 0))))]) hx hb dX1_second_47 hl (k := 4) rfl (by decide) rfl (fun ls hl => ?_)
          refine lv_goto (tgt := 10) hx hb dX1_second_50 (by decide) ?_
          rw [← e] at hl
          exact ih (k + 1) (by omega) (by omega) H locs ls hw (lv_sub hl [3, 4, 1, 0] rfl)
set_option maxHeartbeats 4000000 in
set_option maxRecDepth 100000 in
theorem rd_m_second (l : Launch) (D : va_G) (cA : ClassId) (h : Nat) (a : Nat → Nat) (σ : rd_St) (hC : rd_Cs σ) : rd_MI l yX1_second cX1_second 5 (some .int) 3 [.ref h] D cA (rd_mw h a cA) σ (fun r u => u = σ ∧ r = rd_an (rd_scan (rd_Fs (σ 0) (σ 1)) (rd_M 0)).1) := by
  refine rd_entI (by decide) (Nat.le_of_ble_eq_true rfl) ?_
  intro p e s m below meth c A E hK hw ls hl
  have E : rd_E p s m _ meth c cX1_second 5 (some .int) RX1 A := E
  have hx := E.1
  have hb := E.2.1
  have hl : lv_has ls 5 [(0, .ref h)] := hl
  refine lv_aload_n hx hb dX1_second_0 rfl (lv_at hl 0 rfl) ?_
  refine rd_calli (As := []) (nA := 0) E hK hw (rd_m_first l D cA h a σ hC) rfl rfl (lw_V q246 q248 qs21 q25 q249) (by decide +kernel) rfl ⟨by decide, by decide⟩ ⟨Nat.zero_le _, Nat.zero_le _⟩ hl.1 rfl (Nat.le_of_ble_eq_true rfl) dX1_second_1 (fun r u H locs hq hw => ?_)
  obtain ⟨hu, rfl⟩ := hq
  rw [hu] at hw
  refine lv_istore_n (lv' := [(1, .int (rd_fn (rd_scan (rd_Fo (σ 0) (σ 1) 0) (rd_M 0)))), (0, .ref h)]) hx hb dX1_second_4 rfl hl (by decide) rfl (fun ls hl => ?_)
  refine lv_bipush (v := -4) hx hb dX1_second_5 (by decide) ?_
  refine lv_istore_n (lv' := [(2, .int (-4)), (1, .int (rd_fn (rd_scan (rd_Fo (σ 0) (σ 1) 0) (rd_M 0)))), (0, .ref h)]) hx hb dX1_second_7 rfl hl (by decide) rfl (fun ls hl => ?_)
  refine lv_iconst (v := nI 0) hx hb dX1_second_8 (by decide) ?_
  refine lv_istore_n (lv' := [(3, .int (nI 0)), (2, .int (-4)), (1, .int (rd_fn (rd_scan (rd_Fo (σ 0) (σ 1) 0) (rd_M 0)))), (0, .ref h)]) hx hb dX1_second_9 rfl hl (by decide) rfl (fun ls hl => ?_)
  refine rd_mlp_second (σ := σ) E hK hC (fun H locs ls hw hl => ?_) 729 0 (by omega) (by omega) _ _ ls hw (lv_sub hl [3, 2, 1, 0] rfl)
  refine lv_iload_n hx hb dX1_second_53 rfl (lv_at hl 1 rfl) ?_
  exact rd_reti E hK hw (⟨rfl, rfl⟩) dX1_second_54
set_option maxHeartbeats 4000000 in
set_option maxRecDepth 100000 in
theorem rd_mlp_zig {p : Program} {l : Launch} {e : Env} {s : State} {m : MethodId} {args : Array Value} {below : List Frame} {meth : Method} {c : Code} {Q : State → Prop} {D : va_G} {cA : ClassId} {A : Nat → Prop} {h : Nat} {a : Nat → Nat} (E : rd_E p s m args meth c cX1_isZigzag 3 (some .boolean) RX1 A) (hK : va_K D vwCl [(cA, .int)] s) {σ : rd_St} {b : Nat} (hbb : b < 2 ^ 31) (kb : ∀ (H : Heap) (locs : List Loc) (ls : Array Slot), ¬ rd_zig b → rd_W D (rd_mw h a cA) A s.heap H locs σ → W p l e (rd_rm 1) s m args below meth c H locs 0 0 Q (F0 m 24 ls [])) (kk : ∀ (H : Heap) (locs : List Loc) (ls : Array Slot), rd_zig b → rd_W D (rd_mw h a cA) A s.heap H locs σ → W p l e (rd_rm 1) s m args below meth c H locs 0 0 Q (F0 m 32 ls [])) :
    ∀ (f i : Nat), i ≤ 5 → 5 ≤ i + f → (∀ t, t < i → rd_dig b t ≠ rd_dig b (t + 1)) → ∀ (H : Heap) (locs : List Loc) (ls : Array Slot), rd_W D (rd_mw h a cA) A s.heap H locs σ → lv_has ls 3 [(0, .ref h), (1, .int (nI b)), (2, .int (nI i))] → W p l e (rd_rm 1) s m args below meth c H locs 0 0 Q (F0 m 2 ls []) := by
  have hx := E.1
  have hb := E.2.1
  intro f
  induction f with
  | zero =>
    intro i hi hf hz H locs ls hw hl
    refine lv_iload_n hx hb dX1_isZigzag_2 rfl (lv_at hl 2 rfl) ?_
    refine lv_iconst (v := nI 5) hx hb dX1_isZigzag_3 (by decide) ?_
    refine n_ge (tgt := 32) hx hb dX1_isZigzag_4 (by decide) (by omega) (by omega) (fun c4 => ?_) (fun c4 => ?_)
    · exact kk H locs ls (fun t ht => hz t (by omega)) hw
    · omega
  | succ f ih =>
    intro i hi hf hz H locs ls hw hl
    refine lv_iload_n hx hb dX1_isZigzag_2 rfl (lv_at hl 2 rfl) ?_
    refine lv_iconst (v := nI 5) hx hb dX1_isZigzag_3 (by decide) ?_
    refine n_ge (tgt := 32) hx hb dX1_isZigzag_4 (by decide) (by omega) (by omega) (fun c4 => ?_) (fun c4 => ?_)
    · exact kk H locs ls (fun t ht => hz t (by omega)) hw
    · refine lv_aload_n hx hb dX1_isZigzag_7 rfl (lv_at hl 0 rfl) ?_
      refine lv_iload_n hx hb dX1_isZigzag_8 rfl (lv_at hl 1 rfl) ?_
      refine lv_iload_n hx hb dX1_isZigzag_9 rfl (lv_at hl 2 rfl) ?_
      refine rd_calli (As := [.int (nI b), .int (nI i)]) (nA := 2) E hK hw (rd_m_digit l D cA h a σ b i hbb (by omega)) rfl rfl (lw_V q229 q231 qs19 q25 q232) (by decide +kernel) rfl ⟨by decide, by decide⟩ ⟨Nat.zero_le _, Nat.zero_le _⟩ hl.1 rfl (Nat.le_of_ble_eq_true rfl) dX1_isZigzag_10 (fun r u H locs hq hw => ?_)
      obtain ⟨hu, rfl⟩ := hq
      rw [hu] at hw
      refine lv_aload_n hx hb dX1_isZigzag_13 rfl (lv_at hl 0 rfl) ?_
      refine lv_iload_n hx hb dX1_isZigzag_14 rfl (lv_at hl 1 rfl) ?_
      refine lv_iload_n hx hb dX1_isZigzag_15 rfl (lv_at hl 2 rfl) ?_
      refine lv_iconst (v := nI 1) hx hb dX1_isZigzag_16 (by decide) ?_
      refine n_add hx hb dX1_isZigzag_17 ?_
      refine rd_calli (As := [.int (nI b), .int (nI (i + 1))]) (nA := 2) E hK hw (rd_m_digit l D cA h a σ b (i + 1) hbb (by omega)) rfl rfl (lw_V q229 q231 qs19 q25 q232) (by decide +kernel) rfl ⟨by decide, by decide⟩ ⟨Nat.zero_le _, Nat.zero_le _⟩ hl.1 rfl (Nat.le_of_ble_eq_true rfl) dX1_isZigzag_18 (fun r u H locs hq hw => ?_)
      obtain ⟨hu, rfl⟩ := hq
      rw [hu] at hw
      have hd1 := rd_dig_lt b i
      have hd2 := rd_dig_lt b (i + 1)
      refine n_ne (tgt := 26) hx hb dX1_isZigzag_21 (by decide) (by omega) (by omega) (fun c21 => ?_) (fun c21 => ?_)
      · refine n_inc (lv' := [(2, .int (nI (i + 1))), (0, .ref h), (1, .int (nI b))]) hx hb dX1_isZigzag_26 hl (k := 2) rfl (by decide) rfl (fun ls hl => ?_)
        refine lv_goto (tgt := 2) hx hb dX1_isZigzag_29 (by decide) ?_
        exact ih (i + 1) (by omega) (by omega) (fun t ht => by
          rcases Nat.lt_or_ge t i with q | q
          · exact hz t q
          · have e : t = i := by omega
            subst e; exact c21) H locs ls hw (lv_sub hl [1, 2, 0] rfl)
      · exact kb H locs ls (fun q => q i (by omega) c21) hw
set_option maxHeartbeats 4000000 in
set_option maxRecDepth 100000 in
theorem rd_m_isZigzag (l : Launch) (D : va_G) (cA : ClassId) (h : Nat) (a : Nat → Nat) (σ : rd_St) (b : Nat) (hbb : b < 2 ^ 31) : rd_MI l yX1_isZigzag cX1_isZigzag 3 (some .boolean) 1 [.ref h, .int (nI b)] D cA (rd_mw h a cA) σ (fun r u => u = σ ∧ rd_B (¬ rd_zig b) r) := by
  refine rd_entI (by decide) (Nat.le_of_ble_eq_true rfl) ?_
  intro p e s m below meth c A E hK hw ls hl
  have E : rd_E p s m _ meth c cX1_isZigzag 3 (some .boolean) RX1 A := E
  have hx := E.1
  have hb := E.2.1
  have hl : lv_has ls 3 [(0, .ref h), (1, .int (nI b))] := hl
  refine lv_iconst (v := nI 0) hx hb dX1_isZigzag_0 (by decide) ?_
  refine lv_istore_n (lv' := [(2, .int (nI 0)), (0, .ref h), (1, .int (nI b))]) hx hb dX1_isZigzag_1 rfl hl (by decide) rfl (fun ls hl => ?_)
  refine rd_mlp_zig (σ := σ) (b := b) E hK hbb (fun H locs ls hz hw => ?_) (fun H locs ls hz hw => ?_) 5 0 (by omega) (by omega) (fun t ht => by omega) _ _ ls hw (lv_sub hl [1, 2, 0] rfl)
  · refine lv_iconst (v := nI 0) hx hb dX1_isZigzag_24 (by decide) ?_
    exact rd_retz E hK hw rfl (⟨rfl, rd_b0 hz⟩) dX1_isZigzag_25
  · refine lv_iconst (v := nI 1) hx hb dX1_isZigzag_32 (by decide) ?_
    exact rd_retz E hK hw rfl (⟨rfl, rd_b1 (fun q => q hz)⟩) dX1_isZigzag_33
theorem rd_Fz_100 (o p : Nat → Nat) (a : Nat) : rd_F o p 1 (fun _ => 7) 0 a ≤ 100000 := by
  unfold rd_F; split <;> omega
set_option maxHeartbeats 4000000 in
set_option maxRecDepth 100000 in
theorem rd_mlp_zigzag {p : Program} {l : Launch} {e : Env} {s : State} {m : MethodId} {args : Array Value} {below : List Frame} {meth : Method} {c : Code} {Q : State → Prop} {D : va_G} {cA : ClassId} {A : Nat → Prop} {h : Nat} {a : Nat → Nat} (E : rd_E p s m args meth c cX1_zigzag 4 (some .int) RX1 A) (hK : va_K D vwCl [(cA, .int)] s) {σ : rd_St} (hC : rd_Cs σ) (kk : ∀ (H : Heap) (locs : List Loc) (ls : Array Slot), rd_W D (rd_mw h a cA) A s.heap H locs σ → lv_has ls 4 [(0, .ref h), (1, .int (rd_an (rd_scan (rd_F (σ 0) (σ 1) 1 (fun _ => 7) 0) (rd_M 0)).1))] → W p l e (rd_rm 2) s m args below meth c H locs 0 0 Q (F0 m 48 ls [])) :
    ∀ (f k : Nat), k ≤ 729 → 729 ≤ k + f → ∀ (H : Heap) (locs : List Loc) (ls : Array Slot), rd_W D (rd_mw h a cA) A s.heap H locs σ → lv_has ls 4 [(0, .ref h), (1, .int (rd_an (rd_scan (rd_F (σ 0) (σ 1) 1 (fun _ => 7) 0) k).1)), (2, .int (nI k))] → W p l e (rd_rm 2) s m args below meth c H locs 0 0 Q (F0 m 5 ls []) := by
  have hx := E.1
  have hb := E.2.1
  intro f
  induction f with
  | zero =>
    intro k hk hf H locs ls hw hl
    refine lv_iload_n hx hb dX1_zigzag_5 rfl (lv_at hl 2 rfl) ?_
    refine lv_sipush (v := nI 729) hx hb dX1_zigzag_6 (by decide) ?_
    refine n_ge (tgt := 48) hx hb dX1_zigzag_9 (by decide) (by omega) (by omega) (fun c9 => ?_) (fun c9 => ?_)
    · have e : k = rd_M 0 := by rw [rd_M0]; omega
      subst e
      exact kk H locs ls hw (lv_sub hl [0, 1] rfl)
    · omega
  | succ f ih =>
    intro k hk hf H locs ls hw hl
    refine lv_iload_n hx hb dX1_zigzag_5 rfl (lv_at hl 2 rfl) ?_
    refine lv_sipush (v := nI 729) hx hb dX1_zigzag_6 (by decide) ?_
    refine n_ge (tgt := 48) hx hb dX1_zigzag_9 (by decide) (by omega) (by omega) (fun c9 => ?_) (fun c9 => ?_)
    · have e : k = rd_M 0 := by rw [rd_M0]; omega
      subst e
      exact kk H locs ls hw (lv_sub hl [0, 1] rfl)
    · refine lv_aload_n hx hb dX1_zigzag_12 rfl (lv_at hl 0 rfl) ?_
      refine lv_iload_n hx hb dX1_zigzag_13 rfl (lv_at hl 2 rfl) ?_
      refine rd_calli (As := [.int (nI k)]) (nA := 1) E hK hw (rd_m_isZigzag l D cA h a σ k (by omega)) rfl rfl (lw_V q268 q270 qs22 q25 q271) (by decide +kernel) rfl ⟨by decide, by decide⟩ ⟨Nat.zero_le _, Nat.zero_le _⟩ hl.1 rfl (Nat.le_of_ble_eq_true rfl) dX1_zigzag_14 (fun r u H locs hq hw => ?_)
      obtain ⟨hu, t0, rfl, ht0, hkt0⟩ := hq
      rw [hu] at hw
      have hFz := rd_Fz_eq (σ 0) (σ 1) (al := fun _ => 7) (fun _ _ => rfl) k
      refine n_ifeq (tgt := 42) hx hb dX1_zigzag_17 (by decide) (by omega) (fun c17 => ?_) (fun c17 => ?_)
      · have hF := hFz.2 (hkt0.mp c17)
        have e := rd_scan_n (F := rd_F (σ 0) (σ 1) 1 (fun _ => 7) 0) (n := k) (by rw [hF]; exact Nat.not_lt.mpr (rd_scan_100 _ _))
        refine n_inc (lv' := [(2, .int (nI (k + 1))), (0, .ref h), (1, .int (rd_an (rd_scan (rd_F (σ 0) (σ 1) 1 (fun _ => 7) 0) k).1))]) hx hb dX1_zigzag_42 hl (k := 2) rfl (by decide) rfl (fun ls hl => ?_)
        refine lv_goto (tgt := 5) hx hb dX1_zigzag_45 (by decide) ?_
        rw [← e] at hl
        exact ih (k + 1) (by omega) (by omega) H locs ls hw (lv_sub hl [1, 2, 0] rfl)
      · have hF := hFz.1 (Classical.byContradiction fun q => c17 (hkt0.mpr q))
        refine lv_aload_n hx hb dX1_zigzag_20 rfl (lv_at hl 0 rfl) ?_
        refine lv_iload_n hx hb dX1_zigzag_21 rfl (lv_at hl 2 rfl) ?_
        refine lv_iconst (v := nI 0) hx hb dX1_zigzag_22 (by decide) ?_
        refine rd_calli (As := [.int (nI k), .int (nI 0)]) (nA := 2) E hK hw (rd_m_cost l D cA h a σ k 0 (by omega) (by omega) hC) rfl rfl (lw_V q225 q227 qs18 q25 q228) (by decide +kernel) rfl ⟨by decide, by decide⟩ ⟨Nat.zero_le _, Nat.zero_le _⟩ hl.1 rfl (Nat.le_of_ble_eq_true rfl) dX1_zigzag_23 (fun r u H locs hq hw => ?_)
        obtain ⟨hu, rfl⟩ := hq
        rw [hu] at hw
        rw [← hF]
        refine lv_istore_n (lv' := [(3, .int (rd_an (rd_F (σ 0) (σ 1) 1 (fun _ => 7) 0 k))), (0, .ref h), (1, .int (rd_an (rd_scan (rd_F (σ 0) (σ 1) 1 (fun _ => 7) 0) k).1)), (2, .int (nI k))]) hx hb dX1_zigzag_26 rfl hl (by decide) rfl (fun ls hl => ?_)
        refine lv_aload_n hx hb dX1_zigzag_27 rfl (lv_at hl 1 rfl) ?_
        refine lv_iload_n hx hb dX1_zigzag_28 rfl (lv_at hl 0 rfl) ?_
        refine lv_iload_n hx hb dX1_zigzag_29 rfl (lv_at hl 2 rfl) ?_
        refine rd_calli (As := [.int (rd_an (rd_F (σ 0) (σ 1) 1 (fun _ => 7) 0 k)), .int (rd_an (rd_scan (rd_F (σ 0) (σ 1) 1 (fun _ => 7) 0) k).1)]) (nA := 2) E hK hw (rd_m_isBetter l D cA h a σ (rd_F (σ 0) (σ 1) 1 (fun _ => 7) 0 k) ((rd_scan (rd_F (σ 0) (σ 1) 1 (fun _ => 7) 0) k).1) (rd_Fz_100 _ _ _) (rd_scan_100 _ _)) rfl rfl (lw_V q233 q235 qs20 q25 q236) (by decide +kernel) rfl ⟨by decide, by decide⟩ ⟨Nat.zero_le _, Nat.zero_le _⟩ hl.1 rfl (Nat.le_of_ble_eq_true rfl) dX1_zigzag_30 (fun r u H locs hq hw => ?_)
        obtain ⟨hu, t1, rfl, ht1, hkt1⟩ := hq
        rw [hu] at hw
        refine n_ifeq (tgt := 40) hx hb dX1_zigzag_33 (by decide) (by omega) (fun c33 => ?_) (fun c33 => ?_)
        · have e := rd_scan_n (hkt1.mp c33)
          refine lv_iload_n hx hb dX1_zigzag_40 rfl (lv_at hl 2 rfl) ?_
          refine lv_istore_n (lv' := [(1, .int (rd_an (rd_scan (rd_F (σ 0) (σ 1) 1 (fun _ => 7) 0) k).1)), (3, .int (rd_an (rd_F (σ 0) (σ 1) 1 (fun _ => 7) 0 k))), (0, .ref h), (2, .int (nI k))]) hx hb dX1_zigzag_41 rfl hl (by decide) rfl (fun ls hl => ?_)
          refine n_inc (lv' := [(2, .int (nI (k + 1))), (1, .int (rd_an (rd_scan (rd_F (σ 0) (σ 1) 1 (fun _ => 7) 0) k).1)), (3, .int (rd_an (rd_F (σ 0) (σ 1) 1 (fun _ => 7) 0 k))), (0, .ref h)]) hx hb dX1_zigzag_42 hl (k := 3) rfl (by decide) rfl (fun ls hl => ?_)
          refine lv_goto (tgt := 5) hx hb dX1_zigzag_45 (by decide) ?_
          rw [← e] at hl
          exact ih (k + 1) (by omega) (by omega) H locs ls hw (lv_sub hl [3, 1, 0] rfl)
        · have e : (rd_scan (rd_F (σ 0) (σ 1) 1 (fun _ => 7) 0) (k + 1)).1 = rd_F (σ 0) (σ 1) 1 (fun _ => 7) 0 k := congrArg Prod.fst (rd_scan_y (Classical.byContradiction fun q => c33 (hkt1.mpr q)))
          refine lv_iload_n hx hb dX1_zigzag_36 rfl (lv_at hl 0 rfl) ?_
          refine lv_goto (tgt := 41) hx hb dX1_zigzag_37 (by decide) ?_
          refine lv_istore_n (lv' := [(1, .int (rd_an (rd_F (σ 0) (σ 1) 1 (fun _ => 7) 0 k))), (3, .int (rd_an (rd_F (σ 0) (σ 1) 1 (fun _ => 7) 0 k))), (0, .ref h), (2, .int (nI k))]) hx hb dX1_zigzag_41 rfl hl (by decide) rfl (fun ls hl => ?_)
          refine n_inc (lv' := [(2, .int (nI (k + 1))), (1, .int (rd_an (rd_F (σ 0) (σ 1) 1 (fun _ => 7) 0 k))), (3, .int (rd_an (rd_F (σ 0) (σ 1) 1 (fun _ => 7) 0 k))), (0, .ref h)]) hx hb dX1_zigzag_42 hl (k := 3) rfl (by decide) rfl (fun ls hl => ?_)
          refine lv_goto (tgt := 5) hx hb dX1_zigzag_45 (by decide) ?_
          rw [← e] at hl
          exact ih (k + 1) (by omega) (by omega) H locs ls hw (lv_sub hl [3, 1, 0] rfl)
set_option maxHeartbeats 4000000 in
set_option maxRecDepth 100000 in
theorem rd_m_zigzag (l : Launch) (D : va_G) (cA : ClassId) (h : Nat) (a : Nat → Nat) (σ : rd_St) (hC : rd_Cs σ) : rd_MI l yX1_zigzag cX1_zigzag 4 (some .int) 2 [.ref h] D cA (rd_mw h a cA) σ (fun r u => u = σ ∧ r = rd_an (rd_Zs (σ 0) (σ 1))) := by
  refine rd_entI (by decide) (Nat.le_of_ble_eq_true rfl) ?_
  intro p e s m below meth c A E hK hw ls hl
  have E : rd_E p s m _ meth c cX1_zigzag 4 (some .int) RX1 A := E
  have hx := E.1
  have hb := E.2.1
  have hl : lv_has ls 4 [(0, .ref h)] := hl
  refine lv_bipush (v := -4) hx hb dX1_zigzag_0 (by decide) ?_
  refine lv_istore_n (lv' := [(1, .int (-4)), (0, .ref h)]) hx hb dX1_zigzag_2 rfl hl (by decide) rfl (fun ls hl => ?_)
  refine lv_iconst (v := nI 0) hx hb dX1_zigzag_3 (by decide) ?_
  refine lv_istore_n (lv' := [(2, .int (nI 0)), (1, .int (-4)), (0, .ref h)]) hx hb dX1_zigzag_4 rfl hl (by decide) rfl (fun ls hl => ?_)
  refine rd_mlp_zigzag (σ := σ) E hK hC (fun H locs ls hw hl => ?_) 729 0 (by omega) (by omega) _ _ ls hw (lv_sub hl [2, 1, 0] rfl)
  refine lv_iload_n hx hb dX1_zigzag_48 rfl (lv_at hl 1 rfl) ?_
  exact rd_reti E hK hw (⟨rfl, rfl⟩) dX1_zigzag_49
end
section
set_option maxRecDepth 100000
/-- the state of new objects -/
def rd_z : rd_St := fun c _ => if c = 4 then 1 else 0
theorem rd_z0 {c : Nat} (h : c ≠ 4) (j : Nat) : nI (rd_z c j) = 0 := by unfold rd_z; rw [if_neg h]; rfl
theorem rd_z4 (j : Nat) : nI (rd_z 4 j) - 1 = 0 := by unfold rd_z; rw [if_pos rfl]; decide
theorem rd_zero {N : Nat} {f : Nat → Int32} (hf : ∀ j, f j = 0) : ∀ cA : ClassId, vp_cell cA (N, .inl f) = arrV cA N (fun _ => defaultValue .int) := fun cA => by
  rw [vp_cell_i]
  have e : (fun j => Value.int (f j)) = fun _ => defaultValue .int := by
    funext j; rw [hf j]; rfl
  rw [e]
/-- the class of int arrays is one -/
theorem rd_cA {D : va_G} {cl : List vw_C} {U : State} {c1 c2 : ClassId} (h : va_K D cl [(c1, .int), (c2, .int)] U) : c2 = c1 := by
  have h1 := (h.2 0 _ rfl).2
  have h2 := (h.2 1 _ rfl).2
  exact Option.some.inj (Eq.trans (Eq.symm h2) h1)
def rd_w0X0 (h : Nat) : va_W := [(h, .inr (0, [.null, .null, .int 0, .null, .null, .int 0, .null, .null, .null, .int 0, .null, .null]))]
def rd_biX0 (D : va_G) (A : Nat → Prop) (h : Nat) (u : (Nat → Nat) × ClassId) (t : State) : Prop := va_P D vwCl (rd_dw h u.1 u.2 rd_z) t.heap ∧ va_K D vwCl [(u.2, .int)] t ∧ va_D A (rd_dw h u.1 u.2 rd_z)
set_option maxHeartbeats 4000000 in
set_option maxRecDepth 100000 in
theorem rd_d_init (l : Launch) (D : va_G) (h sz : Nat) : Met l yX0_init (ws_ yX0_init cX0_init 1 none) ({ frames := 1, cells := 9, slots := 506, locals := 30 } : Room) (va_Pc [.ref h] (fun U => U.heap.size = sz ∧ va_P D vwCl (rd_w0X0 h) U.heap ∧ va_K D vwCl [] U ∧ va_D (fun _ => True) (rd_w0X0 h))) (va_Qv (fun _ : (Nat → Nat) × ClassId => True) (rd_biX0 D (va_A (rd_w0X0 h) sz) h) (va_A (rd_w0X0 h) sz)) 9 506 (va_A (rd_w0X0 h) sz) := by
  refine Met.ofW (cc := cX0_init) (maxL := 1) (ret := none) (by decide) rfl ?_
  intro p e s m args below meth c s₁ B hml hv
  obtain ⟨rfl, hsz, hP, hK, hD0⟩ := hv
  have hx := B.exec
  have hb := B.bytes
  have hr := B.returns
  have hts := atoms_spec (ws := ws_ yX0_init cX0_init 1 none) B.pre
  have hts : ∀ w ∈ lw_all, w.before _ s = true := fun w h => hts w (List.mem_cons_of_mem _ h)
  have hown : s.vm.findClass RX0 = some m.cls := findClass_of_methodNamed B.named
  have hlocks := B.notSynchronized
  have hin : meth.name = "<init>" := (name_of_methodNamed B.named B.method).1
  subst hsz
  have hD := hD0.self (sz := s.heap.size)
  generalize hAe : va_A (rd_w0X0 h) s.heap.size = A at hD ⊢
  have hA : ∀ q : Nat, s.heap.size ≤ q → A q := fun q h => by rw [← hAe]; exact Or.inr h
  have hS : va_S A s.heap s.heap [] := va_S.rf
  have hP : va_P D vwCl [(h, .inr (0, [.null, .null, .int 0, .null, .null, .int 0, .null, .null, .null, .int 0, .null, .null]))] s.heap := hP
  have hD : va_D A [(h, .inr (0, [.null, .null, .int 0, .null, .null, .int 0, .null, .null, .null, .int 0, .null, .null]))] := hD
  have hl := lv_entry ([.ref h]) (n := 1) (Nat.le_of_ble_eq_true rfl)
  rw [lg_entry_eq]
  generalize (lg_sl ([.ref h]) ++ List.replicate (1 - (lg_sl ([.ref h])).length) Slot.unset).toArray = ls at hl ⊢
  have hl : lv_has ls 1 [(0, .ref h)] := hl
  refine lv_aload_n hx hb dX0_init_0 rfl (lv_at hl 0 rfl) ?_
  refine W.objInit hx hb hown (hts _ q31) (hts _ q32) (hts _ q33) rfl (by rw [hml]; exact hl.1) rfl dX0_init_1 (Nat.le_of_ble_eq_true rfl) (Nat.le_of_ble_eq_true rfl) ?_
  refine W.eq (g2 := F0 m 4 ls []) rfl ?_
  refine lv_aload_n hx hb dX0_init_4 rfl (lv_at hl 0 rfl) ?_
  refine lv_bipush (v := nI 18) hx hb dX0_init_5 (by decide) ?_
  refine va_newa (atype := .int) (ty := .int) (N' := 18) (a0 := (18, .inl (fun j => nI (rd_z 0 j)))) hx hb (hts _ q71) rfl hK hP hD hS hA (rd_zero (rd_z0 (by decide))) (nI_pos (by decide)) (nI_clamp (by decide)) (by decide) (Nat.le_of_ble_eq_true rfl) (Nat.le_of_ble_eq_true rfl) dX0_init_7 (fun q0 cA0 H hK hP hD hS => ?_)
  obtain ⟨cA, hcA⟩ : ∃ z, z = cA0 := ⟨_, rfl⟩
  subst hcA
  have hK : va_K D vwCl [(cA, .int)] s := hK
  have hP : va_P D vwCl [(h, .inr (0, [.null, .null, .int 0, .null, .null, .int 0, .null, .null, .null, .int 0, .null, .null])), (q0, .inl (cA, 18, .inl (fun j => nI (rd_z 0 j))))] H := hP
  have hD : va_D A [(h, .inr (0, [.null, .null, .int 0, .null, .null, .int 0, .null, .null, .null, .int 0, .null, .null])), (q0, .inl (cA, 18, .inl (fun j => nI (rd_z 0 j))))] := hD
  refine W.widen (k := 1) (n := 18) (Nat.le_of_ble_eq_true rfl) (Nat.le_of_ble_eq_true rfl) ?_
  refine va_putF (D := D) (ci := 0) (v := .ref q0) (ty := .array .int) (C := RX0) (T := TX0) (N := 12) hx hb hts in_X0 tyX0 tyX0_ok nmX0 hown hK hP hD hS 0 rfl rfl 0 (by decide) (hts _ q34) (fun _ h9 => h9) rfl hin rfl (by decide +kernel) rfl rfl (Nat.le_of_ble_eq_true rfl) dX0_init_9 (fun H locs hP hD hS => ?_)
  have hP : va_P D vwCl [(h, .inr (0, [.ref q0, .null, .int 0, .null, .null, .int 0, .null, .null, .null, .int 0, .null, .null])), (q0, .inl (cA, 18, .inl (fun j => nI (rd_z 0 j))))] H := hP
  have hD : va_D A [(h, .inr (0, [.ref q0, .null, .int 0, .null, .null, .int 0, .null, .null, .null, .int 0, .null, .null])), (q0, .inl (cA, 18, .inl (fun j => nI (rd_z 0 j))))] := hD
  refine lv_aload_n hx hb dX0_init_12 rfl (lv_at hl 0 rfl) ?_
  refine lv_sipush (v := nI 324) hx hb dX0_init_13 (by decide) ?_
  refine va_newa (atype := .int) (ty := .int) (N' := 324) (a0 := (324, .inl (fun j => nI (rd_z 1 j)))) hx hb (hts _ q71) rfl hK hP hD hS hA (rd_zero (rd_z0 (by decide))) (nI_pos (by decide)) (nI_clamp (by decide)) (by decide) (Nat.le_of_ble_eq_true rfl) (Nat.le_of_ble_eq_true rfl) dX0_init_16 (fun q1 cA1 H hK hP hD hS => ?_)
  have hcA : cA1 = cA := rd_cA hK
  subst hcA
  have hK : va_K D vwCl [(cA1, .int)] s := hK.sub [0] rfl
  obtain ⟨cA, hcA⟩ : ∃ z, z = cA1 := ⟨_, rfl⟩
  subst hcA
  have hP : va_P D vwCl [(h, .inr (0, [.ref q0, .null, .int 0, .null, .null, .int 0, .null, .null, .null, .int 0, .null, .null])), (q0, .inl (cA, 18, .inl (fun j => nI (rd_z 0 j)))), (q1, .inl (cA, 324, .inl (fun j => nI (rd_z 1 j))))] H := hP
  have hD : va_D A [(h, .inr (0, [.ref q0, .null, .int 0, .null, .null, .int 0, .null, .null, .null, .int 0, .null, .null])), (q0, .inl (cA, 18, .inl (fun j => nI (rd_z 0 j)))), (q1, .inl (cA, 324, .inl (fun j => nI (rd_z 1 j))))] := hD
  refine W.widen (k := 2) (n := 342) (Nat.le_of_ble_eq_true rfl) (Nat.le_of_ble_eq_true rfl) ?_
  refine va_putF (D := D) (ci := 0) (v := .ref q1) (ty := .array .int) (C := RX0) (T := TX0) (N := 12) hx hb hts in_X0 tyX0 tyX0_ok nmX0 hown hK hP hD hS 0 rfl rfl 1 (by decide) (hts _ q35) (fun _ h9 => h9) rfl hin rfl (by decide +kernel) rfl rfl (Nat.le_of_ble_eq_true rfl) dX0_init_18 (fun H locs hP hD hS => ?_)
  have hP : va_P D vwCl [(h, .inr (0, [.ref q0, .ref q1, .int 0, .null, .null, .int 0, .null, .null, .null, .int 0, .null, .null])), (q0, .inl (cA, 18, .inl (fun j => nI (rd_z 0 j)))), (q1, .inl (cA, 324, .inl (fun j => nI (rd_z 1 j))))] H := hP
  have hD : va_D A [(h, .inr (0, [.ref q0, .ref q1, .int 0, .null, .null, .int 0, .null, .null, .null, .int 0, .null, .null])), (q0, .inl (cA, 18, .inl (fun j => nI (rd_z 0 j)))), (q1, .inl (cA, 324, .inl (fun j => nI (rd_z 1 j))))] := hD
  refine lv_aload_n hx hb dX0_init_21 rfl (lv_at hl 0 rfl) ?_
  refine lv_bipush (v := nI 7) hx hb dX0_init_22 (by decide) ?_
  refine va_newa (atype := .int) (ty := .int) (N' := 7) (a0 := (7, .inl (fun j => nI (rd_z 2 j)))) hx hb (hts _ q71) rfl hK hP hD hS hA (rd_zero (rd_z0 (by decide))) (nI_pos (by decide)) (nI_clamp (by decide)) (by decide) (Nat.le_of_ble_eq_true rfl) (Nat.le_of_ble_eq_true rfl) dX0_init_24 (fun q2 cA2 H hK hP hD hS => ?_)
  have hcA : cA2 = cA := rd_cA hK
  subst hcA
  have hK : va_K D vwCl [(cA2, .int)] s := hK.sub [0] rfl
  obtain ⟨cA, hcA⟩ : ∃ z, z = cA2 := ⟨_, rfl⟩
  subst hcA
  have hP : va_P D vwCl [(h, .inr (0, [.ref q0, .ref q1, .int 0, .null, .null, .int 0, .null, .null, .null, .int 0, .null, .null])), (q0, .inl (cA, 18, .inl (fun j => nI (rd_z 0 j)))), (q1, .inl (cA, 324, .inl (fun j => nI (rd_z 1 j)))), (q2, .inl (cA, 7, .inl (fun j => nI (rd_z 2 j))))] H := hP
  have hD : va_D A [(h, .inr (0, [.ref q0, .ref q1, .int 0, .null, .null, .int 0, .null, .null, .null, .int 0, .null, .null])), (q0, .inl (cA, 18, .inl (fun j => nI (rd_z 0 j)))), (q1, .inl (cA, 324, .inl (fun j => nI (rd_z 1 j)))), (q2, .inl (cA, 7, .inl (fun j => nI (rd_z 2 j))))] := hD
  refine W.widen (k := 3) (n := 349) (Nat.le_of_ble_eq_true rfl) (Nat.le_of_ble_eq_true rfl) ?_
  refine va_putF (D := D) (ci := 0) (v := .ref q2) (ty := .array .int) (C := RX0) (T := TX0) (N := 12) hx hb hts in_X0 tyX0 tyX0_ok nmX0 hown hK hP hD hS 0 rfl rfl 3 (by decide) (hts _ q37) (fun _ h9 => h9) rfl hin rfl (by decide +kernel) rfl rfl (Nat.le_of_ble_eq_true rfl) dX0_init_26 (fun H locs hP hD hS => ?_)
  have hP : va_P D vwCl [(h, .inr (0, [.ref q0, .ref q1, .int 0, .ref q2, .null, .int 0, .null, .null, .null, .int 0, .null, .null])), (q0, .inl (cA, 18, .inl (fun j => nI (rd_z 0 j)))), (q1, .inl (cA, 324, .inl (fun j => nI (rd_z 1 j)))), (q2, .inl (cA, 7, .inl (fun j => nI (rd_z 2 j))))] H := hP
  have hD : va_D A [(h, .inr (0, [.ref q0, .ref q1, .int 0, .ref q2, .null, .int 0, .null, .null, .null, .int 0, .null, .null])), (q0, .inl (cA, 18, .inl (fun j => nI (rd_z 0 j)))), (q1, .inl (cA, 324, .inl (fun j => nI (rd_z 1 j)))), (q2, .inl (cA, 7, .inl (fun j => nI (rd_z 2 j))))] := hD
  refine lv_aload_n hx hb dX0_init_29 rfl (lv_at hl 0 rfl) ?_
  refine lv_bipush (v := nI 6) hx hb dX0_init_30 (by decide) ?_
  refine va_newa (atype := .int) (ty := .int) (N' := 6) (a0 := (6, .inl (fun j => nI (rd_z 3 j)))) hx hb (hts _ q71) rfl hK hP hD hS hA (rd_zero (rd_z0 (by decide))) (nI_pos (by decide)) (nI_clamp (by decide)) (by decide) (Nat.le_of_ble_eq_true rfl) (Nat.le_of_ble_eq_true rfl) dX0_init_32 (fun q3 cA3 H hK hP hD hS => ?_)
  have hcA : cA3 = cA := rd_cA hK
  subst hcA
  have hK : va_K D vwCl [(cA3, .int)] s := hK.sub [0] rfl
  obtain ⟨cA, hcA⟩ : ∃ z, z = cA3 := ⟨_, rfl⟩
  subst hcA
  have hP : va_P D vwCl [(h, .inr (0, [.ref q0, .ref q1, .int 0, .ref q2, .null, .int 0, .null, .null, .null, .int 0, .null, .null])), (q0, .inl (cA, 18, .inl (fun j => nI (rd_z 0 j)))), (q1, .inl (cA, 324, .inl (fun j => nI (rd_z 1 j)))), (q2, .inl (cA, 7, .inl (fun j => nI (rd_z 2 j)))), (q3, .inl (cA, 6, .inl (fun j => nI (rd_z 3 j))))] H := hP
  have hD : va_D A [(h, .inr (0, [.ref q0, .ref q1, .int 0, .ref q2, .null, .int 0, .null, .null, .null, .int 0, .null, .null])), (q0, .inl (cA, 18, .inl (fun j => nI (rd_z 0 j)))), (q1, .inl (cA, 324, .inl (fun j => nI (rd_z 1 j)))), (q2, .inl (cA, 7, .inl (fun j => nI (rd_z 2 j)))), (q3, .inl (cA, 6, .inl (fun j => nI (rd_z 3 j))))] := hD
  refine W.widen (k := 4) (n := 355) (Nat.le_of_ble_eq_true rfl) (Nat.le_of_ble_eq_true rfl) ?_
  refine va_putF (D := D) (ci := 0) (v := .ref q3) (ty := .array .int) (C := RX0) (T := TX0) (N := 12) hx hb hts in_X0 tyX0 tyX0_ok nmX0 hown hK hP hD hS 0 rfl rfl 4 (by decide) (hts _ q38) (fun _ h9 => h9) rfl hin rfl (by decide +kernel) rfl rfl (Nat.le_of_ble_eq_true rfl) dX0_init_34 (fun H locs hP hD hS => ?_)
  have hP : va_P D vwCl [(h, .inr (0, [.ref q0, .ref q1, .int 0, .ref q2, .ref q3, .int 0, .null, .null, .null, .int 0, .null, .null])), (q0, .inl (cA, 18, .inl (fun j => nI (rd_z 0 j)))), (q1, .inl (cA, 324, .inl (fun j => nI (rd_z 1 j)))), (q2, .inl (cA, 7, .inl (fun j => nI (rd_z 2 j)))), (q3, .inl (cA, 6, .inl (fun j => nI (rd_z 3 j))))] H := hP
  have hD : va_D A [(h, .inr (0, [.ref q0, .ref q1, .int 0, .ref q2, .ref q3, .int 0, .null, .null, .null, .int 0, .null, .null])), (q0, .inl (cA, 18, .inl (fun j => nI (rd_z 0 j)))), (q1, .inl (cA, 324, .inl (fun j => nI (rd_z 1 j)))), (q2, .inl (cA, 7, .inl (fun j => nI (rd_z 2 j)))), (q3, .inl (cA, 6, .inl (fun j => nI (rd_z 3 j))))] := hD
  refine lv_aload_n hx hb dX0_init_37 rfl (lv_at hl 0 rfl) ?_
  refine lv_bipush (v := nI 6) hx hb dX0_init_38 (by decide) ?_
  refine va_newa (atype := .int) (ty := .int) (N' := 6) (a0 := (6, .inl (fun j => nI (rd_z 4 j) - 1))) hx hb (hts _ q71) rfl hK hP hD hS hA (rd_zero (rd_z4)) (nI_pos (by decide)) (nI_clamp (by decide)) (by decide) (Nat.le_of_ble_eq_true rfl) (Nat.le_of_ble_eq_true rfl) dX0_init_40 (fun q4 cA4 H hK hP hD hS => ?_)
  have hcA : cA4 = cA := rd_cA hK
  subst hcA
  have hK : va_K D vwCl [(cA4, .int)] s := hK.sub [0] rfl
  obtain ⟨cA, hcA⟩ : ∃ z, z = cA4 := ⟨_, rfl⟩
  subst hcA
  have hP : va_P D vwCl [(h, .inr (0, [.ref q0, .ref q1, .int 0, .ref q2, .ref q3, .int 0, .null, .null, .null, .int 0, .null, .null])), (q0, .inl (cA, 18, .inl (fun j => nI (rd_z 0 j)))), (q1, .inl (cA, 324, .inl (fun j => nI (rd_z 1 j)))), (q2, .inl (cA, 7, .inl (fun j => nI (rd_z 2 j)))), (q3, .inl (cA, 6, .inl (fun j => nI (rd_z 3 j)))), (q4, .inl (cA, 6, .inl (fun j => nI (rd_z 4 j) - 1)))] H := hP
  have hD : va_D A [(h, .inr (0, [.ref q0, .ref q1, .int 0, .ref q2, .ref q3, .int 0, .null, .null, .null, .int 0, .null, .null])), (q0, .inl (cA, 18, .inl (fun j => nI (rd_z 0 j)))), (q1, .inl (cA, 324, .inl (fun j => nI (rd_z 1 j)))), (q2, .inl (cA, 7, .inl (fun j => nI (rd_z 2 j)))), (q3, .inl (cA, 6, .inl (fun j => nI (rd_z 3 j)))), (q4, .inl (cA, 6, .inl (fun j => nI (rd_z 4 j) - 1)))] := hD
  refine W.widen (k := 5) (n := 361) (Nat.le_of_ble_eq_true rfl) (Nat.le_of_ble_eq_true rfl) ?_
  refine va_putF (D := D) (ci := 0) (v := .ref q4) (ty := .array .int) (C := RX0) (T := TX0) (N := 12) hx hb hts in_X0 tyX0 tyX0_ok nmX0 hown hK hP hD hS 0 rfl rfl 6 (by decide) (hts _ q40) (fun _ h9 => h9) rfl hin rfl (by decide +kernel) rfl rfl (Nat.le_of_ble_eq_true rfl) dX0_init_42 (fun H locs hP hD hS => ?_)
  have hP : va_P D vwCl [(h, .inr (0, [.ref q0, .ref q1, .int 0, .ref q2, .ref q3, .int 0, .ref q4, .null, .null, .int 0, .null, .null])), (q0, .inl (cA, 18, .inl (fun j => nI (rd_z 0 j)))), (q1, .inl (cA, 324, .inl (fun j => nI (rd_z 1 j)))), (q2, .inl (cA, 7, .inl (fun j => nI (rd_z 2 j)))), (q3, .inl (cA, 6, .inl (fun j => nI (rd_z 3 j)))), (q4, .inl (cA, 6, .inl (fun j => nI (rd_z 4 j) - 1)))] H := hP
  have hD : va_D A [(h, .inr (0, [.ref q0, .ref q1, .int 0, .ref q2, .ref q3, .int 0, .ref q4, .null, .null, .int 0, .null, .null])), (q0, .inl (cA, 18, .inl (fun j => nI (rd_z 0 j)))), (q1, .inl (cA, 324, .inl (fun j => nI (rd_z 1 j)))), (q2, .inl (cA, 7, .inl (fun j => nI (rd_z 2 j)))), (q3, .inl (cA, 6, .inl (fun j => nI (rd_z 3 j)))), (q4, .inl (cA, 6, .inl (fun j => nI (rd_z 4 j) - 1)))] := hD
  refine lv_aload_n hx hb dX0_init_45 rfl (lv_at hl 0 rfl) ?_
  refine lv_bipush (v := nI 7) hx hb dX0_init_46 (by decide) ?_
  refine va_newa (atype := .int) (ty := .int) (N' := 7) (a0 := (7, .inl (fun j => nI (rd_z 5 j)))) hx hb (hts _ q71) rfl hK hP hD hS hA (rd_zero (rd_z0 (by decide))) (nI_pos (by decide)) (nI_clamp (by decide)) (by decide) (Nat.le_of_ble_eq_true rfl) (Nat.le_of_ble_eq_true rfl) dX0_init_48 (fun q5 cA5 H hK hP hD hS => ?_)
  have hcA : cA5 = cA := rd_cA hK
  subst hcA
  have hK : va_K D vwCl [(cA5, .int)] s := hK.sub [0] rfl
  obtain ⟨cA, hcA⟩ : ∃ z, z = cA5 := ⟨_, rfl⟩
  subst hcA
  have hP : va_P D vwCl [(h, .inr (0, [.ref q0, .ref q1, .int 0, .ref q2, .ref q3, .int 0, .ref q4, .null, .null, .int 0, .null, .null])), (q0, .inl (cA, 18, .inl (fun j => nI (rd_z 0 j)))), (q1, .inl (cA, 324, .inl (fun j => nI (rd_z 1 j)))), (q2, .inl (cA, 7, .inl (fun j => nI (rd_z 2 j)))), (q3, .inl (cA, 6, .inl (fun j => nI (rd_z 3 j)))), (q4, .inl (cA, 6, .inl (fun j => nI (rd_z 4 j) - 1))), (q5, .inl (cA, 7, .inl (fun j => nI (rd_z 5 j))))] H := hP
  have hD : va_D A [(h, .inr (0, [.ref q0, .ref q1, .int 0, .ref q2, .ref q3, .int 0, .ref q4, .null, .null, .int 0, .null, .null])), (q0, .inl (cA, 18, .inl (fun j => nI (rd_z 0 j)))), (q1, .inl (cA, 324, .inl (fun j => nI (rd_z 1 j)))), (q2, .inl (cA, 7, .inl (fun j => nI (rd_z 2 j)))), (q3, .inl (cA, 6, .inl (fun j => nI (rd_z 3 j)))), (q4, .inl (cA, 6, .inl (fun j => nI (rd_z 4 j) - 1))), (q5, .inl (cA, 7, .inl (fun j => nI (rd_z 5 j))))] := hD
  refine W.widen (k := 6) (n := 368) (Nat.le_of_ble_eq_true rfl) (Nat.le_of_ble_eq_true rfl) ?_
  refine va_putF (D := D) (ci := 0) (v := .ref q5) (ty := .array .int) (C := RX0) (T := TX0) (N := 12) hx hb hts in_X0 tyX0 tyX0_ok nmX0 hown hK hP hD hS 0 rfl rfl 7 (by decide) (hts _ q41) (fun _ h9 => h9) rfl hin rfl (by decide +kernel) rfl rfl (Nat.le_of_ble_eq_true rfl) dX0_init_50 (fun H locs hP hD hS => ?_)
  have hP : va_P D vwCl [(h, .inr (0, [.ref q0, .ref q1, .int 0, .ref q2, .ref q3, .int 0, .ref q4, .ref q5, .null, .int 0, .null, .null])), (q0, .inl (cA, 18, .inl (fun j => nI (rd_z 0 j)))), (q1, .inl (cA, 324, .inl (fun j => nI (rd_z 1 j)))), (q2, .inl (cA, 7, .inl (fun j => nI (rd_z 2 j)))), (q3, .inl (cA, 6, .inl (fun j => nI (rd_z 3 j)))), (q4, .inl (cA, 6, .inl (fun j => nI (rd_z 4 j) - 1))), (q5, .inl (cA, 7, .inl (fun j => nI (rd_z 5 j))))] H := hP
  have hD : va_D A [(h, .inr (0, [.ref q0, .ref q1, .int 0, .ref q2, .ref q3, .int 0, .ref q4, .ref q5, .null, .int 0, .null, .null])), (q0, .inl (cA, 18, .inl (fun j => nI (rd_z 0 j)))), (q1, .inl (cA, 324, .inl (fun j => nI (rd_z 1 j)))), (q2, .inl (cA, 7, .inl (fun j => nI (rd_z 2 j)))), (q3, .inl (cA, 6, .inl (fun j => nI (rd_z 3 j)))), (q4, .inl (cA, 6, .inl (fun j => nI (rd_z 4 j) - 1))), (q5, .inl (cA, 7, .inl (fun j => nI (rd_z 5 j))))] := hD
  refine lv_aload_n hx hb dX0_init_53 rfl (lv_at hl 0 rfl) ?_
  refine lv_bipush (v := nI 126) hx hb dX0_init_54 (by decide) ?_
  refine va_newa (atype := .int) (ty := .int) (N' := 126) (a0 := (126, .inl (fun j => nI (rd_z 6 j)))) hx hb (hts _ q71) rfl hK hP hD hS hA (rd_zero (rd_z0 (by decide))) (nI_pos (by decide)) (nI_clamp (by decide)) (by decide) (Nat.le_of_ble_eq_true rfl) (Nat.le_of_ble_eq_true rfl) dX0_init_56 (fun q6 cA6 H hK hP hD hS => ?_)
  have hcA : cA6 = cA := rd_cA hK
  subst hcA
  have hK : va_K D vwCl [(cA6, .int)] s := hK.sub [0] rfl
  obtain ⟨cA, hcA⟩ : ∃ z, z = cA6 := ⟨_, rfl⟩
  subst hcA
  have hP : va_P D vwCl [(h, .inr (0, [.ref q0, .ref q1, .int 0, .ref q2, .ref q3, .int 0, .ref q4, .ref q5, .null, .int 0, .null, .null])), (q0, .inl (cA, 18, .inl (fun j => nI (rd_z 0 j)))), (q1, .inl (cA, 324, .inl (fun j => nI (rd_z 1 j)))), (q2, .inl (cA, 7, .inl (fun j => nI (rd_z 2 j)))), (q3, .inl (cA, 6, .inl (fun j => nI (rd_z 3 j)))), (q4, .inl (cA, 6, .inl (fun j => nI (rd_z 4 j) - 1))), (q5, .inl (cA, 7, .inl (fun j => nI (rd_z 5 j)))), (q6, .inl (cA, 126, .inl (fun j => nI (rd_z 6 j))))] H := hP
  have hD : va_D A [(h, .inr (0, [.ref q0, .ref q1, .int 0, .ref q2, .ref q3, .int 0, .ref q4, .ref q5, .null, .int 0, .null, .null])), (q0, .inl (cA, 18, .inl (fun j => nI (rd_z 0 j)))), (q1, .inl (cA, 324, .inl (fun j => nI (rd_z 1 j)))), (q2, .inl (cA, 7, .inl (fun j => nI (rd_z 2 j)))), (q3, .inl (cA, 6, .inl (fun j => nI (rd_z 3 j)))), (q4, .inl (cA, 6, .inl (fun j => nI (rd_z 4 j) - 1))), (q5, .inl (cA, 7, .inl (fun j => nI (rd_z 5 j)))), (q6, .inl (cA, 126, .inl (fun j => nI (rd_z 6 j))))] := hD
  refine W.widen (k := 7) (n := 494) (Nat.le_of_ble_eq_true rfl) (Nat.le_of_ble_eq_true rfl) ?_
  refine va_putF (D := D) (ci := 0) (v := .ref q6) (ty := .array .int) (C := RX0) (T := TX0) (N := 12) hx hb hts in_X0 tyX0 tyX0_ok nmX0 hown hK hP hD hS 0 rfl rfl 8 (by decide) (hts _ q42) (fun _ h9 => h9) rfl hin rfl (by decide +kernel) rfl rfl (Nat.le_of_ble_eq_true rfl) dX0_init_58 (fun H locs hP hD hS => ?_)
  have hP : va_P D vwCl [(h, .inr (0, [.ref q0, .ref q1, .int 0, .ref q2, .ref q3, .int 0, .ref q4, .ref q5, .ref q6, .int 0, .null, .null])), (q0, .inl (cA, 18, .inl (fun j => nI (rd_z 0 j)))), (q1, .inl (cA, 324, .inl (fun j => nI (rd_z 1 j)))), (q2, .inl (cA, 7, .inl (fun j => nI (rd_z 2 j)))), (q3, .inl (cA, 6, .inl (fun j => nI (rd_z 3 j)))), (q4, .inl (cA, 6, .inl (fun j => nI (rd_z 4 j) - 1))), (q5, .inl (cA, 7, .inl (fun j => nI (rd_z 5 j)))), (q6, .inl (cA, 126, .inl (fun j => nI (rd_z 6 j))))] H := hP
  have hD : va_D A [(h, .inr (0, [.ref q0, .ref q1, .int 0, .ref q2, .ref q3, .int 0, .ref q4, .ref q5, .ref q6, .int 0, .null, .null])), (q0, .inl (cA, 18, .inl (fun j => nI (rd_z 0 j)))), (q1, .inl (cA, 324, .inl (fun j => nI (rd_z 1 j)))), (q2, .inl (cA, 7, .inl (fun j => nI (rd_z 2 j)))), (q3, .inl (cA, 6, .inl (fun j => nI (rd_z 3 j)))), (q4, .inl (cA, 6, .inl (fun j => nI (rd_z 4 j) - 1))), (q5, .inl (cA, 7, .inl (fun j => nI (rd_z 5 j)))), (q6, .inl (cA, 126, .inl (fun j => nI (rd_z 6 j))))] := hD
  refine lv_aload_n hx hb dX0_init_61 rfl (lv_at hl 0 rfl) ?_
  refine lv_bipush (v := nI 6) hx hb dX0_init_62 (by decide) ?_
  refine va_newa (atype := .int) (ty := .int) (N' := 6) (a0 := (6, .inl (fun j => nI (rd_z 7 j)))) hx hb (hts _ q71) rfl hK hP hD hS hA (rd_zero (rd_z0 (by decide))) (nI_pos (by decide)) (nI_clamp (by decide)) (by decide) (Nat.le_of_ble_eq_true rfl) (Nat.le_of_ble_eq_true rfl) dX0_init_64 (fun q7 cA7 H hK hP hD hS => ?_)
  have hcA : cA7 = cA := rd_cA hK
  subst hcA
  have hK : va_K D vwCl [(cA7, .int)] s := hK.sub [0] rfl
  obtain ⟨cA, hcA⟩ : ∃ z, z = cA7 := ⟨_, rfl⟩
  subst hcA
  have hP : va_P D vwCl [(h, .inr (0, [.ref q0, .ref q1, .int 0, .ref q2, .ref q3, .int 0, .ref q4, .ref q5, .ref q6, .int 0, .null, .null])), (q0, .inl (cA, 18, .inl (fun j => nI (rd_z 0 j)))), (q1, .inl (cA, 324, .inl (fun j => nI (rd_z 1 j)))), (q2, .inl (cA, 7, .inl (fun j => nI (rd_z 2 j)))), (q3, .inl (cA, 6, .inl (fun j => nI (rd_z 3 j)))), (q4, .inl (cA, 6, .inl (fun j => nI (rd_z 4 j) - 1))), (q5, .inl (cA, 7, .inl (fun j => nI (rd_z 5 j)))), (q6, .inl (cA, 126, .inl (fun j => nI (rd_z 6 j)))), (q7, .inl (cA, 6, .inl (fun j => nI (rd_z 7 j))))] H := hP
  have hD : va_D A [(h, .inr (0, [.ref q0, .ref q1, .int 0, .ref q2, .ref q3, .int 0, .ref q4, .ref q5, .ref q6, .int 0, .null, .null])), (q0, .inl (cA, 18, .inl (fun j => nI (rd_z 0 j)))), (q1, .inl (cA, 324, .inl (fun j => nI (rd_z 1 j)))), (q2, .inl (cA, 7, .inl (fun j => nI (rd_z 2 j)))), (q3, .inl (cA, 6, .inl (fun j => nI (rd_z 3 j)))), (q4, .inl (cA, 6, .inl (fun j => nI (rd_z 4 j) - 1))), (q5, .inl (cA, 7, .inl (fun j => nI (rd_z 5 j)))), (q6, .inl (cA, 126, .inl (fun j => nI (rd_z 6 j)))), (q7, .inl (cA, 6, .inl (fun j => nI (rd_z 7 j))))] := hD
  refine W.widen (k := 8) (n := 500) (Nat.le_of_ble_eq_true rfl) (Nat.le_of_ble_eq_true rfl) ?_
  refine va_putF (D := D) (ci := 0) (v := .ref q7) (ty := .array .int) (C := RX0) (T := TX0) (N := 12) hx hb hts in_X0 tyX0 tyX0_ok nmX0 hown hK hP hD hS 0 rfl rfl 10 (by decide) (hts _ q44) (fun _ h9 => h9) rfl hin rfl (by decide +kernel) rfl rfl (Nat.le_of_ble_eq_true rfl) dX0_init_66 (fun H locs hP hD hS => ?_)
  have hP : va_P D vwCl [(h, .inr (0, [.ref q0, .ref q1, .int 0, .ref q2, .ref q3, .int 0, .ref q4, .ref q5, .ref q6, .int 0, .ref q7, .null])), (q0, .inl (cA, 18, .inl (fun j => nI (rd_z 0 j)))), (q1, .inl (cA, 324, .inl (fun j => nI (rd_z 1 j)))), (q2, .inl (cA, 7, .inl (fun j => nI (rd_z 2 j)))), (q3, .inl (cA, 6, .inl (fun j => nI (rd_z 3 j)))), (q4, .inl (cA, 6, .inl (fun j => nI (rd_z 4 j) - 1))), (q5, .inl (cA, 7, .inl (fun j => nI (rd_z 5 j)))), (q6, .inl (cA, 126, .inl (fun j => nI (rd_z 6 j)))), (q7, .inl (cA, 6, .inl (fun j => nI (rd_z 7 j))))] H := hP
  have hD : va_D A [(h, .inr (0, [.ref q0, .ref q1, .int 0, .ref q2, .ref q3, .int 0, .ref q4, .ref q5, .ref q6, .int 0, .ref q7, .null])), (q0, .inl (cA, 18, .inl (fun j => nI (rd_z 0 j)))), (q1, .inl (cA, 324, .inl (fun j => nI (rd_z 1 j)))), (q2, .inl (cA, 7, .inl (fun j => nI (rd_z 2 j)))), (q3, .inl (cA, 6, .inl (fun j => nI (rd_z 3 j)))), (q4, .inl (cA, 6, .inl (fun j => nI (rd_z 4 j) - 1))), (q5, .inl (cA, 7, .inl (fun j => nI (rd_z 5 j)))), (q6, .inl (cA, 126, .inl (fun j => nI (rd_z 6 j)))), (q7, .inl (cA, 6, .inl (fun j => nI (rd_z 7 j))))] := hD
  refine lv_aload_n hx hb dX0_init_69 rfl (lv_at hl 0 rfl) ?_
  refine lv_bipush (v := nI 6) hx hb dX0_init_70 (by decide) ?_
  refine va_newa (atype := .int) (ty := .int) (N' := 6) (a0 := (6, .inl (fun j => nI (rd_z 8 j)))) hx hb (hts _ q71) rfl hK hP hD hS hA (rd_zero (rd_z0 (by decide))) (nI_pos (by decide)) (nI_clamp (by decide)) (by decide) (Nat.le_of_ble_eq_true rfl) (Nat.le_of_ble_eq_true rfl) dX0_init_72 (fun q8 cA8 H hK hP hD hS => ?_)
  have hcA : cA8 = cA := rd_cA hK
  subst hcA
  have hK : va_K D vwCl [(cA8, .int)] s := hK.sub [0] rfl
  obtain ⟨cA, hcA⟩ : ∃ z, z = cA8 := ⟨_, rfl⟩
  subst hcA
  have hP : va_P D vwCl [(h, .inr (0, [.ref q0, .ref q1, .int 0, .ref q2, .ref q3, .int 0, .ref q4, .ref q5, .ref q6, .int 0, .ref q7, .null])), (q0, .inl (cA, 18, .inl (fun j => nI (rd_z 0 j)))), (q1, .inl (cA, 324, .inl (fun j => nI (rd_z 1 j)))), (q2, .inl (cA, 7, .inl (fun j => nI (rd_z 2 j)))), (q3, .inl (cA, 6, .inl (fun j => nI (rd_z 3 j)))), (q4, .inl (cA, 6, .inl (fun j => nI (rd_z 4 j) - 1))), (q5, .inl (cA, 7, .inl (fun j => nI (rd_z 5 j)))), (q6, .inl (cA, 126, .inl (fun j => nI (rd_z 6 j)))), (q7, .inl (cA, 6, .inl (fun j => nI (rd_z 7 j)))), (q8, .inl (cA, 6, .inl (fun j => nI (rd_z 8 j))))] H := hP
  have hD : va_D A [(h, .inr (0, [.ref q0, .ref q1, .int 0, .ref q2, .ref q3, .int 0, .ref q4, .ref q5, .ref q6, .int 0, .ref q7, .null])), (q0, .inl (cA, 18, .inl (fun j => nI (rd_z 0 j)))), (q1, .inl (cA, 324, .inl (fun j => nI (rd_z 1 j)))), (q2, .inl (cA, 7, .inl (fun j => nI (rd_z 2 j)))), (q3, .inl (cA, 6, .inl (fun j => nI (rd_z 3 j)))), (q4, .inl (cA, 6, .inl (fun j => nI (rd_z 4 j) - 1))), (q5, .inl (cA, 7, .inl (fun j => nI (rd_z 5 j)))), (q6, .inl (cA, 126, .inl (fun j => nI (rd_z 6 j)))), (q7, .inl (cA, 6, .inl (fun j => nI (rd_z 7 j)))), (q8, .inl (cA, 6, .inl (fun j => nI (rd_z 8 j))))] := hD
  refine W.widen (k := 9) (n := 506) (Nat.le_of_ble_eq_true rfl) (Nat.le_of_ble_eq_true rfl) ?_
  refine va_putF (D := D) (ci := 0) (v := .ref q8) (ty := .array .int) (C := RX0) (T := TX0) (N := 12) hx hb hts in_X0 tyX0 tyX0_ok nmX0 hown hK hP hD hS 0 rfl rfl 11 (by decide) (hts _ q45) (fun _ h9 => h9) rfl hin rfl (by decide +kernel) rfl rfl (Nat.le_of_ble_eq_true rfl) dX0_init_74 (fun H locs hP hD hS => ?_)
  have hP : va_P D vwCl [(h, .inr (0, [.ref q0, .ref q1, .int 0, .ref q2, .ref q3, .int 0, .ref q4, .ref q5, .ref q6, .int 0, .ref q7, .ref q8])), (q0, .inl (cA, 18, .inl (fun j => nI (rd_z 0 j)))), (q1, .inl (cA, 324, .inl (fun j => nI (rd_z 1 j)))), (q2, .inl (cA, 7, .inl (fun j => nI (rd_z 2 j)))), (q3, .inl (cA, 6, .inl (fun j => nI (rd_z 3 j)))), (q4, .inl (cA, 6, .inl (fun j => nI (rd_z 4 j) - 1))), (q5, .inl (cA, 7, .inl (fun j => nI (rd_z 5 j)))), (q6, .inl (cA, 126, .inl (fun j => nI (rd_z 6 j)))), (q7, .inl (cA, 6, .inl (fun j => nI (rd_z 7 j)))), (q8, .inl (cA, 6, .inl (fun j => nI (rd_z 8 j))))] H := hP
  have hD : va_D A [(h, .inr (0, [.ref q0, .ref q1, .int 0, .ref q2, .ref q3, .int 0, .ref q4, .ref q5, .ref q6, .int 0, .ref q7, .ref q8])), (q0, .inl (cA, 18, .inl (fun j => nI (rd_z 0 j)))), (q1, .inl (cA, 324, .inl (fun j => nI (rd_z 1 j)))), (q2, .inl (cA, 7, .inl (fun j => nI (rd_z 2 j)))), (q3, .inl (cA, 6, .inl (fun j => nI (rd_z 3 j)))), (q4, .inl (cA, 6, .inl (fun j => nI (rd_z 4 j) - 1))), (q5, .inl (cA, 7, .inl (fun j => nI (rd_z 5 j)))), (q6, .inl (cA, 126, .inl (fun j => nI (rd_z 6 j)))), (q7, .inl (cA, 6, .inl (fun j => nI (rd_z 7 j)))), (q8, .inl (cA, 6, .inl (fun j => nI (rd_z 8 j))))] := hD
  exact W.vret hx hb hr (fun t ht hW => ⟨⟨((fun k => ([q0, q1, q2, q3, q4, q5, q6, q7, q8] : List Nat).getD k 0), cA), rfl, trivial, by rw [ht]; exact hP, va_K.moved hW.alike hK, hD⟩, hS.F ht⟩) hS.2.2 dX0_init_77
def rd_w0X1 (h : Nat) : va_W := [(h, .inr (1, [.null, .null]))]
def rd_biX1 (D : va_G) (A : Nat → Prop) (h : Nat) (u : (Nat → Nat) × ClassId) (t : State) : Prop := va_P D vwCl (rd_mw h u.1 u.2 rd_z) t.heap ∧ va_K D vwCl [(u.2, .int)] t ∧ va_D A (rd_mw h u.1 u.2 rd_z)
set_option maxHeartbeats 4000000 in
set_option maxRecDepth 100000 in
theorem rd_m_init (l : Launch) (D : va_G) (h sz : Nat) : Met l yX1_init (ws_ yX1_init cX1_init 1 none) ({ frames := 1, cells := 2, slots := 342, locals := 30 } : Room) (va_Pc [.ref h] (fun U => U.heap.size = sz ∧ va_P D vwCl (rd_w0X1 h) U.heap ∧ va_K D vwCl [] U ∧ va_D (fun _ => True) (rd_w0X1 h))) (va_Qv (fun _ : (Nat → Nat) × ClassId => True) (rd_biX1 D (va_A (rd_w0X1 h) sz) h) (va_A (rd_w0X1 h) sz)) 2 342 (va_A (rd_w0X1 h) sz) := by
  refine Met.ofW (cc := cX1_init) (maxL := 1) (ret := none) (by decide) rfl ?_
  intro p e s m args below meth c s₁ B hml hv
  obtain ⟨rfl, hsz, hP, hK, hD0⟩ := hv
  have hx := B.exec
  have hb := B.bytes
  have hr := B.returns
  have hts := atoms_spec (ws := ws_ yX1_init cX1_init 1 none) B.pre
  have hts : ∀ w ∈ lw_all, w.before _ s = true := fun w h => hts w (List.mem_cons_of_mem _ h)
  have hown : s.vm.findClass RX1 = some m.cls := findClass_of_methodNamed B.named
  have hlocks := B.notSynchronized
  have hin : meth.name = "<init>" := (name_of_methodNamed B.named B.method).1
  subst hsz
  have hD := hD0.self (sz := s.heap.size)
  generalize hAe : va_A (rd_w0X1 h) s.heap.size = A at hD ⊢
  have hA : ∀ q : Nat, s.heap.size ≤ q → A q := fun q h => by rw [← hAe]; exact Or.inr h
  have hS : va_S A s.heap s.heap [] := va_S.rf
  have hP : va_P D vwCl [(h, .inr (1, [.null, .null]))] s.heap := hP
  have hD : va_D A [(h, .inr (1, [.null, .null]))] := hD
  have hl := lv_entry ([.ref h]) (n := 1) (Nat.le_of_ble_eq_true rfl)
  rw [lg_entry_eq]
  generalize (lg_sl ([.ref h]) ++ List.replicate (1 - (lg_sl ([.ref h])).length) Slot.unset).toArray = ls at hl ⊢
  have hl : lv_has ls 1 [(0, .ref h)] := hl
  refine lv_aload_n hx hb dX1_init_0 rfl (lv_at hl 0 rfl) ?_
  refine W.objInit hx hb hown (hts _ q181) (hts _ q32) (hts _ q33) rfl (by rw [hml]; exact hl.1) rfl dX1_init_1 (Nat.le_of_ble_eq_true rfl) (Nat.le_of_ble_eq_true rfl) ?_
  refine W.eq (g2 := F0 m 4 ls []) rfl ?_
  refine lv_aload_n hx hb dX1_init_4 rfl (lv_at hl 0 rfl) ?_
  refine lv_bipush (v := nI 18) hx hb dX1_init_5 (by decide) ?_
  refine va_newa (atype := .int) (ty := .int) (N' := 18) (a0 := (18, .inl (fun j => nI (rd_z 0 j)))) hx hb (hts _ q71) rfl hK hP hD hS hA (rd_zero (rd_z0 (by decide))) (nI_pos (by decide)) (nI_clamp (by decide)) (by decide) (Nat.le_of_ble_eq_true rfl) (Nat.le_of_ble_eq_true rfl) dX1_init_7 (fun q0 cA0 H hK hP hD hS => ?_)
  obtain ⟨cA, hcA⟩ : ∃ z, z = cA0 := ⟨_, rfl⟩
  subst hcA
  have hK : va_K D vwCl [(cA, .int)] s := hK
  have hP : va_P D vwCl [(h, .inr (1, [.null, .null])), (q0, .inl (cA, 18, .inl (fun j => nI (rd_z 0 j))))] H := hP
  have hD : va_D A [(h, .inr (1, [.null, .null])), (q0, .inl (cA, 18, .inl (fun j => nI (rd_z 0 j))))] := hD
  refine W.widen (k := 1) (n := 18) (Nat.le_of_ble_eq_true rfl) (Nat.le_of_ble_eq_true rfl) ?_
  refine va_putF (D := D) (ci := 1) (v := .ref q0) (ty := .array .int) (C := RX1) (T := TX1) (N := 2) hx hb hts in_X1 tyX1 tyX1_ok nmX1 hown hK hP hD hS 0 rfl rfl 0 (by decide) (hts _ q182) (fun _ h9 => h9) rfl hin rfl (by decide +kernel) rfl rfl (Nat.le_of_ble_eq_true rfl) dX1_init_9 (fun H locs hP hD hS => ?_)
  have hP : va_P D vwCl [(h, .inr (1, [.ref q0, .null])), (q0, .inl (cA, 18, .inl (fun j => nI (rd_z 0 j))))] H := hP
  have hD : va_D A [(h, .inr (1, [.ref q0, .null])), (q0, .inl (cA, 18, .inl (fun j => nI (rd_z 0 j))))] := hD
  refine lv_aload_n hx hb dX1_init_12 rfl (lv_at hl 0 rfl) ?_
  refine lv_sipush (v := nI 324) hx hb dX1_init_13 (by decide) ?_
  refine va_newa (atype := .int) (ty := .int) (N' := 324) (a0 := (324, .inl (fun j => nI (rd_z 1 j)))) hx hb (hts _ q71) rfl hK hP hD hS hA (rd_zero (rd_z0 (by decide))) (nI_pos (by decide)) (nI_clamp (by decide)) (by decide) (Nat.le_of_ble_eq_true rfl) (Nat.le_of_ble_eq_true rfl) dX1_init_16 (fun q1 cA1 H hK hP hD hS => ?_)
  have hcA : cA1 = cA := rd_cA hK
  subst hcA
  have hK : va_K D vwCl [(cA1, .int)] s := hK.sub [0] rfl
  obtain ⟨cA, hcA⟩ : ∃ z, z = cA1 := ⟨_, rfl⟩
  subst hcA
  have hP : va_P D vwCl [(h, .inr (1, [.ref q0, .null])), (q0, .inl (cA, 18, .inl (fun j => nI (rd_z 0 j)))), (q1, .inl (cA, 324, .inl (fun j => nI (rd_z 1 j))))] H := hP
  have hD : va_D A [(h, .inr (1, [.ref q0, .null])), (q0, .inl (cA, 18, .inl (fun j => nI (rd_z 0 j)))), (q1, .inl (cA, 324, .inl (fun j => nI (rd_z 1 j))))] := hD
  refine W.widen (k := 2) (n := 342) (Nat.le_of_ble_eq_true rfl) (Nat.le_of_ble_eq_true rfl) ?_
  refine va_putF (D := D) (ci := 1) (v := .ref q1) (ty := .array .int) (C := RX1) (T := TX1) (N := 2) hx hb hts in_X1 tyX1 tyX1_ok nmX1 hown hK hP hD hS 0 rfl rfl 1 (by decide) (hts _ q183) (fun _ h9 => h9) rfl hin rfl (by decide +kernel) rfl rfl (Nat.le_of_ble_eq_true rfl) dX1_init_18 (fun H locs hP hD hS => ?_)
  have hP : va_P D vwCl [(h, .inr (1, [.ref q0, .ref q1])), (q0, .inl (cA, 18, .inl (fun j => nI (rd_z 0 j)))), (q1, .inl (cA, 324, .inl (fun j => nI (rd_z 1 j))))] H := hP
  have hD : va_D A [(h, .inr (1, [.ref q0, .ref q1])), (q0, .inl (cA, 18, .inl (fun j => nI (rd_z 0 j)))), (q1, .inl (cA, 324, .inl (fun j => nI (rd_z 1 j))))] := hD
  exact W.vret hx hb hr (fun t ht hW => ⟨⟨((fun k => ([q0, q1] : List Nat).getD k 0), cA), rfl, trivial, by rw [ht]; exact hP, va_K.moved hW.alike hK, hD⟩, hS.F ht⟩) hS.2.2 dX1_init_21
end
section
set_option maxRecDepth 100000
/-! THE CLAIM OUT OF ONE WALK OF THE LAW'S BODY. Your part is whole_start (and what it stands on); all else here is the same for every law, but numbers. -/
def R_law : String := "RussianDollLaw"
def lw_P (b : Addr) (xs : List Int32) (args : Array Value) (s : State) : Prop := args = #[.ref b] ∧ s.IntsAt b xs ∧ xs.length ≤ 256 ∧ (Jvm.Cond.and given_1 narrow_1).before args s = true
def lw_Q (_ : Array Value) (s : State) (o : Outcome) (t : State) : Prop := o = .returned (some (.int 1)) ∧ Framed s o t [] 600000 7290000
def lw_Z (below : List Frame) (a : Array Value) (s : State) : State → Prop := fun t => ∃ o, t.status = .running ∧ Ended t below o ∧ lw_Q a s o t
/-- the law's own end, with 1 on the stack, nothing written that was there before, its room as the claim has it -/
theorem lw_ret {p : Program} {l : Launch} {e : Env} {s : State} {m : MethodId} {below : List Frame} {meth : Method} {c : Code} {b : Nat} (hx : p.tables.exec = Jvm.exec) (hb : c.code = code) (hr : meth.sig.returnType = ret) (hlocks : meth.locks = false) {pc : Nat} {H : Heap} {ls : Array Slot} (hdg : decode code pc = .ok (.ireturn, 1)) : W p l e room_1 s m #[Value.ref b] below meth c H [] 600000 7290000 (lw_Z below #[Value.ref b] s) (F0 m pc ls [.int 1]) := by
  intro T hT X
  obtain ⟨fs, hret, hrun, hended, hW, hframe⟩ := X.leave (v := some (.int 1)) (hlocks := hlocks) (fun h => by rw [hr] at h; cases h)
  have hmeth' : T.vm.method? m = some meth := X.method'
  refine ⟨T.setFrames fs, ?_, .returned (some (.int 1)), hrun, hended, rfl, ⟨_, rfl⟩, hW, hframe⟩
  jvm_step X.here [X.here.top, hx, hb, hdg, hmeth', hr, ret, narrow_b1]
  (try refine ⟨rfl, ?_⟩); (try refine ⟨rfl, ?_⟩)
  first | (intro acts; rw [hret _ acts rfl rfl rfl]) | rw [hret _ _ rfl rfl rfl]
  exact Steps.refl _
/-- what holds at the law's entry: the machine, the code, the tables' words (any of lw_tbl by 'hts w (by decide +kernel)'), the script of L ints xs at the cell b, what the Statement gives of the start (any of its parts by flat_of_before) -/
def lw_At (p : Program) (s : State) (m : MethodId) (meth : Method) (c : Code) (b L : Nat) (xs : Nat → Int32) : Prop :=
  p.tables.exec = Jvm.exec ∧ c.code = code ∧ meth.sig.returnType = ret ∧ c.maxLocals = 4 ∧ s.vm.findClass R_law = some m.cls ∧ (∀ w ∈ lw_tbl, w.before #[Value.ref b] s = true) ∧ va_X b L xs s s.heap ∧ b < s.heap.size ∧ meth.locks = false ∧ (Jvm.Cond.and given_1 narrow_1).before #[Value.ref b] s = true
end
section
set_option maxRecDepth 100000
def rd_w2 (h1 : Nat) (a1 : Nat → Nat) (h2 : Nat) (a2 : Nat → Nat) (cA : ClassId) (σ τ : rd_St) : va_W := rd_dw h1 a1 cA σ ++ rd_mw h2 a2 cA τ
def rd_W2 (D : va_G) (h1 : Nat) (a1 : Nat → Nat) (h2 : Nat) (a2 : Nat → Nat) (cA : ClassId) (A : Nat → Prop) (H0 H : Heap) (locs : List Loc) (σ τ : rd_St) : Prop := va_P D vwCl (rd_w2 h1 a1 h2 a2 cA σ τ) H ∧ va_D A (rd_w2 h1 a1 h2 a2 cA σ τ) ∧ va_S A H0 H locs
section RDL
variable {p : Program} {l : Launch} {e : Env} {R : Room} {s : State} {m : MethodId} {args : Array Value} {below : List Frame} {meth : Method} {c : Code} {H : Heap} {locs : List Loc} {cells slots : Nat} {Q : State → Prop}
variable {cc : ByteArray} {pc : Nat} {ls : Array Slot} {rest : List Value} {D : va_G} {cA : ClassId} {A : Nat → Prop} {σ τ : rd_St} {nL : Nat} {rt : Option FieldType} {own : String} {h1 h2 : Nat} {a1 a2 : Nat → Nat}
theorem n_sld {b L k : Nat} {xs : Nat → Int32} (hx : p.tables.exec = Jvm.exec) (hb : c.code = cc) (hX : va_X b L xs s s.heap) (hbl : b < s.heap.size) (hbA : ¬ A b) (hS : va_S A s.heap H locs) (hL : L ≤ 256) (hk : k < L) (hdg : decode cc pc = .ok (.iaload, 1)) (kk : W p l e R s m args below meth c H locs cells slots Q (F0 m (pc + 1) ls (.int (xs k) :: rest))) : W p l e R s m args below meth c H locs cells slots Q (F0 m pc ls (.int (nI k) :: .ref b :: rest)) :=
  va_sld hx hb hX hbl hbA hS (vp_in_nI hk (by omega)) hdg (by rw [nI_clamp (by omega)]; exact kk)
theorem rd_lci0 {y : MethodName} {cd : ByteArray} {nLy n idx : Nat} {ret : Option FieldType} {As : List Value} {nA : Nat} {post : Int32 → rd_St → Prop} {st : List Value}
    (E : rd_E p s m args meth c cc nL rt own A) (hK : va_K D vwCl [(cA, .int)] s) (hw : rd_W2 D h1 a1 h2 a2 cA A s.heap H locs σ τ) (hM : rd_MI l y cd nLy ret n (.ref h1 :: As) D cA (rd_dw h1 a1 cA) σ post)
    (hG : GoodIn lw_all (wsV own idx RX0 y (ws_ y cd nLy ret)))
    (hd : y.cls = RX0 ∧ y.cls ≠ "java/lang/invoke/MethodHandle" ∧ y.cls ≠ "java/lang/invoke/VarHandle" ∧ (parseMethodDescriptor y.desc).map (fun d => d.parameters.length) = some nA) (hnA : As.length = nA)
    (hR : n + 1 ≤ R.frames ∧ 8 + (nLy + 11) + 30 * n ≤ R.locals) (hf : cells ≤ R.cells ∧ slots ≤ R.slots) (hsz : ls.size = nL) (hst : st = As.reverse ++ .ref h1 :: rest) (hcat : (rest.map fun v => v.category).sum ≤ 8)
    (hdg : decode cc pc = .ok (.invokevirtual idx, 3))
    (kk : ∀ (r : Int32) (u : rd_St) (H1 : Heap) (locs1 : List Loc), post r u → rd_W2 D h1 a1 h2 a2 cA A s.heap H1 locs1 u τ → W p l e R s m args below meth c H1 locs1 cells slots Q (F0 m (pc + 3) ls (.int r :: rest))) :
    W p l e R s m args below meth c H locs cells slots Q (F0 m pc ls st) := by
  obtain ⟨hP, hD, hS⟩ := hw
  have hPc := hP.sub (ws' := rd_dw h1 a1 cA σ) [0, 1, 2, 3, 4, 5, 6, 7, 8, 9] rfl
  have hDc := hD.sub (ws' := rd_dw h1 a1 cA σ) [0, 1, 2, 3, 4, 5, 6, 7, 8, 9] (by decide) rfl
  have hFc := va_free (wc := rd_dw h1 a1 cA σ) hD hS E.2.2.2.2.2.2.2 [0, 1, 2, 3, 4, 5, 6, 7, 8, 9] rfl
  refine va_calli (va_runV (As := As) (rest := rest) ⟨E.1, E.2.1, E.2.2.2.1, E.2.2.2.2.1, E.2.2.2.2.2.1⟩ (hM H.size) (cwV nA E.2.2.2.2.2.1 hG rfl rfl rfl hd hR) ⟨rd_blind, va_recv hK hPc (ci := 0) (q0 := 0) rfl rfl, fun U hU hW => ⟨rfl, by rw [hU], by rw [hU]; exact hPc, va_K.moved hW.alike hK, hDc.weaken (fun _ _ _ _ => trivial)⟩⟩ rfl hnA hsz hst (lv_room hcat) hdg hf) hS (fun q _ h => hFc q h) hFc (fun r u t H1 locs1 ht hvm hpost hB hz hk hS1 => ?_)
  obtain ⟨hP1, hK1, hD1⟩ := hB
  rw [ht] at hP1
  obtain ⟨hP2, hD2⟩ := va_join (wr := rd_mw h2 a2 cA τ) (w1 := rd_dw h1 a1 cA u) hP hD [0, 1, 2, 3, 4, 5, 6, 7, 8, 9] [10, 11, 12] rfl rfl (by decide) (by decide) hk hFc hP1 hD1
  exact kk r u H1 locs1 hpost ⟨hP2.sub [3, 4, 5, 6, 7, 8, 9, 10, 11, 12, 0, 1, 2] rfl, hD2.sub [3, 4, 5, 6, 7, 8, 9, 10, 11, 12, 0, 1, 2] (by decide) rfl, hS1⟩
theorem rd_lci1 {y : MethodName} {cd : ByteArray} {nLy n idx : Nat} {ret : Option FieldType} {As : List Value} {nA : Nat} {post : Int32 → rd_St → Prop} {st : List Value}
    (E : rd_E p s m args meth c cc nL rt own A) (hK : va_K D vwCl [(cA, .int)] s) (hw : rd_W2 D h1 a1 h2 a2 cA A s.heap H locs σ τ) (hM : rd_MI l y cd nLy ret n (.ref h2 :: As) D cA (rd_mw h2 a2 cA) τ post)
    (hG : GoodIn lw_all (wsV own idx RX1 y (ws_ y cd nLy ret)))
    (hd : y.cls = RX1 ∧ y.cls ≠ "java/lang/invoke/MethodHandle" ∧ y.cls ≠ "java/lang/invoke/VarHandle" ∧ (parseMethodDescriptor y.desc).map (fun d => d.parameters.length) = some nA) (hnA : As.length = nA)
    (hR : n + 1 ≤ R.frames ∧ 8 + (nLy + 11) + 30 * n ≤ R.locals) (hf : cells ≤ R.cells ∧ slots ≤ R.slots) (hsz : ls.size = nL) (hst : st = As.reverse ++ .ref h2 :: rest) (hcat : (rest.map fun v => v.category).sum ≤ 8)
    (hdg : decode cc pc = .ok (.invokevirtual idx, 3))
    (kk : ∀ (r : Int32) (u : rd_St) (H1 : Heap) (locs1 : List Loc), post r u → rd_W2 D h1 a1 h2 a2 cA A s.heap H1 locs1 σ u → W p l e R s m args below meth c H1 locs1 cells slots Q (F0 m (pc + 3) ls (.int r :: rest))) :
    W p l e R s m args below meth c H locs cells slots Q (F0 m pc ls st) := by
  obtain ⟨hP, hD, hS⟩ := hw
  have hPc := hP.sub (ws' := rd_mw h2 a2 cA τ) [10, 11, 12] rfl
  have hDc := hD.sub (ws' := rd_mw h2 a2 cA τ) [10, 11, 12] (by decide) rfl
  have hFc := va_free (wc := rd_mw h2 a2 cA τ) hD hS E.2.2.2.2.2.2.2 [10, 11, 12] rfl
  refine va_calli (va_runV (As := As) (rest := rest) ⟨E.1, E.2.1, E.2.2.2.1, E.2.2.2.2.1, E.2.2.2.2.2.1⟩ (hM H.size) (cwV nA E.2.2.2.2.2.1 hG rfl rfl rfl hd hR) ⟨rd_blind, va_recv hK hPc (ci := 1) (q0 := 0) rfl rfl, fun U hU hW => ⟨rfl, by rw [hU], by rw [hU]; exact hPc, va_K.moved hW.alike hK, hDc.weaken (fun _ _ _ _ => trivial)⟩⟩ rfl hnA hsz hst (lv_room hcat) hdg hf) hS (fun q _ h => hFc q h) hFc (fun r u t H1 locs1 ht hvm hpost hB hz hk hS1 => ?_)
  obtain ⟨hP1, hK1, hD1⟩ := hB
  rw [ht] at hP1
  obtain ⟨hP2, hD2⟩ := va_join (wr := rd_dw h1 a1 cA σ) (w1 := rd_mw h2 a2 cA u) hP hD [10, 11, 12] [0, 1, 2, 3, 4, 5, 6, 7, 8, 9] rfl rfl (by decide) (by decide) hk hFc hP1 hD1
  exact kk r u H1 locs1 hpost ⟨hP2, hD2, hS1⟩
theorem rd_lcv0 {y : MethodName} {cd : ByteArray} {nLy n idx : Nat} {ret : Option FieldType} {As : List Value} {nA : Nat} {post : rd_St → Prop} {st : List Value}
    (E : rd_E p s m args meth c cc nL rt own A) (hK : va_K D vwCl [(cA, .int)] s) (hw : rd_W2 D h1 a1 h2 a2 cA A s.heap H locs σ τ) (hM : rd_MV l y cd nLy ret n (.ref h1 :: As) D cA (rd_dw h1 a1 cA) σ post)
    (hG : GoodIn lw_all (wsV own idx RX0 y (ws_ y cd nLy ret)))
    (hd : y.cls = RX0 ∧ y.cls ≠ "java/lang/invoke/MethodHandle" ∧ y.cls ≠ "java/lang/invoke/VarHandle" ∧ (parseMethodDescriptor y.desc).map (fun d => d.parameters.length) = some nA) (hnA : As.length = nA)
    (hR : n + 1 ≤ R.frames ∧ 8 + (nLy + 11) + 30 * n ≤ R.locals) (hf : cells ≤ R.cells ∧ slots ≤ R.slots) (hsz : ls.size = nL) (hst : st = As.reverse ++ .ref h1 :: rest) (hcat : (rest.map fun v => v.category).sum ≤ 8)
    (hdg : decode cc pc = .ok (.invokevirtual idx, 3))
    (kk : ∀ (u : rd_St) (H1 : Heap) (locs1 : List Loc), post u → rd_W2 D h1 a1 h2 a2 cA A s.heap H1 locs1 u τ → W p l e R s m args below meth c H1 locs1 cells slots Q (F0 m (pc + 3) ls rest)) :
    W p l e R s m args below meth c H locs cells slots Q (F0 m pc ls st) := by
  obtain ⟨hP, hD, hS⟩ := hw
  have hPc := hP.sub (ws' := rd_dw h1 a1 cA σ) [0, 1, 2, 3, 4, 5, 6, 7, 8, 9] rfl
  have hDc := hD.sub (ws' := rd_dw h1 a1 cA σ) [0, 1, 2, 3, 4, 5, 6, 7, 8, 9] (by decide) rfl
  have hFc := va_free (wc := rd_dw h1 a1 cA σ) hD hS E.2.2.2.2.2.2.2 [0, 1, 2, 3, 4, 5, 6, 7, 8, 9] rfl
  refine va_callv (va_runV (As := As) (rest := rest) ⟨E.1, E.2.1, E.2.2.2.1, E.2.2.2.2.1, E.2.2.2.2.2.1⟩ (hM H.size) (cwV nA E.2.2.2.2.2.1 hG rfl rfl rfl hd hR) ⟨rd_blind, va_recv hK hPc (ci := 0) (q0 := 0) rfl rfl, fun U hU hW => ⟨rfl, by rw [hU], by rw [hU]; exact hPc, va_K.moved hW.alike hK, hDc.weaken (fun _ _ _ _ => trivial)⟩⟩ rfl hnA hsz hst (lv_room hcat) hdg hf) hS (fun q _ h => hFc q h) hFc (fun u t H1 locs1 ht hvm hpost hB hz hk hS1 => ?_)
  obtain ⟨hP1, hK1, hD1⟩ := hB
  rw [ht] at hP1
  obtain ⟨hP2, hD2⟩ := va_join (wr := rd_mw h2 a2 cA τ) (w1 := rd_dw h1 a1 cA u) hP hD [0, 1, 2, 3, 4, 5, 6, 7, 8, 9] [10, 11, 12] rfl rfl (by decide) (by decide) hk hFc hP1 hD1
  exact kk u H1 locs1 hpost ⟨hP2.sub [3, 4, 5, 6, 7, 8, 9, 10, 11, 12, 0, 1, 2] rfl, hD2.sub [3, 4, 5, 6, 7, 8, 9, 10, 11, 12, 0, 1, 2] (by decide) rfl, hS1⟩
theorem rd_lcv1 {y : MethodName} {cd : ByteArray} {nLy n idx : Nat} {ret : Option FieldType} {As : List Value} {nA : Nat} {post : rd_St → Prop} {st : List Value}
    (E : rd_E p s m args meth c cc nL rt own A) (hK : va_K D vwCl [(cA, .int)] s) (hw : rd_W2 D h1 a1 h2 a2 cA A s.heap H locs σ τ) (hM : rd_MV l y cd nLy ret n (.ref h2 :: As) D cA (rd_mw h2 a2 cA) τ post)
    (hG : GoodIn lw_all (wsV own idx RX1 y (ws_ y cd nLy ret)))
    (hd : y.cls = RX1 ∧ y.cls ≠ "java/lang/invoke/MethodHandle" ∧ y.cls ≠ "java/lang/invoke/VarHandle" ∧ (parseMethodDescriptor y.desc).map (fun d => d.parameters.length) = some nA) (hnA : As.length = nA)
    (hR : n + 1 ≤ R.frames ∧ 8 + (nLy + 11) + 30 * n ≤ R.locals) (hf : cells ≤ R.cells ∧ slots ≤ R.slots) (hsz : ls.size = nL) (hst : st = As.reverse ++ .ref h2 :: rest) (hcat : (rest.map fun v => v.category).sum ≤ 8)
    (hdg : decode cc pc = .ok (.invokevirtual idx, 3))
    (kk : ∀ (u : rd_St) (H1 : Heap) (locs1 : List Loc), post u → rd_W2 D h1 a1 h2 a2 cA A s.heap H1 locs1 σ u → W p l e R s m args below meth c H1 locs1 cells slots Q (F0 m (pc + 3) ls rest)) :
    W p l e R s m args below meth c H locs cells slots Q (F0 m pc ls st) := by
  obtain ⟨hP, hD, hS⟩ := hw
  have hPc := hP.sub (ws' := rd_mw h2 a2 cA τ) [10, 11, 12] rfl
  have hDc := hD.sub (ws' := rd_mw h2 a2 cA τ) [10, 11, 12] (by decide) rfl
  have hFc := va_free (wc := rd_mw h2 a2 cA τ) hD hS E.2.2.2.2.2.2.2 [10, 11, 12] rfl
  refine va_callv (va_runV (As := As) (rest := rest) ⟨E.1, E.2.1, E.2.2.2.1, E.2.2.2.2.1, E.2.2.2.2.2.1⟩ (hM H.size) (cwV nA E.2.2.2.2.2.1 hG rfl rfl rfl hd hR) ⟨rd_blind, va_recv hK hPc (ci := 1) (q0 := 0) rfl rfl, fun U hU hW => ⟨rfl, by rw [hU], by rw [hU]; exact hPc, va_K.moved hW.alike hK, hDc.weaken (fun _ _ _ _ => trivial)⟩⟩ rfl hnA hsz hst (lv_room hcat) hdg hf) hS (fun q _ h => hFc q h) hFc (fun u t H1 locs1 ht hvm hpost hB hz hk hS1 => ?_)
  obtain ⟨hP1, hK1, hD1⟩ := hB
  rw [ht] at hP1
  obtain ⟨hP2, hD2⟩ := va_join (wr := rd_dw h1 a1 cA σ) (w1 := rd_mw h2 a2 cA u) hP hD [10, 11, 12] [0, 1, 2, 3, 4, 5, 6, 7, 8, 9] rfl rfl (by decide) (by decide) hk hFc hP1 hD1
  exact kk u H1 locs1 hpost ⟨hP2, hD2, hS1⟩
end RDL
/-- the two sides agree -/
def rd_LI (σ τ : rd_St) : Prop := σ 0 = τ 0 ∧ σ 1 = τ 1 ∧ rd_Cs τ ∧ rd_Bd σ ∧ (σ 9 0 ≠ 0 → rd_DK σ)
theorem rd_LI_Cs {σ τ : rd_St} (h : rd_LI σ τ) : rd_Cs τ := h.2.2.1
theorem rd_LI_z : rd_LI rd_z rd_z := by
  refine ⟨rfl, rfl, ⟨fun i => Or.inl ?_, fun i => Or.inl ?_⟩, fun c i => ?_, fun h => absurd rfl h⟩
  · show rd_z 0 i ≤ 30
    unfold rd_z; rw [if_neg (by decide)]; omega
  · show rd_z 1 i ≤ 30
    unfold rd_z; rw [if_neg (by decide)]; omega
  · unfold rd_z; split <;> omega
theorem rd_upf (σ : rd_St) (c k x : Nat) : rd_up σ c k x c = fun j => if j = k then x else σ c j := by
  funext j; simp [rd_up]
theorem rd_ni {a b : Nat} (ha : a ≤ 100000) (hb : b ≤ 100000) (h : nI a = nI b) : a = b := (nI_eq (by omega) (by omega)).mp h
theorem rd_L_own {σ τ u v : rd_St} {i x c r1 r2 : Int32} (hI : rd_LI σ τ)
    (g1 : (∃ i' x' c', rd_okO i x c i' x' c' ∧ r1 = nI (σ 0 (i' * 3 + x')) ∧ u = rd_up (rd_up σ 0 (i' * 3 + x') c') 9 0 0) ∨ ((¬ ∃ i' x' c', rd_okO i x c i' x' c') ∧ r1 = -1 ∧ u = σ))
    (g2 : (∃ i' x' c', rd_okO i x c i' x' c' ∧ r2 = nI (τ 0 (i' * 3 + x')) ∧ v = rd_up τ 0 (i' * 3 + x') c') ∨ ((¬ ∃ i' x' c', rd_okO i x c i' x' c') ∧ r2 = -1 ∧ v = τ)) : r1 = r2 ∧ rd_LI u v := by
  obtain ⟨e0, e1, hC, hB, hS⟩ := hI
  rcases g1 with ⟨i', x', c', k1, hr1, hu⟩ | ⟨n1, hr1, hu⟩
  · rcases g2 with ⟨i2, x2, c2, k2, hr2, hv⟩ | ⟨n2, _, _⟩
    · obtain ⟨a1, a2, a3, a4, a5, a6⟩ := k1
      obtain ⟨b1, b2, b3, b4, b5, b6⟩ := k2
      have f1 := rd_ni (by omega) (by omega) (a4.symm.trans b4)
      have f2 := rd_ni (by omega) (by omega) (a5.symm.trans b5)
      have f3 := rd_ni (by omega) (by omega) (a6.symm.trans b6)
      subst f1; subst f2; subst f3
      refine ⟨by rw [hr1, hr2, e0], ?_⟩
      rw [hu, hv]
      refine ⟨?_, ?_, ⟨fun j => ?_, fun j => ?_⟩, rd_Bd_up (rd_Bd_up hB (by omega)) (by omega), fun q => absurd (rd_up_self _ _ _ _) q⟩
      · rw [← rd_upB _ _ _ (by decide), rd_upf, rd_upf, e0]
      · rw [← rd_upB _ _ _ (by decide), ← rd_upB _ _ _ (by decide), ← rd_upB _ _ _ (by decide), e1]
      · rw [rd_upf]
        show (if j = i' * 3 + x' then c' else τ 0 j) ≤ 30 ∨ _
        show (if j = i' * 3 + x' then c' else τ 0 j) ≤ 30 ∨ (if j = i' * 3 + x' then c' else τ 0 j) = 99
        split
        · exact a3
        · exact hC.1 j
      · rw [← rd_upB _ _ _ (by decide)]; exact hC.2 j
    · exact absurd ⟨i', x', c', k1⟩ n2
  · rcases g2 with ⟨i2, x2, c2, k2, _, _⟩ | ⟨_, hr2, hv⟩
    · exact absurd ⟨i2, x2, c2, k2⟩ n1
    · rw [hu, hv, hr1, hr2]; exact ⟨rfl, e0, e1, hC, hB, hS⟩
theorem rd_L_pair {σ τ u v : rd_St} {i x c r1 r2 : Int32} (hI : rd_LI σ τ)
    (g1 : (∃ n v' c', rd_okQ i x c n v' c' ∧ r1 = nI (σ 1 (n * 9 + v')) ∧ u = rd_up (rd_up σ 1 (n * 9 + v') c') 9 0 0) ∨ ((¬ ∃ n v' c', rd_okQ i x c n v' c') ∧ r1 = -1 ∧ u = σ))
    (g2 : (∃ n v' c', rd_okQ i x c n v' c' ∧ r2 = nI (τ 1 (n * 9 + v')) ∧ v = rd_up τ 1 (n * 9 + v') c') ∨ ((¬ ∃ n v' c', rd_okQ i x c n v' c') ∧ r2 = -1 ∧ v = τ)) : r1 = r2 ∧ rd_LI u v := by
  obtain ⟨e0, e1, hC, hB, hS⟩ := hI
  rcases g1 with ⟨n, v', c', k1, hr1, hu⟩ | ⟨n1, hr1, hu⟩
  · rcases g2 with ⟨n2, v2, c2, k2, hr2, hv⟩ | ⟨n2, _, _⟩
    · obtain ⟨a1, a2, a3, a4, a5, a6, a7⟩ := k1
      obtain ⟨b1, b2, b3, b4, b5, b6, b7⟩ := k2
      have f1 := rd_ni (by omega) (by omega) (a5.symm.trans b5)
      have f2 := rd_ni (by omega) (by omega) (a6.symm.trans b6)
      have f3 := rd_ni (by omega) (by omega) (a7.symm.trans b7)
      subst f1; subst f2; subst f3
      refine ⟨by rw [hr1, hr2, e1], ?_⟩
      rw [hu, hv]
      refine ⟨?_, ?_, ⟨fun j => ?_, fun j => ?_⟩, rd_Bd_up (rd_Bd_up hB (by omega)) (by omega), fun q => absurd (rd_up_self _ _ _ _) q⟩
      · rw [← rd_upB _ _ _ (by decide), ← rd_upB _ _ _ (by decide), ← rd_upB _ _ _ (by decide), e0]
      · rw [← rd_upB _ _ _ (by decide), rd_upf, rd_upf, e1]
      · rw [← rd_upB _ _ _ (by decide)]; exact hC.1 j
      · rw [rd_upf]
        show (if j = n * 9 + v' then c' else τ 1 j) ≤ 30 ∨ (if j = n * 9 + v' then c' else τ 1 j) = 99
        split
        · exact a4
        · exact hC.2 j
    · exact absurd ⟨n, v', c', k1⟩ n2
  · rcases g2 with ⟨n2, v2, c2, k2, _, _⟩ | ⟨_, hr2, hv⟩
    · exact absurd ⟨n2, v2, c2, k2⟩ n1
    · rw [hu, hv, hr1, hr2]; exact ⟨rfl, e0, e1, hC, hB, hS⟩
theorem rd_rel_ne (σ : rd_St) (n c' b t : Nat) {c : Nat} (h : c ≠ 1) : rd_rel σ n c' b t c = σ c := by
  funext i; unfold rd_rel; rw [if_neg (fun q => h q.1)]
theorem rd_rel_or (σ : rd_St) (n c' b t c i : Nat) : rd_rel σ n c' b t c i = c' ∨ rd_rel σ n c' b t c i = σ c i := by
  unfold rd_rel
  exact (Classical.em _).elim (fun h => Or.inl (if_pos h)) (fun h => Or.inr (if_neg h))
theorem rd_rel_congr {σ τ : rd_St} (n c' b t : Nat) (h : σ 1 = τ 1) : rd_rel σ n c' b t 1 = rd_rel τ n c' b t 1 := by
  funext i; unfold rd_rel; rw [h]
theorem rd_L_relate {σ τ u v : rd_St} {i x c r1 r2 : Int32} (hI : rd_LI σ τ)
    (g1 : (∃ n c', rd_okR i c n c' ∧ r1 = 0 ∧ u = rd_up (rd_rel σ n c' (rd_fl x) 9) 9 0 0) ∨ ((¬ ∃ n c', rd_okR i c n c') ∧ r1 = -1 ∧ u = σ))
    (g2 : (∃ n c', rd_okR i c n c' ∧ r2 = 0 ∧ v = rd_rel τ n c' (rd_fl x) 9) ∨ ((¬ ∃ n c', rd_okR i c n c') ∧ r2 = -1 ∧ v = τ)) : r1 = r2 ∧ rd_LI u v := by
  obtain ⟨e0, e1, hC, hB, hS⟩ := hI
  rcases g1 with ⟨n, c', k1, hr1, hu⟩ | ⟨n1, hr1, hu⟩
  · rcases g2 with ⟨n2, c2, k2, hr2, hv⟩ | ⟨n2, _, _⟩
    · obtain ⟨a1, a2, a3, a4, a5⟩ := k1
      obtain ⟨b1, b2, b3, b4, b5⟩ := k2
      have f1 := rd_ni (by omega) (by omega) (a4.symm.trans b4)
      have f3 := rd_ni (by omega) (by omega) (a5.symm.trans b5)
      subst f1; subst f3
      refine ⟨by rw [hr1, hr2], ?_⟩
      rw [hu, hv]
      have hBr : rd_Bd (rd_rel σ n c' (rd_fl x) 9) := fun c i => by
        rcases rd_rel_or σ n c' (rd_fl x) 9 c i with q | q
        · rw [q]; omega
        · rw [q]; exact hB c i
      refine ⟨?_, ?_, ⟨fun j => ?_, fun j => ?_⟩, rd_Bd_up hBr (by omega), fun q => absurd (rd_up_self _ _ _ _) q⟩
      · rw [← rd_upB _ _ _ (by decide), rd_rel_ne _ _ _ _ _ (by decide), rd_rel_ne _ _ _ _ _ (by decide), e0]
      · rw [← rd_upB _ _ _ (by decide)]; exact rd_rel_congr _ _ _ _ e1
      · rw [rd_rel_ne _ _ _ _ _ (by decide)]; exact hC.1 j
      · rcases rd_rel_or τ n c' (rd_fl x) 9 1 j with q | q
        · rw [q]; exact a3
        · rw [q]; exact hC.2 j
    · exact absurd ⟨n, c', k1⟩ n2
  · rcases g2 with ⟨n2, c2, k2, _, _⟩ | ⟨_, hr2, hv⟩
    · exact absurd ⟨n2, c2, k2⟩ n1
    · rw [hu, hv, hr1, hr2]; exact ⟨rfl, e0, e1, hC, hB, hS⟩
theorem rd_clr_at (σ : rd_St) (b t c i : Nat) : rd_clr σ b t c i = if c = b ∧ i < t then 0 else σ c i := rfl
theorem rd_L_clear {σ τ : rd_St} (hI : rd_LI σ τ) : rd_LI (rd_up (rd_clr (rd_clr σ 0 18) 1 324) 9 0 0) (rd_clr (rd_clr τ 0 18) 1 324) := by
  obtain ⟨e0, e1, hC, hB, hS⟩ := hI
  have hB1 : ∀ (ρ : rd_St) (b t : Nat), rd_Bd ρ → rd_Bd (rd_clr ρ b t) := fun ρ b t h c i => by
    unfold rd_clr; split
    · omega
    · exact h c i
  refine ⟨?_, ?_, ⟨fun j => ?_, fun j => ?_⟩, rd_Bd_up (hB1 _ _ _ (hB1 _ _ _ hB)) (by omega), fun q => absurd (rd_up_self _ _ _ _) q⟩
  · rw [← rd_upB _ _ _ (by decide)]
    funext i
    rw [rd_clr_at, rd_clr_at, rd_clr_at, rd_clr_at, e0]
  · rw [← rd_upB _ _ _ (by decide)]
    funext i
    rw [rd_clr_at, rd_clr_at, rd_clr_at, rd_clr_at, e1]
  · rw [rd_clr_at, rd_clr_at]
    split
    · exact Or.inl (by omega)
    · split
      · exact Or.inl (by omega)
      · exact hC.1 j
  · rw [rd_clr_at, rd_clr_at]
    split
    · exact Or.inl (by omega)
    · split
      · exact Or.inl (by omega)
      · exact hC.2 j
theorem rd_L_kp {σ τ u : rd_St} (hI : rd_LI σ τ) (hK : rd_Kp σ u) : rd_LI u τ := ⟨hK.1.trans hI.1, hK.2.1.trans hI.2.1, hI.2.2.1, hK.2.2.1, hK.2.2.2⟩
/-- one variable asked for: the same answer -/
theorem rd_L_v {i r1 r2 k : Int32} {f : Nat → Int32} (g1 : (∃ j, rd_okV i j ∧ r1 = f j) ∨ ((¬ ∃ j, rd_okV i j) ∧ r1 = k)) (g2 : (∃ j, rd_okV i j ∧ r2 = f j) ∨ ((¬ ∃ j, rd_okV i j) ∧ r2 = k)) : r1 = r2 := by
  rcases g1 with ⟨j, hj, h1⟩ | ⟨n1, h1⟩
  · rcases g2 with ⟨j2, hj2, h2⟩ | ⟨n2, _⟩
    · have e := rd_ni (by have := hj.1; omega) (by have := hj2.1; omega) (hj.2.symm.trans hj2.2)
      rw [h1, h2, e]
    · exact absurd ⟨j, hj⟩ n2
  · rcases g2 with ⟨j2, hj2, _⟩ | ⟨_, h2⟩
    · exact absurd ⟨j2, hj2⟩ n1
    · rw [h1, h2]
theorem rd_L_vx {i x r1 r2 k : Int32} {f : Nat → Nat → Int32} (g1 : (∃ j x', rd_okV i j ∧ x' < 3 ∧ x = nI x' ∧ r1 = f j x') ∨ ((¬ ∃ j x', rd_okV i j ∧ x' < 3 ∧ x = nI x') ∧ r1 = k)) (g2 : (∃ j x', rd_okV i j ∧ x' < 3 ∧ x = nI x' ∧ r2 = f j x') ∨ ((¬ ∃ j x', rd_okV i j ∧ x' < 3 ∧ x = nI x') ∧ r2 = k)) : r1 = r2 := by
  rcases g1 with ⟨j, x', hj, hx, ex, h1⟩ | ⟨n1, h1⟩
  · rcases g2 with ⟨j2, x2, hj2, hx2, ex2, h2⟩ | ⟨n2, _⟩
    · have e := rd_ni (by have := hj.1; omega) (by have := hj2.1; omega) (hj.2.symm.trans hj2.2)
      have e2 := rd_ni (by omega) (by omega) (ex.symm.trans ex2)
      rw [h1, h2, e, e2]
    · exact absurd ⟨j, x', hj, hx, ex⟩ n2
  · rcases g2 with ⟨j2, x2, hj2, hx2, ex2, _⟩ | ⟨_, h2⟩
    · exact absurd ⟨j2, x2, hj2, hx2, ex2⟩ n1
    · rw [h1, h2]
/-- the loop's end: i > length - 4 -/
theorem rd_len {L i : Nat} (hL : L ≤ 256) (hi : i ≤ 256) : nI L - nI 4 < nI i ↔ L < i + 4 := by
  rcases Nat.lt_or_ge L 4 with q | q
  · refine ⟨fun _ => by omega, fun _ => ?_⟩
    exact Int32.lt_of_lt_of_le (pk_sneg (by decide) q) (nI_pos' (by omega))
  · rw [pk_sub q]
    constructor
    · intro h
      have := (nI_ltI (by omega) (by omega)).mp h
      omega
    · intro h
      exact nI_lt (by omega) (by omega)
end
section
set_option maxRecDepth 100000
set_option maxHeartbeats 4000000 in
set_option maxRecDepth 100000 in
/-- the law's loop at its head -/
theorem rd_law {p : Program} {l : Launch} {e : Env} {s : State} {m : MethodId} {below : List Frame} {meth : Method} {c : Code} {D : va_G} {cA : ClassId} {h1 h2 : Nat} {a1 a2 : Nat → Nat} {b L : Nat} {xs : Nat → Int32} (hL : L ≤ 256) (E : rd_E p s m #[Value.ref b] meth c cL_law 4 ret R_law (fun q : Nat => s.heap.size ≤ q)) (hX : va_X b L xs s s.heap) (hbl : b < s.heap.size) (hK : va_K D vwCl [(cA, .int)] s) :
    ∀ (f i : Nat) (σ τ : rd_St), L ≤ i + f → i ≤ 256 → rd_LI σ τ → ∀ (H : Heap) (locs : List Loc) (ls : Array Slot), rd_W2 D h1 a1 h2 a2 cA (fun q : Nat => s.heap.size ≤ q) s.heap H locs σ τ → lv_has ls 4 [(0, .ref b), (1, .ref h1), (2, .ref h2), (3, .int (nI i))] → W p l e room_1 s m #[Value.ref b] below meth c H locs 13 862 (lw_Z below #[Value.ref b] s) (F0 m 18 ls []) := by
  have hx := E.1
  have hb := E.2.1
  have hbA : ¬ (fun q : Nat => s.heap.size ≤ q) b := Nat.not_le.mpr hbl
  intro f
  induction f with
  | zero =>
    intro i σ τ hf hi hI H locs ls hw hl
    refine lv_iload_n hx hb dL_law_18 rfl (lv_at hl 3 rfl) ?_
    refine lv_aload_n hx hb dL_law_19 rfl (lv_at hl 0 rfl) ?_
    refine va_slen hx hb hX hbl hbA hw.2.2 dL_law_20 ?_
    refine lv_iconst (v := nI 4) hx hb dL_law_21 (by decide) ?_
    refine lv_isub hx hb dL_law_22 ?_
    refine lv_icmp_gt (tgt := 379) hx hb dL_law_23 (by decide) (fun c23 => ?_) (fun c23 => ?_)
    · refine lv_iconst (v := 1) hx hb dL_law_379 (by decide) ?_
      refine va_forget (fun q hq => hw.2.2.2.2 q hq) ?_
      refine W.widen (k := 600000) (n := 7290000) (Nat.le_of_ble_eq_true rfl) (Nat.le_of_ble_eq_true rfl) ?_
      exact lw_ret E.1 E.2.1 E.2.2.1 E.2.2.2.2.2.2.1 dL_law_380
    · have hlt : i + 4 ≤ L := Nat.not_lt.mp (fun q => c23 ((rd_len hL hi).mpr q))
      omega
  | succ f ih =>
    intro i σ τ hf hi hI H locs ls hw hl
    refine lv_iload_n hx hb dL_law_18 rfl (lv_at hl 3 rfl) ?_
    refine lv_aload_n hx hb dL_law_19 rfl (lv_at hl 0 rfl) ?_
    refine va_slen hx hb hX hbl hbA hw.2.2 dL_law_20 ?_
    refine lv_iconst (v := nI 4) hx hb dL_law_21 (by decide) ?_
    refine lv_isub hx hb dL_law_22 ?_
    refine lv_icmp_gt (tgt := 379) hx hb dL_law_23 (by decide) (fun c23 => ?_) (fun c23 => ?_)
    · refine lv_iconst (v := 1) hx hb dL_law_379 (by decide) ?_
      refine va_forget (fun q hq => hw.2.2.2.2 q hq) ?_
      refine W.widen (k := 600000) (n := 7290000) (Nat.le_of_ble_eq_true rfl) (Nat.le_of_ble_eq_true rfl) ?_
      exact lw_ret E.1 E.2.1 E.2.2.1 E.2.2.2.2.2.2.1 dL_law_380
    · have hlt : i + 4 ≤ L := Nat.not_lt.mp (fun q => c23 ((rd_len hL hi).mpr q))
      refine lv_aload_n hx hb dL_law_26 rfl (lv_at hl 0 rfl) ?_
      refine lv_iload_n hx hb dL_law_27 rfl (lv_at hl 3 rfl) ?_
      refine n_sld hx hb hX hbl hbA hw.2.2 hL (by omega) dL_law_28 ?_
      refine lv_bipush (v := nI 15) hx hb dL_law_29 (by decide) ?_
      refine lv_iand hx hb dL_law_31 ?_
      obtain ⟨j, hj16, hj⟩ := pk_andE (xs i) (m := nI 15) 4 (by decide)
      rw [hj]
      rcases (show j = 0 ∨ j = 1 ∨ j = 2 ∨ j = 3 ∨ j = 4 ∨ j = 5 ∨ j = 6 ∨ j = 7 ∨ j = 8 ∨ j = 9 ∨ j = 10 ∨ 11 ≤ j by omega) with q | q | q | q | q | q | q | q | q | q | q | q
      · subst q
        refine lv_tableIn (off := 60) (tgt := 92) hx hb dL_law_32 (by decide) (by decide) (by decide) (by decide) ?_
        refine lv_aload_n hx hb dL_law_92 rfl (lv_at hl 1 rfl) ?_
        refine lv_aload_n hx hb dL_law_93 rfl (lv_at hl 0 rfl) ?_
        refine lv_iload_n hx hb dL_law_94 rfl (lv_at hl 3 rfl) ?_
        refine lv_iconst (v := nI 1) hx hb dL_law_95 (by decide) ?_
        refine n_add hx hb dL_law_96 ?_
        refine n_sld hx hb hX hbl hbA hw.2.2 hL (by omega) dL_law_97 ?_
        refine lv_aload_n hx hb dL_law_98 rfl (lv_at hl 0 rfl) ?_
        refine lv_iload_n hx hb dL_law_99 rfl (lv_at hl 3 rfl) ?_
        refine lv_iconst (v := nI 2) hx hb dL_law_100 (by decide) ?_
        refine n_add hx hb dL_law_101 ?_
        refine n_sld hx hb hX hbl hbA hw.2.2 hL (by omega) dL_law_102 ?_
        refine lv_aload_n hx hb dL_law_103 rfl (lv_at hl 0 rfl) ?_
        refine lv_iload_n hx hb dL_law_104 rfl (lv_at hl 3 rfl) ?_
        refine lv_iconst (v := nI 3) hx hb dL_law_105 (by decide) ?_
        refine n_add hx hb dL_law_106 ?_
        refine n_sld hx hb hX hbl hbA hw.2.2 hL (by omega) dL_law_107 ?_
        refine rd_lci0 (As := [.int (xs (i + 1)), .int (xs (i + 2)), .int (xs (i + 3))]) (nA := 3) E hK hw (rd_d_own l D cA h1 a1 σ (xs (i + 1)) (xs (i + 2)) (xs (i + 3))) (lw_V q72 q73 q74 q24 q75) (by decide +kernel) rfl ⟨by decide, by decide⟩ ⟨by decide, by decide⟩ hl.1 rfl (Nat.le_of_ble_eq_true rfl) dL_law_108 (fun r1 u H locs g1 hw => ?_)
        refine lv_aload_n hx hb dL_law_111 rfl (lv_at hl 2 rfl) ?_
        refine lv_aload_n hx hb dL_law_112 rfl (lv_at hl 0 rfl) ?_
        refine lv_iload_n hx hb dL_law_113 rfl (lv_at hl 3 rfl) ?_
        refine lv_iconst (v := nI 1) hx hb dL_law_114 (by decide) ?_
        refine n_add hx hb dL_law_115 ?_
        refine n_sld hx hb hX hbl hbA hw.2.2 hL (by omega) dL_law_116 ?_
        refine lv_aload_n hx hb dL_law_117 rfl (lv_at hl 0 rfl) ?_
        refine lv_iload_n hx hb dL_law_118 rfl (lv_at hl 3 rfl) ?_
        refine lv_iconst (v := nI 2) hx hb dL_law_119 (by decide) ?_
        refine n_add hx hb dL_law_120 ?_
        refine n_sld hx hb hX hbl hbA hw.2.2 hL (by omega) dL_law_121 ?_
        refine lv_aload_n hx hb dL_law_122 rfl (lv_at hl 0 rfl) ?_
        refine lv_iload_n hx hb dL_law_123 rfl (lv_at hl 3 rfl) ?_
        refine lv_iconst (v := nI 3) hx hb dL_law_124 (by decide) ?_
        refine n_add hx hb dL_law_125 ?_
        refine n_sld hx hb hX hbl hbA hw.2.2 hL (by omega) dL_law_126 ?_
        refine rd_lci1 (As := [.int (xs (i + 1)), .int (xs (i + 2)), .int (xs (i + 3))]) (nA := 3) E hK hw (rd_m_own l D cA h2 a2 τ (xs (i + 1)) (xs (i + 2)) (xs (i + 3))) (lw_V q189 q190 q191 q25 q192) (by decide +kernel) rfl ⟨by decide, by decide⟩ ⟨by decide, by decide⟩ hl.1 rfl (Nat.le_of_ble_eq_true rfl) dL_law_127 (fun r2 v H locs g2 hw => ?_)
        obtain ⟨hr, hI2⟩ := rd_L_own hI g1 g2
        refine lv_icmp_eq (tgt := 373) hx hb dL_law_130 (by decide) (fun c130 => ?_) (fun c130 => ?_)
        · have hv4 : nI i + Int32.ofInt 4 = nI (i + 4) := by rw [show Int32.ofInt 4 = nI 4 from by decide, nI_add]
          refine lv_iinc (v := nI (i + 4)) (lv' := [(3, .int (nI (i + 4))), (0, .ref b), (1, .ref h1), (2, .ref h2)]) hx hb dL_law_373 hl (k := 3) rfl hv4 (by decide) rfl (fun ls hl => ?_)
          refine lv_goto (tgt := 18) hx hb dL_law_376 (by decide) ?_
          exact ih (i + 4) u v (by omega) (by omega) (hI2) H locs ls hw (lv_sub hl [1, 2, 3, 0] rfl)
        · exact absurd hr c130
      · subst q
        refine lv_tableIn (off := 103) (tgt := 135) hx hb dL_law_32 (by decide) (by decide) (by decide) (by decide) ?_
        refine lv_aload_n hx hb dL_law_135 rfl (lv_at hl 1 rfl) ?_
        refine lv_aload_n hx hb dL_law_136 rfl (lv_at hl 0 rfl) ?_
        refine lv_iload_n hx hb dL_law_137 rfl (lv_at hl 3 rfl) ?_
        refine lv_iconst (v := nI 1) hx hb dL_law_138 (by decide) ?_
        refine n_add hx hb dL_law_139 ?_
        refine n_sld hx hb hX hbl hbA hw.2.2 hL (by omega) dL_law_140 ?_
        refine lv_aload_n hx hb dL_law_141 rfl (lv_at hl 0 rfl) ?_
        refine lv_iload_n hx hb dL_law_142 rfl (lv_at hl 3 rfl) ?_
        refine lv_iconst (v := nI 2) hx hb dL_law_143 (by decide) ?_
        refine n_add hx hb dL_law_144 ?_
        refine n_sld hx hb hX hbl hbA hw.2.2 hL (by omega) dL_law_145 ?_
        refine lv_aload_n hx hb dL_law_146 rfl (lv_at hl 0 rfl) ?_
        refine lv_iload_n hx hb dL_law_147 rfl (lv_at hl 3 rfl) ?_
        refine lv_iconst (v := nI 3) hx hb dL_law_148 (by decide) ?_
        refine n_add hx hb dL_law_149 ?_
        refine n_sld hx hb hX hbl hbA hw.2.2 hL (by omega) dL_law_150 ?_
        refine rd_lci0 (As := [.int (xs (i + 1)), .int (xs (i + 2)), .int (xs (i + 3))]) (nA := 3) E hK hw (rd_d_pair l D cA h1 a1 σ (xs (i + 1)) (xs (i + 2)) (xs (i + 3))) (lw_V q84 q85 q86 q24 q87) (by decide +kernel) rfl ⟨by decide, by decide⟩ ⟨by decide, by decide⟩ hl.1 rfl (Nat.le_of_ble_eq_true rfl) dL_law_151 (fun r1 u H locs g1 hw => ?_)
        refine lv_aload_n hx hb dL_law_154 rfl (lv_at hl 2 rfl) ?_
        refine lv_aload_n hx hb dL_law_155 rfl (lv_at hl 0 rfl) ?_
        refine lv_iload_n hx hb dL_law_156 rfl (lv_at hl 3 rfl) ?_
        refine lv_iconst (v := nI 1) hx hb dL_law_157 (by decide) ?_
        refine n_add hx hb dL_law_158 ?_
        refine n_sld hx hb hX hbl hbA hw.2.2 hL (by omega) dL_law_159 ?_
        refine lv_aload_n hx hb dL_law_160 rfl (lv_at hl 0 rfl) ?_
        refine lv_iload_n hx hb dL_law_161 rfl (lv_at hl 3 rfl) ?_
        refine lv_iconst (v := nI 2) hx hb dL_law_162 (by decide) ?_
        refine n_add hx hb dL_law_163 ?_
        refine n_sld hx hb hX hbl hbA hw.2.2 hL (by omega) dL_law_164 ?_
        refine lv_aload_n hx hb dL_law_165 rfl (lv_at hl 0 rfl) ?_
        refine lv_iload_n hx hb dL_law_166 rfl (lv_at hl 3 rfl) ?_
        refine lv_iconst (v := nI 3) hx hb dL_law_167 (by decide) ?_
        refine n_add hx hb dL_law_168 ?_
        refine n_sld hx hb hX hbl hbA hw.2.2 hL (by omega) dL_law_169 ?_
        refine rd_lci1 (As := [.int (xs (i + 1)), .int (xs (i + 2)), .int (xs (i + 3))]) (nA := 3) E hK hw (rd_m_pair l D cA h2 a2 τ (xs (i + 1)) (xs (i + 2)) (xs (i + 3))) (lw_V q205 q206 q207 q25 q208) (by decide +kernel) rfl ⟨by decide, by decide⟩ ⟨by decide, by decide⟩ hl.1 rfl (Nat.le_of_ble_eq_true rfl) dL_law_170 (fun r2 v H locs g2 hw => ?_)
        obtain ⟨hr, hI2⟩ := rd_L_pair hI g1 g2
        refine lv_icmp_eq (tgt := 373) hx hb dL_law_173 (by decide) (fun c173 => ?_) (fun c173 => ?_)
        · have hv4 : nI i + Int32.ofInt 4 = nI (i + 4) := by rw [show Int32.ofInt 4 = nI 4 from by decide, nI_add]
          refine lv_iinc (v := nI (i + 4)) (lv' := [(3, .int (nI (i + 4))), (0, .ref b), (1, .ref h1), (2, .ref h2)]) hx hb dL_law_373 hl (k := 3) rfl hv4 (by decide) rfl (fun ls hl => ?_)
          refine lv_goto (tgt := 18) hx hb dL_law_376 (by decide) ?_
          exact ih (i + 4) u v (by omega) (by omega) (hI2) H locs ls hw (lv_sub hl [1, 2, 3, 0] rfl)
        · exact absurd hr c173
      · subst q
        refine lv_tableIn (off := 146) (tgt := 178) hx hb dL_law_32 (by decide) (by decide) (by decide) (by decide) ?_
        refine lv_aload_n hx hb dL_law_178 rfl (lv_at hl 1 rfl) ?_
        refine lv_aload_n hx hb dL_law_179 rfl (lv_at hl 0 rfl) ?_
        refine lv_iload_n hx hb dL_law_180 rfl (lv_at hl 3 rfl) ?_
        refine lv_iconst (v := nI 1) hx hb dL_law_181 (by decide) ?_
        refine n_add hx hb dL_law_182 ?_
        refine n_sld hx hb hX hbl hbA hw.2.2 hL (by omega) dL_law_183 ?_
        refine lv_aload_n hx hb dL_law_184 rfl (lv_at hl 0 rfl) ?_
        refine lv_iload_n hx hb dL_law_185 rfl (lv_at hl 3 rfl) ?_
        refine lv_iconst (v := nI 2) hx hb dL_law_186 (by decide) ?_
        refine n_add hx hb dL_law_187 ?_
        refine n_sld hx hb hX hbl hbA hw.2.2 hL (by omega) dL_law_188 ?_
        refine lv_aload_n hx hb dL_law_189 rfl (lv_at hl 0 rfl) ?_
        refine lv_iload_n hx hb dL_law_190 rfl (lv_at hl 3 rfl) ?_
        refine lv_iconst (v := nI 3) hx hb dL_law_191 (by decide) ?_
        refine n_add hx hb dL_law_192 ?_
        refine n_sld hx hb hX hbl hbA hw.2.2 hL (by omega) dL_law_193 ?_
        refine rd_lci0 (As := [.int (xs (i + 1)), .int (xs (i + 2)), .int (xs (i + 3))]) (nA := 3) E hK hw (rd_d_relate l D cA h1 a1 σ (xs (i + 1)) (xs (i + 2)) (xs (i + 3))) (lw_V q92 q93 q94 q24 q95) (by decide +kernel) rfl ⟨by decide, by decide⟩ ⟨by decide, by decide⟩ hl.1 rfl (Nat.le_of_ble_eq_true rfl) dL_law_194 (fun r1 u H locs g1 hw => ?_)
        refine lv_aload_n hx hb dL_law_197 rfl (lv_at hl 2 rfl) ?_
        refine lv_aload_n hx hb dL_law_198 rfl (lv_at hl 0 rfl) ?_
        refine lv_iload_n hx hb dL_law_199 rfl (lv_at hl 3 rfl) ?_
        refine lv_iconst (v := nI 1) hx hb dL_law_200 (by decide) ?_
        refine n_add hx hb dL_law_201 ?_
        refine n_sld hx hb hX hbl hbA hw.2.2 hL (by omega) dL_law_202 ?_
        refine lv_aload_n hx hb dL_law_203 rfl (lv_at hl 0 rfl) ?_
        refine lv_iload_n hx hb dL_law_204 rfl (lv_at hl 3 rfl) ?_
        refine lv_iconst (v := nI 2) hx hb dL_law_205 (by decide) ?_
        refine n_add hx hb dL_law_206 ?_
        refine n_sld hx hb hX hbl hbA hw.2.2 hL (by omega) dL_law_207 ?_
        refine lv_aload_n hx hb dL_law_208 rfl (lv_at hl 0 rfl) ?_
        refine lv_iload_n hx hb dL_law_209 rfl (lv_at hl 3 rfl) ?_
        refine lv_iconst (v := nI 3) hx hb dL_law_210 (by decide) ?_
        refine n_add hx hb dL_law_211 ?_
        refine n_sld hx hb hX hbl hbA hw.2.2 hL (by omega) dL_law_212 ?_
        refine rd_lci1 (As := [.int (xs (i + 1)), .int (xs (i + 2)), .int (xs (i + 3))]) (nA := 3) E hK hw (rd_m_relate l D cA h2 a2 τ (xs (i + 1)) (xs (i + 2)) (xs (i + 3))) (lw_V q213 q214 q215 q25 q216) (by decide +kernel) rfl ⟨by decide, by decide⟩ ⟨by decide, by decide⟩ hl.1 rfl (Nat.le_of_ble_eq_true rfl) dL_law_213 (fun r2 v H locs g2 hw => ?_)
        obtain ⟨hr, hI2⟩ := rd_L_relate hI g1 g2
        refine lv_icmp_eq (tgt := 373) hx hb dL_law_216 (by decide) (fun c216 => ?_) (fun c216 => ?_)
        · have hv4 : nI i + Int32.ofInt 4 = nI (i + 4) := by rw [show Int32.ofInt 4 = nI 4 from by decide, nI_add]
          refine lv_iinc (v := nI (i + 4)) (lv' := [(3, .int (nI (i + 4))), (0, .ref b), (1, .ref h1), (2, .ref h2)]) hx hb dL_law_373 hl (k := 3) rfl hv4 (by decide) rfl (fun ls hl => ?_)
          refine lv_goto (tgt := 18) hx hb dL_law_376 (by decide) ?_
          exact ih (i + 4) u v (by omega) (by omega) (hI2) H locs ls hw (lv_sub hl [1, 2, 3, 0] rfl)
        · exact absurd hr c216
      · subst q
        refine lv_tableIn (off := 189) (tgt := 221) hx hb dL_law_32 (by decide) (by decide) (by decide) (by decide) ?_
        refine lv_aload_n hx hb dL_law_221 rfl (lv_at hl 1 rfl) ?_
        refine rd_lcv0 (As := []) (nA := 0) E hK hw (rd_d_clear l D cA h1 a1 σ) (lw_V q96 q97 q98 q24 q99) (by decide +kernel) rfl ⟨by decide, by decide⟩ ⟨by decide, by decide⟩ hl.1 rfl (Nat.le_of_ble_eq_true rfl) dL_law_222 (fun u H locs g1 hw => ?_)
        refine lv_aload_n hx hb dL_law_225 rfl (lv_at hl 2 rfl) ?_
        refine rd_lcv1 (As := []) (nA := 0) E hK hw (rd_m_clear l D cA h2 a2 τ) (lw_V q217 q218 q219 q25 q220) (by decide +kernel) rfl ⟨by decide, by decide⟩ ⟨by decide, by decide⟩ hl.1 rfl (Nat.le_of_ble_eq_true rfl) dL_law_226 (fun v H locs g2 hw => ?_)
        have hI2 : rd_LI u v := by rw [g1, g2]; exact rd_L_clear hI
        refine lv_goto (tgt := 373) hx hb dL_law_229 (by decide) ?_
        have hv4 : nI i + Int32.ofInt 4 = nI (i + 4) := by rw [show Int32.ofInt 4 = nI 4 from by decide, nI_add]
        refine lv_iinc (v := nI (i + 4)) (lv' := [(3, .int (nI (i + 4))), (0, .ref b), (1, .ref h1), (2, .ref h2)]) hx hb dL_law_373 hl (k := 3) rfl hv4 (by decide) rfl (fun ls hl => ?_)
        refine lv_goto (tgt := 18) hx hb dL_law_376 (by decide) ?_
        exact ih (i + 4) u v (by omega) (by omega) (hI2) H locs ls hw (lv_sub hl [1, 2, 3, 0] rfl)
      · subst q
        refine lv_tableIn (off := 200) (tgt := 232) hx hb dL_law_32 (by decide) (by decide) (by decide) (by decide) ?_
        refine lv_aload_n hx hb dL_law_232 rfl (lv_at hl 1 rfl) ?_
        refine lv_aload_n hx hb dL_law_233 rfl (lv_at hl 0 rfl) ?_
        refine lv_iload_n hx hb dL_law_234 rfl (lv_at hl 3 rfl) ?_
        refine lv_iconst (v := nI 1) hx hb dL_law_235 (by decide) ?_
        refine n_add hx hb dL_law_236 ?_
        refine n_sld hx hb hX hbl hbA hw.2.2 hL (by omega) dL_law_237 ?_
        refine rd_lci0 (As := [.int (xs (i + 1))]) (nA := 1) E hK hw (rd_d_doll l D cA h1 a1 σ (xs (i + 1)) hI.2.2.2.1 hI.2.2.2.2) (lw_V q100 q101 q102 q24 q103) (by decide +kernel) rfl ⟨by decide, by decide⟩ ⟨by decide, by decide⟩ hl.1 rfl (Nat.le_of_ble_eq_true rfl) dL_law_238 (fun r1 u H locs g1 hw => ?_)
        refine lv_aload_n hx hb dL_law_241 rfl (lv_at hl 2 rfl) ?_
        refine lv_aload_n hx hb dL_law_242 rfl (lv_at hl 0 rfl) ?_
        refine lv_iload_n hx hb dL_law_243 rfl (lv_at hl 3 rfl) ?_
        refine lv_iconst (v := nI 1) hx hb dL_law_244 (by decide) ?_
        refine n_add hx hb dL_law_245 ?_
        refine n_sld hx hb hX hbl hbA hw.2.2 hL (by omega) dL_law_246 ?_
        refine rd_lci1 (As := [.int (xs (i + 1))]) (nA := 1) E hK hw (rd_m_doll l D cA h2 a2 τ (xs (i + 1)) (rd_LI_Cs hI)) (lw_V q221 q222 q223 q25 q224) (by decide +kernel) rfl ⟨by decide, by decide⟩ ⟨by decide, by decide⟩ hl.1 rfl (Nat.le_of_ble_eq_true rfl) dL_law_247 (fun r2 v H locs g2 hw => ?_)
        obtain ⟨hKp, g1⟩ := g1
        obtain ⟨hv, g2⟩ := g2
        rw [hI.1, hI.2.1] at g1
        have hr : r1 = r2 := rd_L_v g1 g2
        have hI2 : rd_LI u v := by rw [hv]; exact rd_L_kp hI hKp
        refine lv_icmp_eq (tgt := 373) hx hb dL_law_250 (by decide) (fun c250 => ?_) (fun c250 => ?_)
        · have hv4 : nI i + Int32.ofInt 4 = nI (i + 4) := by rw [show Int32.ofInt 4 = nI 4 from by decide, nI_add]
          refine lv_iinc (v := nI (i + 4)) (lv' := [(3, .int (nI (i + 4))), (0, .ref b), (1, .ref h1), (2, .ref h2)]) hx hb dL_law_373 hl (k := 3) rfl hv4 (by decide) rfl (fun ls hl => ?_)
          refine lv_goto (tgt := 18) hx hb dL_law_376 (by decide) ?_
          exact ih (i + 4) u v (by omega) (by omega) (hI2) H locs ls hw (lv_sub hl [1, 2, 3, 0] rfl)
        · exact absurd hr c250
      · subst q
        refine lv_tableIn (off := 223) (tgt := 255) hx hb dL_law_32 (by decide) (by decide) (by decide) (by decide) ?_
        refine lv_aload_n hx hb dL_law_255 rfl (lv_at hl 1 rfl) ?_
        refine rd_lci0 (As := []) (nA := 0) E hK hw (rd_d_cheapest l D cA h1 a1 σ  hI.2.2.2.1 hI.2.2.2.2) (lw_V q149 q150 q151 q24 q152) (by decide +kernel) rfl ⟨by decide, by decide⟩ ⟨by decide, by decide⟩ hl.1 rfl (Nat.le_of_ble_eq_true rfl) dL_law_256 (fun r1 u H locs g1 hw => ?_)
        refine lv_aload_n hx hb dL_law_259 rfl (lv_at hl 2 rfl) ?_
        refine rd_lci1 (As := []) (nA := 0) E hK hw (rd_m_cheapest l D cA h2 a2 τ  (rd_LI_Cs hI)) (lw_V q237 q238 q239 q25 q240) (by decide +kernel) rfl ⟨by decide, by decide⟩ ⟨by decide, by decide⟩ hl.1 rfl (Nat.le_of_ble_eq_true rfl) dL_law_260 (fun r2 v H locs g2 hw => ?_)
        obtain ⟨hKp, g1⟩ := g1
        obtain ⟨hv, g2⟩ := g2
        rw [hI.1, hI.2.1] at g1
        have hr : r1 = r2 := g1.trans g2.symm
        have hI2 : rd_LI u v := by rw [hv]; exact rd_L_kp hI hKp
        refine lv_icmp_eq (tgt := 373) hx hb dL_law_263 (by decide) (fun c263 => ?_) (fun c263 => ?_)
        · have hv4 : nI i + Int32.ofInt 4 = nI (i + 4) := by rw [show Int32.ofInt 4 = nI 4 from by decide, nI_add]
          refine lv_iinc (v := nI (i + 4)) (lv' := [(3, .int (nI (i + 4))), (0, .ref b), (1, .ref h1), (2, .ref h2)]) hx hb dL_law_373 hl (k := 3) rfl hv4 (by decide) rfl (fun ls hl => ?_)
          refine lv_goto (tgt := 18) hx hb dL_law_376 (by decide) ?_
          exact ih (i + 4) u v (by omega) (by omega) (hI2) H locs ls hw (lv_sub hl [1, 2, 3, 0] rfl)
        · exact absurd hr c263
      · subst q
        refine lv_tableIn (off := 236) (tgt := 268) hx hb dL_law_32 (by decide) (by decide) (by decide) (by decide) ?_
        refine lv_aload_n hx hb dL_law_268 rfl (lv_at hl 1 rfl) ?_
        refine lv_aload_n hx hb dL_law_269 rfl (lv_at hl 0 rfl) ?_
        refine lv_iload_n hx hb dL_law_270 rfl (lv_at hl 3 rfl) ?_
        refine lv_iconst (v := nI 1) hx hb dL_law_271 (by decide) ?_
        refine n_add hx hb dL_law_272 ?_
        refine n_sld hx hb hX hbl hbA hw.2.2 hL (by omega) dL_law_273 ?_
        refine rd_lci0 (As := [.int (xs (i + 1))]) (nA := 1) E hK hw (rd_d_value l D cA h1 a1 σ (xs (i + 1)) hI.2.2.2.1 hI.2.2.2.2) (lw_V q154 q155 q156 q24 q157) (by decide +kernel) rfl ⟨by decide, by decide⟩ ⟨by decide, by decide⟩ hl.1 rfl (Nat.le_of_ble_eq_true rfl) dL_law_274 (fun r1 u H locs g1 hw => ?_)
        refine lv_aload_n hx hb dL_law_277 rfl (lv_at hl 2 rfl) ?_
        refine lv_aload_n hx hb dL_law_278 rfl (lv_at hl 0 rfl) ?_
        refine lv_iload_n hx hb dL_law_279 rfl (lv_at hl 3 rfl) ?_
        refine lv_iconst (v := nI 1) hx hb dL_law_280 (by decide) ?_
        refine n_add hx hb dL_law_281 ?_
        refine n_sld hx hb hX hbl hbA hw.2.2 hL (by omega) dL_law_282 ?_
        refine rd_lci1 (As := [.int (xs (i + 1))]) (nA := 1) E hK hw (rd_m_value l D cA h2 a2 τ (xs (i + 1)) (rd_LI_Cs hI)) (lw_V q242 q243 q244 q25 q245) (by decide +kernel) rfl ⟨by decide, by decide⟩ ⟨by decide, by decide⟩ hl.1 rfl (Nat.le_of_ble_eq_true rfl) dL_law_283 (fun r2 v H locs g2 hw => ?_)
        obtain ⟨hKp, g1⟩ := g1
        obtain ⟨hv, g2⟩ := g2
        rw [hI.1, hI.2.1] at g1
        have hr : r1 = r2 := rd_L_v g1 g2
        have hI2 : rd_LI u v := by rw [hv]; exact rd_L_kp hI hKp
        refine lv_icmp_eq (tgt := 373) hx hb dL_law_286 (by decide) (fun c286 => ?_) (fun c286 => ?_)
        · have hv4 : nI i + Int32.ofInt 4 = nI (i + 4) := by rw [show Int32.ofInt 4 = nI 4 from by decide, nI_add]
          refine lv_iinc (v := nI (i + 4)) (lv' := [(3, .int (nI (i + 4))), (0, .ref b), (1, .ref h1), (2, .ref h2)]) hx hb dL_law_373 hl (k := 3) rfl hv4 (by decide) rfl (fun ls hl => ?_)
          refine lv_goto (tgt := 18) hx hb dL_law_376 (by decide) ?_
          exact ih (i + 4) u v (by omega) (by omega) (hI2) H locs ls hw (lv_sub hl [1, 2, 3, 0] rfl)
        · exact absurd hr c286
      · subst q
        refine lv_tableIn (off := 259) (tgt := 291) hx hb dL_law_32 (by decide) (by decide) (by decide) (by decide) ?_
        refine lv_aload_n hx hb dL_law_291 rfl (lv_at hl 1 rfl) ?_
        refine lv_aload_n hx hb dL_law_292 rfl (lv_at hl 0 rfl) ?_
        refine lv_iload_n hx hb dL_law_293 rfl (lv_at hl 3 rfl) ?_
        refine lv_iconst (v := nI 1) hx hb dL_law_294 (by decide) ?_
        refine n_add hx hb dL_law_295 ?_
        refine n_sld hx hb hX hbl hbA hw.2.2 hL (by omega) dL_law_296 ?_
        refine lv_aload_n hx hb dL_law_297 rfl (lv_at hl 0 rfl) ?_
        refine lv_iload_n hx hb dL_law_298 rfl (lv_at hl 3 rfl) ?_
        refine lv_iconst (v := nI 2) hx hb dL_law_299 (by decide) ?_
        refine n_add hx hb dL_law_300 ?_
        refine n_sld hx hb hX hbl hbA hw.2.2 hL (by omega) dL_law_301 ?_
        refine rd_lci0 (As := [.int (xs (i + 1)), .int (xs (i + 2))]) (nA := 2) E hK hw (rd_d_with l D cA h1 a1 σ (xs (i + 1)) (xs (i + 2)) hI.2.2.2.1 hI.2.2.2.2) (lw_V q158 q159 q160 q24 q161) (by decide +kernel) rfl ⟨by decide, by decide⟩ ⟨by decide, by decide⟩ hl.1 rfl (Nat.le_of_ble_eq_true rfl) dL_law_302 (fun r1 u H locs g1 hw => ?_)
        refine lv_aload_n hx hb dL_law_305 rfl (lv_at hl 2 rfl) ?_
        refine lv_aload_n hx hb dL_law_306 rfl (lv_at hl 0 rfl) ?_
        refine lv_iload_n hx hb dL_law_307 rfl (lv_at hl 3 rfl) ?_
        refine lv_iconst (v := nI 1) hx hb dL_law_308 (by decide) ?_
        refine n_add hx hb dL_law_309 ?_
        refine n_sld hx hb hX hbl hbA hw.2.2 hL (by omega) dL_law_310 ?_
        refine lv_aload_n hx hb dL_law_311 rfl (lv_at hl 0 rfl) ?_
        refine lv_iload_n hx hb dL_law_312 rfl (lv_at hl 3 rfl) ?_
        refine lv_iconst (v := nI 2) hx hb dL_law_313 (by decide) ?_
        refine n_add hx hb dL_law_314 ?_
        refine n_sld hx hb hX hbl hbA hw.2.2 hL (by omega) dL_law_315 ?_
        refine rd_lci1 (As := [.int (xs (i + 1)), .int (xs (i + 2))]) (nA := 2) E hK hw (rd_m_with l D cA h2 a2 τ (xs (i + 1)) (xs (i + 2)) (rd_LI_Cs hI)) (lw_V q250 q251 q252 q25 q253) (by decide +kernel) rfl ⟨by decide, by decide⟩ ⟨by decide, by decide⟩ hl.1 rfl (Nat.le_of_ble_eq_true rfl) dL_law_316 (fun r2 v H locs g2 hw => ?_)
        obtain ⟨hKp, g1⟩ := g1
        obtain ⟨hv, g2⟩ := g2
        rw [hI.1, hI.2.1] at g1
        have hr : r1 = r2 := rd_L_vx g1 g2
        have hI2 : rd_LI u v := by rw [hv]; exact rd_L_kp hI hKp
        refine lv_icmp_eq (tgt := 373) hx hb dL_law_319 (by decide) (fun c319 => ?_) (fun c319 => ?_)
        · have hv4 : nI i + Int32.ofInt 4 = nI (i + 4) := by rw [show Int32.ofInt 4 = nI 4 from by decide, nI_add]
          refine lv_iinc (v := nI (i + 4)) (lv' := [(3, .int (nI (i + 4))), (0, .ref b), (1, .ref h1), (2, .ref h2)]) hx hb dL_law_373 hl (k := 3) rfl hv4 (by decide) rfl (fun ls hl => ?_)
          refine lv_goto (tgt := 18) hx hb dL_law_376 (by decide) ?_
          exact ih (i + 4) u v (by omega) (by omega) (hI2) H locs ls hw (lv_sub hl [1, 2, 3, 0] rfl)
        · exact absurd hr c319
      · subst q
        refine lv_tableIn (off := 292) (tgt := 324) hx hb dL_law_32 (by decide) (by decide) (by decide) (by decide) ?_
        refine lv_aload_n hx hb dL_law_324 rfl (lv_at hl 1 rfl) ?_
        refine lv_aload_n hx hb dL_law_325 rfl (lv_at hl 0 rfl) ?_
        refine lv_iload_n hx hb dL_law_326 rfl (lv_at hl 3 rfl) ?_
        refine lv_iconst (v := nI 1) hx hb dL_law_327 (by decide) ?_
        refine n_add hx hb dL_law_328 ?_
        refine n_sld hx hb hX hbl hbA hw.2.2 hL (by omega) dL_law_329 ?_
        refine rd_lci0 (As := [.int (xs (i + 1))]) (nA := 1) E hK hw (rd_d_settled l D cA h1 a1 σ (xs (i + 1)) hI.2.2.2.1 hI.2.2.2.2) (lw_V q162 q163 q164 q24 q165) (by decide +kernel) rfl ⟨by decide, by decide⟩ ⟨by decide, by decide⟩ hl.1 rfl (Nat.le_of_ble_eq_true rfl) dL_law_330 (fun r1 u H locs g1 hw => ?_)
        refine lv_aload_n hx hb dL_law_333 rfl (lv_at hl 2 rfl) ?_
        refine lv_aload_n hx hb dL_law_334 rfl (lv_at hl 0 rfl) ?_
        refine lv_iload_n hx hb dL_law_335 rfl (lv_at hl 3 rfl) ?_
        refine lv_iconst (v := nI 1) hx hb dL_law_336 (by decide) ?_
        refine n_add hx hb dL_law_337 ?_
        refine n_sld hx hb hX hbl hbA hw.2.2 hL (by omega) dL_law_338 ?_
        refine rd_lci1 (As := [.int (xs (i + 1))]) (nA := 1) E hK hw (rd_m_settled l D cA h2 a2 τ (xs (i + 1)) (rd_LI_Cs hI)) (lw_V q254 q255 q256 q25 q257) (by decide +kernel) rfl ⟨by decide, by decide⟩ ⟨by decide, by decide⟩ hl.1 rfl (Nat.le_of_ble_eq_true rfl) dL_law_339 (fun r2 v H locs g2 hw => ?_)
        obtain ⟨hKp, g1⟩ := g1
        obtain ⟨hv, g2⟩ := g2
        rw [hI.1, hI.2.1] at g1
        have hr : r1 = r2 := rd_L_v g1 g2
        have hI2 : rd_LI u v := by rw [hv]; exact rd_L_kp hI hKp
        refine lv_icmp_eq (tgt := 373) hx hb dL_law_342 (by decide) (fun c342 => ?_) (fun c342 => ?_)
        · have hv4 : nI i + Int32.ofInt 4 = nI (i + 4) := by rw [show Int32.ofInt 4 = nI 4 from by decide, nI_add]
          refine lv_iinc (v := nI (i + 4)) (lv' := [(3, .int (nI (i + 4))), (0, .ref b), (1, .ref h1), (2, .ref h2)]) hx hb dL_law_373 hl (k := 3) rfl hv4 (by decide) rfl (fun ls hl => ?_)
          refine lv_goto (tgt := 18) hx hb dL_law_376 (by decide) ?_
          exact ih (i + 4) u v (by omega) (by omega) (hI2) H locs ls hw (lv_sub hl [1, 2, 3, 0] rfl)
        · exact absurd hr c342
      · subst q
        refine lv_tableIn (off := 315) (tgt := 347) hx hb dL_law_32 (by decide) (by decide) (by decide) (by decide) ?_
        refine lv_aload_n hx hb dL_law_347 rfl (lv_at hl 1 rfl) ?_
        refine rd_lci0 (As := []) (nA := 0) E hK hw (rd_d_second l D cA h1 a1 σ  hI.2.2.2.1 hI.2.2.2.2) (lw_V q168 q169 q170 q24 q171) (by decide +kernel) rfl ⟨by decide, by decide⟩ ⟨by decide, by decide⟩ hl.1 rfl (Nat.le_of_ble_eq_true rfl) dL_law_348 (fun r1 u H locs g1 hw => ?_)
        refine lv_aload_n hx hb dL_law_351 rfl (lv_at hl 2 rfl) ?_
        refine rd_lci1 (As := []) (nA := 0) E hK hw (rd_m_second l D cA h2 a2 τ  (rd_LI_Cs hI)) (lw_V q260 q261 q262 q25 q263) (by decide +kernel) rfl ⟨by decide, by decide⟩ ⟨by decide, by decide⟩ hl.1 rfl (Nat.le_of_ble_eq_true rfl) dL_law_352 (fun r2 v H locs g2 hw => ?_)
        obtain ⟨hKp, g1⟩ := g1
        obtain ⟨hv, g2⟩ := g2
        rw [hI.1, hI.2.1] at g1
        have hr : r1 = r2 := g1.trans g2.symm
        have hI2 : rd_LI u v := by rw [hv]; exact rd_L_kp hI hKp
        refine lv_icmp_eq (tgt := 373) hx hb dL_law_355 (by decide) (fun c355 => ?_) (fun c355 => ?_)
        · have hv4 : nI i + Int32.ofInt 4 = nI (i + 4) := by rw [show Int32.ofInt 4 = nI 4 from by decide, nI_add]
          refine lv_iinc (v := nI (i + 4)) (lv' := [(3, .int (nI (i + 4))), (0, .ref b), (1, .ref h1), (2, .ref h2)]) hx hb dL_law_373 hl (k := 3) rfl hv4 (by decide) rfl (fun ls hl => ?_)
          refine lv_goto (tgt := 18) hx hb dL_law_376 (by decide) ?_
          exact ih (i + 4) u v (by omega) (by omega) (hI2) H locs ls hw (lv_sub hl [1, 2, 3, 0] rfl)
        · exact absurd hr c355
      · subst q
        refine lv_tableIn (off := 328) (tgt := 360) hx hb dL_law_32 (by decide) (by decide) (by decide) (by decide) ?_
        refine lv_aload_n hx hb dL_law_360 rfl (lv_at hl 1 rfl) ?_
        refine rd_lci0 (As := []) (nA := 0) E hK hw (rd_d_zigzag l D cA h1 a1 σ  hI.2.2.2.1 hI.2.2.2.2) (lw_V q172 q173 q174 q24 q175) (by decide +kernel) rfl ⟨by decide, by decide⟩ ⟨by decide, by decide⟩ hl.1 rfl (Nat.le_of_ble_eq_true rfl) dL_law_361 (fun r1 u H locs g1 hw => ?_)
        refine lv_aload_n hx hb dL_law_364 rfl (lv_at hl 2 rfl) ?_
        refine rd_lci1 (As := []) (nA := 0) E hK hw (rd_m_zigzag l D cA h2 a2 τ  (rd_LI_Cs hI)) (lw_V q264 q265 q266 q25 q267) (by decide +kernel) rfl ⟨by decide, by decide⟩ ⟨by decide, by decide⟩ hl.1 rfl (Nat.le_of_ble_eq_true rfl) dL_law_365 (fun r2 v H locs g2 hw => ?_)
        obtain ⟨hKp, g1⟩ := g1
        obtain ⟨hv, g2⟩ := g2
        rw [hI.1, hI.2.1] at g1
        have hr : r1 = r2 := g1.trans g2.symm
        have hI2 : rd_LI u v := by rw [hv]; exact rd_L_kp hI hKp
        refine lv_icmp_eq (tgt := 373) hx hb dL_law_368 (by decide) (fun c368 => ?_) (fun c368 => ?_)
        · have hv4 : nI i + Int32.ofInt 4 = nI (i + 4) := by rw [show Int32.ofInt 4 = nI 4 from by decide, nI_add]
          refine lv_iinc (v := nI (i + 4)) (lv' := [(3, .int (nI (i + 4))), (0, .ref b), (1, .ref h1), (2, .ref h2)]) hx hb dL_law_373 hl (k := 3) rfl hv4 (by decide) rfl (fun ls hl => ?_)
          refine lv_goto (tgt := 18) hx hb dL_law_376 (by decide) ?_
          exact ih (i + 4) u v (by omega) (by omega) (hI2) H locs ls hw (lv_sub hl [1, 2, 3, 0] rfl)
        · exact absurd hr c368
      · refine lv_tableOut (tgt := 373) hx hb dL_law_32 (Or.inr (by rw [nI_toInt (by omega)]; omega)) (by decide) ?_
        have hv4 : nI i + Int32.ofInt 4 = nI (i + 4) := by rw [show Int32.ofInt 4 = nI 4 from by decide, nI_add]
        refine lv_iinc (v := nI (i + 4)) (lv' := [(3, .int (nI (i + 4))), (0, .ref b), (1, .ref h1), (2, .ref h2)]) hx hb dL_law_373 hl (k := 3) rfl hv4 (by decide) rfl (fun ls hl => ?_)
        refine lv_goto (tgt := 18) hx hb dL_law_376 (by decide) ?_
        exact ih (i + 4) σ τ (by omega) (by omega) (hI) H locs ls hw (lv_sub hl [1, 2, 3, 0] rfl)
end
section
set_option maxRecDepth 100000
set_option maxHeartbeats 4000000 in
set_option maxRecDepth 100000 in
/-- THE LAW, from its entry -/
theorem whole_start {p : Program} {e : Env} {s : State} {m : MethodId} {below : List Frame} {meth : Method} {c : Code} (l : Launch) {b L : Nat} {xs : Nat → Int32} (hL : L ≤ 256) (C0 : lw_At p s m meth c b L xs) : W p l e room_1 s m #[Value.ref b] below meth c s.heap [] 0 0 (lw_Z below #[Value.ref b] s) (entryFrame m ([Value.ref b] : List Value).toArray 4) := by
  obtain ⟨hx, hb, hr, hml, hown, hts0, hX, hbl, hlocks, hgv⟩ := C0
  have hts : ∀ w ∈ lw_all, w.before #[Value.ref b] s = true := fun w h => hts0 w (lw_all_tbl h)
  have hA : ∀ q : Nat, s.heap.size ≤ q → (fun q : Nat => s.heap.size ≤ q) q := fun _ h => h
  obtain ⟨c0, iS0, hKn0⟩ := u_known (C := RX0) (T := TX0) (N := 12) (n := 12) hts0 (fun w h => lw_all_tbl (in_X0 w h)) (hts _ q27)
  obtain ⟨c1, iS1, hKn1⟩ := u_known (C := RX1) (T := TX1) (N := 2) (n := 2) hts0 (fun w h => lw_all_tbl (in_X1 w h)) (hts _ q177)
  obtain ⟨dC, dI, hKc⟩ : ∃ (dC : Nat → ClassId) (dI : Nat → Nat → Nat), ∀ (k : Nat) (q : vw_C), vwCl[k]? = some q → u_Kn s q.1 q.2.1 q.2.2 (dC k) (dI k) := by
    refine ⟨fun k => if k = 0 then c0 else c1, fun k => if k = 0 then iS0 else iS1, ?_⟩
    intro k q hq
    match k, hq with
    | 0, hq => cases hq; exact hKn0
    | 1, hq => cases hq; exact hKn1
    | k + 2, hq => simp [vwCl] at hq
  have hS : va_S (fun q : Nat => s.heap.size ≤ q) s.heap s.heap [] := va_S.rf
  have hK : va_K (dC, dI) vwCl [] s := ⟨hKc, fun k q h => by simp at h⟩
  have hP : va_P (dC, dI) vwCl [] s.heap := fun k q h => by simp at h
  have hD : va_D (fun q : Nat => s.heap.size ≤ q) [] := ⟨fun i j p q h => by simp at h, fun k q h => by simp at h⟩
  have hl := lv_entry ([.ref b]) (n := 4) (Nat.le_of_ble_eq_true rfl)
  rw [lg_entry_eq]
  generalize (lg_sl ([.ref b]) ++ List.replicate (4 - (lg_sl ([.ref b])).length) Slot.unset).toArray = ls at hl ⊢
  have hl : lv_has ls 4 [(0, .ref b)] := hl
  refine va_new (ci := 0) (fs := [.null, .null, .int 0, .null, .null, .int 0, .null, .null, .null, .int 0, .null, .null]) (C := RX0) (T := TX0) (N := 12) hx hb hts in_X0 tyX0 tyX0_ok hown (hts _ q26) (hts _ q27) (hts _ q24) hK hP hD hS hA rfl (fun j hj => by rcases (show j = 0 ∨ j = 1 ∨ j = 2 ∨ j = 3 ∨ j = 4 ∨ j = 5 ∨ j = 6 ∨ j = 7 ∨ j = 8 ∨ j = 9 ∨ j = 10 ∨ j = 11 by omega) with rfl | rfl | rfl | rfl | rfl | rfl | rfl | rfl | rfl | rfl | rfl | rfl <;> rfl) (Nat.le_of_ble_eq_true rfl) (Nat.le_of_ble_eq_true rfl) dL_law_0 (fun h1 H hP hD hS => ?_)
  have hP : va_P (dC, dI) vwCl (rd_w0X0 h1) H := hP
  have hD : va_D (fun q : Nat => s.heap.size ≤ q) (rd_w0X0 h1) := hD
  refine W.widen (k := 1) (n := 12) (Nat.le_of_ble_eq_true rfl) (Nat.le_of_ble_eq_true rfl) ?_
  refine lv_dup hx hb dL_law_3 rfl ?_
  have hFc := va_free (wc := rd_w0X0 h1) hD hS hA [0] rfl
  refine va_callv (va_runI (As := []) (rest := [.ref h1]) ⟨hx, hb, hml, hown, hts⟩ (rd_d_init l (dC, dI) h1 H.size) (cwI 0 hts (lw_meth q30) rfl rfl rfl (hts _ q24) (hts _ q28) (hts _ q29) rfl (by decide +kernel) ⟨by decide, by decide⟩) ⟨fun a U g mk q => by obtain ⟨q0, q1, qP, qK, qD⟩ := q; exact ⟨q0, q1, qP, va_K.moved (u := U) (U := U.calling g mk a) (Vm.Alike.refl U.vm) qK, qD⟩, fun U hU hW => ⟨rfl, by rw [hU], by rw [hU]; exact hP, va_K.moved hW.alike hK, hD.weaken (fun _ _ _ _ => trivial)⟩⟩ rfl rfl hl.1 rfl (lv_room (Nat.le_of_ble_eq_true rfl)) dL_law_4 ⟨by decide, by decide⟩) hS (fun q _ h => hFc q h) hFc (fun u t H1 locs ht hvm hw hB hz1 hk1 hS => ?_)
  obtain ⟨a1, cA⟩ := u
  obtain ⟨hP1, hK1, hD1⟩ := hB
  rw [ht] at hP1
  have hK1 := va_K.moved hvm.symm hK1
  obtain ⟨hP, hD⟩ := va_join (wr := []) (w1 := rd_dw h1 a1 cA rd_z) hP hD [0] [] rfl rfl (by decide) (by decide) hk1 hFc hP1 hD1
  have hK : va_K (dC, dI) vwCl [(cA, .int)] s := hK1
  generalize H1 = H at hP hS ⊢
  have hP : va_P (dC, dI) vwCl (rd_dw h1 a1 cA rd_z) H := hP
  have hD : va_D (fun q : Nat => s.heap.size ≤ q) (rd_dw h1 a1 cA rd_z) := hD
  refine W.widen (k := 10) (n := 518) (Nat.le_of_ble_eq_true rfl) (Nat.le_of_ble_eq_true rfl) ?_
  refine lv_astore_n (lv' := [(1, .ref h1), (0, .ref b)]) hx hb dL_law_7 rfl hl (by decide) rfl (fun ls hl => ?_)
  refine va_new (ci := 1) (fs := [.null, .null]) (C := RX1) (T := TX1) (N := 2) hx hb hts in_X1 tyX1 tyX1_ok hown (hts _ q176) (hts _ q177) (hts _ q25) hK hP hD hS hA rfl (fun j hj => by rcases (show j = 0 ∨ j = 1 by omega) with rfl | rfl <;> rfl) (by decide) (by decide) dL_law_8 (fun h2 H hP hD hS => ?_)
  refine W.widen (k := 11) (n := 520) (Nat.le_of_ble_eq_true rfl) (Nat.le_of_ble_eq_true rfl) ?_
  refine lv_dup hx hb dL_law_11 rfl ?_
  have hPc := hP.sub (ws' := rd_w0X1 h2) [10] rfl
  have hDc := hD.sub (ws' := rd_w0X1 h2) [10] (by decide) rfl
  have hKc := hK.sub (tys' := []) [] rfl
  have hFc := va_free (wc := rd_w0X1 h2) hD hS hA [10] rfl
  refine va_callv (va_runI (As := []) (rest := [.ref h2]) ⟨hx, hb, hml, hown, hts⟩ (rd_m_init l (dC, dI) h2 H.size) (cwI 0 hts (lw_meth q180) rfl rfl rfl (hts _ q25) (hts _ q178) (hts _ q179) rfl (by decide +kernel) ⟨by decide, by decide⟩) ⟨fun a U g mk q => by obtain ⟨q0, q1, qP, qK, qD⟩ := q; exact ⟨q0, q1, qP, va_K.moved (u := U) (U := U.calling g mk a) (Vm.Alike.refl U.vm) qK, qD⟩, fun U hU hW => ⟨rfl, by rw [hU], by rw [hU]; exact hPc, va_K.moved hW.alike hKc, hDc.weaken (fun _ _ _ _ => trivial)⟩⟩ rfl rfl hl.1 rfl (lv_room (Nat.le_of_ble_eq_true rfl)) dL_law_12 ⟨by decide, by decide⟩) hS (fun q _ h => hFc q h) hFc (fun u t H1 locs ht hvm hw hB hz1 hk1 hS => ?_)
  obtain ⟨a2, cA2⟩ := u
  obtain ⟨hP1, hK1, hD1⟩ := hB
  rw [ht] at hP1
  have hK1 : va_K (dC, dI) vwCl [(cA2, .int)] s := va_K.moved hvm.symm hK1
  have hcA : cA2 = cA := rd_cA (hK.app hK1)
  have hP1 : va_P (dC, dI) vwCl (rd_mw h2 a2 cA2 rd_z) H1 := hP1
  have hD1 : va_D (va_A (rd_w0X1 h2) H.size) (rd_mw h2 a2 cA2 rd_z) := hD1
  rw [hcA] at hP1 hD1
  obtain ⟨hP, hD⟩ := va_join (wr := rd_dw h1 a1 cA rd_z) (w1 := rd_mw h2 a2 cA rd_z) hP hD [10] [0, 1, 2, 3, 4, 5, 6, 7, 8, 9] rfl rfl (by decide) (by decide) hk1 hFc hP1 hD1
  refine W.widen (k := 13) (n := 862) (Nat.le_of_ble_eq_true rfl) (Nat.le_of_ble_eq_true rfl) ?_
  refine lv_astore_n (lv' := [(2, .ref h2), (1, .ref h1), (0, .ref b)]) hx hb dL_law_15 rfl hl (by decide) rfl (fun ls hl => ?_)
  refine lv_iconst (v := nI 0) hx hb dL_law_16 (by decide) ?_
  refine lv_istore_n (lv' := [(3, .int (nI 0)), (2, .ref h2), (1, .ref h1), (0, .ref b)]) hx hb dL_law_17 rfl hl (by decide) rfl (fun ls hl => ?_)
  exact rd_law (D := (dC, dI)) (h1 := h1) (a1 := a1) (h2 := h2) (a2 := a2) hL ⟨hx, hb, hr, hml, hown, hts, hlocks, hA⟩ hX hbl hK (L + 1) 0 rd_z rd_z (by omega) (by omega) rd_LI_z _ _ ls ⟨hP, hD, hS⟩ (lv_sub hl [3, 2, 1, 0] rfl)
end
section
set_option maxRecDepth 100000
set_option maxHeartbeats 4000000 in
theorem lw_walk (l : Launch) (b : Addr) (xs : List Int32) : MetFree l x (headSpec (Jvm.Cond.code x code maxLocals ret :: tables_1) room_1) (lw_P b xs) (fun _ _ _ _ _ => True) lw_Q := by
  refine MetFree.of_bodyS (code := code) (maxLocals := maxLocals) (ret := ret) (by decide) ?_ ?_
  · intro args s m h hn
    obtain ⟨meth, c, h1, h2, h3, h4, h5, h6, -, -⟩ := Cond.code_spec hn (atoms_spec (ws := Jvm.Cond.code x code maxLocals ret :: tables_1) h _ List.mem_cons_self)
    exact ⟨meth, c, h1, h2, h3, h4, h5, h6⟩
  · intro p e s m args below meth c s₁ B hml0 hP _
    obtain ⟨rfl, hx, hbd, hgv⟩ := hP
    obtain ⟨scr, harrAt, hlist, hof, hsmall⟩ := hx
    obtain ⟨hcb, hkn, -, -⟩ := State.arrayAt?_spec harrAt
    have hown : s.vm.findClass R_law = some m.cls := findClass_of_methodNamed B.named
    have hts0 : ∀ c ∈ (Jvm.Cond.code x code maxLocals ret :: tables_1), c.before #[Value.ref b] s = true := atoms_spec (ws := Jvm.Cond.code x code maxLocals ret :: tables_1) B.pre
    have hts : ∀ w ∈ lw_tbl, w.before #[Value.ref b] s = true := k2_hts_sels lw_privs (fun w hw => hts0 w (List.mem_cons_of_mem _ hw)) lw_privs_ok
    have hml : c.maxLocals = 4 := B.maxLocals_eq (hts0 _ List.mem_cons_self)
    have X₀ : Stand p l e room_1 s m #[Value.ref b] below meth c s₁ [] 0 0 := Stand.of_body B
    have hh0 : s₁.heap = s.heap := by rw [B.state]; rfl
    have hsz : scr.slots.size = xs.length := by rw [← Array.length_toList, hlist, List.length_map]
    have hval : ∀ j : Nat, j < xs.length → scr.slots[j]? = some (.int (xs.getD j 0)) := fun j hj => by
      rw [← Array.getElem?_toList, hlist]
      simp [hj]
    have hbl : b < s.heap.size := (Array.getElem?_eq_some_iff.mp hcb).1
    have hX : va_X b xs.length (fun j => xs.getD j 0) s s.heap := ⟨scr, hcb, hof, hkn, hsz, hval⟩
    have K : W p l e room_1 s m #[Value.ref b] below meth c s₁.heap [] 0 0 (lw_Z below #[Value.ref b] s) (entryFrame m ([Value.ref b] : List Value).toArray 4) := by
      rw [hh0]
      exact whole_start l hbd ⟨B.exec, B.bytes, B.returns, hml, hown, hts, hX, hbl, B.notSynchronized, hgv⟩
    obtain ⟨t, a1, o, b1, b2, b3⟩ := K s₁ rfl X₀
    exact ⟨t, o, a1, b1, b2, b3⟩
theorem lw_pre_spec {args : Array Value} {s : State} (h : (Jvm.Cond.and given_1 narrow_1).before args s = true) (hr : rest_1_c.before args s = true) : ∃ (b : Addr) (xs : List Int32), lw_P b xs args s := by
  have hs := flat_of_before _ h
  have hq := flat_of_before _ hr
  have hc : (Cond.count 1).before args s = true := hs _ (by decide +kernel)
  have harr : (Cond.arrayOf (.arg 0) .int).before args s = true := hs _ (by decide +kernel)
  have hle : (Cond.le (.length (.arg 0)) (.int 256)).before args s = true := hs _ (by decide +kernel)
  have hlen : (Cond.isInt (.length (.arg 0))).before args s = true := hq _ (by decide +kernel)
  have hall : (Cond.all (.arg 0) (.isInt (.elem (.arg 0) (.index 0)))).before args s = true := hq _ (by decide +kernel)
  obtain ⟨b, xs, hb, hx⟩ := State.ints_of_pre rfl harr hlen hall
  have hsm : xs.length < 2 ^ 31 := hx.choose_spec.2.2.2
  have hev : (Term.length (.arg 0)).eval args s none [] s = some (.int xs.length.toInt32) := hx.length_eval hb
  have hv := Cond.le_ints hev (show (Term.int 256).eval args s none [] s = some (.int 256) from rfl)
  have hd : xs.length.toInt32 ≤ 256 := by
    simpa [Cond.before, Cond.holds, hv] using hle
  have hN : xs.length ≤ 256 := (Int32.ofNat_le_ofNat hsm (by decide)).mp (show Int32.ofNat xs.length ≤ Int32.ofNat 256 from hd)
  exact ⟨b, xs, Cond.one_arg hc (show args[0]? = some (.ref b) from hb), hx, hN, h⟩
theorem lw_comes (l : Launch) : Comes l x (Jvm.Cond.code x code maxLocals ret :: tables_1) room_1 (fun tb e args s => Calls_1 tb e args s ∧ rest_1 tb e args s ∧ Pre_1 tb e args s)
    (fun _ _ args s o t => lw_Q args s o t) := by
  intro p e ha hc hk s m args below hf hfit hheap happ hpre
  obtain ⟨b, xs, hP⟩ := lw_pre_spec hpre.2.2 hpre.2.1
  obtain ⟨k, o, h1, h2, h3, hQ⟩ := lw_walk l b xs p e ha hc hk s m args below hf ((Spec.applies_iff_loose hf).mp happ).1 hP trivial
  exact ⟨k, o, h1, h2, h3, hQ⟩
theorem lw_frame {s t : State} {o : Outcome} {args : Array Value} (h : Framed s o t [] 600000 7290000) :
    Framed s o t (fieldLocs frame_1_writes args s ++ arrayLocs frame_1_arrays args s ++ staticLocs frame_1_statics s) 600000 7290000 := h
theorem lw_limb (L : Cond) (hL : ∀ (args : Array Value) (s t : State), L.after args s (.returned (some (.int 1))) t = true) :
    ArmFor flags0 classFile x code maxLocals ret World_1 tables_1 room_1 Calls_1 rest_1 Pre_1
      (fun tb e a s o t => postC L tb e a s o t ∧ Framed s o t (fieldLocs frame_1_writes a s ++ arrayLocs frame_1_arrays a s ++ staticLocs frame_1_statics s) 600000 7290000) := by
  intro l _ _ _ p e ha hc hk s m args below hf hfit hheap happ hpre
  obtain ⟨k, o, h1, h2, h3, rfl, hF⟩ := lw_comes l p e ha hc hk s m args below hf hfit hheap happ hpre
  exact ⟨k, _, h1, h2, h3, hL args s _, lw_frame hF⟩
theorem i_vc : Claimed_1_1 ∧ Claimed_1_2 := ⟨lw_limb limb_1_1 (fun args s t => by simp [limb_1_1, Cond.after, Cond.holds, Cond.value]), lw_limb limb_1_2 (fun args s t => Cond.after_iff.mpr (by
  first | (rw [show limb_1_2 = Cond.eq .result (.int 1) from rfl, Cond.eq_ints (x := 1) (y := 1) rfl rfl]; simp; done) | (simp [limb_1_2, Cond.value, Term.eval]; done)))⟩
end
