section
-- ===== PART A: goes FIRST, ahead of the names: the tables' words, and 'selects' of the private methods out of them =====
/-- a private method of a class that the tables say can be made, by its rows of tables_1 -/
def lw_okq (q : MethodName × Nat) : Prop := (q.1.cls ≠ "java/lang/invoke/MethodHandle" ∧ q.1.cls ≠ "java/lang/invoke/VarHandle") ∧ Cond.instantiable q.1.cls q.2 ∈ tables_1 ∧ Cond.privateMethod q.1 ∈ tables_1 ∧ Cond.instanceMethod q.1 ∈ tables_1
set_option maxRecDepth 100000
theorem lw_t1 {w : Cond} (h : w ∈ tables_1_1) : w ∈ tables_1 := List.mem_append_left _ h
theorem lw_t2 {w : Cond} (h : w ∈ tables_1_2) : w ∈ tables_1 := List.mem_append_right _ h
theorem lw_p0 : lw_okq (⟨"StageWalker", "go", "(III)I"⟩, 6) := ⟨⟨by decide +kernel, by decide +kernel⟩, lw_t1 (List.mem_of_getElem? (i := 5) rfl), lw_t1 (List.mem_of_getElem? (i := 136) rfl), lw_t1 (List.mem_of_getElem? (i := 137) rfl)⟩
theorem lw_p1 : lw_okq (⟨"StageWalker$Walker", "walk", "(JJIZ)I"⟩, 16) := ⟨⟨by decide +kernel, by decide +kernel⟩, lw_t1 (List.mem_of_getElem? (i := 14) rfl), lw_t1 (List.mem_of_getElem? (i := 147) rfl), lw_t1 (List.mem_of_getElem? (i := 148) rfl)⟩
theorem lw_p2 : lw_okq (⟨"StageWalker$Walker", "read", "(JIZ)I"⟩, 16) := ⟨⟨by decide +kernel, by decide +kernel⟩, lw_t1 (List.mem_of_getElem? (i := 14) rfl), lw_t1 (List.mem_of_getElem? (i := 153) rfl), lw_t1 (List.mem_of_getElem? (i := 154) rfl)⟩
theorem lw_p3 : lw_okq (⟨"StageWalker$Walker", "onward", "(JIZZI)I"⟩, 16) := ⟨⟨by decide +kernel, by decide +kernel⟩, lw_t1 (List.mem_of_getElem? (i := 14) rfl), lw_t1 (List.mem_of_getElem? (i := 157) rfl), lw_t1 (List.mem_of_getElem? (i := 158) rfl)⟩
theorem lw_p4 : lw_okq (⟨"StageWalker$Walker", "fetch", "(J)Z"⟩, 16) := ⟨⟨by decide +kernel, by decide +kernel⟩, lw_t1 (List.mem_of_getElem? (i := 14) rfl), lw_t1 (List.mem_of_getElem? (i := 163) rfl), lw_t1 (List.mem_of_getElem? (i := 164) rfl)⟩
theorem lw_p5 : lw_okq (⟨"StageWalker$Walker", "isInside", "(J)Z"⟩, 16) := ⟨⟨by decide +kernel, by decide +kernel⟩, lw_t1 (List.mem_of_getElem? (i := 14) rfl), lw_t1 (List.mem_of_getElem? (i := 167) rfl), lw_t1 (List.mem_of_getElem? (i := 168) rfl)⟩
theorem lw_p6 : lw_okq (⟨"StageWalker$Walker", "settle", "(JJI)I"⟩, 16) := ⟨⟨by decide +kernel, by decide +kernel⟩, lw_t1 (List.mem_of_getElem? (i := 14) rfl), lw_t1 (List.mem_of_getElem? (i := 191) rfl), lw_t1 (List.mem_of_getElem? (i := 192) rfl)⟩
theorem lw_p7 : lw_okq (⟨"StageWalker$Walker", "allowsUser", "(II)Z"⟩, 16) := ⟨⟨by decide +kernel, by decide +kernel⟩, lw_t1 (List.mem_of_getElem? (i := 14) rfl), lw_t1 (List.mem_of_getElem? (i := 195) rfl), lw_t1 (List.mem_of_getElem? (i := 196) rfl)⟩
theorem lw_p8 : lw_okq (⟨"StageWalkerModel", "lead", "(III)J"⟩, 16) := ⟨⟨by decide +kernel, by decide +kernel⟩, lw_t1 (List.mem_of_getElem? (i := 219) rfl), lw_t2 (List.mem_of_getElem? (i := 64) rfl), lw_t2 (List.mem_of_getElem? (i := 65) rfl)⟩
theorem lw_p9 : lw_okq (⟨"StageWalkerModel", "walk", "(IJJZ)J"⟩, 16) := ⟨⟨by decide +kernel, by decide +kernel⟩, lw_t1 (List.mem_of_getElem? (i := 219) rfl), lw_t2 (List.mem_of_getElem? (i := 71) rfl), lw_t2 (List.mem_of_getElem? (i := 72) rfl)⟩
theorem lw_p10 : lw_okq (⟨"StageWalkerModel", "entryAt", "(IJ)J"⟩, 16) := ⟨⟨by decide +kernel, by decide +kernel⟩, lw_t1 (List.mem_of_getElem? (i := 219) rfl), lw_t2 (List.mem_of_getElem? (i := 76) rfl), lw_t2 (List.mem_of_getElem? (i := 77) rfl)⟩
theorem lw_p11 : lw_okq (⟨"StageWalkerModel", "second", "(JZ)J"⟩, 16) := ⟨⟨by decide +kernel, by decide +kernel⟩, lw_t1 (List.mem_of_getElem? (i := 219) rfl), lw_t2 (List.mem_of_getElem? (i := 80) rfl), lw_t2 (List.mem_of_getElem? (i := 81) rfl)⟩
theorem lw_p12 : lw_okq (⟨"StageWalkerModel", "inMemory", "(J)J"⟩, 16) := ⟨⟨by decide +kernel, by decide +kernel⟩, lw_t1 (List.mem_of_getElem? (i := 219) rfl), lw_t2 (List.mem_of_getElem? (i := 85) rfl), lw_t2 (List.mem_of_getElem? (i := 86) rfl)⟩
theorem lw_p13 : lw_okq (⟨"StageWalkerModel", "fails", "(IJZ)J"⟩, 16) := ⟨⟨by decide +kernel, by decide +kernel⟩, lw_t1 (List.mem_of_getElem? (i := 219) rfl), lw_t2 (List.mem_of_getElem? (i := 90) rfl), lw_t2 (List.mem_of_getElem? (i := 91) rfl)⟩
theorem lw_p14 : lw_okq (⟨"StageWalkerModel", "wordAt", "(J)I"⟩, 16) := ⟨⟨by decide +kernel, by decide +kernel⟩, lw_t1 (List.mem_of_getElem? (i := 219) rfl), lw_t2 (List.mem_of_getElem? (i := 95) rfl), lw_t2 (List.mem_of_getElem? (i := 96) rfl)⟩
theorem lw_p15 : lw_okq (⟨"StageWalkerModel", "stageFault", "(IJZ)J"⟩, 16) := ⟨⟨by decide +kernel, by decide +kernel⟩, lw_t1 (List.mem_of_getElem? (i := 219) rfl), lw_t2 (List.mem_of_getElem? (i := 101) rfl), lw_t2 (List.mem_of_getElem? (i := 102) rfl)⟩
def lw_privs_1 : List (MethodName × Nat) := [(⟨"StageWalker", "go", "(III)I"⟩, 6), (⟨"StageWalker$Walker", "walk", "(JJIZ)I"⟩, 16), (⟨"StageWalker$Walker", "read", "(JIZ)I"⟩, 16), (⟨"StageWalker$Walker", "onward", "(JIZZI)I"⟩, 16), (⟨"StageWalker$Walker", "fetch", "(J)Z"⟩, 16), (⟨"StageWalker$Walker", "isInside", "(J)Z"⟩, 16), (⟨"StageWalker$Walker", "settle", "(JJI)I"⟩, 16), (⟨"StageWalker$Walker", "allowsUser", "(II)Z"⟩, 16), (⟨"StageWalkerModel", "lead", "(III)J"⟩, 16), (⟨"StageWalkerModel", "walk", "(IJJZ)J"⟩, 16), (⟨"StageWalkerModel", "entryAt", "(IJ)J"⟩, 16), (⟨"StageWalkerModel", "second", "(JZ)J"⟩, 16), (⟨"StageWalkerModel", "inMemory", "(J)J"⟩, 16), (⟨"StageWalkerModel", "fails", "(IJZ)J"⟩, 16), (⟨"StageWalkerModel", "wordAt", "(J)I"⟩, 16), (⟨"StageWalkerModel", "stageFault", "(IJZ)J"⟩, 16)]
theorem lw_r1 : ∀ q ∈ lw_privs_1, lw_okq q := List.forall_mem_cons.mpr ⟨lw_p0, List.forall_mem_cons.mpr ⟨lw_p1, List.forall_mem_cons.mpr ⟨lw_p2, List.forall_mem_cons.mpr ⟨lw_p3, List.forall_mem_cons.mpr ⟨lw_p4, List.forall_mem_cons.mpr ⟨lw_p5, List.forall_mem_cons.mpr ⟨lw_p6, List.forall_mem_cons.mpr ⟨lw_p7, List.forall_mem_cons.mpr ⟨lw_p8, List.forall_mem_cons.mpr ⟨lw_p9, List.forall_mem_cons.mpr ⟨lw_p10, List.forall_mem_cons.mpr ⟨lw_p11, List.forall_mem_cons.mpr ⟨lw_p12, List.forall_mem_cons.mpr ⟨lw_p13, List.forall_mem_cons.mpr ⟨lw_p14, List.forall_mem_cons.mpr ⟨lw_p15, fun _ h => absurd h List.not_mem_nil⟩⟩⟩⟩⟩⟩⟩⟩⟩⟩⟩⟩⟩⟩⟩⟩
theorem lw_p16 : lw_okq (⟨"StageWalkerModel", "isAllowed", "(IIZ)Z"⟩, 16) := ⟨⟨by decide +kernel, by decide +kernel⟩, lw_t1 (List.mem_of_getElem? (i := 219) rfl), lw_t2 (List.mem_of_getElem? (i := 107) rfl), lw_t2 (List.mem_of_getElem? (i := 108) rfl)⟩
theorem lw_p17 : lw_okq (⟨"StageWalkerModel", "has", "(I)Z"⟩, 16) := ⟨⟨by decide +kernel, by decide +kernel⟩, lw_t1 (List.mem_of_getElem? (i := 219) rfl), lw_t2 (List.mem_of_getElem? (i := 114) rfl), lw_t2 (List.mem_of_getElem? (i := 115) rfl)⟩
def lw_privs_2 : List (MethodName × Nat) := [(⟨"StageWalkerModel", "isAllowed", "(IIZ)Z"⟩, 16), (⟨"StageWalkerModel", "has", "(I)Z"⟩, 16)]
theorem lw_r2 : ∀ q ∈ lw_privs_2, lw_okq q := List.forall_mem_cons.mpr ⟨lw_p16, List.forall_mem_cons.mpr ⟨lw_p17, fun _ h => absurd h List.not_mem_nil⟩⟩
def lw_privs : List (MethodName × Nat) := lw_privs_1 ++ (lw_privs_2)
def lw_tbl : List Cond := k2_sels lw_privs ++ tables_1
theorem lw_privs_ok : ∀ q ∈ lw_privs, lw_okq q := by
  show ∀ q ∈ lw_privs_1 ++ (lw_privs_2), lw_okq q
  exact List.forall_mem_append.mpr ⟨lw_r1, lw_r2⟩
-- ===== ONE list of words for every method: the tables' words that hold all through a run =====
def lw_all : List Cond := lw_tbl.filter goodWord
/-- a word of the tables by its place: claim/WORDS.tsv -/
theorem lw_w {w : Cond} (i : Nat) (h : lw_tbl[i]? = some w) (g : goodWord w = true) : w ∈ lw_all := List.mem_filter.mpr ⟨List.mem_of_getElem? h, g⟩
theorem lw_all_tbl {w : Cond} (h : w ∈ lw_all) : w ∈ lw_tbl := (List.mem_filter.mp h).1
theorem lw_self : GoodIn lw_all lw_all := fun w h => ⟨h, good_of_word (List.mem_filter.mp h).2⟩
/-- a class's field words, by their places -/
theorem lw_in (ws : List Cond) (ps : List Nat) (hp : ws = ps.filterMap (fun i => lw_tbl[i]?)) (hg : ws.all goodWord = true) : ∀ w ∈ ws, w ∈ lw_all := by
  intro w h
  have h1 := List.all_eq_true.mp hg w h
  rw [hp] at h
  obtain ⟨i, -, hi⟩ := List.mem_filterMap.mp h
  exact lw_w i hi h1
/-- the words of a contract for the method y with code b, L locals, answer r -/
abbrev ws_ (y : MethodName) (b : ByteArray) (L : Nat) (r : Option FieldType) : List Cond := Cond.code y b L r :: lw_all
theorem lw_meth {y : MethodName} {b : ByteArray} {L : Nat} {r : Option FieldType} (h : Cond.code y b L r ∈ lw_all) : GoodIn lw_all (ws_ y b L r) := by
  intro w hw
  rcases List.mem_cons.mp hw with e | e
  · rw [e]
    exact lw_self _ h
  · exact lw_self _ e
theorem lw_app {a c : List Cond} (ha : ∀ w ∈ a, w ∈ lw_all) (hc : GoodIn lw_all c) : GoodIn lw_all (a ++ c) := by
  intro w hw
  rcases List.mem_append.mp hw with e | e
  · exact lw_self w (ha w e)
  · exact hc w e
/-- what a call through an object asks: cwV n hts (lw_V ..) -/
theorem lw_V {own : String} {idx : Nat} {C : String} {y : MethodName} {b : ByteArray} {L : Nat} {r : Option FieldType} (h1 : Cond.methodLink own idx y ∈ lw_all) (h2 : Cond.instanceMethod y ∈ lw_all) (h3 : Cond.selects C y y ∈ lw_all) (h4 : Cond.initialized C ∈ lw_all) (h5 : Cond.code y b L r ∈ lw_all) : GoodIn lw_all (wsV own idx C y (ws_ y b L r)) := by
  refine lw_app ?_ (lw_meth h5)
  intro w hw
  simp only [List.mem_cons, List.not_mem_nil, or_false] at hw
  rcases hw with e | e | e | e
  · rw [e]; exact h1
  · rw [e]; exact h2
  · rw [e]; exact h3
  · rw [e]; exact h4
/-- what a static call asks: va_cwS n hts (lw_S ..) -/
theorem lw_S {own : String} {idx : Nat} {y : MethodName} {b : ByteArray} {L : Nat} {r : Option FieldType} (h1 : Cond.methodLink own idx y ∈ lw_all) (h2 : Cond.static y ∈ lw_all) (h3 : Cond.initialized y.cls ∈ lw_all) (h4 : Cond.code y b L r ∈ lw_all) : GoodIn lw_all (va_wsS own idx y (ws_ y b L r)) := by
  refine lw_app ?_ (lw_meth h4)
  intro w hw
  simp only [List.mem_cons, List.not_mem_nil, or_false] at hw
  rcases hw with e | e | e
  · rw [e]; exact h1
  · rw [e]; exact h2
  · rw [e]; exact h3
/-- the words of a contract for a method WITH HANDLERS (hh: its table) -/
abbrev wsW_ (y : MethodName) (b : ByteArray) (L : Nat) (r : Option FieldType) (hh : List (Nat × Nat × Nat × Nat)) : List Cond := Cond.codeWith y b L r hh :: lw_all
theorem lw_methW {y : MethodName} {b : ByteArray} {L : Nat} {r : Option FieldType} {hh : List (Nat × Nat × Nat × Nat)} (h : Cond.codeWith y b L r hh ∈ lw_all) : GoodIn lw_all (wsW_ y b L r hh) := by
  intro w hw
  rcases List.mem_cons.mp hw with e | e
  · rw [e]
    exact lw_self _ h
  · exact lw_self _ e
/-- any list of words by their places (lw_in), good -/
theorem lw_good {ws : List Cond} (h : ∀ w ∈ ws, w ∈ lw_all) : GoodIn lw_all ws := fun w hw => lw_self w (h w hw)
/-- what a call of a method with handlers asks: vx_cwVW n hts (lw_VW ..), vx_cwSW n hts (lw_SW ..) -/
theorem lw_VW {own : String} {idx : Nat} {C : String} {y : MethodName} {b : ByteArray} {L : Nat} {r : Option FieldType} {hh : List (Nat × Nat × Nat × Nat)} (h1 : Cond.methodLink own idx y ∈ lw_all) (h2 : Cond.instanceMethod y ∈ lw_all) (h3 : Cond.selects C y y ∈ lw_all) (h4 : Cond.initialized C ∈ lw_all) (h5 : Cond.codeWith y b L r hh ∈ lw_all) : GoodIn lw_all (wsV own idx C y (wsW_ y b L r hh)) := by
  refine lw_app ?_ (lw_methW h5)
  intro w hw
  simp only [List.mem_cons, List.not_mem_nil, or_false] at hw
  rcases hw with e | e | e | e
  · rw [e]; exact h1
  · rw [e]; exact h2
  · rw [e]; exact h3
  · rw [e]; exact h4
theorem lw_SW {own : String} {idx : Nat} {y : MethodName} {b : ByteArray} {L : Nat} {r : Option FieldType} {hh : List (Nat × Nat × Nat × Nat)} (h1 : Cond.methodLink own idx y ∈ lw_all) (h2 : Cond.static y ∈ lw_all) (h3 : Cond.initialized y.cls ∈ lw_all) (h4 : Cond.codeWith y b L r hh ∈ lw_all) : GoodIn lw_all (va_wsS own idx y (wsW_ y b L r hh)) := by
  refine lw_app ?_ (lw_methW h4)
  intro w hw
  simp only [List.mem_cons, List.not_mem_nil, or_false] at hw
  rcases hw with e | e | e
  · rw [e]; exact h1
  · rw [e]; exact h2
  · rw [e]; exact h3
/-- a word by its place in its run of the tables -/
theorem lw_at {r : List Cond} (hr : ∀ w ∈ r, w ∈ lw_tbl) {w : Cond} (i : Nat) (h : r[i]? = some w) : w ∈ lw_tbl := hr w (List.mem_of_getElem? h)
theorem lw_g {w : Cond} (h : w ∈ lw_tbl) (g : goodWord w = true) : w ∈ lw_all := List.mem_filter.mpr ⟨h, g⟩
theorem lw_ms : ∀ w ∈ k2_sels lw_privs, w ∈ lw_tbl := fun w h => show w ∈ k2_sels lw_privs ++ tables_1 from List.mem_append_left _ h
theorem lw_m1 : ∀ w ∈ tables_1_1, w ∈ lw_tbl := fun w h => show w ∈ k2_sels lw_privs ++ tables_1 from List.mem_append_right (k2_sels lw_privs) (show w ∈ tables_1 from List.mem_append_left _ h)
theorem lw_m2 : ∀ w ∈ tables_1_2, w ∈ lw_tbl := fun w h => show w ∈ k2_sels lw_privs ++ tables_1 from List.mem_append_right (k2_sels lw_privs) (show w ∈ tables_1 from List.mem_append_right _ h)
theorem qs0 : (Cond.selects "StageWalker" ⟨"StageWalker", "go", "(III)I"⟩ ⟨"StageWalker", "go", "(III)I"⟩) ∈ lw_all := lw_g (lw_at lw_ms 0 rfl) rfl
theorem qs1 : (Cond.selects "StageWalker$Walker" ⟨"StageWalker$Walker", "walk", "(JJIZ)I"⟩ ⟨"StageWalker$Walker", "walk", "(JJIZ)I"⟩) ∈ lw_all := lw_g (lw_at lw_ms 1 rfl) rfl
theorem qs2 : (Cond.selects "StageWalker$Walker" ⟨"StageWalker$Walker", "read", "(JIZ)I"⟩ ⟨"StageWalker$Walker", "read", "(JIZ)I"⟩) ∈ lw_all := lw_g (lw_at lw_ms 2 rfl) rfl
theorem qs3 : (Cond.selects "StageWalker$Walker" ⟨"StageWalker$Walker", "onward", "(JIZZI)I"⟩ ⟨"StageWalker$Walker", "onward", "(JIZZI)I"⟩) ∈ lw_all := lw_g (lw_at lw_ms 3 rfl) rfl
theorem qs4 : (Cond.selects "StageWalker$Walker" ⟨"StageWalker$Walker", "fetch", "(J)Z"⟩ ⟨"StageWalker$Walker", "fetch", "(J)Z"⟩) ∈ lw_all := lw_g (lw_at lw_ms 4 rfl) rfl
theorem qs5 : (Cond.selects "StageWalker$Walker" ⟨"StageWalker$Walker", "isInside", "(J)Z"⟩ ⟨"StageWalker$Walker", "isInside", "(J)Z"⟩) ∈ lw_all := lw_g (lw_at lw_ms 5 rfl) rfl
theorem qs6 : (Cond.selects "StageWalker$Walker" ⟨"StageWalker$Walker", "settle", "(JJI)I"⟩ ⟨"StageWalker$Walker", "settle", "(JJI)I"⟩) ∈ lw_all := lw_g (lw_at lw_ms 6 rfl) rfl
theorem qs7 : (Cond.selects "StageWalker$Walker" ⟨"StageWalker$Walker", "allowsUser", "(II)Z"⟩ ⟨"StageWalker$Walker", "allowsUser", "(II)Z"⟩) ∈ lw_all := lw_g (lw_at lw_ms 7 rfl) rfl
theorem qs8 : (Cond.selects "StageWalkerModel" ⟨"StageWalkerModel", "lead", "(III)J"⟩ ⟨"StageWalkerModel", "lead", "(III)J"⟩) ∈ lw_all := lw_g (lw_at lw_ms 8 rfl) rfl
theorem qs9 : (Cond.selects "StageWalkerModel" ⟨"StageWalkerModel", "walk", "(IJJZ)J"⟩ ⟨"StageWalkerModel", "walk", "(IJJZ)J"⟩) ∈ lw_all := lw_g (lw_at lw_ms 9 rfl) rfl
theorem qs10 : (Cond.selects "StageWalkerModel" ⟨"StageWalkerModel", "entryAt", "(IJ)J"⟩ ⟨"StageWalkerModel", "entryAt", "(IJ)J"⟩) ∈ lw_all := lw_g (lw_at lw_ms 10 rfl) rfl
theorem qs11 : (Cond.selects "StageWalkerModel" ⟨"StageWalkerModel", "second", "(JZ)J"⟩ ⟨"StageWalkerModel", "second", "(JZ)J"⟩) ∈ lw_all := lw_g (lw_at lw_ms 11 rfl) rfl
theorem qs12 : (Cond.selects "StageWalkerModel" ⟨"StageWalkerModel", "inMemory", "(J)J"⟩ ⟨"StageWalkerModel", "inMemory", "(J)J"⟩) ∈ lw_all := lw_g (lw_at lw_ms 12 rfl) rfl
theorem qs13 : (Cond.selects "StageWalkerModel" ⟨"StageWalkerModel", "fails", "(IJZ)J"⟩ ⟨"StageWalkerModel", "fails", "(IJZ)J"⟩) ∈ lw_all := lw_g (lw_at lw_ms 13 rfl) rfl
theorem qs14 : (Cond.selects "StageWalkerModel" ⟨"StageWalkerModel", "wordAt", "(J)I"⟩ ⟨"StageWalkerModel", "wordAt", "(J)I"⟩) ∈ lw_all := lw_g (lw_at lw_ms 14 rfl) rfl
theorem qs15 : (Cond.selects "StageWalkerModel" ⟨"StageWalkerModel", "stageFault", "(IJZ)J"⟩ ⟨"StageWalkerModel", "stageFault", "(IJZ)J"⟩) ∈ lw_all := lw_g (lw_at lw_ms 15 rfl) rfl
theorem qs16 : (Cond.selects "StageWalkerModel" ⟨"StageWalkerModel", "isAllowed", "(IIZ)Z"⟩ ⟨"StageWalkerModel", "isAllowed", "(IIZ)Z"⟩) ∈ lw_all := lw_g (lw_at lw_ms 16 rfl) rfl
theorem qs17 : (Cond.selects "StageWalkerModel" ⟨"StageWalkerModel", "has", "(I)Z"⟩ ⟨"StageWalkerModel", "has", "(I)Z"⟩) ∈ lw_all := lw_g (lw_at lw_ms 17 rfl) rfl
end
section
theorem q99 : (Jvm.Cond.arrayClass Jvm.ClassFile.FieldType.int) ∈ lw_all := lw_g (lw_at lw_m1 81 rfl) rfl
set_option maxRecDepth 100000
theorem q393 : (Jvm.Cond.arrayClass Jvm.ClassFile.FieldType.byte) ∈ lw_all := lw_g (lw_at lw_m2 135 rfl) rfl
theorem q18 : (Jvm.Cond.initialized "StageWalkerLaw") ∈ lw_all := lw_g (lw_at lw_m1 0 rfl) rfl
set_option maxRecDepth 100000
theorem q22 : (Jvm.Cond.classLink "StageWalkerLaw" (7 : Nat) "StageWalker") ∈ lw_all := lw_g (lw_at lw_m1 4 rfl) rfl
theorem q24 : (Jvm.Cond.methodLink "StageWalkerLaw" (9 : Nat) ({ cls := "StageWalker", name := "<init>", desc := "()V" } : Jvm.MethodName)) ∈ lw_all := lw_g (lw_at lw_m1 6 rfl) rfl
theorem q119 : (Jvm.Cond.methodLink "StageWalkerLaw" (13 : Nat) ({ cls := "StageWalker", name := "begin", desc := "()V" } : Jvm.MethodName)) ∈ lw_all := lw_g (lw_at lw_m1 101 rfl) rfl
theorem q133 : (Jvm.Cond.methodLink "StageWalkerLaw" (17 : Nat) ({ cls := "StageWalker", name := "poke", desc := "(IIIIII)I" } : Jvm.MethodName)) ∈ lw_all := lw_g (lw_at lw_m1 115 rfl) rfl
theorem q140 : (Jvm.Cond.methodLink "StageWalkerLaw" (22 : Nat) ({ cls := "StageWalker", name := "word", desc := "(I)I" } : Jvm.MethodName)) ∈ lw_all := lw_g (lw_at lw_m1 122 rfl) rfl
theorem q144 : (Jvm.Cond.methodLink "StageWalkerLaw" (27 : Nat) ({ cls := "StageWalker", name := "roots", desc := "(III)V" } : Jvm.MethodName)) ∈ lw_all := lw_g (lw_at lw_m1 126 rfl) rfl
theorem q145 : (Jvm.Cond.methodLink "StageWalkerLaw" (32 : Nat) ({ cls := "StageWalker", name := "rights", desc := "(I)I" } : Jvm.MethodName)) ∈ lw_all := lw_g (lw_at lw_m1 127 rfl) rfl
theorem q146 : (Jvm.Cond.methodLink "StageWalkerLaw" (36 : Nat) ({ cls := "StageWalker", name := "translate", desc := "(III)I" } : Jvm.MethodName)) ∈ lw_all := lw_g (lw_at lw_m1 128 rfl) rfl
theorem q218 : (Jvm.Cond.methodLink "StageWalkerLaw" (41 : Nat) ({ cls := "StageWalker", name := "place", desc := "()I" } : Jvm.MethodName)) ∈ lw_all := lw_g (lw_at lw_m1 200 rfl) rfl
theorem q222 : (Jvm.Cond.methodLink "StageWalkerLaw" (46 : Nat) ({ cls := "StageWalker", name := "second", desc := "()I" } : Jvm.MethodName)) ∈ lw_all := lw_g (lw_at lw_m1 204 rfl) rfl
theorem q226 : (Jvm.Cond.methodLink "StageWalkerLaw" (50 : Nat) ({ cls := "StageWalker", name := "entry", desc := "()Z" } : Jvm.MethodName)) ∈ lw_all := lw_g (lw_at lw_m1 208 rfl) rfl
theorem q230 : (Jvm.Cond.methodLink "StageWalkerLaw" (55 : Nat) ({ cls := "StageWalker", name := "pages", desc := "(IIII)I" } : Jvm.MethodName)) ∈ lw_all := lw_g (lw_at lw_m1 212 rfl) rfl
theorem q236 : (Jvm.Cond.classLink "StageWalkerLaw" (10 : Nat) "StageWalkerModel") ∈ lw_all := lw_g (lw_at lw_m1 218 rfl) rfl
theorem q238 : (Jvm.Cond.methodLink "StageWalkerLaw" (12 : Nat) ({ cls := "StageWalkerModel", name := "<init>", desc := "()V" } : Jvm.MethodName)) ∈ lw_all := lw_g (lw_at lw_m1 220 rfl) rfl
theorem q295 : (Jvm.Cond.methodLink "StageWalkerLaw" (16 : Nat) ({ cls := "StageWalkerModel", name := "begin", desc := "()V" } : Jvm.MethodName)) ∈ lw_all := lw_g (lw_at lw_m2 37 rfl) rfl
theorem q296 : (Jvm.Cond.methodLink "StageWalkerLaw" (21 : Nat) ({ cls := "StageWalkerModel", name := "poke", desc := "(IIIIII)I" } : Jvm.MethodName)) ∈ lw_all := lw_g (lw_at lw_m2 38 rfl) rfl
theorem q301 : (Jvm.Cond.methodLink "StageWalkerLaw" (26 : Nat) ({ cls := "StageWalkerModel", name := "word", desc := "(I)I" } : Jvm.MethodName)) ∈ lw_all := lw_g (lw_at lw_m2 43 rfl) rfl
theorem q306 : (Jvm.Cond.methodLink "StageWalkerLaw" (31 : Nat) ({ cls := "StageWalkerModel", name := "roots", desc := "(III)V" } : Jvm.MethodName)) ∈ lw_all := lw_g (lw_at lw_m2 48 rfl) rfl
theorem q310 : (Jvm.Cond.methodLink "StageWalkerLaw" (35 : Nat) ({ cls := "StageWalkerModel", name := "rights", desc := "(I)I" } : Jvm.MethodName)) ∈ lw_all := lw_g (lw_at lw_m2 52 rfl) rfl
theorem q314 : (Jvm.Cond.methodLink "StageWalkerLaw" (40 : Nat) ({ cls := "StageWalkerModel", name := "translate", desc := "(III)I" } : Jvm.MethodName)) ∈ lw_all := lw_g (lw_at lw_m2 56 rfl) rfl
theorem q376 : (Jvm.Cond.methodLink "StageWalkerLaw" (45 : Nat) ({ cls := "StageWalkerModel", name := "place", desc := "()I" } : Jvm.MethodName)) ∈ lw_all := lw_g (lw_at lw_m2 118 rfl) rfl
theorem q380 : (Jvm.Cond.methodLink "StageWalkerLaw" (49 : Nat) ({ cls := "StageWalkerModel", name := "second", desc := "()I" } : Jvm.MethodName)) ∈ lw_all := lw_g (lw_at lw_m2 122 rfl) rfl
theorem q384 : (Jvm.Cond.methodLink "StageWalkerLaw" (54 : Nat) ({ cls := "StageWalkerModel", name := "entry", desc := "()Z" } : Jvm.MethodName)) ∈ lw_all := lw_g (lw_at lw_m2 126 rfl) rfl
theorem q388 : (Jvm.Cond.methodLink "StageWalkerLaw" (59 : Nat) ({ cls := "StageWalkerModel", name := "pages", desc := "(IIII)I" } : Jvm.MethodName)) ∈ lw_all := lw_g (lw_at lw_m2 130 rfl) rfl
/-! java/lang/Object -/
set_option maxRecDepth 100000
def RJ0 : String := "java/lang/Object"
abbrev cJ0_init : ByteArray := object_method_1_code
def yJ0_init : MethodName := ⟨RJ0, "<init>", "()V"⟩
theorem dJ0_init_0 : decode cJ0_init 0 = .ok (.return_, 1) := by decide +kernel
theorem q28 : (Jvm.Cond.instanceMethod ({ cls := "java/lang/Object", name := "<init>", desc := "()V" } : Jvm.MethodName)) ∈ lw_all := lw_g (lw_at lw_m1 10 rfl) rfl
theorem q29 : (Jvm.Cond.code ({ cls := "java/lang/Object", name := "<init>", desc := "()V" } : Jvm.MethodName) object_method_1_code (1 : Nat) (Option.none : Option Jvm.ClassFile.FieldType)) ∈ lw_all := lw_g (lw_at lw_m1 11 rfl) rfl
/-! StageWalker -/
set_option maxRecDepth 100000
def RX0 : String := "StageWalker"
def TX0 : u_T := fun k => match k with
  | 0 => ("StageWalker", "memory", "[I", true)
  | 1 => ("StageWalker", "walker", "LStageWalker$Walker;", true)
  | 2 => ("StageWalker", "rights", "I", false)
  | 3 => ("StageWalker", "place", "I", false)
  | 4 => ("StageWalker", "second", "I", false)
  | _ => ("StageWalker", "entry", "Z", false)
def tyX0 : Nat → FieldType := fun k => match k with
  | 0 => .array .int
  | 1 => .object "StageWalker$Walker"
  | 2 => .int
  | 3 => .int
  | 4 => .int
  | _ => .boolean
abbrev wsX00 : List Cond := u_ws RX0 TX0 6
theorem nmX0 : ∀ a, a < 6 → ∀ b, b < 6 → a ≠ b → (TX0 a).2.1 ≠ (TX0 b).2.1 := by decide +kernel
theorem tyX0_ok : ∀ k, k < 6 → parseFieldDescriptor (TX0 k).2.2.1 = some (tyX0 k) := by decide +kernel
abbrev cX0_init : ByteArray := prog_1_method_1_code
def yX0_init : MethodName := ⟨RX0, "<init>", "()V"⟩
theorem dX0_init_0 : decode cX0_init 0 = .ok (.aload_n 0, 1) := by decide +kernel
theorem dX0_init_1 : decode cX0_init 1 = .ok (.invokespecial 1, 3) := by decide +kernel
theorem dX0_init_4 : decode cX0_init 4 = .ok (.aload_n 0, 1) := by decide +kernel
theorem dX0_init_5 : decode cX0_init 5 = .ok (.ldc 7, 2) := by decide +kernel
theorem dX0_init_7 : decode cX0_init 7 = .ok (.newarray .int, 2) := by decide +kernel
theorem dX0_init_9 : decode cX0_init 9 = .ok (.putfield 8, 3) := by decide +kernel
theorem dX0_init_12 : decode cX0_init 12 = .ok (.aload_n 0, 1) := by decide +kernel
theorem dX0_init_13 : decode cX0_init 13 = .ok (.new 14, 3) := by decide +kernel
theorem dX0_init_16 : decode cX0_init 16 = .ok (.dup, 1) := by decide +kernel
theorem dX0_init_17 : decode cX0_init 17 = .ok (.aload_n 0, 1) := by decide +kernel
theorem dX0_init_18 : decode cX0_init 18 = .ok (.getfield 8, 3) := by decide +kernel
theorem dX0_init_21 : decode cX0_init 21 = .ok (.invokespecial 16, 3) := by decide +kernel
theorem dX0_init_24 : decode cX0_init 24 = .ok (.putfield 19, 3) := by decide +kernel
theorem dX0_init_27 : decode cX0_init 27 = .ok (.aload_n 0, 1) := by decide +kernel
theorem dX0_init_28 : decode cX0_init 28 = .ok (.iconst (-1), 1) := by decide +kernel
theorem dX0_init_29 : decode cX0_init 29 = .ok (.putfield 23, 3) := by decide +kernel
theorem dX0_init_32 : decode cX0_init 32 = .ok (.return_, 1) := by decide +kernel
abbrev cX0_begin : ByteArray := prog_1_method_2_code
def yX0_begin : MethodName := ⟨RX0, "begin", "()V"⟩
theorem dX0_begin_0 : decode cX0_begin 0 = .ok (.iconst 0, 1) := by decide +kernel
theorem dX0_begin_1 : decode cX0_begin 1 = .ok (.istore_n 1, 1) := by decide +kernel
theorem dX0_begin_2 : decode cX0_begin 2 = .ok (.iload_n 1, 1) := by decide +kernel
theorem dX0_begin_3 : decode cX0_begin 3 = .ok (.ldc 7, 2) := by decide +kernel
theorem dX0_begin_5 : decode cX0_begin 5 = .ok (.if_icmp .ge 16, 3) := by decide +kernel
theorem dX0_begin_8 : decode cX0_begin 8 = .ok (.aload_n 0, 1) := by decide +kernel
theorem dX0_begin_9 : decode cX0_begin 9 = .ok (.getfield 8, 3) := by decide +kernel
theorem dX0_begin_12 : decode cX0_begin 12 = .ok (.iload_n 1, 1) := by decide +kernel
theorem dX0_begin_13 : decode cX0_begin 13 = .ok (.iconst 0, 1) := by decide +kernel
theorem dX0_begin_14 : decode cX0_begin 14 = .ok (.iastore, 1) := by decide +kernel
theorem dX0_begin_15 : decode cX0_begin 15 = .ok (.iinc 1 1, 3) := by decide +kernel
theorem dX0_begin_18 : decode cX0_begin 18 = .ok (.goto (-16), 3) := by decide +kernel
theorem dX0_begin_21 : decode cX0_begin 21 = .ok (.aload_n 0, 1) := by decide +kernel
theorem dX0_begin_22 : decode cX0_begin 22 = .ok (.iconst 0, 1) := by decide +kernel
theorem dX0_begin_23 : decode cX0_begin 23 = .ok (.iconst 0, 1) := by decide +kernel
theorem dX0_begin_24 : decode cX0_begin 24 = .ok (.iconst 0, 1) := by decide +kernel
theorem dX0_begin_25 : decode cX0_begin 25 = .ok (.invokevirtual 27, 3) := by decide +kernel
theorem dX0_begin_28 : decode cX0_begin 28 = .ok (.aload_n 0, 1) := by decide +kernel
theorem dX0_begin_29 : decode cX0_begin 29 = .ok (.iconst 0, 1) := by decide +kernel
theorem dX0_begin_30 : decode cX0_begin 30 = .ok (.invokevirtual 31, 3) := by decide +kernel
theorem dX0_begin_33 : decode cX0_begin 33 = .ok (.istore_n 1, 1) := by decide +kernel
theorem dX0_begin_34 : decode cX0_begin 34 = .ok (.aload_n 0, 1) := by decide +kernel
theorem dX0_begin_35 : decode cX0_begin 35 = .ok (.iconst (-1), 1) := by decide +kernel
theorem dX0_begin_36 : decode cX0_begin 36 = .ok (.putfield 23, 3) := by decide +kernel
theorem dX0_begin_39 : decode cX0_begin 39 = .ok (.aload_n 0, 1) := by decide +kernel
theorem dX0_begin_40 : decode cX0_begin 40 = .ok (.iconst 0, 1) := by decide +kernel
theorem dX0_begin_41 : decode cX0_begin 41 = .ok (.putfield 35, 3) := by decide +kernel
theorem dX0_begin_44 : decode cX0_begin 44 = .ok (.aload_n 0, 1) := by decide +kernel
theorem dX0_begin_45 : decode cX0_begin 45 = .ok (.iconst 0, 1) := by decide +kernel
theorem dX0_begin_46 : decode cX0_begin 46 = .ok (.putfield 38, 3) := by decide +kernel
theorem dX0_begin_49 : decode cX0_begin 49 = .ok (.return_, 1) := by decide +kernel
abbrev cX0_roots : ByteArray := prog_1_method_6_code
def yX0_roots : MethodName := ⟨RX0, "roots", "(III)V"⟩
theorem dX0_roots_0 : decode cX0_roots 0 = .ok (.aload_n 0, 1) := by decide +kernel
theorem dX0_roots_1 : decode cX0_roots 1 = .ok (.getfield 19, 3) := by decide +kernel
theorem dX0_roots_4 : decode cX0_roots 4 = .ok (.iload_n 1, 1) := by decide +kernel
theorem dX0_roots_5 : decode cX0_roots 5 = .ok (.ldc 46, 2) := by decide +kernel
theorem dX0_roots_7 : decode cX0_roots 7 = .ok (.iand, 1) := by decide +kernel
theorem dX0_roots_8 : decode cX0_roots 8 = .ok (.putfield 47, 3) := by decide +kernel
theorem dX0_roots_11 : decode cX0_roots 11 = .ok (.aload_n 0, 1) := by decide +kernel
theorem dX0_roots_12 : decode cX0_roots 12 = .ok (.getfield 19, 3) := by decide +kernel
theorem dX0_roots_15 : decode cX0_roots 15 = .ok (.iload_n 2, 1) := by decide +kernel
theorem dX0_roots_16 : decode cX0_roots 16 = .ok (.ldc 46, 2) := by decide +kernel
theorem dX0_roots_18 : decode cX0_roots 18 = .ok (.iand, 1) := by decide +kernel
theorem dX0_roots_19 : decode cX0_roots 19 = .ok (.putfield 50, 3) := by decide +kernel
theorem dX0_roots_22 : decode cX0_roots 22 = .ok (.aload_n 0, 1) := by decide +kernel
theorem dX0_roots_23 : decode cX0_roots 23 = .ok (.getfield 19, 3) := by decide +kernel
theorem dX0_roots_26 : decode cX0_roots 26 = .ok (.iload_n 3, 1) := by decide +kernel
theorem dX0_roots_27 : decode cX0_roots 27 = .ok (.ldc 53, 2) := by decide +kernel
theorem dX0_roots_29 : decode cX0_roots 29 = .ok (.iand, 1) := by decide +kernel
theorem dX0_roots_30 : decode cX0_roots 30 = .ok (.putfield 54, 3) := by decide +kernel
theorem dX0_roots_33 : decode cX0_roots 33 = .ok (.return_, 1) := by decide +kernel
abbrev cX0_rights : ByteArray := prog_1_method_7_code
def yX0_rights : MethodName := ⟨RX0, "rights", "(I)I"⟩
theorem dX0_rights_0 : decode cX0_rights 0 = .ok (.aload_n 0, 1) := by decide +kernel
theorem dX0_rights_1 : decode cX0_rights 1 = .ok (.getfield 57, 3) := by decide +kernel
theorem dX0_rights_4 : decode cX0_rights 4 = .ok (.istore_n 2, 1) := by decide +kernel
theorem dX0_rights_5 : decode cX0_rights 5 = .ok (.aload_n 0, 1) := by decide +kernel
theorem dX0_rights_6 : decode cX0_rights 6 = .ok (.iload_n 1, 1) := by decide +kernel
theorem dX0_rights_7 : decode cX0_rights 7 = .ok (.bipush 15, 2) := by decide +kernel
theorem dX0_rights_9 : decode cX0_rights 9 = .ok (.iand, 1) := by decide +kernel
theorem dX0_rights_10 : decode cX0_rights 10 = .ok (.putfield 57, 3) := by decide +kernel
theorem dX0_rights_13 : decode cX0_rights 13 = .ok (.aload_n 0, 1) := by decide +kernel
theorem dX0_rights_14 : decode cX0_rights 14 = .ok (.getfield 19, 3) := by decide +kernel
theorem dX0_rights_17 : decode cX0_rights 17 = .ok (.aload_n 0, 1) := by decide +kernel
theorem dX0_rights_18 : decode cX0_rights 18 = .ok (.getfield 57, 3) := by decide +kernel
theorem dX0_rights_21 : decode cX0_rights 21 = .ok (.iconst 1, 1) := by decide +kernel
theorem dX0_rights_22 : decode cX0_rights 22 = .ok (.iand, 1) := by decide +kernel
theorem dX0_rights_23 : decode cX0_rights 23 = .ok (.ifCond .eq 7, 3) := by decide +kernel
theorem dX0_rights_26 : decode cX0_rights 26 = .ok (.iconst 1, 1) := by decide +kernel
theorem dX0_rights_27 : decode cX0_rights 27 = .ok (.goto 4, 3) := by decide +kernel
theorem dX0_rights_30 : decode cX0_rights 30 = .ok (.iconst 0, 1) := by decide +kernel
theorem dX0_rights_31 : decode cX0_rights 31 = .ok (.putfield 59, 3) := by decide +kernel
theorem dX0_rights_34 : decode cX0_rights 34 = .ok (.aload_n 0, 1) := by decide +kernel
theorem dX0_rights_35 : decode cX0_rights 35 = .ok (.getfield 19, 3) := by decide +kernel
theorem dX0_rights_38 : decode cX0_rights 38 = .ok (.aload_n 0, 1) := by decide +kernel
theorem dX0_rights_39 : decode cX0_rights 39 = .ok (.getfield 57, 3) := by decide +kernel
theorem dX0_rights_42 : decode cX0_rights 42 = .ok (.iconst 2, 1) := by decide +kernel
theorem dX0_rights_43 : decode cX0_rights 43 = .ok (.iand, 1) := by decide +kernel
theorem dX0_rights_44 : decode cX0_rights 44 = .ok (.ifCond .eq 7, 3) := by decide +kernel
theorem dX0_rights_47 : decode cX0_rights 47 = .ok (.iconst 1, 1) := by decide +kernel
theorem dX0_rights_48 : decode cX0_rights 48 = .ok (.goto 4, 3) := by decide +kernel
theorem dX0_rights_51 : decode cX0_rights 51 = .ok (.iconst 0, 1) := by decide +kernel
theorem dX0_rights_52 : decode cX0_rights 52 = .ok (.putfield 62, 3) := by decide +kernel
theorem dX0_rights_55 : decode cX0_rights 55 = .ok (.aload_n 0, 1) := by decide +kernel
theorem dX0_rights_56 : decode cX0_rights 56 = .ok (.getfield 19, 3) := by decide +kernel
theorem dX0_rights_59 : decode cX0_rights 59 = .ok (.aload_n 0, 1) := by decide +kernel
theorem dX0_rights_60 : decode cX0_rights 60 = .ok (.getfield 57, 3) := by decide +kernel
theorem dX0_rights_63 : decode cX0_rights 63 = .ok (.iconst 4, 1) := by decide +kernel
theorem dX0_rights_64 : decode cX0_rights 64 = .ok (.iand, 1) := by decide +kernel
theorem dX0_rights_65 : decode cX0_rights 65 = .ok (.ifCond .eq 7, 3) := by decide +kernel
theorem dX0_rights_68 : decode cX0_rights 68 = .ok (.iconst 1, 1) := by decide +kernel
theorem dX0_rights_69 : decode cX0_rights 69 = .ok (.goto 4, 3) := by decide +kernel
theorem dX0_rights_72 : decode cX0_rights 72 = .ok (.iconst 0, 1) := by decide +kernel
theorem dX0_rights_73 : decode cX0_rights 73 = .ok (.putfield 65, 3) := by decide +kernel
theorem dX0_rights_76 : decode cX0_rights 76 = .ok (.aload_n 0, 1) := by decide +kernel
theorem dX0_rights_77 : decode cX0_rights 77 = .ok (.getfield 19, 3) := by decide +kernel
theorem dX0_rights_80 : decode cX0_rights 80 = .ok (.aload_n 0, 1) := by decide +kernel
theorem dX0_rights_81 : decode cX0_rights 81 = .ok (.getfield 57, 3) := by decide +kernel
theorem dX0_rights_84 : decode cX0_rights 84 = .ok (.bipush 8, 2) := by decide +kernel
theorem dX0_rights_86 : decode cX0_rights 86 = .ok (.iand, 1) := by decide +kernel
theorem dX0_rights_87 : decode cX0_rights 87 = .ok (.ifCond .eq 7, 3) := by decide +kernel
theorem dX0_rights_90 : decode cX0_rights 90 = .ok (.iconst 1, 1) := by decide +kernel
theorem dX0_rights_91 : decode cX0_rights 91 = .ok (.goto 4, 3) := by decide +kernel
theorem dX0_rights_94 : decode cX0_rights 94 = .ok (.iconst 0, 1) := by decide +kernel
theorem dX0_rights_95 : decode cX0_rights 95 = .ok (.putfield 68, 3) := by decide +kernel
theorem dX0_rights_98 : decode cX0_rights 98 = .ok (.iload_n 2, 1) := by decide +kernel
theorem dX0_rights_99 : decode cX0_rights 99 = .ok (.ireturn, 1) := by decide +kernel
abbrev cX0_poke : ByteArray := prog_1_method_4_code
def yX0_poke : MethodName := ⟨RX0, "poke", "(IIIIII)I"⟩
theorem dX0_poke_0 : decode cX0_poke 0 = .ok (.iload_n 1, 1) := by decide +kernel
theorem dX0_poke_1 : decode cX0_poke 1 = .ok (.invokestatic 42, 3) := by decide +kernel
theorem dX0_poke_4 : decode cX0_poke 4 = .ok (.ifCond .eq 13, 3) := by decide +kernel
theorem dX0_poke_7 : decode cX0_poke 7 = .ok (.iload_n 1, 1) := by decide +kernel
theorem dX0_poke_8 : decode cX0_poke 8 = .ok (.iconst 2, 1) := by decide +kernel
theorem dX0_poke_9 : decode cX0_poke 9 = .ok (.ishr, 1) := by decide +kernel
theorem dX0_poke_10 : decode cX0_poke 10 = .ok (.iconst 5, 1) := by decide +kernel
theorem dX0_poke_11 : decode cX0_poke 11 = .ok (.iadd, 1) := by decide +kernel
theorem dX0_poke_12 : decode cX0_poke 12 = .ok (.ldc 7, 2) := by decide +kernel
theorem dX0_poke_14 : decode cX0_poke 14 = .ok (.if_icmp .le 5, 3) := by decide +kernel
theorem dX0_poke_17 : decode cX0_poke 17 = .ok (.iconst (-1), 1) := by decide +kernel
theorem dX0_poke_18 : decode cX0_poke 18 = .ok (.ireturn, 1) := by decide +kernel
theorem dX0_poke_19 : decode cX0_poke 19 = .ok (.iload_n 1, 1) := by decide +kernel
theorem dX0_poke_20 : decode cX0_poke 20 = .ok (.iconst 2, 1) := by decide +kernel
theorem dX0_poke_21 : decode cX0_poke 21 = .ok (.ishr, 1) := by decide +kernel
theorem dX0_poke_22 : decode cX0_poke 22 = .ok (.istore 7, 2) := by decide +kernel
theorem dX0_poke_24 : decode cX0_poke 24 = .ok (.aload_n 0, 1) := by decide +kernel
theorem dX0_poke_25 : decode cX0_poke 25 = .ok (.getfield 8, 3) := by decide +kernel
theorem dX0_poke_28 : decode cX0_poke 28 = .ok (.iload 7, 2) := by decide +kernel
theorem dX0_poke_30 : decode cX0_poke 30 = .ok (.iload_n 2, 1) := by decide +kernel
theorem dX0_poke_31 : decode cX0_poke 31 = .ok (.iastore, 1) := by decide +kernel
theorem dX0_poke_32 : decode cX0_poke 32 = .ok (.aload_n 0, 1) := by decide +kernel
theorem dX0_poke_33 : decode cX0_poke 33 = .ok (.getfield 8, 3) := by decide +kernel
theorem dX0_poke_36 : decode cX0_poke 36 = .ok (.iload 7, 2) := by decide +kernel
theorem dX0_poke_38 : decode cX0_poke 38 = .ok (.iconst 1, 1) := by decide +kernel
theorem dX0_poke_39 : decode cX0_poke 39 = .ok (.iadd, 1) := by decide +kernel
theorem dX0_poke_40 : decode cX0_poke 40 = .ok (.iload_n 3, 1) := by decide +kernel
theorem dX0_poke_41 : decode cX0_poke 41 = .ok (.iastore, 1) := by decide +kernel
theorem dX0_poke_42 : decode cX0_poke 42 = .ok (.aload_n 0, 1) := by decide +kernel
theorem dX0_poke_43 : decode cX0_poke 43 = .ok (.getfield 8, 3) := by decide +kernel
theorem dX0_poke_46 : decode cX0_poke 46 = .ok (.iload 7, 2) := by decide +kernel
theorem dX0_poke_48 : decode cX0_poke 48 = .ok (.iconst 2, 1) := by decide +kernel
theorem dX0_poke_49 : decode cX0_poke 49 = .ok (.iadd, 1) := by decide +kernel
theorem dX0_poke_50 : decode cX0_poke 50 = .ok (.iload 4, 2) := by decide +kernel
theorem dX0_poke_52 : decode cX0_poke 52 = .ok (.iastore, 1) := by decide +kernel
theorem dX0_poke_53 : decode cX0_poke 53 = .ok (.aload_n 0, 1) := by decide +kernel
theorem dX0_poke_54 : decode cX0_poke 54 = .ok (.getfield 8, 3) := by decide +kernel
theorem dX0_poke_57 : decode cX0_poke 57 = .ok (.iload 7, 2) := by decide +kernel
theorem dX0_poke_59 : decode cX0_poke 59 = .ok (.iconst 3, 1) := by decide +kernel
theorem dX0_poke_60 : decode cX0_poke 60 = .ok (.iadd, 1) := by decide +kernel
theorem dX0_poke_61 : decode cX0_poke 61 = .ok (.iload 5, 2) := by decide +kernel
theorem dX0_poke_63 : decode cX0_poke 63 = .ok (.iastore, 1) := by decide +kernel
theorem dX0_poke_64 : decode cX0_poke 64 = .ok (.aload_n 0, 1) := by decide +kernel
theorem dX0_poke_65 : decode cX0_poke 65 = .ok (.getfield 8, 3) := by decide +kernel
theorem dX0_poke_68 : decode cX0_poke 68 = .ok (.iload 7, 2) := by decide +kernel
theorem dX0_poke_70 : decode cX0_poke 70 = .ok (.iconst 4, 1) := by decide +kernel
theorem dX0_poke_71 : decode cX0_poke 71 = .ok (.iadd, 1) := by decide +kernel
theorem dX0_poke_72 : decode cX0_poke 72 = .ok (.iload 6, 2) := by decide +kernel
theorem dX0_poke_74 : decode cX0_poke 74 = .ok (.iastore, 1) := by decide +kernel
theorem dX0_poke_75 : decode cX0_poke 75 = .ok (.iload_n 1, 1) := by decide +kernel
theorem dX0_poke_76 : decode cX0_poke 76 = .ok (.bipush 20, 2) := by decide +kernel
theorem dX0_poke_78 : decode cX0_poke 78 = .ok (.iadd, 1) := by decide +kernel
theorem dX0_poke_79 : decode cX0_poke 79 = .ok (.ireturn, 1) := by decide +kernel
abbrev cX0_isWord : ByteArray := prog_1_method_3_code
def yX0_isWord : MethodName := ⟨RX0, "isWord", "(I)Z"⟩
theorem dX0_isWord_0 : decode cX0_isWord 0 = .ok (.iload_n 0, 1) := by decide +kernel
theorem dX0_isWord_1 : decode cX0_isWord 1 = .ok (.iconst 3, 1) := by decide +kernel
theorem dX0_isWord_2 : decode cX0_isWord 2 = .ok (.iand, 1) := by decide +kernel
theorem dX0_isWord_3 : decode cX0_isWord 3 = .ok (.ifCond .ne 19, 3) := by decide +kernel
theorem dX0_isWord_6 : decode cX0_isWord 6 = .ok (.iload_n 0, 1) := by decide +kernel
theorem dX0_isWord_7 : decode cX0_isWord 7 = .ok (.ifCond .lt 15, 3) := by decide +kernel
theorem dX0_isWord_10 : decode cX0_isWord 10 = .ok (.iload_n 0, 1) := by decide +kernel
theorem dX0_isWord_11 : decode cX0_isWord 11 = .ok (.iconst 2, 1) := by decide +kernel
theorem dX0_isWord_12 : decode cX0_isWord 12 = .ok (.ishr, 1) := by decide +kernel
theorem dX0_isWord_13 : decode cX0_isWord 13 = .ok (.ldc 7, 2) := by decide +kernel
theorem dX0_isWord_15 : decode cX0_isWord 15 = .ok (.if_icmp .ge 7, 3) := by decide +kernel
theorem dX0_isWord_18 : decode cX0_isWord 18 = .ok (.iconst 1, 1) := by decide +kernel
theorem dX0_isWord_19 : decode cX0_isWord 19 = .ok (.goto 4, 3) := by decide +kernel
theorem dX0_isWord_22 : decode cX0_isWord 22 = .ok (.iconst 0, 1) := by decide +kernel
theorem dX0_isWord_23 : decode cX0_isWord 23 = .ok (.ireturn, 1) := by decide +kernel
abbrev cX0_word : ByteArray := prog_1_method_5_code
def yX0_word : MethodName := ⟨RX0, "word", "(I)I"⟩
theorem dX0_word_0 : decode cX0_word 0 = .ok (.iload_n 1, 1) := by decide +kernel
theorem dX0_word_1 : decode cX0_word 1 = .ok (.invokestatic 42, 3) := by decide +kernel
theorem dX0_word_4 : decode cX0_word 4 = .ok (.ifCond .eq 14, 3) := by decide +kernel
theorem dX0_word_7 : decode cX0_word 7 = .ok (.aload_n 0, 1) := by decide +kernel
theorem dX0_word_8 : decode cX0_word 8 = .ok (.getfield 8, 3) := by decide +kernel
theorem dX0_word_11 : decode cX0_word 11 = .ok (.iload_n 1, 1) := by decide +kernel
theorem dX0_word_12 : decode cX0_word 12 = .ok (.iconst 2, 1) := by decide +kernel
theorem dX0_word_13 : decode cX0_word 13 = .ok (.ishr, 1) := by decide +kernel
theorem dX0_word_14 : decode cX0_word 14 = .ok (.iaload, 1) := by decide +kernel
theorem dX0_word_15 : decode cX0_word 15 = .ok (.goto 4, 3) := by decide +kernel
theorem dX0_word_18 : decode cX0_word 18 = .ok (.iconst 0, 1) := by decide +kernel
theorem dX0_word_19 : decode cX0_word 19 = .ok (.ireturn, 1) := by decide +kernel
abbrev cX0_translate : ByteArray := prog_1_method_10_code
def yX0_translate : MethodName := ⟨RX0, "translate", "(III)I"⟩
theorem dX0_translate_0 : decode cX0_translate 0 = .ok (.iload_n 1, 1) := by decide +kernel
theorem dX0_translate_1 : decode cX0_translate 1 = .ok (.iload_n 2, 1) := by decide +kernel
theorem dX0_translate_2 : decode cX0_translate 2 = .ok (.invokestatic 84, 3) := by decide +kernel
theorem dX0_translate_5 : decode cX0_translate 5 = .ok (.ifCond .ne 5, 3) := by decide +kernel
theorem dX0_translate_8 : decode cX0_translate 8 = .ok (.iconst (-1), 1) := by decide +kernel
theorem dX0_translate_9 : decode cX0_translate 9 = .ok (.ireturn, 1) := by decide +kernel
theorem dX0_translate_10 : decode cX0_translate 10 = .ok (.aload_n 0, 1) := by decide +kernel
theorem dX0_translate_11 : decode cX0_translate 11 = .ok (.iload_n 1, 1) := by decide +kernel
theorem dX0_translate_12 : decode cX0_translate 12 = .ok (.iload_n 2, 1) := by decide +kernel
theorem dX0_translate_13 : decode cX0_translate 13 = .ok (.iload_n 3, 1) := by decide +kernel
theorem dX0_translate_14 : decode cX0_translate 14 = .ok (.invokevirtual 88, 3) := by decide +kernel
theorem dX0_translate_17 : decode cX0_translate 17 = .ok (.istore 4, 2) := by decide +kernel
theorem dX0_translate_19 : decode cX0_translate 19 = .ok (.aload_n 0, 1) := by decide +kernel
theorem dX0_translate_20 : decode cX0_translate 20 = .ok (.iload 4, 2) := by decide +kernel
theorem dX0_translate_22 : decode cX0_translate 22 = .ok (.ifCond .ne 14, 3) := by decide +kernel
theorem dX0_translate_25 : decode cX0_translate 25 = .ok (.aload_n 0, 1) := by decide +kernel
theorem dX0_translate_26 : decode cX0_translate 26 = .ok (.getfield 19, 3) := by decide +kernel
theorem dX0_translate_29 : decode cX0_translate 29 = .ok (.getfield 92, 3) := by decide +kernel
theorem dX0_translate_32 : decode cX0_translate 32 = .ok (.l2i, 1) := by decide +kernel
theorem dX0_translate_33 : decode cX0_translate 33 = .ok (.goto 4, 3) := by decide +kernel
theorem dX0_translate_36 : decode cX0_translate 36 = .ok (.iconst (-1), 1) := by decide +kernel
theorem dX0_translate_37 : decode cX0_translate 37 = .ok (.putfield 23, 3) := by decide +kernel
theorem dX0_translate_40 : decode cX0_translate 40 = .ok (.aload_n 0, 1) := by decide +kernel
theorem dX0_translate_41 : decode cX0_translate 41 = .ok (.aload_n 0, 1) := by decide +kernel
theorem dX0_translate_42 : decode cX0_translate 42 = .ok (.getfield 19, 3) := by decide +kernel
theorem dX0_translate_45 : decode cX0_translate 45 = .ok (.getfield 95, 3) := by decide +kernel
theorem dX0_translate_48 : decode cX0_translate 48 = .ok (.iconst 2, 1) := by decide +kernel
theorem dX0_translate_49 : decode cX0_translate 49 = .ok (.lshr, 1) := by decide +kernel
theorem dX0_translate_50 : decode cX0_translate 50 = .ok (.l2i, 1) := by decide +kernel
theorem dX0_translate_51 : decode cX0_translate 51 = .ok (.putfield 35, 3) := by decide +kernel
theorem dX0_translate_54 : decode cX0_translate 54 = .ok (.aload_n 0, 1) := by decide +kernel
theorem dX0_translate_55 : decode cX0_translate 55 = .ok (.aload_n 0, 1) := by decide +kernel
theorem dX0_translate_56 : decode cX0_translate 56 = .ok (.getfield 19, 3) := by decide +kernel
theorem dX0_translate_59 : decode cX0_translate 59 = .ok (.getfield 97, 3) := by decide +kernel
theorem dX0_translate_62 : decode cX0_translate 62 = .ok (.putfield 38, 3) := by decide +kernel
theorem dX0_translate_65 : decode cX0_translate 65 = .ok (.iload 4, 2) := by decide +kernel
theorem dX0_translate_67 : decode cX0_translate 67 = .ok (.ireturn, 1) := by decide +kernel
abbrev cX0_isKind : ByteArray := prog_1_method_8_code
def yX0_isKind : MethodName := ⟨RX0, "isKind", "(II)Z"⟩
theorem dX0_isKind_0 : decode cX0_isKind 0 = .ok (.iload_n 0, 1) := by decide +kernel
theorem dX0_isKind_1 : decode cX0_isKind 1 = .ok (.ifCond .lt 31, 3) := by decide +kernel
theorem dX0_isKind_4 : decode cX0_isKind 4 = .ok (.iload_n 0, 1) := by decide +kernel
theorem dX0_isKind_5 : decode cX0_isKind 5 = .ok (.iconst 3, 1) := by decide +kernel
theorem dX0_isKind_6 : decode cX0_isKind 6 = .ok (.if_icmp .gt 26, 3) := by decide +kernel
theorem dX0_isKind_9 : decode cX0_isKind 9 = .ok (.iload_n 1, 1) := by decide +kernel
theorem dX0_isKind_10 : decode cX0_isKind 10 = .ok (.ifCond .lt 22, 3) := by decide +kernel
theorem dX0_isKind_13 : decode cX0_isKind 13 = .ok (.iload_n 1, 1) := by decide +kernel
theorem dX0_isKind_14 : decode cX0_isKind 14 = .ok (.iconst 2, 1) := by decide +kernel
theorem dX0_isKind_15 : decode cX0_isKind 15 = .ok (.if_icmp .le 13, 3) := by decide +kernel
theorem dX0_isKind_18 : decode cX0_isKind 18 = .ok (.iload_n 1, 1) := by decide +kernel
theorem dX0_isKind_19 : decode cX0_isKind 19 = .ok (.iconst 3, 1) := by decide +kernel
theorem dX0_isKind_20 : decode cX0_isKind 20 = .ok (.if_icmp .ne 12, 3) := by decide +kernel
theorem dX0_isKind_23 : decode cX0_isKind 23 = .ok (.iload_n 0, 1) := by decide +kernel
theorem dX0_isKind_24 : decode cX0_isKind 24 = .ok (.iconst 2, 1) := by decide +kernel
theorem dX0_isKind_25 : decode cX0_isKind 25 = .ok (.if_icmp .lt 7, 3) := by decide +kernel
theorem dX0_isKind_28 : decode cX0_isKind 28 = .ok (.iconst 1, 1) := by decide +kernel
theorem dX0_isKind_29 : decode cX0_isKind 29 = .ok (.goto 4, 3) := by decide +kernel
theorem dX0_isKind_32 : decode cX0_isKind 32 = .ok (.iconst 0, 1) := by decide +kernel
theorem dX0_isKind_33 : decode cX0_isKind 33 = .ok (.ireturn, 1) := by decide +kernel
abbrev cX0_go : ByteArray := prog_1_method_9_code
def yX0_go : MethodName := ⟨RX0, "go", "(III)I"⟩
theorem dX0_go_0 : decode cX0_go 0 = .ok (.aload_n 0, 1) := by decide +kernel
theorem dX0_go_1 : decode cX0_go 1 = .ok (.getfield 19, 3) := by decide +kernel
theorem dX0_go_4 : decode cX0_go 4 = .ok (.iload_n 1, 1) := by decide +kernel
theorem dX0_go_5 : decode cX0_go 5 = .ok (.iconst 2, 1) := by decide +kernel
theorem dX0_go_6 : decode cX0_go 6 = .ok (.if_icmp .lt 7, 3) := by decide +kernel
theorem dX0_go_9 : decode cX0_go 9 = .ok (.iconst 1, 1) := by decide +kernel
theorem dX0_go_10 : decode cX0_go 10 = .ok (.goto 4, 3) := by decide +kernel
theorem dX0_go_13 : decode cX0_go 13 = .ok (.iconst 0, 1) := by decide +kernel
theorem dX0_go_14 : decode cX0_go 14 = .ok (.putfield 71, 3) := by decide +kernel
theorem dX0_go_17 : decode cX0_go 17 = .ok (.aload_n 0, 1) := by decide +kernel
theorem dX0_go_18 : decode cX0_go 18 = .ok (.getfield 19, 3) := by decide +kernel
theorem dX0_go_21 : decode cX0_go 21 = .ok (.iload_n 1, 1) := by decide +kernel
theorem dX0_go_22 : decode cX0_go 22 = .ok (.iconst 1, 1) := by decide +kernel
theorem dX0_go_23 : decode cX0_go 23 = .ok (.iand, 1) := by decide +kernel
theorem dX0_go_24 : decode cX0_go 24 = .ok (.ifCond .ne 7, 3) := by decide +kernel
theorem dX0_go_27 : decode cX0_go 27 = .ok (.iconst 1, 1) := by decide +kernel
theorem dX0_go_28 : decode cX0_go 28 = .ok (.goto 4, 3) := by decide +kernel
theorem dX0_go_31 : decode cX0_go 31 = .ok (.iconst 0, 1) := by decide +kernel
theorem dX0_go_32 : decode cX0_go 32 = .ok (.putfield 74, 3) := by decide +kernel
theorem dX0_go_35 : decode cX0_go 35 = .ok (.aload_n 0, 1) := by decide +kernel
theorem dX0_go_36 : decode cX0_go 36 = .ok (.getfield 19, 3) := by decide +kernel
theorem dX0_go_39 : decode cX0_go 39 = .ok (.iload_n 2, 1) := by decide +kernel
theorem dX0_go_40 : decode cX0_go 40 = .ok (.iconst 3, 1) := by decide +kernel
theorem dX0_go_41 : decode cX0_go 41 = .ok (.if_icmp .ne 7, 3) := by decide +kernel
theorem dX0_go_44 : decode cX0_go 44 = .ok (.iconst 1, 1) := by decide +kernel
theorem dX0_go_45 : decode cX0_go 45 = .ok (.goto 4, 3) := by decide +kernel
theorem dX0_go_48 : decode cX0_go 48 = .ok (.iconst 0, 1) := by decide +kernel
theorem dX0_go_49 : decode cX0_go 49 = .ok (.putfield 77, 3) := by decide +kernel
theorem dX0_go_52 : decode cX0_go 52 = .ok (.aload_n 0, 1) := by decide +kernel
theorem dX0_go_53 : decode cX0_go 53 = .ok (.getfield 19, 3) := by decide +kernel
theorem dX0_go_56 : decode cX0_go 56 = .ok (.iload_n 3, 1) := by decide +kernel
theorem dX0_go_57 : decode cX0_go 57 = .ok (.iload_n 2, 1) := by decide +kernel
theorem dX0_go_58 : decode cX0_go 58 = .ok (.iconst 3, 1) := by decide +kernel
theorem dX0_go_59 : decode cX0_go 59 = .ok (.if_icmp .ne 7, 3) := by decide +kernel
theorem dX0_go_62 : decode cX0_go 62 = .ok (.iconst 1, 1) := by decide +kernel
theorem dX0_go_63 : decode cX0_go 63 = .ok (.goto 4, 3) := by decide +kernel
theorem dX0_go_66 : decode cX0_go 66 = .ok (.iload_n 2, 1) := by decide +kernel
theorem dX0_go_67 : decode cX0_go 67 = .ok (.invokevirtual 80, 3) := by decide +kernel
theorem dX0_go_70 : decode cX0_go 70 = .ok (.ireturn, 1) := by decide +kernel
abbrev cX0_place : ByteArray := prog_1_method_11_code
def yX0_place : MethodName := ⟨RX0, "place", "()I"⟩
theorem dX0_place_0 : decode cX0_place 0 = .ok (.aload_n 0, 1) := by decide +kernel
theorem dX0_place_1 : decode cX0_place 1 = .ok (.getfield 23, 3) := by decide +kernel
theorem dX0_place_4 : decode cX0_place 4 = .ok (.ireturn, 1) := by decide +kernel
abbrev cX0_second : ByteArray := prog_1_method_12_code
def yX0_second : MethodName := ⟨RX0, "second", "()I"⟩
theorem dX0_second_0 : decode cX0_second 0 = .ok (.aload_n 0, 1) := by decide +kernel
theorem dX0_second_1 : decode cX0_second 1 = .ok (.getfield 35, 3) := by decide +kernel
theorem dX0_second_4 : decode cX0_second 4 = .ok (.ireturn, 1) := by decide +kernel
abbrev cX0_entry : ByteArray := prog_1_method_13_code
def yX0_entry : MethodName := ⟨RX0, "entry", "()Z"⟩
theorem dX0_entry_0 : decode cX0_entry 0 = .ok (.aload_n 0, 1) := by decide +kernel
theorem dX0_entry_1 : decode cX0_entry 1 = .ok (.getfield 38, 3) := by decide +kernel
theorem dX0_entry_4 : decode cX0_entry 4 = .ok (.ireturn, 1) := by decide +kernel
abbrev cX0_pages : ByteArray := prog_1_method_14_code
def yX0_pages : MethodName := ⟨RX0, "pages", "(IIII)I"⟩
theorem dX0_pages_0 : decode cX0_pages 0 = .ok (.iload_n 1, 1) := by decide +kernel
theorem dX0_pages_1 : decode cX0_pages 1 = .ok (.iload_n 2, 1) := by decide +kernel
theorem dX0_pages_2 : decode cX0_pages 2 = .ok (.invokestatic 84, 3) := by decide +kernel
theorem dX0_pages_5 : decode cX0_pages 5 = .ok (.ifCond .eq 17, 3) := by decide +kernel
theorem dX0_pages_8 : decode cX0_pages 8 = .ok (.iload 4, 2) := by decide +kernel
theorem dX0_pages_10 : decode cX0_pages 10 = .ok (.iconst 1, 1) := by decide +kernel
theorem dX0_pages_11 : decode cX0_pages 11 = .ok (.if_icmp .lt 11, 3) := by decide +kernel
theorem dX0_pages_14 : decode cX0_pages 14 = .ok (.iload 4, 2) := by decide +kernel
theorem dX0_pages_16 : decode cX0_pages 16 = .ok (.sipush 1024, 3) := by decide +kernel
theorem dX0_pages_19 : decode cX0_pages 19 = .ok (.if_icmp .le 5, 3) := by decide +kernel
theorem dX0_pages_22 : decode cX0_pages 22 = .ok (.iconst (-1), 1) := by decide +kernel
theorem dX0_pages_23 : decode cX0_pages 23 = .ok (.ireturn, 1) := by decide +kernel
theorem dX0_pages_24 : decode cX0_pages 24 = .ok (.iload_n 3, 1) := by decide +kernel
theorem dX0_pages_25 : decode cX0_pages 25 = .ok (.i2l, 1) := by decide +kernel
theorem dX0_pages_26 : decode cX0_pages 26 = .ok (.ldc2_w 98, 3) := by decide +kernel
theorem dX0_pages_29 : decode cX0_pages 29 = .ok (.land, 1) := by decide +kernel
theorem dX0_pages_30 : decode cX0_pages 30 = .ok (.lstore 5, 2) := by decide +kernel
theorem dX0_pages_32 : decode cX0_pages 32 = .ok (.iconst 0, 1) := by decide +kernel
theorem dX0_pages_33 : decode cX0_pages 33 = .ok (.istore 7, 2) := by decide +kernel
theorem dX0_pages_35 : decode cX0_pages 35 = .ok (.iconst 0, 1) := by decide +kernel
theorem dX0_pages_36 : decode cX0_pages 36 = .ok (.istore 8, 2) := by decide +kernel
theorem dX0_pages_38 : decode cX0_pages 38 = .ok (.iload 8, 2) := by decide +kernel
theorem dX0_pages_40 : decode cX0_pages 40 = .ok (.iload 4, 2) := by decide +kernel
theorem dX0_pages_42 : decode cX0_pages 42 = .ok (.if_icmp .ge 49, 3) := by decide +kernel
theorem dX0_pages_45 : decode cX0_pages 45 = .ok (.lload 5, 2) := by decide +kernel
theorem dX0_pages_47 : decode cX0_pages 47 = .ok (.bipush 32, 2) := by decide +kernel
theorem dX0_pages_49 : decode cX0_pages 49 = .ok (.lshr, 1) := by decide +kernel
theorem dX0_pages_50 : decode cX0_pages 50 = .ok (.lconst 0, 1) := by decide +kernel
theorem dX0_pages_51 : decode cX0_pages 51 = .ok (.lcmp, 1) := by decide +kernel
theorem dX0_pages_52 : decode cX0_pages 52 = .ok (.ifCond .ne 39, 3) := by decide +kernel
theorem dX0_pages_55 : decode cX0_pages 55 = .ok (.iload 7, 2) := by decide +kernel
theorem dX0_pages_57 : decode cX0_pages 57 = .ok (.aload_n 0, 1) := by decide +kernel
theorem dX0_pages_58 : decode cX0_pages 58 = .ok (.iload_n 1, 1) := by decide +kernel
theorem dX0_pages_59 : decode cX0_pages 59 = .ok (.iload_n 2, 1) := by decide +kernel
theorem dX0_pages_60 : decode cX0_pages 60 = .ok (.lload 5, 2) := by decide +kernel
theorem dX0_pages_62 : decode cX0_pages 62 = .ok (.l2i, 1) := by decide +kernel
theorem dX0_pages_63 : decode cX0_pages 63 = .ok (.invokevirtual 88, 3) := by decide +kernel
theorem dX0_pages_66 : decode cX0_pages 66 = .ok (.ifCond .ne 7, 3) := by decide +kernel
theorem dX0_pages_69 : decode cX0_pages 69 = .ok (.iconst 1, 1) := by decide +kernel
theorem dX0_pages_70 : decode cX0_pages 70 = .ok (.goto 4, 3) := by decide +kernel
theorem dX0_pages_73 : decode cX0_pages 73 = .ok (.iconst 0, 1) := by decide +kernel
theorem dX0_pages_74 : decode cX0_pages 74 = .ok (.iadd, 1) := by decide +kernel
theorem dX0_pages_75 : decode cX0_pages 75 = .ok (.istore 7, 2) := by decide +kernel
theorem dX0_pages_77 : decode cX0_pages 77 = .ok (.lload 5, 2) := by decide +kernel
theorem dX0_pages_79 : decode cX0_pages 79 = .ok (.ldc2_w 100, 3) := by decide +kernel
theorem dX0_pages_82 : decode cX0_pages 82 = .ok (.ladd, 1) := by decide +kernel
theorem dX0_pages_83 : decode cX0_pages 83 = .ok (.lstore 5, 2) := by decide +kernel
theorem dX0_pages_85 : decode cX0_pages 85 = .ok (.iinc 8 1, 3) := by decide +kernel
theorem dX0_pages_88 : decode cX0_pages 88 = .ok (.goto (-50), 3) := by decide +kernel
theorem dX0_pages_91 : decode cX0_pages 91 = .ok (.iload 7, 2) := by decide +kernel
theorem dX0_pages_93 : decode cX0_pages 93 = .ok (.ireturn, 1) := by decide +kernel
theorem q19 : (Jvm.Cond.initialized "StageWalker") ∈ lw_all := lw_g (lw_at lw_m1 1 rfl) rfl
theorem q23 : (Jvm.Cond.instantiable "StageWalker" (6 : Nat)) ∈ lw_all := lw_g (lw_at lw_m1 5 rfl) rfl
theorem q25 : (Jvm.Cond.instanceMethod ({ cls := "StageWalker", name := "<init>", desc := "()V" } : Jvm.MethodName)) ∈ lw_all := lw_g (lw_at lw_m1 7 rfl) rfl
theorem q26 : (Jvm.Cond.code ({ cls := "StageWalker", name := "<init>", desc := "()V" } : Jvm.MethodName) prog_1_method_1_code (1 : Nat) (Option.none : Option Jvm.ClassFile.FieldType)) ∈ lw_all := lw_g (lw_at lw_m1 8 rfl) rfl
theorem q27 : (Jvm.Cond.methodLink "StageWalker" (1 : Nat) ({ cls := "java/lang/Object", name := "<init>", desc := "()V" } : Jvm.MethodName)) ∈ lw_all := lw_g (lw_at lw_m1 9 rfl) rfl
theorem q30 : (Jvm.Cond.constant "StageWalker" (7 : Nat) (65536 : Int32)) ∈ lw_all := lw_g (lw_at lw_m1 12 rfl) rfl
theorem q31 : (Jvm.Cond.classLink "StageWalker" (14 : Nat) "StageWalker$Walker") ∈ lw_all := lw_g (lw_at lw_m1 13 rfl) rfl
theorem q33 : (Jvm.Cond.methodLink "StageWalker" (16 : Nat) ({ cls := "StageWalker$Walker", name := "<init>", desc := "([I)V" } : Jvm.MethodName)) ∈ lw_all := lw_g (lw_at lw_m1 15 rfl) rfl
theorem q39 : (Jvm.Cond.fieldLink "StageWalker" (71 : Nat) "StageWalker$Walker" "virtual" "Z") ∈ lw_all := lw_g (lw_at lw_m1 21 rfl) rfl
theorem q40 : (Jvm.Cond.fieldLink "StageWalker" (74 : Nat) "StageWalker$Walker" "user" "Z") ∈ lw_all := lw_g (lw_at lw_m1 22 rfl) rfl
theorem q43 : (Jvm.Cond.fieldLink "StageWalker" (77 : Nat) "StageWalker$Walker" "execution" "Z") ∈ lw_all := lw_g (lw_at lw_m1 25 rfl) rfl
theorem q45 : (Jvm.Cond.fieldLink "StageWalker" (47 : Nat) "StageWalker$Walker" "atp" "I") ∈ lw_all := lw_g (lw_at lw_m1 27 rfl) rfl
theorem q47 : (Jvm.Cond.fieldLink "StageWalker" (50 : Nat) "StageWalker$Walker" "vsAtp" "I") ∈ lw_all := lw_g (lw_at lw_m1 29 rfl) rfl
theorem q48 : (Jvm.Cond.fieldLink "StageWalker" (54 : Nat) "StageWalker$Walker" "hgatp" "I") ∈ lw_all := lw_g (lw_at lw_m1 30 rfl) rfl
theorem q50 : (Jvm.Cond.fieldLink "StageWalker" (59 : Nat) "StageWalker$Walker" "sum" "Z") ∈ lw_all := lw_g (lw_at lw_m1 32 rfl) rfl
theorem q53 : (Jvm.Cond.fieldLink "StageWalker" (62 : Nat) "StageWalker$Walker" "mxr" "Z") ∈ lw_all := lw_g (lw_at lw_m1 35 rfl) rfl
theorem q54 : (Jvm.Cond.fieldLink "StageWalker" (65 : Nat) "StageWalker$Walker" "vsSum" "Z") ∈ lw_all := lw_g (lw_at lw_m1 36 rfl) rfl
theorem q57 : (Jvm.Cond.fieldLink "StageWalker" (68 : Nat) "StageWalker$Walker" "vsMxr" "Z") ∈ lw_all := lw_g (lw_at lw_m1 39 rfl) rfl
theorem q59 : (Jvm.Cond.fieldLink "StageWalker" (92 : Nat) "StageWalker$Walker" "place" "J") ∈ lw_all := lw_g (lw_at lw_m1 41 rfl) rfl
theorem q61 : (Jvm.Cond.fieldLink "StageWalker" (95 : Nat) "StageWalker$Walker" "second" "J") ∈ lw_all := lw_g (lw_at lw_m1 43 rfl) rfl
theorem q63 : (Jvm.Cond.fieldLink "StageWalker" (97 : Nat) "StageWalker$Walker" "entry" "Z") ∈ lw_all := lw_g (lw_at lw_m1 45 rfl) rfl
theorem q100 : (Jvm.Cond.fieldLink "StageWalker" (8 : Nat) "StageWalker" "memory" "[I") ∈ lw_all := lw_g (lw_at lw_m1 82 rfl) rfl
theorem q101 : (Jvm.Cond.fieldLink "StageWalker" (19 : Nat) "StageWalker" "walker" "LStageWalker$Walker;") ∈ lw_all := lw_g (lw_at lw_m1 83 rfl) rfl
theorem q102 : (Jvm.Cond.fieldLink "StageWalker" (57 : Nat) "StageWalker" "rights" "I") ∈ lw_all := lw_g (lw_at lw_m1 84 rfl) rfl
theorem q103 : (Jvm.Cond.fieldLink "StageWalker" (23 : Nat) "StageWalker" "place" "I") ∈ lw_all := lw_g (lw_at lw_m1 85 rfl) rfl
theorem q104 : (Jvm.Cond.fieldLink "StageWalker" (35 : Nat) "StageWalker" "second" "I") ∈ lw_all := lw_g (lw_at lw_m1 86 rfl) rfl
theorem q105 : (Jvm.Cond.fieldLink "StageWalker" (38 : Nat) "StageWalker" "entry" "Z") ∈ lw_all := lw_g (lw_at lw_m1 87 rfl) rfl
theorem q106 : (Jvm.Cond.laysFinal "StageWalker" "StageWalker" "memory" "[I") ∈ lw_all := lw_g (lw_at lw_m1 88 rfl) rfl
theorem q107 : (Jvm.Cond.soleField "StageWalker" "memory") ∈ lw_all := lw_g (lw_at lw_m1 89 rfl) rfl
theorem q108 : (Jvm.Cond.laysFinal "StageWalker" "StageWalker" "walker" "LStageWalker$Walker;") ∈ lw_all := lw_g (lw_at lw_m1 90 rfl) rfl
theorem q109 : (Jvm.Cond.soleField "StageWalker" "walker") ∈ lw_all := lw_g (lw_at lw_m1 91 rfl) rfl
theorem q110 : (Jvm.Cond.lays "StageWalker" "StageWalker" "rights" "I") ∈ lw_all := lw_g (lw_at lw_m1 92 rfl) rfl
theorem q111 : (Jvm.Cond.soleField "StageWalker" "rights") ∈ lw_all := lw_g (lw_at lw_m1 93 rfl) rfl
theorem q112 : (Jvm.Cond.lays "StageWalker" "StageWalker" "place" "I") ∈ lw_all := lw_g (lw_at lw_m1 94 rfl) rfl
theorem q113 : (Jvm.Cond.soleField "StageWalker" "place") ∈ lw_all := lw_g (lw_at lw_m1 95 rfl) rfl
theorem q114 : (Jvm.Cond.lays "StageWalker" "StageWalker" "second" "I") ∈ lw_all := lw_g (lw_at lw_m1 96 rfl) rfl
theorem q115 : (Jvm.Cond.soleField "StageWalker" "second") ∈ lw_all := lw_g (lw_at lw_m1 97 rfl) rfl
theorem q116 : (Jvm.Cond.lays "StageWalker" "StageWalker" "entry" "Z") ∈ lw_all := lw_g (lw_at lw_m1 98 rfl) rfl
theorem q117 : (Jvm.Cond.soleField "StageWalker" "entry") ∈ lw_all := lw_g (lw_at lw_m1 99 rfl) rfl
theorem q118 : (Jvm.Cond.superclass "StageWalker" "java/lang/Object") ∈ lw_all := lw_g (lw_at lw_m1 100 rfl) rfl
theorem q120 : (Jvm.Cond.instanceMethod ({ cls := "StageWalker", name := "begin", desc := "()V" } : Jvm.MethodName)) ∈ lw_all := lw_g (lw_at lw_m1 102 rfl) rfl
theorem q121 : (Jvm.Cond.selects "StageWalker" ({ cls := "StageWalker", name := "begin", desc := "()V" } : Jvm.MethodName) ({ cls := "StageWalker", name := "begin", desc := "()V" } : Jvm.MethodName)) ∈ lw_all := lw_g (lw_at lw_m1 103 rfl) rfl
theorem q122 : (Jvm.Cond.code ({ cls := "StageWalker", name := "begin", desc := "()V" } : Jvm.MethodName) prog_1_method_2_code (2 : Nat) (Option.none : Option Jvm.ClassFile.FieldType)) ∈ lw_all := lw_g (lw_at lw_m1 104 rfl) rfl
theorem q123 : (Jvm.Cond.methodLink "StageWalker" (27 : Nat) ({ cls := "StageWalker", name := "roots", desc := "(III)V" } : Jvm.MethodName)) ∈ lw_all := lw_g (lw_at lw_m1 105 rfl) rfl
theorem q124 : (Jvm.Cond.instanceMethod ({ cls := "StageWalker", name := "roots", desc := "(III)V" } : Jvm.MethodName)) ∈ lw_all := lw_g (lw_at lw_m1 106 rfl) rfl
theorem q125 : (Jvm.Cond.selects "StageWalker" ({ cls := "StageWalker", name := "roots", desc := "(III)V" } : Jvm.MethodName) ({ cls := "StageWalker", name := "roots", desc := "(III)V" } : Jvm.MethodName)) ∈ lw_all := lw_g (lw_at lw_m1 107 rfl) rfl
theorem q126 : (Jvm.Cond.code ({ cls := "StageWalker", name := "roots", desc := "(III)V" } : Jvm.MethodName) prog_1_method_6_code (4 : Nat) (Option.none : Option Jvm.ClassFile.FieldType)) ∈ lw_all := lw_g (lw_at lw_m1 108 rfl) rfl
theorem q127 : (Jvm.Cond.constant "StageWalker" (46 : Nat) (-2143289345 : Int32)) ∈ lw_all := lw_g (lw_at lw_m1 109 rfl) rfl
theorem q128 : (Jvm.Cond.constant "StageWalker" (53 : Nat) (-2143289348 : Int32)) ∈ lw_all := lw_g (lw_at lw_m1 110 rfl) rfl
theorem q129 : (Jvm.Cond.methodLink "StageWalker" (31 : Nat) ({ cls := "StageWalker", name := "rights", desc := "(I)I" } : Jvm.MethodName)) ∈ lw_all := lw_g (lw_at lw_m1 111 rfl) rfl
theorem q130 : (Jvm.Cond.instanceMethod ({ cls := "StageWalker", name := "rights", desc := "(I)I" } : Jvm.MethodName)) ∈ lw_all := lw_g (lw_at lw_m1 112 rfl) rfl
theorem q131 : (Jvm.Cond.selects "StageWalker" ({ cls := "StageWalker", name := "rights", desc := "(I)I" } : Jvm.MethodName) ({ cls := "StageWalker", name := "rights", desc := "(I)I" } : Jvm.MethodName)) ∈ lw_all := lw_g (lw_at lw_m1 113 rfl) rfl
theorem q132 : (Jvm.Cond.code ({ cls := "StageWalker", name := "rights", desc := "(I)I" } : Jvm.MethodName) prog_1_method_7_code (3 : Nat) (Option.some Jvm.ClassFile.FieldType.int)) ∈ lw_all := lw_g (lw_at lw_m1 114 rfl) rfl
theorem q134 : (Jvm.Cond.instanceMethod ({ cls := "StageWalker", name := "poke", desc := "(IIIIII)I" } : Jvm.MethodName)) ∈ lw_all := lw_g (lw_at lw_m1 116 rfl) rfl
theorem q135 : (Jvm.Cond.selects "StageWalker" ({ cls := "StageWalker", name := "poke", desc := "(IIIIII)I" } : Jvm.MethodName) ({ cls := "StageWalker", name := "poke", desc := "(IIIIII)I" } : Jvm.MethodName)) ∈ lw_all := lw_g (lw_at lw_m1 117 rfl) rfl
theorem q136 : (Jvm.Cond.code ({ cls := "StageWalker", name := "poke", desc := "(IIIIII)I" } : Jvm.MethodName) prog_1_method_4_code (8 : Nat) (Option.some Jvm.ClassFile.FieldType.int)) ∈ lw_all := lw_g (lw_at lw_m1 118 rfl) rfl
theorem q137 : (Jvm.Cond.methodLink "StageWalker" (42 : Nat) ({ cls := "StageWalker", name := "isWord", desc := "(I)Z" } : Jvm.MethodName)) ∈ lw_all := lw_g (lw_at lw_m1 119 rfl) rfl
theorem q138 : (Jvm.Cond.static ({ cls := "StageWalker", name := "isWord", desc := "(I)Z" } : Jvm.MethodName)) ∈ lw_all := lw_g (lw_at lw_m1 120 rfl) rfl
theorem q139 : (Jvm.Cond.code ({ cls := "StageWalker", name := "isWord", desc := "(I)Z" } : Jvm.MethodName) prog_1_method_3_code (1 : Nat) (Option.some Jvm.ClassFile.FieldType.boolean)) ∈ lw_all := lw_g (lw_at lw_m1 121 rfl) rfl
theorem q141 : (Jvm.Cond.instanceMethod ({ cls := "StageWalker", name := "word", desc := "(I)I" } : Jvm.MethodName)) ∈ lw_all := lw_g (lw_at lw_m1 123 rfl) rfl
theorem q142 : (Jvm.Cond.selects "StageWalker" ({ cls := "StageWalker", name := "word", desc := "(I)I" } : Jvm.MethodName) ({ cls := "StageWalker", name := "word", desc := "(I)I" } : Jvm.MethodName)) ∈ lw_all := lw_g (lw_at lw_m1 124 rfl) rfl
theorem q143 : (Jvm.Cond.code ({ cls := "StageWalker", name := "word", desc := "(I)I" } : Jvm.MethodName) prog_1_method_5_code (2 : Nat) (Option.some Jvm.ClassFile.FieldType.int)) ∈ lw_all := lw_g (lw_at lw_m1 125 rfl) rfl
theorem q147 : (Jvm.Cond.instanceMethod ({ cls := "StageWalker", name := "translate", desc := "(III)I" } : Jvm.MethodName)) ∈ lw_all := lw_g (lw_at lw_m1 129 rfl) rfl
theorem q148 : (Jvm.Cond.selects "StageWalker" ({ cls := "StageWalker", name := "translate", desc := "(III)I" } : Jvm.MethodName) ({ cls := "StageWalker", name := "translate", desc := "(III)I" } : Jvm.MethodName)) ∈ lw_all := lw_g (lw_at lw_m1 130 rfl) rfl
theorem q149 : (Jvm.Cond.code ({ cls := "StageWalker", name := "translate", desc := "(III)I" } : Jvm.MethodName) prog_1_method_10_code (5 : Nat) (Option.some Jvm.ClassFile.FieldType.int)) ∈ lw_all := lw_g (lw_at lw_m1 131 rfl) rfl
theorem q150 : (Jvm.Cond.methodLink "StageWalker" (84 : Nat) ({ cls := "StageWalker", name := "isKind", desc := "(II)Z" } : Jvm.MethodName)) ∈ lw_all := lw_g (lw_at lw_m1 132 rfl) rfl
theorem q151 : (Jvm.Cond.static ({ cls := "StageWalker", name := "isKind", desc := "(II)Z" } : Jvm.MethodName)) ∈ lw_all := lw_g (lw_at lw_m1 133 rfl) rfl
theorem q152 : (Jvm.Cond.code ({ cls := "StageWalker", name := "isKind", desc := "(II)Z" } : Jvm.MethodName) prog_1_method_8_code (2 : Nat) (Option.some Jvm.ClassFile.FieldType.boolean)) ∈ lw_all := lw_g (lw_at lw_m1 134 rfl) rfl
theorem q153 : (Jvm.Cond.methodLink "StageWalker" (88 : Nat) ({ cls := "StageWalker", name := "go", desc := "(III)I" } : Jvm.MethodName)) ∈ lw_all := lw_g (lw_at lw_m1 135 rfl) rfl
theorem q154 : (Jvm.Cond.privateMethod ({ cls := "StageWalker", name := "go", desc := "(III)I" } : Jvm.MethodName)) ∈ lw_tbl := lw_at lw_m1 136 rfl
theorem q155 : (Jvm.Cond.instanceMethod ({ cls := "StageWalker", name := "go", desc := "(III)I" } : Jvm.MethodName)) ∈ lw_all := lw_g (lw_at lw_m1 137 rfl) rfl
theorem q156 : (Jvm.Cond.code ({ cls := "StageWalker", name := "go", desc := "(III)I" } : Jvm.MethodName) prog_1_method_9_code (4 : Nat) (Option.some Jvm.ClassFile.FieldType.int)) ∈ lw_all := lw_g (lw_at lw_m1 138 rfl) rfl
theorem q157 : (Jvm.Cond.methodLink "StageWalker" (80 : Nat) ({ cls := "StageWalker$Walker", name := "translate", desc := "(II)I" } : Jvm.MethodName)) ∈ lw_all := lw_g (lw_at lw_m1 139 rfl) rfl
theorem q219 : (Jvm.Cond.instanceMethod ({ cls := "StageWalker", name := "place", desc := "()I" } : Jvm.MethodName)) ∈ lw_all := lw_g (lw_at lw_m1 201 rfl) rfl
theorem q220 : (Jvm.Cond.selects "StageWalker" ({ cls := "StageWalker", name := "place", desc := "()I" } : Jvm.MethodName) ({ cls := "StageWalker", name := "place", desc := "()I" } : Jvm.MethodName)) ∈ lw_all := lw_g (lw_at lw_m1 202 rfl) rfl
theorem q221 : (Jvm.Cond.code ({ cls := "StageWalker", name := "place", desc := "()I" } : Jvm.MethodName) prog_1_method_11_code (1 : Nat) (Option.some Jvm.ClassFile.FieldType.int)) ∈ lw_all := lw_g (lw_at lw_m1 203 rfl) rfl
theorem q223 : (Jvm.Cond.instanceMethod ({ cls := "StageWalker", name := "second", desc := "()I" } : Jvm.MethodName)) ∈ lw_all := lw_g (lw_at lw_m1 205 rfl) rfl
theorem q224 : (Jvm.Cond.selects "StageWalker" ({ cls := "StageWalker", name := "second", desc := "()I" } : Jvm.MethodName) ({ cls := "StageWalker", name := "second", desc := "()I" } : Jvm.MethodName)) ∈ lw_all := lw_g (lw_at lw_m1 206 rfl) rfl
theorem q225 : (Jvm.Cond.code ({ cls := "StageWalker", name := "second", desc := "()I" } : Jvm.MethodName) prog_1_method_12_code (1 : Nat) (Option.some Jvm.ClassFile.FieldType.int)) ∈ lw_all := lw_g (lw_at lw_m1 207 rfl) rfl
theorem q227 : (Jvm.Cond.instanceMethod ({ cls := "StageWalker", name := "entry", desc := "()Z" } : Jvm.MethodName)) ∈ lw_all := lw_g (lw_at lw_m1 209 rfl) rfl
theorem q228 : (Jvm.Cond.selects "StageWalker" ({ cls := "StageWalker", name := "entry", desc := "()Z" } : Jvm.MethodName) ({ cls := "StageWalker", name := "entry", desc := "()Z" } : Jvm.MethodName)) ∈ lw_all := lw_g (lw_at lw_m1 210 rfl) rfl
theorem q229 : (Jvm.Cond.code ({ cls := "StageWalker", name := "entry", desc := "()Z" } : Jvm.MethodName) prog_1_method_13_code (1 : Nat) (Option.some Jvm.ClassFile.FieldType.boolean)) ∈ lw_all := lw_g (lw_at lw_m1 211 rfl) rfl
theorem q231 : (Jvm.Cond.instanceMethod ({ cls := "StageWalker", name := "pages", desc := "(IIII)I" } : Jvm.MethodName)) ∈ lw_all := lw_g (lw_at lw_m1 213 rfl) rfl
theorem q232 : (Jvm.Cond.selects "StageWalker" ({ cls := "StageWalker", name := "pages", desc := "(IIII)I" } : Jvm.MethodName) ({ cls := "StageWalker", name := "pages", desc := "(IIII)I" } : Jvm.MethodName)) ∈ lw_all := lw_g (lw_at lw_m1 214 rfl) rfl
theorem q233 : (Jvm.Cond.code ({ cls := "StageWalker", name := "pages", desc := "(IIII)I" } : Jvm.MethodName) prog_1_method_14_code (9 : Nat) (Option.some Jvm.ClassFile.FieldType.int)) ∈ lw_all := lw_g (lw_at lw_m1 215 rfl) rfl
theorem q234 : (Jvm.Cond.constantLong "StageWalker" (98 : Nat) (4294967295 : Int64)) ∈ lw_all := lw_g (lw_at lw_m1 216 rfl) rfl
theorem q235 : (Jvm.Cond.constantLong "StageWalker" (100 : Nat) (4096 : Int64)) ∈ lw_all := lw_g (lw_at lw_m1 217 rfl) rfl
theorem in_X0 : ∀ w ∈ wsX00, w ∈ lw_all := lw_in wsX00 [106, 108, 110, 112, 114, 116] (by decide +kernel) (by decide +kernel)
end
section
/-! StageWalker$Walker -/
set_option maxRecDepth 100000
def RX1 : String := "StageWalker$Walker"
def TX1 : u_T := fun k => match k with
  | 0 => ("StageWalker$Walker", "memory", "[I", true)
  | 1 => ("StageWalker$Walker", "virtual", "Z", false)
  | 2 => ("StageWalker$Walker", "user", "Z", false)
  | 3 => ("StageWalker$Walker", "execution", "Z", false)
  | 4 => ("StageWalker$Walker", "atp", "I", false)
  | 5 => ("StageWalker$Walker", "vsAtp", "I", false)
  | 6 => ("StageWalker$Walker", "hgatp", "I", false)
  | 7 => ("StageWalker$Walker", "sum", "Z", false)
  | 8 => ("StageWalker$Walker", "mxr", "Z", false)
  | 9 => ("StageWalker$Walker", "vsSum", "Z", false)
  | 10 => ("StageWalker$Walker", "vsMxr", "Z", false)
  | 11 => ("StageWalker$Walker", "place", "J", false)
  | 12 => ("StageWalker$Walker", "second", "J", false)
  | 13 => ("StageWalker$Walker", "entry", "Z", false)
  | 14 => ("StageWalker$Walker", "tables", "J", false)
  | _ => ("StageWalker$Walker", "read", "I", false)
def tyX1 : Nat → FieldType := fun k => match k with
  | 0 => .array .int
  | 1 => .boolean
  | 2 => .boolean
  | 3 => .boolean
  | 4 => .int
  | 5 => .int
  | 6 => .int
  | 7 => .boolean
  | 8 => .boolean
  | 9 => .boolean
  | 10 => .boolean
  | 11 => .long
  | 12 => .long
  | 13 => .boolean
  | 14 => .long
  | _ => .int
abbrev wsX10 : List Cond := u_ws RX1 TX1 16
set_option maxRecDepth 100000 in
theorem nmX1 : ∀ a, a < 16 → ∀ b, b < 16 → a ≠ b → (TX1 a).2.1 ≠ (TX1 b).2.1 := by decide +kernel
set_option maxRecDepth 100000 in
theorem tyX1_ok : ∀ k, k < 16 → parseFieldDescriptor (TX1 k).2.2.1 = some (tyX1 k) := by decide +kernel
abbrev cX1_init : ByteArray := prog_2_method_1_code
def yX1_init : MethodName := ⟨RX1, "<init>", "([I)V"⟩
theorem dX1_init_0 : decode cX1_init 0 = .ok (.aload_n 0, 1) := by decide +kernel
theorem dX1_init_1 : decode cX1_init 1 = .ok (.invokespecial 1, 3) := by decide +kernel
theorem dX1_init_4 : decode cX1_init 4 = .ok (.aload_n 0, 1) := by decide +kernel
theorem dX1_init_5 : decode cX1_init 5 = .ok (.aload_n 1, 1) := by decide +kernel
theorem dX1_init_6 : decode cX1_init 6 = .ok (.putfield 7, 3) := by decide +kernel
theorem dX1_init_9 : decode cX1_init 9 = .ok (.return_, 1) := by decide +kernel
abbrev cX1_translate : ByteArray := prog_2_method_3_code
def yX1_translate : MethodName := ⟨RX1, "translate", "(II)I"⟩
theorem dX1_translate_0 : decode cX1_translate 0 = .ok (.iload_n 1, 1) := by decide +kernel
theorem dX1_translate_1 : decode cX1_translate 1 = .ok (.i2l, 1) := by decide +kernel
theorem dX1_translate_2 : decode cX1_translate 2 = .ok (.ldc2_w 15, 3) := by decide +kernel
theorem dX1_translate_5 : decode cX1_translate 5 = .ok (.land, 1) := by decide +kernel
theorem dX1_translate_6 : decode cX1_translate 6 = .ok (.lstore_n 3, 1) := by decide +kernel
theorem dX1_translate_7 : decode cX1_translate 7 = .ok (.aload_n 0, 1) := by decide +kernel
theorem dX1_translate_8 : decode cX1_translate 8 = .ok (.lconst 0, 1) := by decide +kernel
theorem dX1_translate_9 : decode cX1_translate 9 = .ok (.putfield 17, 3) := by decide +kernel
theorem dX1_translate_12 : decode cX1_translate 12 = .ok (.aload_n 0, 1) := by decide +kernel
theorem dX1_translate_13 : decode cX1_translate 13 = .ok (.iconst 0, 1) := by decide +kernel
theorem dX1_translate_14 : decode cX1_translate 14 = .ok (.putfield 21, 3) := by decide +kernel
theorem dX1_translate_17 : decode cX1_translate 17 = .ok (.aload_n 0, 1) := by decide +kernel
theorem dX1_translate_18 : decode cX1_translate 18 = .ok (.getfield 25, 3) := by decide +kernel
theorem dX1_translate_21 : decode cX1_translate 21 = .ok (.ifCond .eq 10, 3) := by decide +kernel
theorem dX1_translate_24 : decode cX1_translate 24 = .ok (.aload_n 0, 1) := by decide +kernel
theorem dX1_translate_25 : decode cX1_translate 25 = .ok (.getfield 28, 3) := by decide +kernel
theorem dX1_translate_28 : decode cX1_translate 28 = .ok (.goto 7, 3) := by decide +kernel
theorem dX1_translate_31 : decode cX1_translate 31 = .ok (.aload_n 0, 1) := by decide +kernel
theorem dX1_translate_32 : decode cX1_translate 32 = .ok (.getfield 32, 3) := by decide +kernel
theorem dX1_translate_35 : decode cX1_translate 35 = .ok (.istore 5, 2) := by decide +kernel
theorem dX1_translate_37 : decode cX1_translate 37 = .ok (.iconst 0, 1) := by decide +kernel
theorem dX1_translate_38 : decode cX1_translate 38 = .ok (.istore 6, 2) := by decide +kernel
theorem dX1_translate_40 : decode cX1_translate 40 = .ok (.aload_n 0, 1) := by decide +kernel
theorem dX1_translate_41 : decode cX1_translate 41 = .ok (.lload_n 3, 1) := by decide +kernel
theorem dX1_translate_42 : decode cX1_translate 42 = .ok (.putfield 35, 3) := by decide +kernel
theorem dX1_translate_45 : decode cX1_translate 45 = .ok (.iload 5, 2) := by decide +kernel
theorem dX1_translate_47 : decode cX1_translate 47 = .ok (.ifCond .ge 33, 3) := by decide +kernel
theorem dX1_translate_50 : decode cX1_translate 50 = .ok (.aload_n 0, 1) := by decide +kernel
theorem dX1_translate_51 : decode cX1_translate 51 = .ok (.iload 5, 2) := by decide +kernel
theorem dX1_translate_53 : decode cX1_translate 53 = .ok (.ldc 38, 2) := by decide +kernel
theorem dX1_translate_55 : decode cX1_translate 55 = .ok (.iand, 1) := by decide +kernel
theorem dX1_translate_56 : decode cX1_translate 56 = .ok (.i2l, 1) := by decide +kernel
theorem dX1_translate_57 : decode cX1_translate 57 = .ok (.ldc2_w 39, 3) := by decide +kernel
theorem dX1_translate_60 : decode cX1_translate 60 = .ok (.lmul, 1) := by decide +kernel
theorem dX1_translate_61 : decode cX1_translate 61 = .ok (.lload_n 3, 1) := by decide +kernel
theorem dX1_translate_62 : decode cX1_translate 62 = .ok (.iload_n 2, 1) := by decide +kernel
theorem dX1_translate_63 : decode cX1_translate 63 = .ok (.aload_n 0, 1) := by decide +kernel
theorem dX1_translate_64 : decode cX1_translate 64 = .ok (.getfield 25, 3) := by decide +kernel
theorem dX1_translate_67 : decode cX1_translate 67 = .ok (.ifCond .ne 7, 3) := by decide +kernel
theorem dX1_translate_70 : decode cX1_translate 70 = .ok (.iconst 1, 1) := by decide +kernel
theorem dX1_translate_71 : decode cX1_translate 71 = .ok (.goto 4, 3) := by decide +kernel
theorem dX1_translate_74 : decode cX1_translate 74 = .ok (.iconst 0, 1) := by decide +kernel
theorem dX1_translate_75 : decode cX1_translate 75 = .ok (.invokevirtual 41, 3) := by decide +kernel
theorem dX1_translate_78 : decode cX1_translate 78 = .ok (.istore 6, 2) := by decide +kernel
theorem dX1_translate_80 : decode cX1_translate 80 = .ok (.iload 6, 2) := by decide +kernel
theorem dX1_translate_82 : decode cX1_translate 82 = .ok (.ifCond .ne 30, 3) := by decide +kernel
theorem dX1_translate_85 : decode cX1_translate 85 = .ok (.aload_n 0, 1) := by decide +kernel
theorem dX1_translate_86 : decode cX1_translate 86 = .ok (.getfield 25, 3) := by decide +kernel
theorem dX1_translate_89 : decode cX1_translate 89 = .ok (.ifCond .eq 23, 3) := by decide +kernel
theorem dX1_translate_92 : decode cX1_translate 92 = .ok (.aload_n 0, 1) := by decide +kernel
theorem dX1_translate_93 : decode cX1_translate 93 = .ok (.aload_n 0, 1) := by decide +kernel
theorem dX1_translate_94 : decode cX1_translate 94 = .ok (.getfield 35, 3) := by decide +kernel
theorem dX1_translate_97 : decode cX1_translate 97 = .ok (.iload_n 2, 1) := by decide +kernel
theorem dX1_translate_98 : decode cX1_translate 98 = .ok (.aload_n 0, 1) := by decide +kernel
theorem dX1_translate_99 : decode cX1_translate 99 = .ok (.getfield 45, 3) := by decide +kernel
theorem dX1_translate_102 : decode cX1_translate 102 = .ok (.aload_n 0, 1) := by decide +kernel
theorem dX1_translate_103 : decode cX1_translate 103 = .ok (.getfield 48, 3) := by decide +kernel
theorem dX1_translate_106 : decode cX1_translate 106 = .ok (.iload_n 2, 1) := by decide +kernel
theorem dX1_translate_107 : decode cX1_translate 107 = .ok (.invokevirtual 51, 3) := by decide +kernel
theorem dX1_translate_110 : decode cX1_translate 110 = .ok (.istore 6, 2) := by decide +kernel
theorem dX1_translate_112 : decode cX1_translate 112 = .ok (.iload 6, 2) := by decide +kernel
theorem dX1_translate_114 : decode cX1_translate 114 = .ok (.ifCond .eq 8, 3) := by decide +kernel
theorem dX1_translate_117 : decode cX1_translate 117 = .ok (.iload 6, 2) := by decide +kernel
theorem dX1_translate_119 : decode cX1_translate 119 = .ok (.goto 23, 3) := by decide +kernel
theorem dX1_translate_122 : decode cX1_translate 122 = .ok (.aload_n 0, 1) := by decide +kernel
theorem dX1_translate_123 : decode cX1_translate 123 = .ok (.aload_n 0, 1) := by decide +kernel
theorem dX1_translate_124 : decode cX1_translate 124 = .ok (.getfield 35, 3) := by decide +kernel
theorem dX1_translate_127 : decode cX1_translate 127 = .ok (.invokevirtual 55, 3) := by decide +kernel
theorem dX1_translate_130 : decode cX1_translate 130 = .ok (.ifCond .eq 7, 3) := by decide +kernel
theorem dX1_translate_133 : decode cX1_translate 133 = .ok (.iconst 0, 1) := by decide +kernel
theorem dX1_translate_134 : decode cX1_translate 134 = .ok (.goto 8, 3) := by decide +kernel
theorem dX1_translate_137 : decode cX1_translate 137 = .ok (.getstatic 59, 3) := by decide +kernel
theorem dX1_translate_140 : decode cX1_translate 140 = .ok (.iload_n 2, 1) := by decide +kernel
theorem dX1_translate_141 : decode cX1_translate 141 = .ok (.baload, 1) := by decide +kernel
theorem dX1_translate_142 : decode cX1_translate 142 = .ok (.ireturn, 1) := by decide +kernel
abbrev cX1_walk : ByteArray := prog_2_method_4_code
def yX1_walk : MethodName := ⟨RX1, "walk", "(JJIZ)I"⟩
theorem dX1_walk_0 : decode cX1_walk 0 = .ok (.aload_n 0, 1) := by decide +kernel
theorem dX1_walk_1 : decode cX1_walk 1 = .ok (.getfield 48, 3) := by decide +kernel
theorem dX1_walk_4 : decode cX1_walk 4 = .ok (.ifCond .ne 17, 3) := by decide +kernel
theorem dX1_walk_7 : decode cX1_walk 7 = .ok (.aload_n 0, 1) := by decide +kernel
theorem dX1_walk_8 : decode cX1_walk 8 = .ok (.getfield 25, 3) := by decide +kernel
theorem dX1_walk_11 : decode cX1_walk 11 = .ok (.ifCond .eq 14, 3) := by decide +kernel
theorem dX1_walk_14 : decode cX1_walk 14 = .ok (.aload_n 0, 1) := by decide +kernel
theorem dX1_walk_15 : decode cX1_walk 15 = .ok (.getfield 63, 3) := by decide +kernel
theorem dX1_walk_18 : decode cX1_walk 18 = .ok (.ifCond .eq 7, 3) := by decide +kernel
theorem dX1_walk_21 : decode cX1_walk 21 = .ok (.iconst 1, 1) := by decide +kernel
theorem dX1_walk_22 : decode cX1_walk 22 = .ok (.goto 4, 3) := by decide +kernel
theorem dX1_walk_25 : decode cX1_walk 25 = .ok (.iconst 0, 1) := by decide +kernel
theorem dX1_walk_26 : decode cX1_walk 26 = .ok (.istore 7, 2) := by decide +kernel
theorem dX1_walk_28 : decode cX1_walk 28 = .ok (.aload_n 0, 1) := by decide +kernel
theorem dX1_walk_29 : decode cX1_walk 29 = .ok (.lload_n 1, 1) := by decide +kernel
theorem dX1_walk_30 : decode cX1_walk 30 = .ok (.ldc2_w 13, 3) := by decide +kernel
theorem dX1_walk_33 : decode cX1_walk 33 = .ok (.lload_n 3, 1) := by decide +kernel
theorem dX1_walk_34 : decode cX1_walk 34 = .ok (.bipush 22, 2) := by decide +kernel
theorem dX1_walk_36 : decode cX1_walk 36 = .ok (.lshr, 1) := by decide +kernel
theorem dX1_walk_37 : decode cX1_walk 37 = .ok (.ldc2_w 66, 3) := by decide +kernel
theorem dX1_walk_40 : decode cX1_walk 40 = .ok (.land, 1) := by decide +kernel
theorem dX1_walk_41 : decode cX1_walk 41 = .ok (.lmul, 1) := by decide +kernel
theorem dX1_walk_42 : decode cX1_walk 42 = .ok (.ladd, 1) := by decide +kernel
theorem dX1_walk_43 : decode cX1_walk 43 = .ok (.iload 5, 2) := by decide +kernel
theorem dX1_walk_45 : decode cX1_walk 45 = .ok (.iload 6, 2) := by decide +kernel
theorem dX1_walk_47 : decode cX1_walk 47 = .ok (.invokevirtual 68, 3) := by decide +kernel
theorem dX1_walk_50 : decode cX1_walk 50 = .ok (.istore 8, 2) := by decide +kernel
theorem dX1_walk_52 : decode cX1_walk 52 = .ok (.iload 8, 2) := by decide +kernel
theorem dX1_walk_54 : decode cX1_walk 54 = .ok (.ifCond .eq 6, 3) := by decide +kernel
theorem dX1_walk_57 : decode cX1_walk 57 = .ok (.iload 8, 2) := by decide +kernel
theorem dX1_walk_59 : decode cX1_walk 59 = .ok (.ireturn, 1) := by decide +kernel
theorem dX1_walk_60 : decode cX1_walk 60 = .ok (.aload_n 0, 1) := by decide +kernel
theorem dX1_walk_61 : decode cX1_walk 61 = .ok (.getfield 72, 3) := by decide +kernel
theorem dX1_walk_64 : decode cX1_walk 64 = .ok (.istore 9, 2) := by decide +kernel
theorem dX1_walk_66 : decode cX1_walk 66 = .ok (.iload 9, 2) := by decide +kernel
theorem dX1_walk_68 : decode cX1_walk 68 = .ok (.invokestatic 74, 3) := by decide +kernel
theorem dX1_walk_71 : decode cX1_walk 71 = .ok (.ifCond .eq 102, 3) := by decide +kernel
theorem dX1_walk_74 : decode cX1_walk 74 = .ok (.aload_n 0, 1) := by decide +kernel
theorem dX1_walk_75 : decode cX1_walk 75 = .ok (.iload 9, 2) := by decide +kernel
theorem dX1_walk_77 : decode cX1_walk 77 = .ok (.invokestatic 78, 3) := by decide +kernel
theorem dX1_walk_80 : decode cX1_walk 80 = .ok (.ldc2_w 13, 3) := by decide +kernel
theorem dX1_walk_83 : decode cX1_walk 83 = .ok (.lload_n 3, 1) := by decide +kernel
theorem dX1_walk_84 : decode cX1_walk 84 = .ok (.bipush 12, 2) := by decide +kernel
theorem dX1_walk_86 : decode cX1_walk 86 = .ok (.lshr, 1) := by decide +kernel
theorem dX1_walk_87 : decode cX1_walk 87 = .ok (.ldc2_w 66, 3) := by decide +kernel
theorem dX1_walk_90 : decode cX1_walk 90 = .ok (.land, 1) := by decide +kernel
theorem dX1_walk_91 : decode cX1_walk 91 = .ok (.lmul, 1) := by decide +kernel
theorem dX1_walk_92 : decode cX1_walk 92 = .ok (.ladd, 1) := by decide +kernel
theorem dX1_walk_93 : decode cX1_walk 93 = .ok (.iload 5, 2) := by decide +kernel
theorem dX1_walk_95 : decode cX1_walk 95 = .ok (.iload 6, 2) := by decide +kernel
theorem dX1_walk_97 : decode cX1_walk 97 = .ok (.invokevirtual 68, 3) := by decide +kernel
theorem dX1_walk_100 : decode cX1_walk 100 = .ok (.istore 8, 2) := by decide +kernel
theorem dX1_walk_102 : decode cX1_walk 102 = .ok (.iload 8, 2) := by decide +kernel
theorem dX1_walk_104 : decode cX1_walk 104 = .ok (.ifCond .eq 6, 3) := by decide +kernel
theorem dX1_walk_107 : decode cX1_walk 107 = .ok (.iload 8, 2) := by decide +kernel
theorem dX1_walk_109 : decode cX1_walk 109 = .ok (.ireturn, 1) := by decide +kernel
theorem dX1_walk_110 : decode cX1_walk 110 = .ok (.aload_n 0, 1) := by decide +kernel
theorem dX1_walk_111 : decode cX1_walk 111 = .ok (.getfield 72, 3) := by decide +kernel
theorem dX1_walk_114 : decode cX1_walk 114 = .ok (.istore 9, 2) := by decide +kernel
theorem dX1_walk_116 : decode cX1_walk 116 = .ok (.iload 9, 2) := by decide +kernel
theorem dX1_walk_118 : decode cX1_walk 118 = .ok (.invokestatic 82, 3) := by decide +kernel
theorem dX1_walk_121 : decode cX1_walk 121 = .ok (.ifCond .eq 45, 3) := by decide +kernel
theorem dX1_walk_124 : decode cX1_walk 124 = .ok (.iload 9, 2) := by decide +kernel
theorem dX1_walk_126 : decode cX1_walk 126 = .ok (.iload 5, 2) := by decide +kernel
theorem dX1_walk_128 : decode cX1_walk 128 = .ok (.aload_n 0, 1) := by decide +kernel
theorem dX1_walk_129 : decode cX1_walk 129 = .ok (.getfield 45, 3) := by decide +kernel
theorem dX1_walk_132 : decode cX1_walk 132 = .ok (.iload 7, 2) := by decide +kernel
theorem dX1_walk_134 : decode cX1_walk 134 = .ok (.invokestatic 85, 3) := by decide +kernel
theorem dX1_walk_137 : decode cX1_walk 137 = .ok (.ifCond .eq 29, 3) := by decide +kernel
theorem dX1_walk_140 : decode cX1_walk 140 = .ok (.aload_n 0, 1) := by decide +kernel
theorem dX1_walk_141 : decode cX1_walk 141 = .ok (.iload 9, 2) := by decide +kernel
theorem dX1_walk_143 : decode cX1_walk 143 = .ok (.iload 5, 2) := by decide +kernel
theorem dX1_walk_145 : decode cX1_walk 145 = .ok (.invokevirtual 89, 3) := by decide +kernel
theorem dX1_walk_148 : decode cX1_walk 148 = .ok (.ifCond .eq 18, 3) := by decide +kernel
theorem dX1_walk_151 : decode cX1_walk 151 = .ok (.aload_n 0, 1) := by decide +kernel
theorem dX1_walk_152 : decode cX1_walk 152 = .ok (.iload 9, 2) := by decide +kernel
theorem dX1_walk_154 : decode cX1_walk 154 = .ok (.invokestatic 78, 3) := by decide +kernel
theorem dX1_walk_157 : decode cX1_walk 157 = .ok (.lload_n 3, 1) := by decide +kernel
theorem dX1_walk_158 : decode cX1_walk 158 = .ok (.bipush 12, 2) := by decide +kernel
theorem dX1_walk_160 : decode cX1_walk 160 = .ok (.invokevirtual 93, 3) := by decide +kernel
theorem dX1_walk_163 : decode cX1_walk 163 = .ok (.goto 9, 3) := by decide +kernel
theorem dX1_walk_166 : decode cX1_walk 166 = .ok (.getstatic 97, 3) := by decide +kernel
theorem dX1_walk_169 : decode cX1_walk 169 = .ok (.iload 5, 2) := by decide +kernel
theorem dX1_walk_171 : decode cX1_walk 171 = .ok (.baload, 1) := by decide +kernel
theorem dX1_walk_172 : decode cX1_walk 172 = .ok (.ireturn, 1) := by decide +kernel
theorem dX1_walk_173 : decode cX1_walk 173 = .ok (.iload 9, 2) := by decide +kernel
theorem dX1_walk_175 : decode cX1_walk 175 = .ok (.invokestatic 82, 3) := by decide +kernel
theorem dX1_walk_178 : decode cX1_walk 178 = .ok (.ifCond .eq 42, 3) := by decide +kernel
theorem dX1_walk_181 : decode cX1_walk 181 = .ok (.iload 9, 2) := by decide +kernel
theorem dX1_walk_183 : decode cX1_walk 183 = .ok (.ldc 100, 2) := by decide +kernel
theorem dX1_walk_185 : decode cX1_walk 185 = .ok (.iand, 1) := by decide +kernel
theorem dX1_walk_186 : decode cX1_walk 186 = .ok (.ifCond .ne 34, 3) := by decide +kernel
theorem dX1_walk_189 : decode cX1_walk 189 = .ok (.iload 9, 2) := by decide +kernel
theorem dX1_walk_191 : decode cX1_walk 191 = .ok (.iload 5, 2) := by decide +kernel
theorem dX1_walk_193 : decode cX1_walk 193 = .ok (.aload_n 0, 1) := by decide +kernel
theorem dX1_walk_194 : decode cX1_walk 194 = .ok (.getfield 45, 3) := by decide +kernel
theorem dX1_walk_197 : decode cX1_walk 197 = .ok (.iload 7, 2) := by decide +kernel
theorem dX1_walk_199 : decode cX1_walk 199 = .ok (.invokestatic 85, 3) := by decide +kernel
theorem dX1_walk_202 : decode cX1_walk 202 = .ok (.ifCond .eq 18, 3) := by decide +kernel
theorem dX1_walk_205 : decode cX1_walk 205 = .ok (.aload_n 0, 1) := by decide +kernel
theorem dX1_walk_206 : decode cX1_walk 206 = .ok (.iload 9, 2) := by decide +kernel
theorem dX1_walk_208 : decode cX1_walk 208 = .ok (.iload 5, 2) := by decide +kernel
theorem dX1_walk_210 : decode cX1_walk 210 = .ok (.invokevirtual 89, 3) := by decide +kernel
theorem dX1_walk_213 : decode cX1_walk 213 = .ok (.ifCond .eq 7, 3) := by decide +kernel
theorem dX1_walk_216 : decode cX1_walk 216 = .ok (.iconst 1, 1) := by decide +kernel
theorem dX1_walk_217 : decode cX1_walk 217 = .ok (.goto 4, 3) := by decide +kernel
theorem dX1_walk_220 : decode cX1_walk 220 = .ok (.iconst 0, 1) := by decide +kernel
theorem dX1_walk_221 : decode cX1_walk 221 = .ok (.istore 10, 2) := by decide +kernel
theorem dX1_walk_223 : decode cX1_walk 223 = .ok (.iload 10, 2) := by decide +kernel
theorem dX1_walk_225 : decode cX1_walk 225 = .ok (.ifCond .eq 18, 3) := by decide +kernel
theorem dX1_walk_228 : decode cX1_walk 228 = .ok (.aload_n 0, 1) := by decide +kernel
theorem dX1_walk_229 : decode cX1_walk 229 = .ok (.iload 9, 2) := by decide +kernel
theorem dX1_walk_231 : decode cX1_walk 231 = .ok (.invokestatic 78, 3) := by decide +kernel
theorem dX1_walk_234 : decode cX1_walk 234 = .ok (.lload_n 3, 1) := by decide +kernel
theorem dX1_walk_235 : decode cX1_walk 235 = .ok (.bipush 22, 2) := by decide +kernel
theorem dX1_walk_237 : decode cX1_walk 237 = .ok (.invokevirtual 93, 3) := by decide +kernel
theorem dX1_walk_240 : decode cX1_walk 240 = .ok (.goto 9, 3) := by decide +kernel
theorem dX1_walk_243 : decode cX1_walk 243 = .ok (.getstatic 97, 3) := by decide +kernel
theorem dX1_walk_246 : decode cX1_walk 246 = .ok (.iload 5, 2) := by decide +kernel
theorem dX1_walk_248 : decode cX1_walk 248 = .ok (.baload, 1) := by decide +kernel
theorem dX1_walk_249 : decode cX1_walk 249 = .ok (.ireturn, 1) := by decide +kernel
abbrev cX1_read : ByteArray := prog_2_method_5_code
def yX1_read : MethodName := ⟨RX1, "read", "(JIZ)I"⟩
theorem dX1_read_0 : decode cX1_read 0 = .ok (.lload_n 1, 1) := by decide +kernel
theorem dX1_read_1 : decode cX1_read 1 = .ok (.lstore 5, 2) := by decide +kernel
theorem dX1_read_3 : decode cX1_read 3 = .ok (.iload 4, 2) := by decide +kernel
theorem dX1_read_5 : decode cX1_read 5 = .ok (.ifCond .ne 47, 3) := by decide +kernel
theorem dX1_read_8 : decode cX1_read 8 = .ok (.aload_n 0, 1) := by decide +kernel
theorem dX1_read_9 : decode cX1_read 9 = .ok (.lload_n 1, 1) := by decide +kernel
theorem dX1_read_10 : decode cX1_read 10 = .ok (.iconst 1, 1) := by decide +kernel
theorem dX1_read_11 : decode cX1_read 11 = .ok (.iconst 0, 1) := by decide +kernel
theorem dX1_read_12 : decode cX1_read 12 = .ok (.iconst 0, 1) := by decide +kernel
theorem dX1_read_13 : decode cX1_read 13 = .ok (.iload_n 3, 1) := by decide +kernel
theorem dX1_read_14 : decode cX1_read 14 = .ok (.invokevirtual 51, 3) := by decide +kernel
theorem dX1_read_17 : decode cX1_read 17 = .ok (.istore 7, 2) := by decide +kernel
theorem dX1_read_19 : decode cX1_read 19 = .ok (.iload 7, 2) := by decide +kernel
theorem dX1_read_21 : decode cX1_read 21 = .ok (.ifCond .eq 25, 3) := by decide +kernel
theorem dX1_read_24 : decode cX1_read 24 = .ok (.aload_n 0, 1) := by decide +kernel
theorem dX1_read_25 : decode cX1_read 25 = .ok (.iload 7, 2) := by decide +kernel
theorem dX1_read_27 : decode cX1_read 27 = .ok (.getstatic 101, 3) := by decide +kernel
theorem dX1_read_30 : decode cX1_read 30 = .ok (.iload_n 3, 1) := by decide +kernel
theorem dX1_read_31 : decode cX1_read 31 = .ok (.baload, 1) := by decide +kernel
theorem dX1_read_32 : decode cX1_read 32 = .ok (.if_icmp .ne 7, 3) := by decide +kernel
theorem dX1_read_35 : decode cX1_read 35 = .ok (.iconst 1, 1) := by decide +kernel
theorem dX1_read_36 : decode cX1_read 36 = .ok (.goto 4, 3) := by decide +kernel
theorem dX1_read_39 : decode cX1_read 39 = .ok (.iconst 0, 1) := by decide +kernel
theorem dX1_read_40 : decode cX1_read 40 = .ok (.putfield 21, 3) := by decide +kernel
theorem dX1_read_43 : decode cX1_read 43 = .ok (.iload 7, 2) := by decide +kernel
theorem dX1_read_45 : decode cX1_read 45 = .ok (.ireturn, 1) := by decide +kernel
theorem dX1_read_46 : decode cX1_read 46 = .ok (.aload_n 0, 1) := by decide +kernel
theorem dX1_read_47 : decode cX1_read 47 = .ok (.getfield 35, 3) := by decide +kernel
theorem dX1_read_50 : decode cX1_read 50 = .ok (.lstore 5, 2) := by decide +kernel
theorem dX1_read_52 : decode cX1_read 52 = .ok (.aload_n 0, 1) := by decide +kernel
theorem dX1_read_53 : decode cX1_read 53 = .ok (.lload 5, 2) := by decide +kernel
theorem dX1_read_55 : decode cX1_read 55 = .ok (.invokevirtual 104, 3) := by decide +kernel
theorem dX1_read_58 : decode cX1_read 58 = .ok (.ifCond .eq 7, 3) := by decide +kernel
theorem dX1_read_61 : decode cX1_read 61 = .ok (.iconst 0, 1) := by decide +kernel
theorem dX1_read_62 : decode cX1_read 62 = .ok (.goto 8, 3) := by decide +kernel
theorem dX1_read_65 : decode cX1_read 65 = .ok (.getstatic 59, 3) := by decide +kernel
theorem dX1_read_68 : decode cX1_read 68 = .ok (.iload_n 3, 1) := by decide +kernel
theorem dX1_read_69 : decode cX1_read 69 = .ok (.baload, 1) := by decide +kernel
theorem dX1_read_70 : decode cX1_read 70 = .ok (.ireturn, 1) := by decide +kernel
abbrev cX1_onward : ByteArray := prog_2_method_7_code
def yX1_onward : MethodName := ⟨RX1, "onward", "(JIZZI)I"⟩
theorem dX1_onward_0 : decode cX1_onward 0 = .ok (.aload_n 0, 1) := by decide +kernel
theorem dX1_onward_1 : decode cX1_onward 1 = .ok (.lload_n 1, 1) := by decide +kernel
theorem dX1_onward_2 : decode cX1_onward 2 = .ok (.putfield 35, 3) := by decide +kernel
theorem dX1_onward_5 : decode cX1_onward 5 = .ok (.aload_n 0, 1) := by decide +kernel
theorem dX1_onward_6 : decode cX1_onward 6 = .ok (.getfield 110, 3) := by decide +kernel
theorem dX1_onward_9 : decode cX1_onward 9 = .ok (.ifCond .lt 5, 3) := by decide +kernel
theorem dX1_onward_12 : decode cX1_onward 12 = .ok (.iconst 0, 1) := by decide +kernel
theorem dX1_onward_13 : decode cX1_onward 13 = .ok (.ireturn, 1) := by decide +kernel
theorem dX1_onward_14 : decode cX1_onward 14 = .ok (.aload_n 0, 1) := by decide +kernel
theorem dX1_onward_15 : decode cX1_onward 15 = .ok (.getfield 110, 3) := by decide +kernel
theorem dX1_onward_18 : decode cX1_onward 18 = .ok (.ldc 113, 2) := by decide +kernel
theorem dX1_onward_20 : decode cX1_onward 20 = .ok (.iand, 1) := by decide +kernel
theorem dX1_onward_21 : decode cX1_onward 21 = .ok (.i2l, 1) := by decide +kernel
theorem dX1_onward_22 : decode cX1_onward 22 = .ok (.ldc2_w 39, 3) := by decide +kernel
theorem dX1_onward_25 : decode cX1_onward 25 = .ok (.lmul, 1) := by decide +kernel
theorem dX1_onward_26 : decode cX1_onward 26 = .ok (.lstore 7, 2) := by decide +kernel
theorem dX1_onward_28 : decode cX1_onward 28 = .ok (.aload_n 0, 1) := by decide +kernel
theorem dX1_onward_29 : decode cX1_onward 29 = .ok (.lload 7, 2) := by decide +kernel
theorem dX1_onward_31 : decode cX1_onward 31 = .ok (.ldc2_w 13, 3) := by decide +kernel
theorem dX1_onward_34 : decode cX1_onward 34 = .ok (.lload_n 1, 1) := by decide +kernel
theorem dX1_onward_35 : decode cX1_onward 35 = .ok (.bipush 22, 2) := by decide +kernel
theorem dX1_onward_37 : decode cX1_onward 37 = .ok (.lshr, 1) := by decide +kernel
theorem dX1_onward_38 : decode cX1_onward 38 = .ok (.ldc2_w 114, 3) := by decide +kernel
theorem dX1_onward_41 : decode cX1_onward 41 = .ok (.land, 1) := by decide +kernel
theorem dX1_onward_42 : decode cX1_onward 42 = .ok (.lmul, 1) := by decide +kernel
theorem dX1_onward_43 : decode cX1_onward 43 = .ok (.ladd, 1) := by decide +kernel
theorem dX1_onward_44 : decode cX1_onward 44 = .ok (.invokevirtual 104, 3) := by decide +kernel
theorem dX1_onward_47 : decode cX1_onward 47 = .ok (.ifCond .ne 10, 3) := by decide +kernel
theorem dX1_onward_50 : decode cX1_onward 50 = .ok (.getstatic 59, 3) := by decide +kernel
theorem dX1_onward_53 : decode cX1_onward 53 = .ok (.iload 6, 2) := by decide +kernel
theorem dX1_onward_55 : decode cX1_onward 55 = .ok (.baload, 1) := by decide +kernel
theorem dX1_onward_56 : decode cX1_onward 56 = .ok (.ireturn, 1) := by decide +kernel
theorem dX1_onward_57 : decode cX1_onward 57 = .ok (.aload_n 0, 1) := by decide +kernel
theorem dX1_onward_58 : decode cX1_onward 58 = .ok (.getfield 72, 3) := by decide +kernel
theorem dX1_onward_61 : decode cX1_onward 61 = .ok (.istore 9, 2) := by decide +kernel
theorem dX1_onward_63 : decode cX1_onward 63 = .ok (.bipush 22, 2) := by decide +kernel
theorem dX1_onward_65 : decode cX1_onward 65 = .ok (.istore 10, 2) := by decide +kernel
theorem dX1_onward_67 : decode cX1_onward 67 = .ok (.iload 9, 2) := by decide +kernel
theorem dX1_onward_69 : decode cX1_onward 69 = .ok (.ldc 100, 2) := by decide +kernel
theorem dX1_onward_71 : decode cX1_onward 71 = .ok (.iand, 1) := by decide +kernel
theorem dX1_onward_72 : decode cX1_onward 72 = .ok (.ifCond .ne 7, 3) := by decide +kernel
theorem dX1_onward_75 : decode cX1_onward 75 = .ok (.iconst 1, 1) := by decide +kernel
theorem dX1_onward_76 : decode cX1_onward 76 = .ok (.goto 4, 3) := by decide +kernel
theorem dX1_onward_79 : decode cX1_onward 79 = .ok (.iconst 0, 1) := by decide +kernel
theorem dX1_onward_80 : decode cX1_onward 80 = .ok (.istore 11, 2) := by decide +kernel
theorem dX1_onward_82 : decode cX1_onward 82 = .ok (.iload 9, 2) := by decide +kernel
theorem dX1_onward_84 : decode cX1_onward 84 = .ok (.invokestatic 74, 3) := by decide +kernel
theorem dX1_onward_87 : decode cX1_onward 87 = .ok (.ifCond .eq 48, 3) := by decide +kernel
theorem dX1_onward_90 : decode cX1_onward 90 = .ok (.aload_n 0, 1) := by decide +kernel
theorem dX1_onward_91 : decode cX1_onward 91 = .ok (.iload 9, 2) := by decide +kernel
theorem dX1_onward_93 : decode cX1_onward 93 = .ok (.invokestatic 78, 3) := by decide +kernel
theorem dX1_onward_96 : decode cX1_onward 96 = .ok (.ldc2_w 13, 3) := by decide +kernel
theorem dX1_onward_99 : decode cX1_onward 99 = .ok (.lload_n 1, 1) := by decide +kernel
theorem dX1_onward_100 : decode cX1_onward 100 = .ok (.bipush 12, 2) := by decide +kernel
theorem dX1_onward_102 : decode cX1_onward 102 = .ok (.lshr, 1) := by decide +kernel
theorem dX1_onward_103 : decode cX1_onward 103 = .ok (.ldc2_w 66, 3) := by decide +kernel
theorem dX1_onward_106 : decode cX1_onward 106 = .ok (.land, 1) := by decide +kernel
theorem dX1_onward_107 : decode cX1_onward 107 = .ok (.lmul, 1) := by decide +kernel
theorem dX1_onward_108 : decode cX1_onward 108 = .ok (.ladd, 1) := by decide +kernel
theorem dX1_onward_109 : decode cX1_onward 109 = .ok (.invokevirtual 104, 3) := by decide +kernel
theorem dX1_onward_112 : decode cX1_onward 112 = .ok (.ifCond .ne 10, 3) := by decide +kernel
theorem dX1_onward_115 : decode cX1_onward 115 = .ok (.getstatic 59, 3) := by decide +kernel
theorem dX1_onward_118 : decode cX1_onward 118 = .ok (.iload 6, 2) := by decide +kernel
theorem dX1_onward_120 : decode cX1_onward 120 = .ok (.baload, 1) := by decide +kernel
theorem dX1_onward_121 : decode cX1_onward 121 = .ok (.ireturn, 1) := by decide +kernel
theorem dX1_onward_122 : decode cX1_onward 122 = .ok (.aload_n 0, 1) := by decide +kernel
theorem dX1_onward_123 : decode cX1_onward 123 = .ok (.getfield 72, 3) := by decide +kernel
theorem dX1_onward_126 : decode cX1_onward 126 = .ok (.istore 9, 2) := by decide +kernel
theorem dX1_onward_128 : decode cX1_onward 128 = .ok (.bipush 12, 2) := by decide +kernel
theorem dX1_onward_130 : decode cX1_onward 130 = .ok (.istore 10, 2) := by decide +kernel
theorem dX1_onward_132 : decode cX1_onward 132 = .ok (.iconst 1, 1) := by decide +kernel
theorem dX1_onward_133 : decode cX1_onward 133 = .ok (.istore 11, 2) := by decide +kernel
theorem dX1_onward_135 : decode cX1_onward 135 = .ok (.iload 11, 2) := by decide +kernel
theorem dX1_onward_137 : decode cX1_onward 137 = .ok (.ifCond .eq 32, 3) := by decide +kernel
theorem dX1_onward_140 : decode cX1_onward 140 = .ok (.iload 9, 2) := by decide +kernel
theorem dX1_onward_142 : decode cX1_onward 142 = .ok (.invokestatic 82, 3) := by decide +kernel
theorem dX1_onward_145 : decode cX1_onward 145 = .ok (.ifCond .eq 24, 3) := by decide +kernel
theorem dX1_onward_148 : decode cX1_onward 148 = .ok (.iload 9, 2) := by decide +kernel
theorem dX1_onward_150 : decode cX1_onward 150 = .ok (.iload_n 3, 1) := by decide +kernel
theorem dX1_onward_151 : decode cX1_onward 151 = .ok (.iload 4, 2) := by decide +kernel
theorem dX1_onward_153 : decode cX1_onward 153 = .ok (.iload 5, 2) := by decide +kernel
theorem dX1_onward_155 : decode cX1_onward 155 = .ok (.invokestatic 85, 3) := by decide +kernel
theorem dX1_onward_158 : decode cX1_onward 158 = .ok (.ifCond .eq 11, 3) := by decide +kernel
theorem dX1_onward_161 : decode cX1_onward 161 = .ok (.iload 9, 2) := by decide +kernel
theorem dX1_onward_163 : decode cX1_onward 163 = .ok (.bipush 16, 2) := by decide +kernel
theorem dX1_onward_165 : decode cX1_onward 165 = .ok (.iand, 1) := by decide +kernel
theorem dX1_onward_166 : decode cX1_onward 166 = .ok (.ifCond .ne 15, 3) := by decide +kernel
theorem dX1_onward_169 : decode cX1_onward 169 = .ok (.aload_n 0, 1) := by decide +kernel
theorem dX1_onward_170 : decode cX1_onward 170 = .ok (.lload_n 1, 1) := by decide +kernel
theorem dX1_onward_171 : decode cX1_onward 171 = .ok (.putfield 17, 3) := by decide +kernel
theorem dX1_onward_174 : decode cX1_onward 174 = .ok (.getstatic 101, 3) := by decide +kernel
theorem dX1_onward_177 : decode cX1_onward 177 = .ok (.iload 6, 2) := by decide +kernel
theorem dX1_onward_179 : decode cX1_onward 179 = .ok (.baload, 1) := by decide +kernel
theorem dX1_onward_180 : decode cX1_onward 180 = .ok (.ireturn, 1) := by decide +kernel
theorem dX1_onward_181 : decode cX1_onward 181 = .ok (.aload_n 0, 1) := by decide +kernel
theorem dX1_onward_182 : decode cX1_onward 182 = .ok (.iload 9, 2) := by decide +kernel
theorem dX1_onward_184 : decode cX1_onward 184 = .ok (.invokestatic 78, 3) := by decide +kernel
theorem dX1_onward_187 : decode cX1_onward 187 = .ok (.lload_n 1, 1) := by decide +kernel
theorem dX1_onward_188 : decode cX1_onward 188 = .ok (.iload 10, 2) := by decide +kernel
theorem dX1_onward_190 : decode cX1_onward 190 = .ok (.invokevirtual 93, 3) := by decide +kernel
theorem dX1_onward_193 : decode cX1_onward 193 = .ok (.ireturn, 1) := by decide +kernel
abbrev cX1_fetch : ByteArray := prog_2_method_6_code
def yX1_fetch : MethodName := ⟨RX1, "fetch", "(J)Z"⟩
theorem dX1_fetch_0 : decode cX1_fetch 0 = .ok (.aload_n 0, 1) := by decide +kernel
theorem dX1_fetch_1 : decode cX1_fetch 1 = .ok (.lload_n 1, 1) := by decide +kernel
theorem dX1_fetch_2 : decode cX1_fetch 2 = .ok (.invokevirtual 55, 3) := by decide +kernel
theorem dX1_fetch_5 : decode cX1_fetch 5 = .ok (.istore_n 3, 1) := by decide +kernel
theorem dX1_fetch_6 : decode cX1_fetch 6 = .ok (.iload_n 3, 1) := by decide +kernel
theorem dX1_fetch_7 : decode cX1_fetch 7 = .ok (.ifCond .eq 33, 3) := by decide +kernel
theorem dX1_fetch_10 : decode cX1_fetch 10 = .ok (.aload_n 0, 1) := by decide +kernel
theorem dX1_fetch_11 : decode cX1_fetch 11 = .ok (.aload_n 0, 1) := by decide +kernel
theorem dX1_fetch_12 : decode cX1_fetch 12 = .ok (.getfield 7, 3) := by decide +kernel
theorem dX1_fetch_15 : decode cX1_fetch 15 = .ok (.lload_n 1, 1) := by decide +kernel
theorem dX1_fetch_16 : decode cX1_fetch 16 = .ok (.iconst 2, 1) := by decide +kernel
theorem dX1_fetch_17 : decode cX1_fetch 17 = .ok (.lshr, 1) := by decide +kernel
theorem dX1_fetch_18 : decode cX1_fetch 18 = .ok (.l2i, 1) := by decide +kernel
theorem dX1_fetch_19 : decode cX1_fetch 19 = .ok (.iaload, 1) := by decide +kernel
theorem dX1_fetch_20 : decode cX1_fetch 20 = .ok (.putfield 72, 3) := by decide +kernel
theorem dX1_fetch_23 : decode cX1_fetch 23 = .ok (.aload_n 0, 1) := by decide +kernel
theorem dX1_fetch_24 : decode cX1_fetch 24 = .ok (.dup, 1) := by decide +kernel
theorem dX1_fetch_25 : decode cX1_fetch 25 = .ok (.getfield 107, 3) := by decide +kernel
theorem dX1_fetch_28 : decode cX1_fetch 28 = .ok (.lconst 1, 1) := by decide +kernel
theorem dX1_fetch_29 : decode cX1_fetch 29 = .ok (.lload_n 1, 1) := by decide +kernel
theorem dX1_fetch_30 : decode cX1_fetch 30 = .ok (.ldc2_w 39, 3) := by decide +kernel
theorem dX1_fetch_33 : decode cX1_fetch 33 = .ok (.ldiv, 1) := by decide +kernel
theorem dX1_fetch_34 : decode cX1_fetch 34 = .ok (.l2i, 1) := by decide +kernel
theorem dX1_fetch_35 : decode cX1_fetch 35 = .ok (.lshl, 1) := by decide +kernel
theorem dX1_fetch_36 : decode cX1_fetch 36 = .ok (.lor, 1) := by decide +kernel
theorem dX1_fetch_37 : decode cX1_fetch 37 = .ok (.putfield 107, 3) := by decide +kernel
theorem dX1_fetch_40 : decode cX1_fetch 40 = .ok (.iload_n 3, 1) := by decide +kernel
theorem dX1_fetch_41 : decode cX1_fetch 41 = .ok (.ireturn, 1) := by decide +kernel
abbrev cX1_isInside : ByteArray := prog_2_method_2_code
def yX1_isInside : MethodName := ⟨RX1, "isInside", "(J)Z"⟩
theorem dX1_isInside_0 : decode cX1_isInside 0 = .ok (.lload_n 1, 1) := by decide +kernel
theorem dX1_isInside_1 : decode cX1_isInside 1 = .ok (.ldc2_w 13, 3) := by decide +kernel
theorem dX1_isInside_4 : decode cX1_isInside 4 = .ok (.aload_n 0, 1) := by decide +kernel
theorem dX1_isInside_5 : decode cX1_isInside 5 = .ok (.getfield 7, 3) := by decide +kernel
theorem dX1_isInside_8 : decode cX1_isInside 8 = .ok (.arraylength, 1) := by decide +kernel
theorem dX1_isInside_9 : decode cX1_isInside 9 = .ok (.i2l, 1) := by decide +kernel
theorem dX1_isInside_10 : decode cX1_isInside 10 = .ok (.lmul, 1) := by decide +kernel
theorem dX1_isInside_11 : decode cX1_isInside 11 = .ok (.lcmp, 1) := by decide +kernel
theorem dX1_isInside_12 : decode cX1_isInside 12 = .ok (.ifCond .ge 7, 3) := by decide +kernel
theorem dX1_isInside_15 : decode cX1_isInside 15 = .ok (.iconst 1, 1) := by decide +kernel
theorem dX1_isInside_16 : decode cX1_isInside 16 = .ok (.goto 4, 3) := by decide +kernel
theorem dX1_isInside_19 : decode cX1_isInside 19 = .ok (.iconst 0, 1) := by decide +kernel
theorem dX1_isInside_20 : decode cX1_isInside 20 = .ok (.ireturn, 1) := by decide +kernel
abbrev cX1_isTable : ByteArray := prog_2_method_9_code
def yX1_isTable : MethodName := ⟨RX1, "isTable", "(I)Z"⟩
theorem dX1_isTable_0 : decode cX1_isTable 0 = .ok (.iload_n 0, 1) := by decide +kernel
theorem dX1_isTable_1 : decode cX1_isTable 1 = .ok (.invokestatic 116, 3) := by decide +kernel
theorem dX1_isTable_4 : decode cX1_isTable 4 = .ok (.ifCond .eq 22, 3) := by decide +kernel
theorem dX1_isTable_7 : decode cX1_isTable 7 = .ok (.iload_n 0, 1) := by decide +kernel
theorem dX1_isTable_8 : decode cX1_isTable 8 = .ok (.bipush 14, 2) := by decide +kernel
theorem dX1_isTable_10 : decode cX1_isTable 10 = .ok (.iand, 1) := by decide +kernel
theorem dX1_isTable_11 : decode cX1_isTable 11 = .ok (.ifCond .ne 15, 3) := by decide +kernel
theorem dX1_isTable_14 : decode cX1_isTable 14 = .ok (.iload_n 0, 1) := by decide +kernel
theorem dX1_isTable_15 : decode cX1_isTable 15 = .ok (.sipush 208, 3) := by decide +kernel
theorem dX1_isTable_18 : decode cX1_isTable 18 = .ok (.iand, 1) := by decide +kernel
theorem dX1_isTable_19 : decode cX1_isTable 19 = .ok (.ifCond .ne 7, 3) := by decide +kernel
theorem dX1_isTable_22 : decode cX1_isTable 22 = .ok (.iconst 1, 1) := by decide +kernel
theorem dX1_isTable_23 : decode cX1_isTable 23 = .ok (.goto 4, 3) := by decide +kernel
theorem dX1_isTable_26 : decode cX1_isTable 26 = .ok (.iconst 0, 1) := by decide +kernel
theorem dX1_isTable_27 : decode cX1_isTable 27 = .ok (.ireturn, 1) := by decide +kernel
abbrev cX1_isSound : ByteArray := prog_2_method_8_code
def yX1_isSound : MethodName := ⟨RX1, "isSound", "(I)Z"⟩
theorem dX1_isSound_0 : decode cX1_isSound 0 = .ok (.iload_n 0, 1) := by decide +kernel
theorem dX1_isSound_1 : decode cX1_isSound 1 = .ok (.iconst 1, 1) := by decide +kernel
theorem dX1_isSound_2 : decode cX1_isSound 2 = .ok (.iand, 1) := by decide +kernel
theorem dX1_isSound_3 : decode cX1_isSound 3 = .ok (.ifCond .eq 15, 3) := by decide +kernel
theorem dX1_isSound_6 : decode cX1_isSound 6 = .ok (.iload_n 0, 1) := by decide +kernel
theorem dX1_isSound_7 : decode cX1_isSound 7 = .ok (.bipush 6, 2) := by decide +kernel
theorem dX1_isSound_9 : decode cX1_isSound 9 = .ok (.iand, 1) := by decide +kernel
theorem dX1_isSound_10 : decode cX1_isSound 10 = .ok (.iconst 4, 1) := by decide +kernel
theorem dX1_isSound_11 : decode cX1_isSound 11 = .ok (.if_icmp .eq 7, 3) := by decide +kernel
theorem dX1_isSound_14 : decode cX1_isSound 14 = .ok (.iconst 1, 1) := by decide +kernel
theorem dX1_isSound_15 : decode cX1_isSound 15 = .ok (.goto 4, 3) := by decide +kernel
theorem dX1_isSound_18 : decode cX1_isSound 18 = .ok (.iconst 0, 1) := by decide +kernel
theorem dX1_isSound_19 : decode cX1_isSound 19 = .ok (.ireturn, 1) := by decide +kernel
abbrev cX1_target : ByteArray := prog_2_method_11_code
def yX1_target : MethodName := ⟨RX1, "target", "(I)J"⟩
theorem dX1_target_0 : decode cX1_target 0 = .ok (.iload_n 0, 1) := by decide +kernel
theorem dX1_target_1 : decode cX1_target 1 = .ok (.bipush 10, 2) := by decide +kernel
theorem dX1_target_3 : decode cX1_target 3 = .ok (.iushr, 1) := by decide +kernel
theorem dX1_target_4 : decode cX1_target 4 = .ok (.i2l, 1) := by decide +kernel
theorem dX1_target_5 : decode cX1_target 5 = .ok (.ldc2_w 39, 3) := by decide +kernel
theorem dX1_target_8 : decode cX1_target 8 = .ok (.lmul, 1) := by decide +kernel
theorem dX1_target_9 : decode cX1_target 9 = .ok (.lreturn, 1) := by decide +kernel
abbrev cX1_isLeaf : ByteArray := prog_2_method_10_code
def yX1_isLeaf : MethodName := ⟨RX1, "isLeaf", "(I)Z"⟩
theorem dX1_isLeaf_0 : decode cX1_isLeaf 0 = .ok (.iload_n 0, 1) := by decide +kernel
theorem dX1_isLeaf_1 : decode cX1_isLeaf 1 = .ok (.invokestatic 116, 3) := by decide +kernel
theorem dX1_isLeaf_4 : decode cX1_isLeaf 4 = .ok (.ifCond .eq 14, 3) := by decide +kernel
theorem dX1_isLeaf_7 : decode cX1_isLeaf 7 = .ok (.iload_n 0, 1) := by decide +kernel
theorem dX1_isLeaf_8 : decode cX1_isLeaf 8 = .ok (.bipush 14, 2) := by decide +kernel
theorem dX1_isLeaf_10 : decode cX1_isLeaf 10 = .ok (.iand, 1) := by decide +kernel
theorem dX1_isLeaf_11 : decode cX1_isLeaf 11 = .ok (.ifCond .eq 7, 3) := by decide +kernel
theorem dX1_isLeaf_14 : decode cX1_isLeaf 14 = .ok (.iconst 1, 1) := by decide +kernel
theorem dX1_isLeaf_15 : decode cX1_isLeaf 15 = .ok (.goto 4, 3) := by decide +kernel
theorem dX1_isLeaf_18 : decode cX1_isLeaf 18 = .ok (.iconst 0, 1) := by decide +kernel
theorem dX1_isLeaf_19 : decode cX1_isLeaf 19 = .ok (.ireturn, 1) := by decide +kernel
abbrev cX1_allows : ByteArray := prog_2_method_12_code
def yX1_allows : MethodName := ⟨RX1, "allows", "(IIZZ)Z"⟩
theorem dX1_allows_0 : decode cX1_allows 0 = .ok (.iload_n 0, 1) := by decide +kernel
theorem dX1_allows_1 : decode cX1_allows 1 = .ok (.bipush 64, 2) := by decide +kernel
theorem dX1_allows_3 : decode cX1_allows 3 = .ok (.iand, 1) := by decide +kernel
theorem dX1_allows_4 : decode cX1_allows 4 = .ok (.ifCond .ne 5, 3) := by decide +kernel
theorem dX1_allows_7 : decode cX1_allows 7 = .ok (.iconst 0, 1) := by decide +kernel
theorem dX1_allows_8 : decode cX1_allows 8 = .ok (.ireturn, 1) := by decide +kernel
theorem dX1_allows_9 : decode cX1_allows 9 = .ok (.iload_n 1, 1) := by decide +kernel
theorem dX1_allows_10 : decode cX1_allows 10 = .ok (.ifCond .eq 7, 3) := by decide +kernel
theorem dX1_allows_13 : decode cX1_allows 13 = .ok (.iload_n 2, 1) := by decide +kernel
theorem dX1_allows_14 : decode cX1_allows 14 = .ok (.ifCond .eq 16, 3) := by decide +kernel
theorem dX1_allows_17 : decode cX1_allows 17 = .ok (.iload_n 0, 1) := by decide +kernel
theorem dX1_allows_18 : decode cX1_allows 18 = .ok (.bipush 8, 2) := by decide +kernel
theorem dX1_allows_20 : decode cX1_allows 20 = .ok (.iand, 1) := by decide +kernel
theorem dX1_allows_21 : decode cX1_allows 21 = .ok (.ifCond .eq 7, 3) := by decide +kernel
theorem dX1_allows_24 : decode cX1_allows 24 = .ok (.iconst 1, 1) := by decide +kernel
theorem dX1_allows_25 : decode cX1_allows 25 = .ok (.goto 4, 3) := by decide +kernel
theorem dX1_allows_28 : decode cX1_allows 28 = .ok (.iconst 0, 1) := by decide +kernel
theorem dX1_allows_29 : decode cX1_allows 29 = .ok (.ireturn, 1) := by decide +kernel
theorem dX1_allows_30 : decode cX1_allows 30 = .ok (.iload_n 1, 1) := by decide +kernel
theorem dX1_allows_31 : decode cX1_allows 31 = .ok (.iconst 2, 1) := by decide +kernel
theorem dX1_allows_32 : decode cX1_allows 32 = .ok (.if_icmp .ne 25, 3) := by decide +kernel
theorem dX1_allows_35 : decode cX1_allows 35 = .ok (.iload_n 0, 1) := by decide +kernel
theorem dX1_allows_36 : decode cX1_allows 36 = .ok (.iconst 4, 1) := by decide +kernel
theorem dX1_allows_37 : decode cX1_allows 37 = .ok (.iand, 1) := by decide +kernel
theorem dX1_allows_38 : decode cX1_allows 38 = .ok (.ifCond .eq 15, 3) := by decide +kernel
theorem dX1_allows_41 : decode cX1_allows 41 = .ok (.iload_n 0, 1) := by decide +kernel
theorem dX1_allows_42 : decode cX1_allows 42 = .ok (.sipush 128, 3) := by decide +kernel
theorem dX1_allows_45 : decode cX1_allows 45 = .ok (.iand, 1) := by decide +kernel
theorem dX1_allows_46 : decode cX1_allows 46 = .ok (.ifCond .eq 7, 3) := by decide +kernel
theorem dX1_allows_49 : decode cX1_allows 49 = .ok (.iconst 1, 1) := by decide +kernel
theorem dX1_allows_50 : decode cX1_allows 50 = .ok (.goto 29, 3) := by decide +kernel
theorem dX1_allows_53 : decode cX1_allows 53 = .ok (.iconst 0, 1) := by decide +kernel
theorem dX1_allows_54 : decode cX1_allows 54 = .ok (.goto 25, 3) := by decide +kernel
theorem dX1_allows_57 : decode cX1_allows 57 = .ok (.iload_n 0, 1) := by decide +kernel
theorem dX1_allows_58 : decode cX1_allows 58 = .ok (.iconst 2, 1) := by decide +kernel
theorem dX1_allows_59 : decode cX1_allows 59 = .ok (.iand, 1) := by decide +kernel
theorem dX1_allows_60 : decode cX1_allows 60 = .ok (.ifCond .ne 14, 3) := by decide +kernel
theorem dX1_allows_63 : decode cX1_allows 63 = .ok (.iload_n 3, 1) := by decide +kernel
theorem dX1_allows_64 : decode cX1_allows 64 = .ok (.ifCond .eq 14, 3) := by decide +kernel
theorem dX1_allows_67 : decode cX1_allows 67 = .ok (.iload_n 0, 1) := by decide +kernel
theorem dX1_allows_68 : decode cX1_allows 68 = .ok (.bipush 8, 2) := by decide +kernel
theorem dX1_allows_70 : decode cX1_allows 70 = .ok (.iand, 1) := by decide +kernel
theorem dX1_allows_71 : decode cX1_allows 71 = .ok (.ifCond .eq 7, 3) := by decide +kernel
theorem dX1_allows_74 : decode cX1_allows 74 = .ok (.iconst 1, 1) := by decide +kernel
theorem dX1_allows_75 : decode cX1_allows 75 = .ok (.goto 4, 3) := by decide +kernel
theorem dX1_allows_78 : decode cX1_allows 78 = .ok (.iconst 0, 1) := by decide +kernel
theorem dX1_allows_79 : decode cX1_allows 79 = .ok (.ireturn, 1) := by decide +kernel
abbrev cX1_settle : ByteArray := prog_2_method_14_code
def yX1_settle : MethodName := ⟨RX1, "settle", "(JJI)I"⟩
theorem dX1_settle_0 : decode cX1_settle 0 = .ok (.aload_n 0, 1) := by decide +kernel
theorem dX1_settle_1 : decode cX1_settle 1 = .ok (.lload_n 1, 1) := by decide +kernel
theorem dX1_settle_2 : decode cX1_settle 2 = .ok (.lload_n 3, 1) := by decide +kernel
theorem dX1_settle_3 : decode cX1_settle 3 = .ok (.lconst 1, 1) := by decide +kernel
theorem dX1_settle_4 : decode cX1_settle 4 = .ok (.iload 5, 2) := by decide +kernel
theorem dX1_settle_6 : decode cX1_settle 6 = .ok (.lshl, 1) := by decide +kernel
theorem dX1_settle_7 : decode cX1_settle 7 = .ok (.lconst 1, 1) := by decide +kernel
theorem dX1_settle_8 : decode cX1_settle 8 = .ok (.lsub, 1) := by decide +kernel
theorem dX1_settle_9 : decode cX1_settle 9 = .ok (.land, 1) := by decide +kernel
theorem dX1_settle_10 : decode cX1_settle 10 = .ok (.lor, 1) := by decide +kernel
theorem dX1_settle_11 : decode cX1_settle 11 = .ok (.putfield 35, 3) := by decide +kernel
theorem dX1_settle_14 : decode cX1_settle 14 = .ok (.iconst 0, 1) := by decide +kernel
theorem dX1_settle_15 : decode cX1_settle 15 = .ok (.ireturn, 1) := by decide +kernel
abbrev cX1_allowsUser : ByteArray := prog_2_method_13_code
def yX1_allowsUser : MethodName := ⟨RX1, "allowsUser", "(II)Z"⟩
theorem dX1_allowsUser_0 : decode cX1_allowsUser 0 = .ok (.iload_n 1, 1) := by decide +kernel
theorem dX1_allowsUser_1 : decode cX1_allowsUser 1 = .ok (.bipush 16, 2) := by decide +kernel
theorem dX1_allowsUser_3 : decode cX1_allowsUser 3 = .ok (.iand, 1) := by decide +kernel
theorem dX1_allowsUser_4 : decode cX1_allowsUser 4 = .ok (.ifCond .eq 7, 3) := by decide +kernel
theorem dX1_allowsUser_7 : decode cX1_allowsUser 7 = .ok (.iconst 1, 1) := by decide +kernel
theorem dX1_allowsUser_8 : decode cX1_allowsUser 8 = .ok (.goto 4, 3) := by decide +kernel
theorem dX1_allowsUser_11 : decode cX1_allowsUser 11 = .ok (.iconst 0, 1) := by decide +kernel
theorem dX1_allowsUser_12 : decode cX1_allowsUser 12 = .ok (.istore_n 3, 1) := by decide +kernel
theorem dX1_allowsUser_13 : decode cX1_allowsUser 13 = .ok (.aload_n 0, 1) := by decide +kernel
theorem dX1_allowsUser_14 : decode cX1_allowsUser 14 = .ok (.getfield 119, 3) := by decide +kernel
theorem dX1_allowsUser_17 : decode cX1_allowsUser 17 = .ok (.ifCond .eq 7, 3) := by decide +kernel
theorem dX1_allowsUser_20 : decode cX1_allowsUser 20 = .ok (.iload_n 3, 1) := by decide +kernel
theorem dX1_allowsUser_21 : decode cX1_allowsUser 21 = .ok (.goto 40, 3) := by decide +kernel
theorem dX1_allowsUser_24 : decode cX1_allowsUser 24 = .ok (.iload_n 3, 1) := by decide +kernel
theorem dX1_allowsUser_25 : decode cX1_allowsUser 25 = .ok (.ifCond .eq 31, 3) := by decide +kernel
theorem dX1_allowsUser_28 : decode cX1_allowsUser 28 = .ok (.iload_n 2, 1) := by decide +kernel
theorem dX1_allowsUser_29 : decode cX1_allowsUser 29 = .ok (.ifCond .eq 31, 3) := by decide +kernel
theorem dX1_allowsUser_32 : decode cX1_allowsUser 32 = .ok (.aload_n 0, 1) := by decide +kernel
theorem dX1_allowsUser_33 : decode cX1_allowsUser 33 = .ok (.getfield 25, 3) := by decide +kernel
theorem dX1_allowsUser_36 : decode cX1_allowsUser 36 = .ok (.ifCond .eq 13, 3) := by decide +kernel
theorem dX1_allowsUser_39 : decode cX1_allowsUser 39 = .ok (.aload_n 0, 1) := by decide +kernel
theorem dX1_allowsUser_40 : decode cX1_allowsUser 40 = .ok (.getfield 122, 3) := by decide +kernel
theorem dX1_allowsUser_43 : decode cX1_allowsUser 43 = .ok (.ifCond .eq 17, 3) := by decide +kernel
theorem dX1_allowsUser_46 : decode cX1_allowsUser 46 = .ok (.goto 10, 3) := by decide +kernel
theorem dX1_allowsUser_49 : decode cX1_allowsUser 49 = .ok (.aload_n 0, 1) := by decide +kernel
theorem dX1_allowsUser_50 : decode cX1_allowsUser 50 = .ok (.getfield 125, 3) := by decide +kernel
theorem dX1_allowsUser_53 : decode cX1_allowsUser 53 = .ok (.ifCond .eq 7, 3) := by decide +kernel
theorem dX1_allowsUser_56 : decode cX1_allowsUser 56 = .ok (.iconst 1, 1) := by decide +kernel
theorem dX1_allowsUser_57 : decode cX1_allowsUser 57 = .ok (.goto 4, 3) := by decide +kernel
theorem dX1_allowsUser_60 : decode cX1_allowsUser 60 = .ok (.iconst 0, 1) := by decide +kernel
theorem dX1_allowsUser_61 : decode cX1_allowsUser 61 = .ok (.ireturn, 1) := by decide +kernel
theorem q20 : (Jvm.Cond.initialized "StageWalker$Walker") ∈ lw_all := lw_g (lw_at lw_m1 2 rfl) rfl
theorem q32 : (Jvm.Cond.instantiable "StageWalker$Walker" (16 : Nat)) ∈ lw_all := lw_g (lw_at lw_m1 14 rfl) rfl
theorem q34 : (Jvm.Cond.instanceMethod ({ cls := "StageWalker$Walker", name := "<init>", desc := "([I)V" } : Jvm.MethodName)) ∈ lw_all := lw_g (lw_at lw_m1 16 rfl) rfl
theorem q35 : (Jvm.Cond.code ({ cls := "StageWalker$Walker", name := "<init>", desc := "([I)V" } : Jvm.MethodName) prog_2_method_1_code (2 : Nat) (Option.none : Option Jvm.ClassFile.FieldType)) ∈ lw_all := lw_g (lw_at lw_m1 17 rfl) rfl
theorem q36 : (Jvm.Cond.methodLink "StageWalker$Walker" (1 : Nat) ({ cls := "java/lang/Object", name := "<init>", desc := "()V" } : Jvm.MethodName)) ∈ lw_all := lw_g (lw_at lw_m1 18 rfl) rfl
theorem q37 : (Jvm.Cond.fieldLink "StageWalker$Walker" (7 : Nat) "StageWalker$Walker" "memory" "[I") ∈ lw_all := lw_g (lw_at lw_m1 19 rfl) rfl
theorem q38 : (Jvm.Cond.fieldLink "StageWalker$Walker" (25 : Nat) "StageWalker$Walker" "virtual" "Z") ∈ lw_all := lw_g (lw_at lw_m1 20 rfl) rfl
theorem q41 : (Jvm.Cond.fieldLink "StageWalker$Walker" (119 : Nat) "StageWalker$Walker" "user" "Z") ∈ lw_all := lw_g (lw_at lw_m1 23 rfl) rfl
theorem q42 : (Jvm.Cond.fieldLink "StageWalker$Walker" (45 : Nat) "StageWalker$Walker" "execution" "Z") ∈ lw_all := lw_g (lw_at lw_m1 24 rfl) rfl
theorem q44 : (Jvm.Cond.fieldLink "StageWalker$Walker" (32 : Nat) "StageWalker$Walker" "atp" "I") ∈ lw_all := lw_g (lw_at lw_m1 26 rfl) rfl
theorem q46 : (Jvm.Cond.fieldLink "StageWalker$Walker" (28 : Nat) "StageWalker$Walker" "vsAtp" "I") ∈ lw_all := lw_g (lw_at lw_m1 28 rfl) rfl
theorem q49 : (Jvm.Cond.fieldLink "StageWalker$Walker" (110 : Nat) "StageWalker$Walker" "hgatp" "I") ∈ lw_all := lw_g (lw_at lw_m1 31 rfl) rfl
theorem q51 : (Jvm.Cond.fieldLink "StageWalker$Walker" (125 : Nat) "StageWalker$Walker" "sum" "Z") ∈ lw_all := lw_g (lw_at lw_m1 33 rfl) rfl
theorem q52 : (Jvm.Cond.fieldLink "StageWalker$Walker" (48 : Nat) "StageWalker$Walker" "mxr" "Z") ∈ lw_all := lw_g (lw_at lw_m1 34 rfl) rfl
theorem q55 : (Jvm.Cond.fieldLink "StageWalker$Walker" (122 : Nat) "StageWalker$Walker" "vsSum" "Z") ∈ lw_all := lw_g (lw_at lw_m1 37 rfl) rfl
theorem q56 : (Jvm.Cond.fieldLink "StageWalker$Walker" (63 : Nat) "StageWalker$Walker" "vsMxr" "Z") ∈ lw_all := lw_g (lw_at lw_m1 38 rfl) rfl
theorem q58 : (Jvm.Cond.fieldLink "StageWalker$Walker" (35 : Nat) "StageWalker$Walker" "place" "J") ∈ lw_all := lw_g (lw_at lw_m1 40 rfl) rfl
theorem q60 : (Jvm.Cond.fieldLink "StageWalker$Walker" (17 : Nat) "StageWalker$Walker" "second" "J") ∈ lw_all := lw_g (lw_at lw_m1 42 rfl) rfl
theorem q62 : (Jvm.Cond.fieldLink "StageWalker$Walker" (21 : Nat) "StageWalker$Walker" "entry" "Z") ∈ lw_all := lw_g (lw_at lw_m1 44 rfl) rfl
theorem q64 : (Jvm.Cond.fieldLink "StageWalker$Walker" (107 : Nat) "StageWalker$Walker" "tables" "J") ∈ lw_all := lw_g (lw_at lw_m1 46 rfl) rfl
theorem q65 : (Jvm.Cond.fieldLink "StageWalker$Walker" (72 : Nat) "StageWalker$Walker" "read" "I") ∈ lw_all := lw_g (lw_at lw_m1 47 rfl) rfl
theorem q66 : (Jvm.Cond.laysFinal "StageWalker$Walker" "StageWalker$Walker" "memory" "[I") ∈ lw_all := lw_g (lw_at lw_m1 48 rfl) rfl
theorem q67 : (Jvm.Cond.soleField "StageWalker$Walker" "memory") ∈ lw_all := lw_g (lw_at lw_m1 49 rfl) rfl
theorem q68 : (Jvm.Cond.lays "StageWalker$Walker" "StageWalker$Walker" "virtual" "Z") ∈ lw_all := lw_g (lw_at lw_m1 50 rfl) rfl
theorem q69 : (Jvm.Cond.soleField "StageWalker$Walker" "virtual") ∈ lw_all := lw_g (lw_at lw_m1 51 rfl) rfl
theorem q70 : (Jvm.Cond.lays "StageWalker$Walker" "StageWalker$Walker" "user" "Z") ∈ lw_all := lw_g (lw_at lw_m1 52 rfl) rfl
theorem q71 : (Jvm.Cond.soleField "StageWalker$Walker" "user") ∈ lw_all := lw_g (lw_at lw_m1 53 rfl) rfl
theorem q72 : (Jvm.Cond.lays "StageWalker$Walker" "StageWalker$Walker" "execution" "Z") ∈ lw_all := lw_g (lw_at lw_m1 54 rfl) rfl
theorem q73 : (Jvm.Cond.soleField "StageWalker$Walker" "execution") ∈ lw_all := lw_g (lw_at lw_m1 55 rfl) rfl
theorem q74 : (Jvm.Cond.lays "StageWalker$Walker" "StageWalker$Walker" "atp" "I") ∈ lw_all := lw_g (lw_at lw_m1 56 rfl) rfl
theorem q75 : (Jvm.Cond.soleField "StageWalker$Walker" "atp") ∈ lw_all := lw_g (lw_at lw_m1 57 rfl) rfl
theorem q76 : (Jvm.Cond.lays "StageWalker$Walker" "StageWalker$Walker" "vsAtp" "I") ∈ lw_all := lw_g (lw_at lw_m1 58 rfl) rfl
theorem q77 : (Jvm.Cond.soleField "StageWalker$Walker" "vsAtp") ∈ lw_all := lw_g (lw_at lw_m1 59 rfl) rfl
theorem q78 : (Jvm.Cond.lays "StageWalker$Walker" "StageWalker$Walker" "hgatp" "I") ∈ lw_all := lw_g (lw_at lw_m1 60 rfl) rfl
theorem q79 : (Jvm.Cond.soleField "StageWalker$Walker" "hgatp") ∈ lw_all := lw_g (lw_at lw_m1 61 rfl) rfl
theorem q80 : (Jvm.Cond.lays "StageWalker$Walker" "StageWalker$Walker" "sum" "Z") ∈ lw_all := lw_g (lw_at lw_m1 62 rfl) rfl
theorem q81 : (Jvm.Cond.soleField "StageWalker$Walker" "sum") ∈ lw_all := lw_g (lw_at lw_m1 63 rfl) rfl
theorem q82 : (Jvm.Cond.lays "StageWalker$Walker" "StageWalker$Walker" "mxr" "Z") ∈ lw_all := lw_g (lw_at lw_m1 64 rfl) rfl
theorem q83 : (Jvm.Cond.soleField "StageWalker$Walker" "mxr") ∈ lw_all := lw_g (lw_at lw_m1 65 rfl) rfl
theorem q84 : (Jvm.Cond.lays "StageWalker$Walker" "StageWalker$Walker" "vsSum" "Z") ∈ lw_all := lw_g (lw_at lw_m1 66 rfl) rfl
theorem q85 : (Jvm.Cond.soleField "StageWalker$Walker" "vsSum") ∈ lw_all := lw_g (lw_at lw_m1 67 rfl) rfl
theorem q86 : (Jvm.Cond.lays "StageWalker$Walker" "StageWalker$Walker" "vsMxr" "Z") ∈ lw_all := lw_g (lw_at lw_m1 68 rfl) rfl
theorem q87 : (Jvm.Cond.soleField "StageWalker$Walker" "vsMxr") ∈ lw_all := lw_g (lw_at lw_m1 69 rfl) rfl
theorem q88 : (Jvm.Cond.lays "StageWalker$Walker" "StageWalker$Walker" "place" "J") ∈ lw_all := lw_g (lw_at lw_m1 70 rfl) rfl
theorem q89 : (Jvm.Cond.soleField "StageWalker$Walker" "place") ∈ lw_all := lw_g (lw_at lw_m1 71 rfl) rfl
theorem q90 : (Jvm.Cond.lays "StageWalker$Walker" "StageWalker$Walker" "second" "J") ∈ lw_all := lw_g (lw_at lw_m1 72 rfl) rfl
theorem q91 : (Jvm.Cond.soleField "StageWalker$Walker" "second") ∈ lw_all := lw_g (lw_at lw_m1 73 rfl) rfl
theorem q92 : (Jvm.Cond.lays "StageWalker$Walker" "StageWalker$Walker" "entry" "Z") ∈ lw_all := lw_g (lw_at lw_m1 74 rfl) rfl
theorem q93 : (Jvm.Cond.soleField "StageWalker$Walker" "entry") ∈ lw_all := lw_g (lw_at lw_m1 75 rfl) rfl
theorem q94 : (Jvm.Cond.lays "StageWalker$Walker" "StageWalker$Walker" "tables" "J") ∈ lw_all := lw_g (lw_at lw_m1 76 rfl) rfl
theorem q95 : (Jvm.Cond.soleField "StageWalker$Walker" "tables") ∈ lw_all := lw_g (lw_at lw_m1 77 rfl) rfl
theorem q96 : (Jvm.Cond.lays "StageWalker$Walker" "StageWalker$Walker" "read" "I") ∈ lw_all := lw_g (lw_at lw_m1 78 rfl) rfl
theorem q97 : (Jvm.Cond.soleField "StageWalker$Walker" "read") ∈ lw_all := lw_g (lw_at lw_m1 79 rfl) rfl
theorem q98 : (Jvm.Cond.superclass "StageWalker$Walker" "java/lang/Object") ∈ lw_all := lw_g (lw_at lw_m1 80 rfl) rfl
theorem q158 : (Jvm.Cond.instanceMethod ({ cls := "StageWalker$Walker", name := "translate", desc := "(II)I" } : Jvm.MethodName)) ∈ lw_all := lw_g (lw_at lw_m1 140 rfl) rfl
theorem q159 : (Jvm.Cond.selects "StageWalker$Walker" ({ cls := "StageWalker$Walker", name := "translate", desc := "(II)I" } : Jvm.MethodName) ({ cls := "StageWalker$Walker", name := "translate", desc := "(II)I" } : Jvm.MethodName)) ∈ lw_all := lw_g (lw_at lw_m1 141 rfl) rfl
theorem q160 : (Jvm.Cond.code ({ cls := "StageWalker$Walker", name := "translate", desc := "(II)I" } : Jvm.MethodName) prog_2_method_3_code (7 : Nat) (Option.some Jvm.ClassFile.FieldType.int)) ∈ lw_all := lw_g (lw_at lw_m1 142 rfl) rfl
theorem q161 : (Jvm.Cond.constantLong "StageWalker$Walker" (15 : Nat) (4294967295 : Int64)) ∈ lw_all := lw_g (lw_at lw_m1 143 rfl) rfl
theorem q162 : (Jvm.Cond.constant "StageWalker$Walker" (38 : Nat) (4194303 : Int32)) ∈ lw_all := lw_g (lw_at lw_m1 144 rfl) rfl
theorem q163 : (Jvm.Cond.constantLong "StageWalker$Walker" (39 : Nat) (4096 : Int64)) ∈ lw_all := lw_g (lw_at lw_m1 145 rfl) rfl
theorem q164 : (Jvm.Cond.methodLink "StageWalker$Walker" (41 : Nat) ({ cls := "StageWalker$Walker", name := "walk", desc := "(JJIZ)I" } : Jvm.MethodName)) ∈ lw_all := lw_g (lw_at lw_m1 146 rfl) rfl
theorem q165 : (Jvm.Cond.privateMethod ({ cls := "StageWalker$Walker", name := "walk", desc := "(JJIZ)I" } : Jvm.MethodName)) ∈ lw_tbl := lw_at lw_m1 147 rfl
theorem q166 : (Jvm.Cond.instanceMethod ({ cls := "StageWalker$Walker", name := "walk", desc := "(JJIZ)I" } : Jvm.MethodName)) ∈ lw_all := lw_g (lw_at lw_m1 148 rfl) rfl
theorem q167 : (Jvm.Cond.code ({ cls := "StageWalker$Walker", name := "walk", desc := "(JJIZ)I" } : Jvm.MethodName) prog_2_method_4_code (11 : Nat) (Option.some Jvm.ClassFile.FieldType.int)) ∈ lw_all := lw_g (lw_at lw_m1 149 rfl) rfl
theorem q168 : (Jvm.Cond.constantLong "StageWalker$Walker" (13 : Nat) (4 : Int64)) ∈ lw_all := lw_g (lw_at lw_m1 150 rfl) rfl
theorem q169 : (Jvm.Cond.constantLong "StageWalker$Walker" (66 : Nat) (1023 : Int64)) ∈ lw_all := lw_g (lw_at lw_m1 151 rfl) rfl
theorem q170 : (Jvm.Cond.methodLink "StageWalker$Walker" (68 : Nat) ({ cls := "StageWalker$Walker", name := "read", desc := "(JIZ)I" } : Jvm.MethodName)) ∈ lw_all := lw_g (lw_at lw_m1 152 rfl) rfl
theorem q171 : (Jvm.Cond.privateMethod ({ cls := "StageWalker$Walker", name := "read", desc := "(JIZ)I" } : Jvm.MethodName)) ∈ lw_tbl := lw_at lw_m1 153 rfl
theorem q172 : (Jvm.Cond.instanceMethod ({ cls := "StageWalker$Walker", name := "read", desc := "(JIZ)I" } : Jvm.MethodName)) ∈ lw_all := lw_g (lw_at lw_m1 154 rfl) rfl
theorem q173 : (Jvm.Cond.code ({ cls := "StageWalker$Walker", name := "read", desc := "(JIZ)I" } : Jvm.MethodName) prog_2_method_5_code (8 : Nat) (Option.some Jvm.ClassFile.FieldType.int)) ∈ lw_all := lw_g (lw_at lw_m1 155 rfl) rfl
theorem q174 : (Jvm.Cond.methodLink "StageWalker$Walker" (51 : Nat) ({ cls := "StageWalker$Walker", name := "onward", desc := "(JIZZI)I" } : Jvm.MethodName)) ∈ lw_all := lw_g (lw_at lw_m1 156 rfl) rfl
theorem q175 : (Jvm.Cond.privateMethod ({ cls := "StageWalker$Walker", name := "onward", desc := "(JIZZI)I" } : Jvm.MethodName)) ∈ lw_tbl := lw_at lw_m1 157 rfl
theorem q176 : (Jvm.Cond.instanceMethod ({ cls := "StageWalker$Walker", name := "onward", desc := "(JIZZI)I" } : Jvm.MethodName)) ∈ lw_all := lw_g (lw_at lw_m1 158 rfl) rfl
theorem q177 : (Jvm.Cond.code ({ cls := "StageWalker$Walker", name := "onward", desc := "(JIZZI)I" } : Jvm.MethodName) prog_2_method_7_code (12 : Nat) (Option.some Jvm.ClassFile.FieldType.int)) ∈ lw_all := lw_g (lw_at lw_m1 159 rfl) rfl
theorem q178 : (Jvm.Cond.constant "StageWalker$Walker" (113 : Nat) (4194300 : Int32)) ∈ lw_all := lw_g (lw_at lw_m1 160 rfl) rfl
theorem q179 : (Jvm.Cond.constantLong "StageWalker$Walker" (114 : Nat) (4095 : Int64)) ∈ lw_all := lw_g (lw_at lw_m1 161 rfl) rfl
theorem q180 : (Jvm.Cond.methodLink "StageWalker$Walker" (104 : Nat) ({ cls := "StageWalker$Walker", name := "fetch", desc := "(J)Z" } : Jvm.MethodName)) ∈ lw_all := lw_g (lw_at lw_m1 162 rfl) rfl
theorem q181 : (Jvm.Cond.privateMethod ({ cls := "StageWalker$Walker", name := "fetch", desc := "(J)Z" } : Jvm.MethodName)) ∈ lw_tbl := lw_at lw_m1 163 rfl
theorem q182 : (Jvm.Cond.instanceMethod ({ cls := "StageWalker$Walker", name := "fetch", desc := "(J)Z" } : Jvm.MethodName)) ∈ lw_all := lw_g (lw_at lw_m1 164 rfl) rfl
theorem q183 : (Jvm.Cond.code ({ cls := "StageWalker$Walker", name := "fetch", desc := "(J)Z" } : Jvm.MethodName) prog_2_method_6_code (4 : Nat) (Option.some Jvm.ClassFile.FieldType.boolean)) ∈ lw_all := lw_g (lw_at lw_m1 165 rfl) rfl
theorem q184 : (Jvm.Cond.methodLink "StageWalker$Walker" (55 : Nat) ({ cls := "StageWalker$Walker", name := "isInside", desc := "(J)Z" } : Jvm.MethodName)) ∈ lw_all := lw_g (lw_at lw_m1 166 rfl) rfl
theorem q185 : (Jvm.Cond.privateMethod ({ cls := "StageWalker$Walker", name := "isInside", desc := "(J)Z" } : Jvm.MethodName)) ∈ lw_tbl := lw_at lw_m1 167 rfl
theorem q186 : (Jvm.Cond.instanceMethod ({ cls := "StageWalker$Walker", name := "isInside", desc := "(J)Z" } : Jvm.MethodName)) ∈ lw_all := lw_g (lw_at lw_m1 168 rfl) rfl
theorem q187 : (Jvm.Cond.code ({ cls := "StageWalker$Walker", name := "isInside", desc := "(J)Z" } : Jvm.MethodName) prog_2_method_2_code (3 : Nat) (Option.some Jvm.ClassFile.FieldType.boolean)) ∈ lw_all := lw_g (lw_at lw_m1 169 rfl) rfl
theorem q188 : (Jvm.Cond.fieldLink "StageWalker$Walker" (59 : Nat) "StageWalker$Walker" "OUTSIDE" "[B") ∈ lw_all := lw_g (lw_at lw_m1 170 rfl) rfl
theorem q189 : (Jvm.Cond.laysStatic "StageWalker$Walker" "OUTSIDE" "[B") ∈ lw_tbl := lw_at lw_m1 171 rfl
theorem q190 : (Jvm.Cond.constant "StageWalker$Walker" (100 : Nat) (1047552 : Int32)) ∈ lw_all := lw_g (lw_at lw_m1 172 rfl) rfl
theorem q191 : (Jvm.Cond.methodLink "StageWalker$Walker" (74 : Nat) ({ cls := "StageWalker$Walker", name := "isTable", desc := "(I)Z" } : Jvm.MethodName)) ∈ lw_all := lw_g (lw_at lw_m1 173 rfl) rfl
theorem q192 : (Jvm.Cond.static ({ cls := "StageWalker$Walker", name := "isTable", desc := "(I)Z" } : Jvm.MethodName)) ∈ lw_all := lw_g (lw_at lw_m1 174 rfl) rfl
theorem q193 : (Jvm.Cond.code ({ cls := "StageWalker$Walker", name := "isTable", desc := "(I)Z" } : Jvm.MethodName) prog_2_method_9_code (1 : Nat) (Option.some Jvm.ClassFile.FieldType.boolean)) ∈ lw_all := lw_g (lw_at lw_m1 175 rfl) rfl
theorem q194 : (Jvm.Cond.methodLink "StageWalker$Walker" (116 : Nat) ({ cls := "StageWalker$Walker", name := "isSound", desc := "(I)Z" } : Jvm.MethodName)) ∈ lw_all := lw_g (lw_at lw_m1 176 rfl) rfl
theorem q195 : (Jvm.Cond.static ({ cls := "StageWalker$Walker", name := "isSound", desc := "(I)Z" } : Jvm.MethodName)) ∈ lw_all := lw_g (lw_at lw_m1 177 rfl) rfl
theorem q196 : (Jvm.Cond.code ({ cls := "StageWalker$Walker", name := "isSound", desc := "(I)Z" } : Jvm.MethodName) prog_2_method_8_code (1 : Nat) (Option.some Jvm.ClassFile.FieldType.boolean)) ∈ lw_all := lw_g (lw_at lw_m1 178 rfl) rfl
theorem q197 : (Jvm.Cond.methodLink "StageWalker$Walker" (78 : Nat) ({ cls := "StageWalker$Walker", name := "target", desc := "(I)J" } : Jvm.MethodName)) ∈ lw_all := lw_g (lw_at lw_m1 179 rfl) rfl
theorem q198 : (Jvm.Cond.static ({ cls := "StageWalker$Walker", name := "target", desc := "(I)J" } : Jvm.MethodName)) ∈ lw_all := lw_g (lw_at lw_m1 180 rfl) rfl
theorem q199 : (Jvm.Cond.code ({ cls := "StageWalker$Walker", name := "target", desc := "(I)J" } : Jvm.MethodName) prog_2_method_11_code (1 : Nat) (Option.some Jvm.ClassFile.FieldType.long)) ∈ lw_all := lw_g (lw_at lw_m1 181 rfl) rfl
theorem q200 : (Jvm.Cond.methodLink "StageWalker$Walker" (82 : Nat) ({ cls := "StageWalker$Walker", name := "isLeaf", desc := "(I)Z" } : Jvm.MethodName)) ∈ lw_all := lw_g (lw_at lw_m1 182 rfl) rfl
theorem q201 : (Jvm.Cond.static ({ cls := "StageWalker$Walker", name := "isLeaf", desc := "(I)Z" } : Jvm.MethodName)) ∈ lw_all := lw_g (lw_at lw_m1 183 rfl) rfl
theorem q202 : (Jvm.Cond.code ({ cls := "StageWalker$Walker", name := "isLeaf", desc := "(I)Z" } : Jvm.MethodName) prog_2_method_10_code (1 : Nat) (Option.some Jvm.ClassFile.FieldType.boolean)) ∈ lw_all := lw_g (lw_at lw_m1 184 rfl) rfl
theorem q203 : (Jvm.Cond.methodLink "StageWalker$Walker" (85 : Nat) ({ cls := "StageWalker$Walker", name := "allows", desc := "(IIZZ)Z" } : Jvm.MethodName)) ∈ lw_all := lw_g (lw_at lw_m1 185 rfl) rfl
theorem q204 : (Jvm.Cond.static ({ cls := "StageWalker$Walker", name := "allows", desc := "(IIZZ)Z" } : Jvm.MethodName)) ∈ lw_all := lw_g (lw_at lw_m1 186 rfl) rfl
theorem q205 : (Jvm.Cond.code ({ cls := "StageWalker$Walker", name := "allows", desc := "(IIZZ)Z" } : Jvm.MethodName) prog_2_method_12_code (4 : Nat) (Option.some Jvm.ClassFile.FieldType.boolean)) ∈ lw_all := lw_g (lw_at lw_m1 187 rfl) rfl
theorem q206 : (Jvm.Cond.fieldLink "StageWalker$Walker" (101 : Nat) "StageWalker$Walker" "GUEST" "[B") ∈ lw_all := lw_g (lw_at lw_m1 188 rfl) rfl
theorem q207 : (Jvm.Cond.laysStatic "StageWalker$Walker" "GUEST" "[B") ∈ lw_tbl := lw_at lw_m1 189 rfl
theorem q208 : (Jvm.Cond.methodLink "StageWalker$Walker" (93 : Nat) ({ cls := "StageWalker$Walker", name := "settle", desc := "(JJI)I" } : Jvm.MethodName)) ∈ lw_all := lw_g (lw_at lw_m1 190 rfl) rfl
theorem q209 : (Jvm.Cond.privateMethod ({ cls := "StageWalker$Walker", name := "settle", desc := "(JJI)I" } : Jvm.MethodName)) ∈ lw_tbl := lw_at lw_m1 191 rfl
theorem q210 : (Jvm.Cond.instanceMethod ({ cls := "StageWalker$Walker", name := "settle", desc := "(JJI)I" } : Jvm.MethodName)) ∈ lw_all := lw_g (lw_at lw_m1 192 rfl) rfl
theorem q211 : (Jvm.Cond.code ({ cls := "StageWalker$Walker", name := "settle", desc := "(JJI)I" } : Jvm.MethodName) prog_2_method_14_code (6 : Nat) (Option.some Jvm.ClassFile.FieldType.int)) ∈ lw_all := lw_g (lw_at lw_m1 193 rfl) rfl
theorem q212 : (Jvm.Cond.methodLink "StageWalker$Walker" (89 : Nat) ({ cls := "StageWalker$Walker", name := "allowsUser", desc := "(II)Z" } : Jvm.MethodName)) ∈ lw_all := lw_g (lw_at lw_m1 194 rfl) rfl
theorem q213 : (Jvm.Cond.privateMethod ({ cls := "StageWalker$Walker", name := "allowsUser", desc := "(II)Z" } : Jvm.MethodName)) ∈ lw_tbl := lw_at lw_m1 195 rfl
theorem q214 : (Jvm.Cond.instanceMethod ({ cls := "StageWalker$Walker", name := "allowsUser", desc := "(II)Z" } : Jvm.MethodName)) ∈ lw_all := lw_g (lw_at lw_m1 196 rfl) rfl
theorem q215 : (Jvm.Cond.code ({ cls := "StageWalker$Walker", name := "allowsUser", desc := "(II)Z" } : Jvm.MethodName) prog_2_method_13_code (4 : Nat) (Option.some Jvm.ClassFile.FieldType.boolean)) ∈ lw_all := lw_g (lw_at lw_m1 197 rfl) rfl
theorem q216 : (Jvm.Cond.fieldLink "StageWalker$Walker" (97 : Nat) "StageWalker$Walker" "PAGE" "[B") ∈ lw_all := lw_g (lw_at lw_m1 198 rfl) rfl
theorem q217 : (Jvm.Cond.laysStatic "StageWalker$Walker" "PAGE" "[B") ∈ lw_tbl := lw_at lw_m1 199 rfl
theorem in_X1 : ∀ w ∈ wsX10, w ∈ lw_all := lw_in wsX10 [66, 68, 70, 72, 74, 76, 78, 80, 82, 84, 86, 88, 90, 92, 94, 96] (by decide +kernel) (by decide +kernel)
end
section
/-! StageWalkerModel -/
set_option maxRecDepth 100000
def RX2 : String := "StageWalkerModel"
def TX2 : u_T := fun k => match k with
  | 0 => ("StageWalkerModel", "thrown", "I", false)
  | 1 => ("StageWalkerModel", "memory", "[I", true)
  | 2 => ("StageWalkerModel", "atp", "I", false)
  | 3 => ("StageWalkerModel", "vsAtp", "I", false)
  | 4 => ("StageWalkerModel", "hgatp", "I", false)
  | 5 => ("StageWalkerModel", "rights", "I", false)
  | 6 => ("StageWalkerModel", "placed", "I", false)
  | 7 => ("StageWalkerModel", "told", "I", false)
  | 8 => ("StageWalkerModel", "toldEntry", "Z", false)
  | 9 => ("StageWalkerModel", "kind", "I", false)
  | 10 => ("StageWalkerModel", "virtual", "Z", false)
  | 11 => ("StageWalkerModel", "user", "Z", false)
  | 12 => ("StageWalkerModel", "executes", "Z", false)
  | 13 => ("StageWalkerModel", "cause", "I", false)
  | 14 => ("StageWalkerModel", "far", "J", false)
  | _ => ("StageWalkerModel", "ofEntry", "Z", false)
def tyX2 : Nat → FieldType := fun k => match k with
  | 0 => .int
  | 1 => .array .int
  | 2 => .int
  | 3 => .int
  | 4 => .int
  | 5 => .int
  | 6 => .int
  | 7 => .int
  | 8 => .boolean
  | 9 => .int
  | 10 => .boolean
  | 11 => .boolean
  | 12 => .boolean
  | 13 => .int
  | 14 => .long
  | _ => .boolean
abbrev wsX20 : List Cond := u_ws RX2 TX2 16
set_option maxRecDepth 100000 in
theorem nmX2 : ∀ a, a < 16 → ∀ b, b < 16 → a ≠ b → (TX2 a).2.1 ≠ (TX2 b).2.1 := by decide +kernel
set_option maxRecDepth 100000 in
theorem tyX2_ok : ∀ k, k < 16 → parseFieldDescriptor (TX2 k).2.2.1 = some (tyX2 k) := by decide +kernel
abbrev cX2_init : ByteArray := prog_4_method_1_code
def yX2_init : MethodName := ⟨RX2, "<init>", "()V"⟩
theorem dX2_init_0 : decode cX2_init 0 = .ok (.aload_n 0, 1) := by decide +kernel
theorem dX2_init_1 : decode cX2_init 1 = .ok (.invokespecial 1, 3) := by decide +kernel
theorem dX2_init_4 : decode cX2_init 4 = .ok (.aload_n 0, 1) := by decide +kernel
theorem dX2_init_5 : decode cX2_init 5 = .ok (.ldc 7, 2) := by decide +kernel
theorem dX2_init_7 : decode cX2_init 7 = .ok (.newarray .int, 2) := by decide +kernel
theorem dX2_init_9 : decode cX2_init 9 = .ok (.putfield 8, 3) := by decide +kernel
theorem dX2_init_12 : decode cX2_init 12 = .ok (.aload_n 0, 1) := by decide +kernel
theorem dX2_init_13 : decode cX2_init 13 = .ok (.invokevirtual 14, 3) := by decide +kernel
theorem dX2_init_16 : decode cX2_init 16 = .ok (.return_, 1) := by decide +kernel
abbrev cX2_begin : ByteArray := prog_4_method_3_code
def yX2_begin : MethodName := ⟨RX2, "begin", "()V"⟩
theorem dX2_begin_0 : decode cX2_begin 0 = .ok (.iconst 0, 1) := by decide +kernel
theorem dX2_begin_1 : decode cX2_begin 1 = .ok (.istore_n 1, 1) := by decide +kernel
theorem dX2_begin_2 : decode cX2_begin 2 = .ok (.iload_n 1, 1) := by decide +kernel
theorem dX2_begin_3 : decode cX2_begin 3 = .ok (.ldc 7, 2) := by decide +kernel
theorem dX2_begin_5 : decode cX2_begin 5 = .ok (.if_icmp .ge 16, 3) := by decide +kernel
theorem dX2_begin_8 : decode cX2_begin 8 = .ok (.aload_n 0, 1) := by decide +kernel
theorem dX2_begin_9 : decode cX2_begin 9 = .ok (.getfield 8, 3) := by decide +kernel
theorem dX2_begin_12 : decode cX2_begin 12 = .ok (.iload_n 1, 1) := by decide +kernel
theorem dX2_begin_13 : decode cX2_begin 13 = .ok (.iconst 0, 1) := by decide +kernel
theorem dX2_begin_14 : decode cX2_begin 14 = .ok (.iastore, 1) := by decide +kernel
theorem dX2_begin_15 : decode cX2_begin 15 = .ok (.iinc 1 1, 3) := by decide +kernel
theorem dX2_begin_18 : decode cX2_begin 18 = .ok (.goto (-16), 3) := by decide +kernel
theorem dX2_begin_21 : decode cX2_begin 21 = .ok (.aload_n 0, 1) := by decide +kernel
theorem dX2_begin_22 : decode cX2_begin 22 = .ok (.iconst 0, 1) := by decide +kernel
theorem dX2_begin_23 : decode cX2_begin 23 = .ok (.putfield 21, 3) := by decide +kernel
theorem dX2_begin_26 : decode cX2_begin 26 = .ok (.aload_n 0, 1) := by decide +kernel
theorem dX2_begin_27 : decode cX2_begin 27 = .ok (.iconst 0, 1) := by decide +kernel
theorem dX2_begin_28 : decode cX2_begin 28 = .ok (.putfield 24, 3) := by decide +kernel
theorem dX2_begin_31 : decode cX2_begin 31 = .ok (.aload_n 0, 1) := by decide +kernel
theorem dX2_begin_32 : decode cX2_begin 32 = .ok (.iconst 0, 1) := by decide +kernel
theorem dX2_begin_33 : decode cX2_begin 33 = .ok (.putfield 27, 3) := by decide +kernel
theorem dX2_begin_36 : decode cX2_begin 36 = .ok (.aload_n 0, 1) := by decide +kernel
theorem dX2_begin_37 : decode cX2_begin 37 = .ok (.iconst 0, 1) := by decide +kernel
theorem dX2_begin_38 : decode cX2_begin 38 = .ok (.putfield 30, 3) := by decide +kernel
theorem dX2_begin_41 : decode cX2_begin 41 = .ok (.aload_n 0, 1) := by decide +kernel
theorem dX2_begin_42 : decode cX2_begin 42 = .ok (.iconst (-1), 1) := by decide +kernel
theorem dX2_begin_43 : decode cX2_begin 43 = .ok (.putfield 33, 3) := by decide +kernel
theorem dX2_begin_46 : decode cX2_begin 46 = .ok (.aload_n 0, 1) := by decide +kernel
theorem dX2_begin_47 : decode cX2_begin 47 = .ok (.iconst 0, 1) := by decide +kernel
theorem dX2_begin_48 : decode cX2_begin 48 = .ok (.putfield 36, 3) := by decide +kernel
theorem dX2_begin_51 : decode cX2_begin 51 = .ok (.aload_n 0, 1) := by decide +kernel
theorem dX2_begin_52 : decode cX2_begin 52 = .ok (.iconst 0, 1) := by decide +kernel
theorem dX2_begin_53 : decode cX2_begin 53 = .ok (.putfield 39, 3) := by decide +kernel
theorem dX2_begin_56 : decode cX2_begin 56 = .ok (.return_, 1) := by decide +kernel
abbrev cX2_poke : ByteArray := prog_4_method_4_code
def yX2_poke : MethodName := ⟨RX2, "poke", "(IIIIII)I"⟩
theorem dX2_poke_0 : decode cX2_poke 0 = .ok (.iload_n 1, 1) := by decide +kernel
theorem dX2_poke_1 : decode cX2_poke 1 = .ok (.ifCond .lt 15, 3) := by decide +kernel
theorem dX2_poke_4 : decode cX2_poke 4 = .ok (.iload_n 1, 1) := by decide +kernel
theorem dX2_poke_5 : decode cX2_poke 5 = .ok (.iconst 4, 1) := by decide +kernel
theorem dX2_poke_6 : decode cX2_poke 6 = .ok (.irem, 1) := by decide +kernel
theorem dX2_poke_7 : decode cX2_poke 7 = .ok (.ifCond .ne 9, 3) := by decide +kernel
theorem dX2_poke_10 : decode cX2_poke 10 = .ok (.iload_n 1, 1) := by decide +kernel
theorem dX2_poke_11 : decode cX2_poke 11 = .ok (.ldc 43, 2) := by decide +kernel
theorem dX2_poke_13 : decode cX2_poke 13 = .ok (.if_icmp .le 5, 3) := by decide +kernel
theorem dX2_poke_16 : decode cX2_poke 16 = .ok (.iconst (-1), 1) := by decide +kernel
theorem dX2_poke_17 : decode cX2_poke 17 = .ok (.ireturn, 1) := by decide +kernel
theorem dX2_poke_18 : decode cX2_poke 18 = .ok (.aload_n 0, 1) := by decide +kernel
theorem dX2_poke_19 : decode cX2_poke 19 = .ok (.getfield 8, 3) := by decide +kernel
theorem dX2_poke_22 : decode cX2_poke 22 = .ok (.iload_n 1, 1) := by decide +kernel
theorem dX2_poke_23 : decode cX2_poke 23 = .ok (.iconst 4, 1) := by decide +kernel
theorem dX2_poke_24 : decode cX2_poke 24 = .ok (.idiv, 1) := by decide +kernel
theorem dX2_poke_25 : decode cX2_poke 25 = .ok (.iload_n 2, 1) := by decide +kernel
theorem dX2_poke_26 : decode cX2_poke 26 = .ok (.iastore, 1) := by decide +kernel
theorem dX2_poke_27 : decode cX2_poke 27 = .ok (.aload_n 0, 1) := by decide +kernel
theorem dX2_poke_28 : decode cX2_poke 28 = .ok (.getfield 8, 3) := by decide +kernel
theorem dX2_poke_31 : decode cX2_poke 31 = .ok (.iload_n 1, 1) := by decide +kernel
theorem dX2_poke_32 : decode cX2_poke 32 = .ok (.iconst 4, 1) := by decide +kernel
theorem dX2_poke_33 : decode cX2_poke 33 = .ok (.idiv, 1) := by decide +kernel
theorem dX2_poke_34 : decode cX2_poke 34 = .ok (.iconst 1, 1) := by decide +kernel
theorem dX2_poke_35 : decode cX2_poke 35 = .ok (.iadd, 1) := by decide +kernel
theorem dX2_poke_36 : decode cX2_poke 36 = .ok (.iload_n 3, 1) := by decide +kernel
theorem dX2_poke_37 : decode cX2_poke 37 = .ok (.iastore, 1) := by decide +kernel
theorem dX2_poke_38 : decode cX2_poke 38 = .ok (.aload_n 0, 1) := by decide +kernel
theorem dX2_poke_39 : decode cX2_poke 39 = .ok (.getfield 8, 3) := by decide +kernel
theorem dX2_poke_42 : decode cX2_poke 42 = .ok (.iload_n 1, 1) := by decide +kernel
theorem dX2_poke_43 : decode cX2_poke 43 = .ok (.iconst 4, 1) := by decide +kernel
theorem dX2_poke_44 : decode cX2_poke 44 = .ok (.idiv, 1) := by decide +kernel
theorem dX2_poke_45 : decode cX2_poke 45 = .ok (.iconst 2, 1) := by decide +kernel
theorem dX2_poke_46 : decode cX2_poke 46 = .ok (.iadd, 1) := by decide +kernel
theorem dX2_poke_47 : decode cX2_poke 47 = .ok (.iload 4, 2) := by decide +kernel
theorem dX2_poke_49 : decode cX2_poke 49 = .ok (.iastore, 1) := by decide +kernel
theorem dX2_poke_50 : decode cX2_poke 50 = .ok (.aload_n 0, 1) := by decide +kernel
theorem dX2_poke_51 : decode cX2_poke 51 = .ok (.getfield 8, 3) := by decide +kernel
theorem dX2_poke_54 : decode cX2_poke 54 = .ok (.iload_n 1, 1) := by decide +kernel
theorem dX2_poke_55 : decode cX2_poke 55 = .ok (.iconst 4, 1) := by decide +kernel
theorem dX2_poke_56 : decode cX2_poke 56 = .ok (.idiv, 1) := by decide +kernel
theorem dX2_poke_57 : decode cX2_poke 57 = .ok (.iconst 3, 1) := by decide +kernel
theorem dX2_poke_58 : decode cX2_poke 58 = .ok (.iadd, 1) := by decide +kernel
theorem dX2_poke_59 : decode cX2_poke 59 = .ok (.iload 5, 2) := by decide +kernel
theorem dX2_poke_61 : decode cX2_poke 61 = .ok (.iastore, 1) := by decide +kernel
theorem dX2_poke_62 : decode cX2_poke 62 = .ok (.aload_n 0, 1) := by decide +kernel
theorem dX2_poke_63 : decode cX2_poke 63 = .ok (.getfield 8, 3) := by decide +kernel
theorem dX2_poke_66 : decode cX2_poke 66 = .ok (.iload_n 1, 1) := by decide +kernel
theorem dX2_poke_67 : decode cX2_poke 67 = .ok (.iconst 4, 1) := by decide +kernel
theorem dX2_poke_68 : decode cX2_poke 68 = .ok (.idiv, 1) := by decide +kernel
theorem dX2_poke_69 : decode cX2_poke 69 = .ok (.iconst 4, 1) := by decide +kernel
theorem dX2_poke_70 : decode cX2_poke 70 = .ok (.iadd, 1) := by decide +kernel
theorem dX2_poke_71 : decode cX2_poke 71 = .ok (.iload 6, 2) := by decide +kernel
theorem dX2_poke_73 : decode cX2_poke 73 = .ok (.iastore, 1) := by decide +kernel
theorem dX2_poke_74 : decode cX2_poke 74 = .ok (.iload_n 1, 1) := by decide +kernel
theorem dX2_poke_75 : decode cX2_poke 75 = .ok (.bipush 20, 2) := by decide +kernel
theorem dX2_poke_77 : decode cX2_poke 77 = .ok (.iadd, 1) := by decide +kernel
theorem dX2_poke_78 : decode cX2_poke 78 = .ok (.ireturn, 1) := by decide +kernel
abbrev cX2_word : ByteArray := prog_4_method_5_code
def yX2_word : MethodName := ⟨RX2, "word", "(I)I"⟩
theorem dX2_word_0 : decode cX2_word 0 = .ok (.iload_n 1, 1) := by decide +kernel
theorem dX2_word_1 : decode cX2_word 1 = .ok (.ifCond .lt 15, 3) := by decide +kernel
theorem dX2_word_4 : decode cX2_word 4 = .ok (.iload_n 1, 1) := by decide +kernel
theorem dX2_word_5 : decode cX2_word 5 = .ok (.ldc 44, 2) := by decide +kernel
theorem dX2_word_7 : decode cX2_word 7 = .ok (.if_icmp .ge 9, 3) := by decide +kernel
theorem dX2_word_10 : decode cX2_word 10 = .ok (.iload_n 1, 1) := by decide +kernel
theorem dX2_word_11 : decode cX2_word 11 = .ok (.iconst 4, 1) := by decide +kernel
theorem dX2_word_12 : decode cX2_word 12 = .ok (.irem, 1) := by decide +kernel
theorem dX2_word_13 : decode cX2_word 13 = .ok (.ifCond .eq 7, 3) := by decide +kernel
theorem dX2_word_16 : decode cX2_word 16 = .ok (.iconst 0, 1) := by decide +kernel
theorem dX2_word_17 : decode cX2_word 17 = .ok (.goto 11, 3) := by decide +kernel
theorem dX2_word_20 : decode cX2_word 20 = .ok (.aload_n 0, 1) := by decide +kernel
theorem dX2_word_21 : decode cX2_word 21 = .ok (.getfield 8, 3) := by decide +kernel
theorem dX2_word_24 : decode cX2_word 24 = .ok (.iload_n 1, 1) := by decide +kernel
theorem dX2_word_25 : decode cX2_word 25 = .ok (.iconst 4, 1) := by decide +kernel
theorem dX2_word_26 : decode cX2_word 26 = .ok (.idiv, 1) := by decide +kernel
theorem dX2_word_27 : decode cX2_word 27 = .ok (.iaload, 1) := by decide +kernel
theorem dX2_word_28 : decode cX2_word 28 = .ok (.ireturn, 1) := by decide +kernel
abbrev cX2_roots : ByteArray := prog_4_method_6_code
def yX2_roots : MethodName := ⟨RX2, "roots", "(III)V"⟩
theorem dX2_roots_0 : decode cX2_roots 0 = .ok (.aload_n 0, 1) := by decide +kernel
theorem dX2_roots_1 : decode cX2_roots 1 = .ok (.iload_n 1, 1) := by decide +kernel
theorem dX2_roots_2 : decode cX2_roots 2 = .ok (.putfield 21, 3) := by decide +kernel
theorem dX2_roots_5 : decode cX2_roots 5 = .ok (.aload_n 0, 1) := by decide +kernel
theorem dX2_roots_6 : decode cX2_roots 6 = .ok (.iload_n 2, 1) := by decide +kernel
theorem dX2_roots_7 : decode cX2_roots 7 = .ok (.putfield 24, 3) := by decide +kernel
theorem dX2_roots_10 : decode cX2_roots 10 = .ok (.aload_n 0, 1) := by decide +kernel
theorem dX2_roots_11 : decode cX2_roots 11 = .ok (.iload_n 3, 1) := by decide +kernel
theorem dX2_roots_12 : decode cX2_roots 12 = .ok (.putfield 27, 3) := by decide +kernel
theorem dX2_roots_15 : decode cX2_roots 15 = .ok (.return_, 1) := by decide +kernel
abbrev cX2_rights : ByteArray := prog_4_method_7_code
def yX2_rights : MethodName := ⟨RX2, "rights", "(I)I"⟩
theorem dX2_rights_0 : decode cX2_rights 0 = .ok (.aload_n 0, 1) := by decide +kernel
theorem dX2_rights_1 : decode cX2_rights 1 = .ok (.getfield 30, 3) := by decide +kernel
theorem dX2_rights_4 : decode cX2_rights 4 = .ok (.istore_n 2, 1) := by decide +kernel
theorem dX2_rights_5 : decode cX2_rights 5 = .ok (.aload_n 0, 1) := by decide +kernel
theorem dX2_rights_6 : decode cX2_rights 6 = .ok (.iload_n 1, 1) := by decide +kernel
theorem dX2_rights_7 : decode cX2_rights 7 = .ok (.bipush 15, 2) := by decide +kernel
theorem dX2_rights_9 : decode cX2_rights 9 = .ok (.iand, 1) := by decide +kernel
theorem dX2_rights_10 : decode cX2_rights 10 = .ok (.putfield 30, 3) := by decide +kernel
theorem dX2_rights_13 : decode cX2_rights 13 = .ok (.iload_n 2, 1) := by decide +kernel
theorem dX2_rights_14 : decode cX2_rights 14 = .ok (.ireturn, 1) := by decide +kernel
abbrev cX2_translate : ByteArray := prog_4_method_20_code
def yX2_translate : MethodName := ⟨RX2, "translate", "(III)I"⟩
theorem dX2_translate_0 : decode cX2_translate 0 = .ok (.iload_n 1, 1) := by decide +kernel
theorem dX2_translate_1 : decode cX2_translate 1 = .ok (.iload_n 2, 1) := by decide +kernel
theorem dX2_translate_2 : decode cX2_translate 2 = .ok (.invokestatic 130, 3) := by decide +kernel
theorem dX2_translate_5 : decode cX2_translate 5 = .ok (.ifCond .eq 5, 3) := by decide +kernel
theorem dX2_translate_8 : decode cX2_translate 8 = .ok (.iconst (-1), 1) := by decide +kernel
theorem dX2_translate_9 : decode cX2_translate 9 = .ok (.ireturn, 1) := by decide +kernel
theorem dX2_translate_10 : decode cX2_translate 10 = .ok (.aload_n 0, 1) := by decide +kernel
theorem dX2_translate_11 : decode cX2_translate 11 = .ok (.iload_n 1, 1) := by decide +kernel
theorem dX2_translate_12 : decode cX2_translate 12 = .ok (.iload_n 2, 1) := by decide +kernel
theorem dX2_translate_13 : decode cX2_translate 13 = .ok (.iload_n 3, 1) := by decide +kernel
theorem dX2_translate_14 : decode cX2_translate 14 = .ok (.invokevirtual 133, 3) := by decide +kernel
theorem dX2_translate_17 : decode cX2_translate 17 = .ok (.lstore 4, 2) := by decide +kernel
theorem dX2_translate_19 : decode cX2_translate 19 = .ok (.aload_n 0, 1) := by decide +kernel
theorem dX2_translate_20 : decode cX2_translate 20 = .ok (.lload 4, 2) := by decide +kernel
theorem dX2_translate_22 : decode cX2_translate 22 = .ok (.l2i, 1) := by decide +kernel
theorem dX2_translate_23 : decode cX2_translate 23 = .ok (.putfield 33, 3) := by decide +kernel
theorem dX2_translate_26 : decode cX2_translate 26 = .ok (.aload_n 0, 1) := by decide +kernel
theorem dX2_translate_27 : decode cX2_translate 27 = .ok (.lload 4, 2) := by decide +kernel
theorem dX2_translate_29 : decode cX2_translate 29 = .ok (.lconst 0, 1) := by decide +kernel
theorem dX2_translate_30 : decode cX2_translate 30 = .ok (.lcmp, 1) := by decide +kernel
theorem dX2_translate_31 : decode cX2_translate 31 = .ok (.ifCond .ge 15, 3) := by decide +kernel
theorem dX2_translate_34 : decode cX2_translate 34 = .ok (.aload_n 0, 1) := by decide +kernel
theorem dX2_translate_35 : decode cX2_translate 35 = .ok (.getfield 48, 3) := by decide +kernel
theorem dX2_translate_38 : decode cX2_translate 38 = .ok (.ldc2_w 66, 3) := by decide +kernel
theorem dX2_translate_41 : decode cX2_translate 41 = .ok (.ldiv, 1) := by decide +kernel
theorem dX2_translate_42 : decode cX2_translate 42 = .ok (.l2i, 1) := by decide +kernel
theorem dX2_translate_43 : decode cX2_translate 43 = .ok (.goto 4, 3) := by decide +kernel
theorem dX2_translate_46 : decode cX2_translate 46 = .ok (.iconst 0, 1) := by decide +kernel
theorem dX2_translate_47 : decode cX2_translate 47 = .ok (.putfield 36, 3) := by decide +kernel
theorem dX2_translate_50 : decode cX2_translate 50 = .ok (.aload_n 0, 1) := by decide +kernel
theorem dX2_translate_51 : decode cX2_translate 51 = .ok (.lload 4, 2) := by decide +kernel
theorem dX2_translate_53 : decode cX2_translate 53 = .ok (.lconst 0, 1) := by decide +kernel
theorem dX2_translate_54 : decode cX2_translate 54 = .ok (.lcmp, 1) := by decide +kernel
theorem dX2_translate_55 : decode cX2_translate 55 = .ok (.ifCond .ge 14, 3) := by decide +kernel
theorem dX2_translate_58 : decode cX2_translate 58 = .ok (.aload_n 0, 1) := by decide +kernel
theorem dX2_translate_59 : decode cX2_translate 59 = .ok (.getfield 52, 3) := by decide +kernel
theorem dX2_translate_62 : decode cX2_translate 62 = .ok (.ifCond .eq 7, 3) := by decide +kernel
theorem dX2_translate_65 : decode cX2_translate 65 = .ok (.iconst 1, 1) := by decide +kernel
theorem dX2_translate_66 : decode cX2_translate 66 = .ok (.goto 4, 3) := by decide +kernel
theorem dX2_translate_69 : decode cX2_translate 69 = .ok (.iconst 0, 1) := by decide +kernel
theorem dX2_translate_70 : decode cX2_translate 70 = .ok (.putfield 39, 3) := by decide +kernel
theorem dX2_translate_73 : decode cX2_translate 73 = .ok (.lload 4, 2) := by decide +kernel
theorem dX2_translate_75 : decode cX2_translate 75 = .ok (.lconst 0, 1) := by decide +kernel
theorem dX2_translate_76 : decode cX2_translate 76 = .ok (.lcmp, 1) := by decide +kernel
theorem dX2_translate_77 : decode cX2_translate 77 = .ok (.ifCond .ge 10, 3) := by decide +kernel
theorem dX2_translate_80 : decode cX2_translate 80 = .ok (.aload_n 0, 1) := by decide +kernel
theorem dX2_translate_81 : decode cX2_translate 81 = .ok (.getfield 45, 3) := by decide +kernel
theorem dX2_translate_84 : decode cX2_translate 84 = .ok (.goto 4, 3) := by decide +kernel
theorem dX2_translate_87 : decode cX2_translate 87 = .ok (.iconst 0, 1) := by decide +kernel
theorem dX2_translate_88 : decode cX2_translate 88 = .ok (.ireturn, 1) := by decide +kernel
abbrev cX2_isNone : ByteArray := prog_4_method_18_code
def yX2_isNone : MethodName := ⟨RX2, "isNone", "(II)Z"⟩
theorem dX2_isNone_0 : decode cX2_isNone 0 = .ok (.iload_n 0, 1) := by decide +kernel
theorem dX2_isNone_1 : decode cX2_isNone 1 = .ok (.ifCond .lt 26, 3) := by decide +kernel
theorem dX2_isNone_4 : decode cX2_isNone 4 = .ok (.iload_n 0, 1) := by decide +kernel
theorem dX2_isNone_5 : decode cX2_isNone 5 = .ok (.iconst 3, 1) := by decide +kernel
theorem dX2_isNone_6 : decode cX2_isNone 6 = .ok (.if_icmp .gt 21, 3) := by decide +kernel
theorem dX2_isNone_9 : decode cX2_isNone 9 = .ok (.iload_n 1, 1) := by decide +kernel
theorem dX2_isNone_10 : decode cX2_isNone 10 = .ok (.ifCond .lt 17, 3) := by decide +kernel
theorem dX2_isNone_13 : decode cX2_isNone 13 = .ok (.iload_n 1, 1) := by decide +kernel
theorem dX2_isNone_14 : decode cX2_isNone 14 = .ok (.iload_n 0, 1) := by decide +kernel
theorem dX2_isNone_15 : decode cX2_isNone 15 = .ok (.iconst 1, 1) := by decide +kernel
theorem dX2_isNone_16 : decode cX2_isNone 16 = .ok (.if_icmp .le 7, 3) := by decide +kernel
theorem dX2_isNone_19 : decode cX2_isNone 19 = .ok (.iconst 3, 1) := by decide +kernel
theorem dX2_isNone_20 : decode cX2_isNone 20 = .ok (.goto 4, 3) := by decide +kernel
theorem dX2_isNone_23 : decode cX2_isNone 23 = .ok (.iconst 2, 1) := by decide +kernel
theorem dX2_isNone_24 : decode cX2_isNone 24 = .ok (.if_icmp .le 7, 3) := by decide +kernel
theorem dX2_isNone_27 : decode cX2_isNone 27 = .ok (.iconst 1, 1) := by decide +kernel
theorem dX2_isNone_28 : decode cX2_isNone 28 = .ok (.goto 4, 3) := by decide +kernel
theorem dX2_isNone_31 : decode cX2_isNone 31 = .ok (.iconst 0, 1) := by decide +kernel
theorem dX2_isNone_32 : decode cX2_isNone 32 = .ok (.ireturn, 1) := by decide +kernel
abbrev cX2_lead : ByteArray := prog_4_method_19_code
def yX2_lead : MethodName := ⟨RX2, "lead", "(III)J"⟩
theorem dX2_lead_0 : decode cX2_lead 0 = .ok (.aload_n 0, 1) := by decide +kernel
theorem dX2_lead_1 : decode cX2_lead 1 = .ok (.iload_n 2, 1) := by decide +kernel
theorem dX2_lead_2 : decode cX2_lead 2 = .ok (.iconst 3, 1) := by decide +kernel
theorem dX2_lead_3 : decode cX2_lead 3 = .ok (.if_icmp .ne 7, 3) := by decide +kernel
theorem dX2_lead_6 : decode cX2_lead 6 = .ok (.iconst 1, 1) := by decide +kernel
theorem dX2_lead_7 : decode cX2_lead 7 = .ok (.goto 4, 3) := by decide +kernel
theorem dX2_lead_10 : decode cX2_lead 10 = .ok (.iload_n 2, 1) := by decide +kernel
theorem dX2_lead_11 : decode cX2_lead 11 = .ok (.putfield 57, 3) := by decide +kernel
theorem dX2_lead_14 : decode cX2_lead 14 = .ok (.aload_n 0, 1) := by decide +kernel
theorem dX2_lead_15 : decode cX2_lead 15 = .ok (.iload_n 2, 1) := by decide +kernel
theorem dX2_lead_16 : decode cX2_lead 16 = .ok (.iconst 3, 1) := by decide +kernel
theorem dX2_lead_17 : decode cX2_lead 17 = .ok (.if_icmp .ne 7, 3) := by decide +kernel
theorem dX2_lead_20 : decode cX2_lead 20 = .ok (.iconst 1, 1) := by decide +kernel
theorem dX2_lead_21 : decode cX2_lead 21 = .ok (.goto 4, 3) := by decide +kernel
theorem dX2_lead_24 : decode cX2_lead 24 = .ok (.iconst 0, 1) := by decide +kernel
theorem dX2_lead_25 : decode cX2_lead 25 = .ok (.putfield 124, 3) := by decide +kernel
theorem dX2_lead_28 : decode cX2_lead 28 = .ok (.aload_n 0, 1) := by decide +kernel
theorem dX2_lead_29 : decode cX2_lead 29 = .ok (.iload_n 1, 1) := by decide +kernel
theorem dX2_lead_30 : decode cX2_lead 30 = .ok (.iconst 1, 1) := by decide +kernel
theorem dX2_lead_31 : decode cX2_lead 31 = .ok (.if_icmp .le 7, 3) := by decide +kernel
theorem dX2_lead_34 : decode cX2_lead 34 = .ok (.iconst 1, 1) := by decide +kernel
theorem dX2_lead_35 : decode cX2_lead 35 = .ok (.goto 4, 3) := by decide +kernel
theorem dX2_lead_38 : decode cX2_lead 38 = .ok (.iconst 0, 1) := by decide +kernel
theorem dX2_lead_39 : decode cX2_lead 39 = .ok (.putfield 127, 3) := by decide +kernel
theorem dX2_lead_42 : decode cX2_lead 42 = .ok (.aload_n 0, 1) := by decide +kernel
theorem dX2_lead_43 : decode cX2_lead 43 = .ok (.iload_n 1, 1) := by decide +kernel
theorem dX2_lead_44 : decode cX2_lead 44 = .ok (.ifCond .eq 8, 3) := by decide +kernel
theorem dX2_lead_47 : decode cX2_lead 47 = .ok (.iload_n 1, 1) := by decide +kernel
theorem dX2_lead_48 : decode cX2_lead 48 = .ok (.iconst 2, 1) := by decide +kernel
theorem dX2_lead_49 : decode cX2_lead 49 = .ok (.if_icmp .ne 7, 3) := by decide +kernel
theorem dX2_lead_52 : decode cX2_lead 52 = .ok (.iconst 1, 1) := by decide +kernel
theorem dX2_lead_53 : decode cX2_lead 53 = .ok (.goto 4, 3) := by decide +kernel
theorem dX2_lead_56 : decode cX2_lead 56 = .ok (.iconst 0, 1) := by decide +kernel
theorem dX2_lead_57 : decode cX2_lead 57 = .ok (.putfield 117, 3) := by decide +kernel
theorem dX2_lead_60 : decode cX2_lead 60 = .ok (.iload_n 3, 1) := by decide +kernel
theorem dX2_lead_61 : decode cX2_lead 61 = .ok (.i2l, 1) := by decide +kernel
theorem dX2_lead_62 : decode cX2_lead 62 = .ok (.ldc2_w 88, 3) := by decide +kernel
theorem dX2_lead_65 : decode cX2_lead 65 = .ok (.land, 1) := by decide +kernel
theorem dX2_lead_66 : decode cX2_lead 66 = .ok (.lstore 4, 2) := by decide +kernel
theorem dX2_lead_68 : decode cX2_lead 68 = .ok (.aload_n 0, 1) := by decide +kernel
theorem dX2_lead_69 : decode cX2_lead 69 = .ok (.getfield 127, 3) := by decide +kernel
theorem dX2_lead_72 : decode cX2_lead 72 = .ok (.ifCond .eq 10, 3) := by decide +kernel
theorem dX2_lead_75 : decode cX2_lead 75 = .ok (.aload_n 0, 1) := by decide +kernel
theorem dX2_lead_76 : decode cX2_lead 76 = .ok (.getfield 24, 3) := by decide +kernel
theorem dX2_lead_79 : decode cX2_lead 79 = .ok (.goto 7, 3) := by decide +kernel
theorem dX2_lead_82 : decode cX2_lead 82 = .ok (.aload_n 0, 1) := by decide +kernel
theorem dX2_lead_83 : decode cX2_lead 83 = .ok (.getfield 21, 3) := by decide +kernel
theorem dX2_lead_86 : decode cX2_lead 86 = .ok (.istore 6, 2) := by decide +kernel
theorem dX2_lead_88 : decode cX2_lead 88 = .ok (.iload 6, 2) := by decide +kernel
theorem dX2_lead_90 : decode cX2_lead 90 = .ok (.ifCond .ge 36, 3) := by decide +kernel
theorem dX2_lead_93 : decode cX2_lead 93 = .ok (.aload_n 0, 1) := by decide +kernel
theorem dX2_lead_94 : decode cX2_lead 94 = .ok (.aload_n 0, 1) := by decide +kernel
theorem dX2_lead_95 : decode cX2_lead 95 = .ok (.getfield 127, 3) := by decide +kernel
theorem dX2_lead_98 : decode cX2_lead 98 = .ok (.ifCond .eq 7, 3) := by decide +kernel
theorem dX2_lead_101 : decode cX2_lead 101 = .ok (.iconst 1, 1) := by decide +kernel
theorem dX2_lead_102 : decode cX2_lead 102 = .ok (.goto 4, 3) := by decide +kernel
theorem dX2_lead_105 : decode cX2_lead 105 = .ok (.iconst 0, 1) := by decide +kernel
theorem dX2_lead_106 : decode cX2_lead 106 = .ok (.iload 6, 2) := by decide +kernel
theorem dX2_lead_108 : decode cX2_lead 108 = .ok (.i2l, 1) := by decide +kernel
theorem dX2_lead_109 : decode cX2_lead 109 = .ok (.ldc2_w 109, 3) := by decide +kernel
theorem dX2_lead_112 : decode cX2_lead 112 = .ok (.land, 1) := by decide +kernel
theorem dX2_lead_113 : decode cX2_lead 113 = .ok (.ldc2_w 70, 3) := by decide +kernel
theorem dX2_lead_116 : decode cX2_lead 116 = .ok (.lmul, 1) := by decide +kernel
theorem dX2_lead_117 : decode cX2_lead 117 = .ok (.lload 4, 2) := by decide +kernel
theorem dX2_lead_119 : decode cX2_lead 119 = .ok (.iconst 0, 1) := by decide +kernel
theorem dX2_lead_120 : decode cX2_lead 120 = .ok (.invokevirtual 72, 3) := by decide +kernel
theorem dX2_lead_123 : decode cX2_lead 123 = .ok (.goto 21, 3) := by decide +kernel
theorem dX2_lead_126 : decode cX2_lead 126 = .ok (.aload_n 0, 1) := by decide +kernel
theorem dX2_lead_127 : decode cX2_lead 127 = .ok (.getfield 127, 3) := by decide +kernel
theorem dX2_lead_130 : decode cX2_lead 130 = .ok (.ifCond .eq 8, 3) := by decide +kernel
theorem dX2_lead_133 : decode cX2_lead 133 = .ok (.lload 4, 2) := by decide +kernel
theorem dX2_lead_135 : decode cX2_lead 135 = .ok (.goto 9, 3) := by decide +kernel
theorem dX2_lead_138 : decode cX2_lead 138 = .ok (.aload_n 0, 1) := by decide +kernel
theorem dX2_lead_139 : decode cX2_lead 139 = .ok (.lload 4, 2) := by decide +kernel
theorem dX2_lead_141 : decode cX2_lead 141 = .ok (.invokevirtual 76, 3) := by decide +kernel
theorem dX2_lead_144 : decode cX2_lead 144 = .ok (.lstore 7, 2) := by decide +kernel
theorem dX2_lead_146 : decode cX2_lead 146 = .ok (.lload 7, 2) := by decide +kernel
theorem dX2_lead_148 : decode cX2_lead 148 = .ok (.lconst 0, 1) := by decide +kernel
theorem dX2_lead_149 : decode cX2_lead 149 = .ok (.lcmp, 1) := by decide +kernel
theorem dX2_lead_150 : decode cX2_lead 150 = .ok (.ifCond .lt 10, 3) := by decide +kernel
theorem dX2_lead_153 : decode cX2_lead 153 = .ok (.aload_n 0, 1) := by decide +kernel
theorem dX2_lead_154 : decode cX2_lead 154 = .ok (.getfield 127, 3) := by decide +kernel
theorem dX2_lead_157 : decode cX2_lead 157 = .ok (.ifCond .ne 8, 3) := by decide +kernel
theorem dX2_lead_160 : decode cX2_lead 160 = .ok (.lload 7, 2) := by decide +kernel
theorem dX2_lead_162 : decode cX2_lead 162 = .ok (.goto 10, 3) := by decide +kernel
theorem dX2_lead_165 : decode cX2_lead 165 = .ok (.aload_n 0, 1) := by decide +kernel
theorem dX2_lead_166 : decode cX2_lead 166 = .ok (.lload 7, 2) := by decide +kernel
theorem dX2_lead_168 : decode cX2_lead 168 = .ok (.iconst 0, 1) := by decide +kernel
theorem dX2_lead_169 : decode cX2_lead 169 = .ok (.invokevirtual 80, 3) := by decide +kernel
theorem dX2_lead_172 : decode cX2_lead 172 = .ok (.lreturn, 1) := by decide +kernel
abbrev cX2_walk : ByteArray := prog_4_method_15_code
def yX2_walk : MethodName := ⟨RX2, "walk", "(IJJZ)J"⟩
theorem dX2_walk_0 : decode cX2_walk 0 = .ok (.lload 4, 2) := by decide +kernel
theorem dX2_walk_2 : decode cX2_walk 2 = .ok (.bipush 22, 2) := by decide +kernel
theorem dX2_walk_4 : decode cX2_walk 4 = .ok (.lshr, 1) := by decide +kernel
theorem dX2_walk_5 : decode cX2_walk 5 = .ok (.lstore 7, 2) := by decide +kernel
theorem dX2_walk_7 : decode cX2_walk 7 = .ok (.aload_n 0, 1) := by decide +kernel
theorem dX2_walk_8 : decode cX2_walk 8 = .ok (.iload_n 1, 1) := by decide +kernel
theorem dX2_walk_9 : decode cX2_walk 9 = .ok (.lload_n 2, 1) := by decide +kernel
theorem dX2_walk_10 : decode cX2_walk 10 = .ok (.ldc2_w 66, 3) := by decide +kernel
theorem dX2_walk_13 : decode cX2_walk 13 = .ok (.lload 7, 2) := by decide +kernel
theorem dX2_walk_15 : decode cX2_walk 15 = .ok (.lmul, 1) := by decide +kernel
theorem dX2_walk_16 : decode cX2_walk 16 = .ok (.ladd, 1) := by decide +kernel
theorem dX2_walk_17 : decode cX2_walk 17 = .ok (.invokevirtual 90, 3) := by decide +kernel
theorem dX2_walk_20 : decode cX2_walk 20 = .ok (.lstore 9, 2) := by decide +kernel
theorem dX2_walk_22 : decode cX2_walk 22 = .ok (.lload 9, 2) := by decide +kernel
theorem dX2_walk_24 : decode cX2_walk 24 = .ok (.lconst 0, 1) := by decide +kernel
theorem dX2_walk_25 : decode cX2_walk 25 = .ok (.lcmp, 1) := by decide +kernel
theorem dX2_walk_26 : decode cX2_walk 26 = .ok (.ifCond .ge 7, 3) := by decide +kernel
theorem dX2_walk_29 : decode cX2_walk 29 = .ok (.ldc2_w 55, 3) := by decide +kernel
theorem dX2_walk_32 : decode cX2_walk 32 = .ok (.lreturn, 1) := by decide +kernel
theorem dX2_walk_33 : decode cX2_walk 33 = .ok (.lload 9, 2) := by decide +kernel
theorem dX2_walk_35 : decode cX2_walk 35 = .ok (.ldc2_w 94, 3) := by decide +kernel
theorem dX2_walk_38 : decode cX2_walk 38 = .ok (.land, 1) := by decide +kernel
theorem dX2_walk_39 : decode cX2_walk 39 = .ok (.lconst 0, 1) := by decide +kernel
theorem dX2_walk_40 : decode cX2_walk 40 = .ok (.lcmp, 1) := by decide +kernel
theorem dX2_walk_41 : decode cX2_walk 41 = .ok (.ifCond .eq 7, 3) := by decide +kernel
theorem dX2_walk_44 : decode cX2_walk 44 = .ok (.iconst 1, 1) := by decide +kernel
theorem dX2_walk_45 : decode cX2_walk 45 = .ok (.goto 4, 3) := by decide +kernel
theorem dX2_walk_48 : decode cX2_walk 48 = .ok (.iconst 0, 1) := by decide +kernel
theorem dX2_walk_49 : decode cX2_walk 49 = .ok (.istore 11, 2) := by decide +kernel
theorem dX2_walk_51 : decode cX2_walk 51 = .ok (.iload 11, 2) := by decide +kernel
theorem dX2_walk_53 : decode cX2_walk 53 = .ok (.ifCond .ne 75, 3) := by decide +kernel
theorem dX2_walk_56 : decode cX2_walk 56 = .ok (.lload 9, 2) := by decide +kernel
theorem dX2_walk_58 : decode cX2_walk 58 = .ok (.lconst 1, 1) := by decide +kernel
theorem dX2_walk_59 : decode cX2_walk 59 = .ok (.land, 1) := by decide +kernel
theorem dX2_walk_60 : decode cX2_walk 60 = .ok (.lconst 0, 1) := by decide +kernel
theorem dX2_walk_61 : decode cX2_walk 61 = .ok (.lcmp, 1) := by decide +kernel
theorem dX2_walk_62 : decode cX2_walk 62 = .ok (.ifCond .eq 14, 3) := by decide +kernel
theorem dX2_walk_65 : decode cX2_walk 65 = .ok (.lload 9, 2) := by decide +kernel
theorem dX2_walk_67 : decode cX2_walk 67 = .ok (.ldc2_w 96, 3) := by decide +kernel
theorem dX2_walk_70 : decode cX2_walk 70 = .ok (.land, 1) := by decide +kernel
theorem dX2_walk_71 : decode cX2_walk 71 = .ok (.lconst 0, 1) := by decide +kernel
theorem dX2_walk_72 : decode cX2_walk 72 = .ok (.lcmp, 1) := by decide +kernel
theorem dX2_walk_73 : decode cX2_walk 73 = .ok (.ifCond .eq 13, 3) := by decide +kernel
theorem dX2_walk_76 : decode cX2_walk 76 = .ok (.aload_n 0, 1) := by decide +kernel
theorem dX2_walk_77 : decode cX2_walk 77 = .ok (.iload_n 1, 1) := by decide +kernel
theorem dX2_walk_78 : decode cX2_walk 78 = .ok (.lload 4, 2) := by decide +kernel
theorem dX2_walk_80 : decode cX2_walk 80 = .ok (.iload 6, 2) := by decide +kernel
theorem dX2_walk_82 : decode cX2_walk 82 = .ok (.invokevirtual 98, 3) := by decide +kernel
theorem dX2_walk_85 : decode cX2_walk 85 = .ok (.lreturn, 1) := by decide +kernel
theorem dX2_walk_86 : decode cX2_walk 86 = .ok (.aload_n 0, 1) := by decide +kernel
theorem dX2_walk_87 : decode cX2_walk 87 = .ok (.iload_n 1, 1) := by decide +kernel
theorem dX2_walk_88 : decode cX2_walk 88 = .ok (.lload 9, 2) := by decide +kernel
theorem dX2_walk_90 : decode cX2_walk 90 = .ok (.ldc2_w 101, 3) := by decide +kernel
theorem dX2_walk_93 : decode cX2_walk 93 = .ok (.ldiv, 1) := by decide +kernel
theorem dX2_walk_94 : decode cX2_walk 94 = .ok (.ldc2_w 70, 3) := by decide +kernel
theorem dX2_walk_97 : decode cX2_walk 97 = .ok (.lmul, 1) := by decide +kernel
theorem dX2_walk_98 : decode cX2_walk 98 = .ok (.ldc2_w 66, 3) := by decide +kernel
theorem dX2_walk_101 : decode cX2_walk 101 = .ok (.lload 4, 2) := by decide +kernel
theorem dX2_walk_103 : decode cX2_walk 103 = .ok (.bipush 12, 2) := by decide +kernel
theorem dX2_walk_105 : decode cX2_walk 105 = .ok (.lshr, 1) := by decide +kernel
theorem dX2_walk_106 : decode cX2_walk 106 = .ok (.ldc2_w 103, 3) := by decide +kernel
theorem dX2_walk_109 : decode cX2_walk 109 = .ok (.land, 1) := by decide +kernel
theorem dX2_walk_110 : decode cX2_walk 110 = .ok (.lmul, 1) := by decide +kernel
theorem dX2_walk_111 : decode cX2_walk 111 = .ok (.ladd, 1) := by decide +kernel
theorem dX2_walk_112 : decode cX2_walk 112 = .ok (.invokevirtual 90, 3) := by decide +kernel
theorem dX2_walk_115 : decode cX2_walk 115 = .ok (.lstore 9, 2) := by decide +kernel
theorem dX2_walk_117 : decode cX2_walk 117 = .ok (.lload 9, 2) := by decide +kernel
theorem dX2_walk_119 : decode cX2_walk 119 = .ok (.lconst 0, 1) := by decide +kernel
theorem dX2_walk_120 : decode cX2_walk 120 = .ok (.lcmp, 1) := by decide +kernel
theorem dX2_walk_121 : decode cX2_walk 121 = .ok (.ifCond .ge 7, 3) := by decide +kernel
theorem dX2_walk_124 : decode cX2_walk 124 = .ok (.ldc2_w 55, 3) := by decide +kernel
theorem dX2_walk_127 : decode cX2_walk 127 = .ok (.lreturn, 1) := by decide +kernel
theorem dX2_walk_128 : decode cX2_walk 128 = .ok (.aload_n 0, 1) := by decide +kernel
theorem dX2_walk_129 : decode cX2_walk 129 = .ok (.iload_n 1, 1) := by decide +kernel
theorem dX2_walk_130 : decode cX2_walk 130 = .ok (.lload 9, 2) := by decide +kernel
theorem dX2_walk_132 : decode cX2_walk 132 = .ok (.l2i, 1) := by decide +kernel
theorem dX2_walk_133 : decode cX2_walk 133 = .ok (.iload 6, 2) := by decide +kernel
theorem dX2_walk_135 : decode cX2_walk 135 = .ok (.invokevirtual 105, 3) := by decide +kernel
theorem dX2_walk_138 : decode cX2_walk 138 = .ok (.ifCond .eq 22, 3) := by decide +kernel
theorem dX2_walk_141 : decode cX2_walk 141 = .ok (.iload 11, 2) := by decide +kernel
theorem dX2_walk_143 : decode cX2_walk 143 = .ok (.ifCond .eq 27, 3) := by decide +kernel
theorem dX2_walk_146 : decode cX2_walk 146 = .ok (.lload 9, 2) := by decide +kernel
theorem dX2_walk_148 : decode cX2_walk 148 = .ok (.bipush 10, 2) := by decide +kernel
theorem dX2_walk_150 : decode cX2_walk 150 = .ok (.lshr, 1) := by decide +kernel
theorem dX2_walk_151 : decode cX2_walk 151 = .ok (.ldc2_w 103, 3) := by decide +kernel
theorem dX2_walk_154 : decode cX2_walk 154 = .ok (.land, 1) := by decide +kernel
theorem dX2_walk_155 : decode cX2_walk 155 = .ok (.lconst 0, 1) := by decide +kernel
theorem dX2_walk_156 : decode cX2_walk 156 = .ok (.lcmp, 1) := by decide +kernel
theorem dX2_walk_157 : decode cX2_walk 157 = .ok (.ifCond .eq 13, 3) := by decide +kernel
theorem dX2_walk_160 : decode cX2_walk 160 = .ok (.aload_n 0, 1) := by decide +kernel
theorem dX2_walk_161 : decode cX2_walk 161 = .ok (.iload_n 1, 1) := by decide +kernel
theorem dX2_walk_162 : decode cX2_walk 162 = .ok (.lload 4, 2) := by decide +kernel
theorem dX2_walk_164 : decode cX2_walk 164 = .ok (.iload 6, 2) := by decide +kernel
theorem dX2_walk_166 : decode cX2_walk 166 = .ok (.invokevirtual 98, 3) := by decide +kernel
theorem dX2_walk_169 : decode cX2_walk 169 = .ok (.lreturn, 1) := by decide +kernel
theorem dX2_walk_170 : decode cX2_walk 170 = .ok (.lload 9, 2) := by decide +kernel
theorem dX2_walk_172 : decode cX2_walk 172 = .ok (.ldc2_w 101, 3) := by decide +kernel
theorem dX2_walk_175 : decode cX2_walk 175 = .ok (.ldiv, 1) := by decide +kernel
theorem dX2_walk_176 : decode cX2_walk 176 = .ok (.lstore 12, 2) := by decide +kernel
theorem dX2_walk_178 : decode cX2_walk 178 = .ok (.iload 11, 2) := by decide +kernel
theorem dX2_walk_180 : decode cX2_walk 180 = .ok (.ifCond .eq 22, 3) := by decide +kernel
theorem dX2_walk_183 : decode cX2_walk 183 = .ok (.lload 12, 2) := by decide +kernel
theorem dX2_walk_185 : decode cX2_walk 185 = .ok (.ldc2_w 101, 3) := by decide +kernel
theorem dX2_walk_188 : decode cX2_walk 188 = .ok (.ldiv, 1) := by decide +kernel
theorem dX2_walk_189 : decode cX2_walk 189 = .ok (.bipush 22, 2) := by decide +kernel
theorem dX2_walk_191 : decode cX2_walk 191 = .ok (.lshl, 1) := by decide +kernel
theorem dX2_walk_192 : decode cX2_walk 192 = .ok (.lload 4, 2) := by decide +kernel
theorem dX2_walk_194 : decode cX2_walk 194 = .ok (.ldc2_w 109, 3) := by decide +kernel
theorem dX2_walk_197 : decode cX2_walk 197 = .ok (.land, 1) := by decide +kernel
theorem dX2_walk_198 : decode cX2_walk 198 = .ok (.ladd, 1) := by decide +kernel
theorem dX2_walk_199 : decode cX2_walk 199 = .ok (.goto 16, 3) := by decide +kernel
theorem dX2_walk_202 : decode cX2_walk 202 = .ok (.lload 12, 2) := by decide +kernel
theorem dX2_walk_204 : decode cX2_walk 204 = .ok (.ldc2_w 70, 3) := by decide +kernel
theorem dX2_walk_207 : decode cX2_walk 207 = .ok (.lmul, 1) := by decide +kernel
theorem dX2_walk_208 : decode cX2_walk 208 = .ok (.lload 4, 2) := by decide +kernel
theorem dX2_walk_210 : decode cX2_walk 210 = .ok (.ldc2_w 111, 3) := by decide +kernel
theorem dX2_walk_213 : decode cX2_walk 213 = .ok (.land, 1) := by decide +kernel
theorem dX2_walk_214 : decode cX2_walk 214 = .ok (.ladd, 1) := by decide +kernel
theorem dX2_walk_215 : decode cX2_walk 215 = .ok (.lstore 14, 2) := by decide +kernel
theorem dX2_walk_217 : decode cX2_walk 217 = .ok (.iload_n 1, 1) := by decide +kernel
theorem dX2_walk_218 : decode cX2_walk 218 = .ok (.iconst 1, 1) := by decide +kernel
theorem dX2_walk_219 : decode cX2_walk 219 = .ok (.if_icmp .ne 8, 3) := by decide +kernel
theorem dX2_walk_222 : decode cX2_walk 222 = .ok (.lload 14, 2) := by decide +kernel
theorem dX2_walk_224 : decode cX2_walk 224 = .ok (.goto 9, 3) := by decide +kernel
theorem dX2_walk_227 : decode cX2_walk 227 = .ok (.aload_n 0, 1) := by decide +kernel
theorem dX2_walk_228 : decode cX2_walk 228 = .ok (.lload 14, 2) := by decide +kernel
theorem dX2_walk_230 : decode cX2_walk 230 = .ok (.invokevirtual 76, 3) := by decide +kernel
theorem dX2_walk_233 : decode cX2_walk 233 = .ok (.lreturn, 1) := by decide +kernel
end
section
set_option maxRecDepth 100000
abbrev cX2_entryAt : ByteArray := prog_4_method_14_code
def yX2_entryAt : MethodName := ⟨RX2, "entryAt", "(IJ)J"⟩
theorem dX2_entryAt_0 : decode cX2_entryAt 0 = .ok (.iload_n 1, 1) := by decide +kernel
theorem dX2_entryAt_1 : decode cX2_entryAt 1 = .ok (.iconst 1, 1) := by decide +kernel
theorem dX2_entryAt_2 : decode cX2_entryAt 2 = .ok (.if_icmp .ne 12, 3) := by decide +kernel
theorem dX2_entryAt_5 : decode cX2_entryAt 5 = .ok (.aload_n 0, 1) := by decide +kernel
theorem dX2_entryAt_6 : decode cX2_entryAt 6 = .ok (.lload_n 2, 1) := by decide +kernel
theorem dX2_entryAt_7 : decode cX2_entryAt 7 = .ok (.iconst 1, 1) := by decide +kernel
theorem dX2_entryAt_8 : decode cX2_entryAt 8 = .ok (.invokevirtual 80, 3) := by decide +kernel
theorem dX2_entryAt_11 : decode cX2_entryAt 11 = .ok (.goto 8, 3) := by decide +kernel
theorem dX2_entryAt_14 : decode cX2_entryAt 14 = .ok (.aload_n 0, 1) := by decide +kernel
theorem dX2_entryAt_15 : decode cX2_entryAt 15 = .ok (.lload_n 2, 1) := by decide +kernel
theorem dX2_entryAt_16 : decode cX2_entryAt 16 = .ok (.invokevirtual 76, 3) := by decide +kernel
theorem dX2_entryAt_19 : decode cX2_entryAt 19 = .ok (.lstore 4, 2) := by decide +kernel
theorem dX2_entryAt_21 : decode cX2_entryAt 21 = .ok (.lload 4, 2) := by decide +kernel
theorem dX2_entryAt_23 : decode cX2_entryAt 23 = .ok (.lconst 0, 1) := by decide +kernel
theorem dX2_entryAt_24 : decode cX2_entryAt 24 = .ok (.lcmp, 1) := by decide +kernel
theorem dX2_entryAt_25 : decode cX2_entryAt 25 = .ok (.ifCond .ge 9, 3) := by decide +kernel
theorem dX2_entryAt_28 : decode cX2_entryAt 28 = .ok (.ldc2_w 55, 3) := by decide +kernel
theorem dX2_entryAt_31 : decode cX2_entryAt 31 = .ok (.goto 14, 3) := by decide +kernel
theorem dX2_entryAt_34 : decode cX2_entryAt 34 = .ok (.aload_n 0, 1) := by decide +kernel
theorem dX2_entryAt_35 : decode cX2_entryAt 35 = .ok (.lload 4, 2) := by decide +kernel
theorem dX2_entryAt_37 : decode cX2_entryAt 37 = .ok (.invokevirtual 84, 3) := by decide +kernel
theorem dX2_entryAt_40 : decode cX2_entryAt 40 = .ok (.i2l, 1) := by decide +kernel
theorem dX2_entryAt_41 : decode cX2_entryAt 41 = .ok (.ldc2_w 88, 3) := by decide +kernel
theorem dX2_entryAt_44 : decode cX2_entryAt 44 = .ok (.land, 1) := by decide +kernel
theorem dX2_entryAt_45 : decode cX2_entryAt 45 = .ok (.lreturn, 1) := by decide +kernel
abbrev cX2_second : ByteArray := prog_4_method_13_code
def yX2_second : MethodName := ⟨RX2, "second", "(JZ)J"⟩
theorem dX2_second_0 : decode cX2_second 0 = .ok (.aload_n 0, 1) := by decide +kernel
theorem dX2_second_1 : decode cX2_second 1 = .ok (.getfield 27, 3) := by decide +kernel
theorem dX2_second_4 : decode cX2_second 4 = .ok (.ifCond .ge 26, 3) := by decide +kernel
theorem dX2_second_7 : decode cX2_second 7 = .ok (.aload_n 0, 1) := by decide +kernel
theorem dX2_second_8 : decode cX2_second 8 = .ok (.iconst 2, 1) := by decide +kernel
theorem dX2_second_9 : decode cX2_second 9 = .ok (.aload_n 0, 1) := by decide +kernel
theorem dX2_second_10 : decode cX2_second 10 = .ok (.getfield 27, 3) := by decide +kernel
theorem dX2_second_13 : decode cX2_second 13 = .ok (.i2l, 1) := by decide +kernel
theorem dX2_second_14 : decode cX2_second 14 = .ok (.ldc2_w 68, 3) := by decide +kernel
theorem dX2_second_17 : decode cX2_second 17 = .ok (.land, 1) := by decide +kernel
theorem dX2_second_18 : decode cX2_second 18 = .ok (.ldc2_w 70, 3) := by decide +kernel
theorem dX2_second_21 : decode cX2_second 21 = .ok (.lmul, 1) := by decide +kernel
theorem dX2_second_22 : decode cX2_second 22 = .ok (.lload_n 1, 1) := by decide +kernel
theorem dX2_second_23 : decode cX2_second 23 = .ok (.iload_n 3, 1) := by decide +kernel
theorem dX2_second_24 : decode cX2_second 24 = .ok (.invokevirtual 72, 3) := by decide +kernel
theorem dX2_second_27 : decode cX2_second 27 = .ok (.goto 8, 3) := by decide +kernel
theorem dX2_second_30 : decode cX2_second 30 = .ok (.aload_n 0, 1) := by decide +kernel
theorem dX2_second_31 : decode cX2_second 31 = .ok (.lload_n 1, 1) := by decide +kernel
theorem dX2_second_32 : decode cX2_second 32 = .ok (.invokevirtual 76, 3) := by decide +kernel
theorem dX2_second_35 : decode cX2_second 35 = .ok (.lreturn, 1) := by decide +kernel
abbrev cX2_inMemory : ByteArray := prog_4_method_11_code
def yX2_inMemory : MethodName := ⟨RX2, "inMemory", "(J)J"⟩
theorem dX2_inMemory_0 : decode cX2_inMemory 0 = .ok (.lload_n 1, 1) := by decide +kernel
theorem dX2_inMemory_1 : decode cX2_inMemory 1 = .ok (.ldc2_w 64, 3) := by decide +kernel
theorem dX2_inMemory_4 : decode cX2_inMemory 4 = .ok (.lcmp, 1) := by decide +kernel
theorem dX2_inMemory_5 : decode cX2_inMemory 5 = .ok (.ifCond .ge 7, 3) := by decide +kernel
theorem dX2_inMemory_8 : decode cX2_inMemory 8 = .ok (.lload_n 1, 1) := by decide +kernel
theorem dX2_inMemory_9 : decode cX2_inMemory 9 = .ok (.goto 34, 3) := by decide +kernel
theorem dX2_inMemory_12 : decode cX2_inMemory 12 = .ok (.aload_n 0, 1) := by decide +kernel
theorem dX2_inMemory_13 : decode cX2_inMemory 13 = .ok (.aload_n 0, 1) := by decide +kernel
theorem dX2_inMemory_14 : decode cX2_inMemory 14 = .ok (.getfield 57, 3) := by decide +kernel
theorem dX2_inMemory_17 : decode cX2_inMemory 17 = .ok (.ifCond .ne 7, 3) := by decide +kernel
theorem dX2_inMemory_20 : decode cX2_inMemory 20 = .ok (.iconst 1, 1) := by decide +kernel
theorem dX2_inMemory_21 : decode cX2_inMemory 21 = .ok (.goto 17, 3) := by decide +kernel
theorem dX2_inMemory_24 : decode cX2_inMemory 24 = .ok (.aload_n 0, 1) := by decide +kernel
theorem dX2_inMemory_25 : decode cX2_inMemory 25 = .ok (.getfield 57, 3) := by decide +kernel
theorem dX2_inMemory_28 : decode cX2_inMemory 28 = .ok (.iconst 1, 1) := by decide +kernel
theorem dX2_inMemory_29 : decode cX2_inMemory 29 = .ok (.if_icmp .ne 7, 3) := by decide +kernel
theorem dX2_inMemory_32 : decode cX2_inMemory 32 = .ok (.iconst 5, 1) := by decide +kernel
theorem dX2_inMemory_33 : decode cX2_inMemory 33 = .ok (.goto 5, 3) := by decide +kernel
theorem dX2_inMemory_36 : decode cX2_inMemory 36 = .ok (.bipush 7, 2) := by decide +kernel
theorem dX2_inMemory_38 : decode cX2_inMemory 38 = .ok (.lconst 0, 1) := by decide +kernel
theorem dX2_inMemory_39 : decode cX2_inMemory 39 = .ok (.iconst 0, 1) := by decide +kernel
theorem dX2_inMemory_40 : decode cX2_inMemory 40 = .ok (.invokevirtual 60, 3) := by decide +kernel
theorem dX2_inMemory_43 : decode cX2_inMemory 43 = .ok (.lreturn, 1) := by decide +kernel
abbrev cX2_fails : ByteArray := prog_4_method_9_code
def yX2_fails : MethodName := ⟨RX2, "fails", "(IJZ)J"⟩
theorem dX2_fails_0 : decode cX2_fails 0 = .ok (.aload_n 0, 1) := by decide +kernel
theorem dX2_fails_1 : decode cX2_fails 1 = .ok (.iload_n 1, 1) := by decide +kernel
theorem dX2_fails_2 : decode cX2_fails 2 = .ok (.putfield 45, 3) := by decide +kernel
theorem dX2_fails_5 : decode cX2_fails 5 = .ok (.aload_n 0, 1) := by decide +kernel
theorem dX2_fails_6 : decode cX2_fails 6 = .ok (.lload_n 2, 1) := by decide +kernel
theorem dX2_fails_7 : decode cX2_fails 7 = .ok (.putfield 48, 3) := by decide +kernel
theorem dX2_fails_10 : decode cX2_fails 10 = .ok (.aload_n 0, 1) := by decide +kernel
theorem dX2_fails_11 : decode cX2_fails 11 = .ok (.iload 4, 2) := by decide +kernel
theorem dX2_fails_13 : decode cX2_fails 13 = .ok (.putfield 52, 3) := by decide +kernel
theorem dX2_fails_16 : decode cX2_fails 16 = .ok (.ldc2_w 55, 3) := by decide +kernel
theorem dX2_fails_19 : decode cX2_fails 19 = .ok (.lreturn, 1) := by decide +kernel
abbrev cX2_wordAt : ByteArray := prog_4_method_12_code
def yX2_wordAt : MethodName := ⟨RX2, "wordAt", "(J)I"⟩
theorem dX2_wordAt_0 : decode cX2_wordAt 0 = .ok (.aload_n 0, 1) := by decide +kernel
theorem dX2_wordAt_1 : decode cX2_wordAt 1 = .ok (.getfield 8, 3) := by decide +kernel
theorem dX2_wordAt_4 : decode cX2_wordAt 4 = .ok (.lload_n 1, 1) := by decide +kernel
theorem dX2_wordAt_5 : decode cX2_wordAt 5 = .ok (.ldc2_w 66, 3) := by decide +kernel
theorem dX2_wordAt_8 : decode cX2_wordAt 8 = .ok (.ldiv, 1) := by decide +kernel
theorem dX2_wordAt_9 : decode cX2_wordAt 9 = .ok (.l2i, 1) := by decide +kernel
theorem dX2_wordAt_10 : decode cX2_wordAt 10 = .ok (.iaload, 1) := by decide +kernel
theorem dX2_wordAt_11 : decode cX2_wordAt 11 = .ok (.ireturn, 1) := by decide +kernel
abbrev cX2_stageFault : ByteArray := prog_4_method_10_code
def yX2_stageFault : MethodName := ⟨RX2, "stageFault", "(IJZ)J"⟩
theorem dX2_stageFault_0 : decode cX2_stageFault 0 = .ok (.aload_n 0, 1) := by decide +kernel
theorem dX2_stageFault_1 : decode cX2_stageFault 1 = .ok (.getfield 57, 3) := by decide +kernel
theorem dX2_stageFault_4 : decode cX2_stageFault 4 = .ok (.ifCond .ne 8, 3) := by decide +kernel
theorem dX2_stageFault_7 : decode cX2_stageFault 7 = .ok (.bipush 12, 2) := by decide +kernel
theorem dX2_stageFault_9 : decode cX2_stageFault 9 = .ok (.goto 18, 3) := by decide +kernel
theorem dX2_stageFault_12 : decode cX2_stageFault 12 = .ok (.aload_n 0, 1) := by decide +kernel
theorem dX2_stageFault_13 : decode cX2_stageFault 13 = .ok (.getfield 57, 3) := by decide +kernel
theorem dX2_stageFault_16 : decode cX2_stageFault 16 = .ok (.iconst 1, 1) := by decide +kernel
theorem dX2_stageFault_17 : decode cX2_stageFault 17 = .ok (.if_icmp .ne 8, 3) := by decide +kernel
theorem dX2_stageFault_20 : decode cX2_stageFault 20 = .ok (.bipush 13, 2) := by decide +kernel
theorem dX2_stageFault_22 : decode cX2_stageFault 22 = .ok (.goto 5, 3) := by decide +kernel
theorem dX2_stageFault_25 : decode cX2_stageFault 25 = .ok (.bipush 15, 2) := by decide +kernel
theorem dX2_stageFault_27 : decode cX2_stageFault 27 = .ok (.istore 5, 2) := by decide +kernel
theorem dX2_stageFault_29 : decode cX2_stageFault 29 = .ok (.iload_n 1, 1) := by decide +kernel
theorem dX2_stageFault_30 : decode cX2_stageFault 30 = .ok (.iconst 2, 1) := by decide +kernel
theorem dX2_stageFault_31 : decode cX2_stageFault 31 = .ok (.if_icmp .ge 14, 3) := by decide +kernel
theorem dX2_stageFault_34 : decode cX2_stageFault 34 = .ok (.aload_n 0, 1) := by decide +kernel
theorem dX2_stageFault_35 : decode cX2_stageFault 35 = .ok (.iload 5, 2) := by decide +kernel
theorem dX2_stageFault_37 : decode cX2_stageFault 37 = .ok (.lconst 0, 1) := by decide +kernel
theorem dX2_stageFault_38 : decode cX2_stageFault 38 = .ok (.iconst 0, 1) := by decide +kernel
theorem dX2_stageFault_39 : decode cX2_stageFault 39 = .ok (.invokevirtual 60, 3) := by decide +kernel
theorem dX2_stageFault_42 : decode cX2_stageFault 42 = .ok (.goto 15, 3) := by decide +kernel
theorem dX2_stageFault_45 : decode cX2_stageFault 45 = .ok (.aload_n 0, 1) := by decide +kernel
theorem dX2_stageFault_46 : decode cX2_stageFault 46 = .ok (.iload 5, 2) := by decide +kernel
theorem dX2_stageFault_48 : decode cX2_stageFault 48 = .ok (.bipush 8, 2) := by decide +kernel
theorem dX2_stageFault_50 : decode cX2_stageFault 50 = .ok (.iadd, 1) := by decide +kernel
theorem dX2_stageFault_51 : decode cX2_stageFault 51 = .ok (.lload_n 2, 1) := by decide +kernel
theorem dX2_stageFault_52 : decode cX2_stageFault 52 = .ok (.iload 4, 2) := by decide +kernel
theorem dX2_stageFault_54 : decode cX2_stageFault 54 = .ok (.invokevirtual 60, 3) := by decide +kernel
theorem dX2_stageFault_57 : decode cX2_stageFault 57 = .ok (.lreturn, 1) := by decide +kernel
abbrev cX2_isAllowed : ByteArray := prog_4_method_17_code
def yX2_isAllowed : MethodName := ⟨RX2, "isAllowed", "(IIZ)Z"⟩
theorem dX2_isAllowed_0 : decode cX2_isAllowed 0 = .ok (.iload_n 2, 1) := by decide +kernel
theorem dX2_isAllowed_1 : decode cX2_isAllowed 1 = .ok (.iconst 1, 1) := by decide +kernel
theorem dX2_isAllowed_2 : decode cX2_isAllowed 2 = .ok (.invokestatic 113, 3) := by decide +kernel
theorem dX2_isAllowed_5 : decode cX2_isAllowed 5 = .ok (.ifCond .ne 19, 3) := by decide +kernel
theorem dX2_isAllowed_8 : decode cX2_isAllowed 8 = .ok (.iload_n 2, 1) := by decide +kernel
theorem dX2_isAllowed_9 : decode cX2_isAllowed 9 = .ok (.iconst 2, 1) := by decide +kernel
theorem dX2_isAllowed_10 : decode cX2_isAllowed 10 = .ok (.invokestatic 113, 3) := by decide +kernel
theorem dX2_isAllowed_13 : decode cX2_isAllowed 13 = .ok (.ifCond .ne 11, 3) := by decide +kernel
theorem dX2_isAllowed_16 : decode cX2_isAllowed 16 = .ok (.iload_n 2, 1) := by decide +kernel
theorem dX2_isAllowed_17 : decode cX2_isAllowed 17 = .ok (.iconst 3, 1) := by decide +kernel
theorem dX2_isAllowed_18 : decode cX2_isAllowed 18 = .ok (.invokestatic 113, 3) := by decide +kernel
theorem dX2_isAllowed_21 : decode cX2_isAllowed 21 = .ok (.ifCond .eq 7, 3) := by decide +kernel
theorem dX2_isAllowed_24 : decode cX2_isAllowed 24 = .ok (.iconst 1, 1) := by decide +kernel
theorem dX2_isAllowed_25 : decode cX2_isAllowed 25 = .ok (.goto 4, 3) := by decide +kernel
theorem dX2_isAllowed_28 : decode cX2_isAllowed 28 = .ok (.iconst 0, 1) := by decide +kernel
theorem dX2_isAllowed_29 : decode cX2_isAllowed 29 = .ok (.istore 4, 2) := by decide +kernel
theorem dX2_isAllowed_31 : decode cX2_isAllowed 31 = .ok (.iload_n 2, 1) := by decide +kernel
theorem dX2_isAllowed_32 : decode cX2_isAllowed 32 = .ok (.iconst 0, 1) := by decide +kernel
theorem dX2_isAllowed_33 : decode cX2_isAllowed 33 = .ok (.invokestatic 113, 3) := by decide +kernel
theorem dX2_isAllowed_36 : decode cX2_isAllowed 36 = .ok (.ifCond .eq 33, 3) := by decide +kernel
theorem dX2_isAllowed_39 : decode cX2_isAllowed 39 = .ok (.iload 4, 2) := by decide +kernel
theorem dX2_isAllowed_41 : decode cX2_isAllowed 41 = .ok (.ifCond .eq 28, 3) := by decide +kernel
theorem dX2_isAllowed_44 : decode cX2_isAllowed 44 = .ok (.iload_n 2, 1) := by decide +kernel
theorem dX2_isAllowed_45 : decode cX2_isAllowed 45 = .ok (.iconst 2, 1) := by decide +kernel
theorem dX2_isAllowed_46 : decode cX2_isAllowed 46 = .ok (.invokestatic 113, 3) := by decide +kernel
theorem dX2_isAllowed_49 : decode cX2_isAllowed 49 = .ok (.ifCond .eq 11, 3) := by decide +kernel
theorem dX2_isAllowed_52 : decode cX2_isAllowed 52 = .ok (.iload_n 2, 1) := by decide +kernel
theorem dX2_isAllowed_53 : decode cX2_isAllowed 53 = .ok (.iconst 1, 1) := by decide +kernel
theorem dX2_isAllowed_54 : decode cX2_isAllowed 54 = .ok (.invokestatic 113, 3) := by decide +kernel
theorem dX2_isAllowed_57 : decode cX2_isAllowed 57 = .ok (.ifCond .eq 12, 3) := by decide +kernel
theorem dX2_isAllowed_60 : decode cX2_isAllowed 60 = .ok (.iload_n 2, 1) := by decide +kernel
theorem dX2_isAllowed_61 : decode cX2_isAllowed 61 = .ok (.bipush 6, 2) := by decide +kernel
theorem dX2_isAllowed_63 : decode cX2_isAllowed 63 = .ok (.invokestatic 113, 3) := by decide +kernel
theorem dX2_isAllowed_66 : decode cX2_isAllowed 66 = .ok (.ifCond .ne 5, 3) := by decide +kernel
theorem dX2_isAllowed_69 : decode cX2_isAllowed 69 = .ok (.iconst 0, 1) := by decide +kernel
theorem dX2_isAllowed_70 : decode cX2_isAllowed 70 = .ok (.ireturn, 1) := by decide +kernel
theorem dX2_isAllowed_71 : decode cX2_isAllowed 71 = .ok (.iload_n 1, 1) := by decide +kernel
theorem dX2_isAllowed_72 : decode cX2_isAllowed 72 = .ok (.iconst 2, 1) := by decide +kernel
theorem dX2_isAllowed_73 : decode cX2_isAllowed 73 = .ok (.if_icmp .eq 10, 3) := by decide +kernel
theorem dX2_isAllowed_76 : decode cX2_isAllowed 76 = .ok (.aload_n 0, 1) := by decide +kernel
theorem dX2_isAllowed_77 : decode cX2_isAllowed 77 = .ok (.getfield 117, 3) := by decide +kernel
theorem dX2_isAllowed_80 : decode cX2_isAllowed 80 = .ok (.ifCond .eq 13, 3) := by decide +kernel
theorem dX2_isAllowed_83 : decode cX2_isAllowed 83 = .ok (.iload_n 2, 1) := by decide +kernel
theorem dX2_isAllowed_84 : decode cX2_isAllowed 84 = .ok (.iconst 4, 1) := by decide +kernel
theorem dX2_isAllowed_85 : decode cX2_isAllowed 85 = .ok (.invokestatic 113, 3) := by decide +kernel
theorem dX2_isAllowed_88 : decode cX2_isAllowed 88 = .ok (.ifCond .ne 39, 3) := by decide +kernel
theorem dX2_isAllowed_91 : decode cX2_isAllowed 91 = .ok (.iconst 0, 1) := by decide +kernel
theorem dX2_isAllowed_92 : decode cX2_isAllowed 92 = .ok (.ireturn, 1) := by decide +kernel
theorem dX2_isAllowed_93 : decode cX2_isAllowed 93 = .ok (.iload_n 2, 1) := by decide +kernel
theorem dX2_isAllowed_94 : decode cX2_isAllowed 94 = .ok (.iconst 4, 1) := by decide +kernel
theorem dX2_isAllowed_95 : decode cX2_isAllowed 95 = .ok (.invokestatic 113, 3) := by decide +kernel
theorem dX2_isAllowed_98 : decode cX2_isAllowed 98 = .ok (.ifCond .eq 29, 3) := by decide +kernel
theorem dX2_isAllowed_101 : decode cX2_isAllowed 101 = .ok (.aload_n 0, 1) := by decide +kernel
theorem dX2_isAllowed_102 : decode cX2_isAllowed 102 = .ok (.getfield 57, 3) := by decide +kernel
theorem dX2_isAllowed_105 : decode cX2_isAllowed 105 = .ok (.ifCond .eq 20, 3) := by decide +kernel
theorem dX2_isAllowed_108 : decode cX2_isAllowed 108 = .ok (.aload_n 0, 1) := by decide +kernel
theorem dX2_isAllowed_109 : decode cX2_isAllowed 109 = .ok (.iload_n 1, 1) := by decide +kernel
theorem dX2_isAllowed_110 : decode cX2_isAllowed 110 = .ok (.iconst 1, 1) := by decide +kernel
theorem dX2_isAllowed_111 : decode cX2_isAllowed 111 = .ok (.if_icmp .ne 7, 3) := by decide +kernel
theorem dX2_isAllowed_114 : decode cX2_isAllowed 114 = .ok (.iconst 2, 1) := by decide +kernel
theorem dX2_isAllowed_115 : decode cX2_isAllowed 115 = .ok (.goto 4, 3) := by decide +kernel
theorem dX2_isAllowed_118 : decode cX2_isAllowed 118 = .ok (.iconst 0, 1) := by decide +kernel
theorem dX2_isAllowed_119 : decode cX2_isAllowed 119 = .ok (.invokevirtual 120, 3) := by decide +kernel
theorem dX2_isAllowed_122 : decode cX2_isAllowed 122 = .ok (.ifCond .ne 5, 3) := by decide +kernel
theorem dX2_isAllowed_125 : decode cX2_isAllowed 125 = .ok (.iconst 0, 1) := by decide +kernel
theorem dX2_isAllowed_126 : decode cX2_isAllowed 126 = .ok (.ireturn, 1) := by decide +kernel
theorem dX2_isAllowed_127 : decode cX2_isAllowed 127 = .ok (.iload_n 3, 1) := by decide +kernel
theorem dX2_isAllowed_128 : decode cX2_isAllowed 128 = .ok (.ifCond .eq 9, 3) := by decide +kernel
theorem dX2_isAllowed_131 : decode cX2_isAllowed 131 = .ok (.iload_n 2, 1) := by decide +kernel
theorem dX2_isAllowed_132 : decode cX2_isAllowed 132 = .ok (.iconst 1, 1) := by decide +kernel
theorem dX2_isAllowed_133 : decode cX2_isAllowed 133 = .ok (.invokestatic 113, 3) := by decide +kernel
theorem dX2_isAllowed_136 : decode cX2_isAllowed 136 = .ok (.ireturn, 1) := by decide +kernel
theorem dX2_isAllowed_137 : decode cX2_isAllowed 137 = .ok (.aload_n 0, 1) := by decide +kernel
theorem dX2_isAllowed_138 : decode cX2_isAllowed 138 = .ok (.getfield 57, 3) := by decide +kernel
theorem dX2_isAllowed_141 : decode cX2_isAllowed 141 = .ok (.ifCond .eq 10, 3) := by decide +kernel
theorem dX2_isAllowed_144 : decode cX2_isAllowed 144 = .ok (.aload_n 0, 1) := by decide +kernel
theorem dX2_isAllowed_145 : decode cX2_isAllowed 145 = .ok (.getfield 124, 3) := by decide +kernel
theorem dX2_isAllowed_148 : decode cX2_isAllowed 148 = .ok (.ifCond .eq 9, 3) := by decide +kernel
theorem dX2_isAllowed_151 : decode cX2_isAllowed 151 = .ok (.iload_n 2, 1) := by decide +kernel
theorem dX2_isAllowed_152 : decode cX2_isAllowed 152 = .ok (.iconst 3, 1) := by decide +kernel
theorem dX2_isAllowed_153 : decode cX2_isAllowed 153 = .ok (.invokestatic 113, 3) := by decide +kernel
theorem dX2_isAllowed_156 : decode cX2_isAllowed 156 = .ok (.ireturn, 1) := by decide +kernel
theorem dX2_isAllowed_157 : decode cX2_isAllowed 157 = .ok (.aload_n 0, 1) := by decide +kernel
theorem dX2_isAllowed_158 : decode cX2_isAllowed 158 = .ok (.getfield 57, 3) := by decide +kernel
theorem dX2_isAllowed_161 : decode cX2_isAllowed 161 = .ok (.iconst 2, 1) := by decide +kernel
theorem dX2_isAllowed_162 : decode cX2_isAllowed 162 = .ok (.if_icmp .ne 26, 3) := by decide +kernel
theorem dX2_isAllowed_165 : decode cX2_isAllowed 165 = .ok (.iload_n 2, 1) := by decide +kernel
theorem dX2_isAllowed_166 : decode cX2_isAllowed 166 = .ok (.iconst 2, 1) := by decide +kernel
theorem dX2_isAllowed_167 : decode cX2_isAllowed 167 = .ok (.invokestatic 113, 3) := by decide +kernel
theorem dX2_isAllowed_170 : decode cX2_isAllowed 170 = .ok (.ifCond .eq 16, 3) := by decide +kernel
theorem dX2_isAllowed_173 : decode cX2_isAllowed 173 = .ok (.iload_n 2, 1) := by decide +kernel
theorem dX2_isAllowed_174 : decode cX2_isAllowed 174 = .ok (.bipush 7, 2) := by decide +kernel
theorem dX2_isAllowed_176 : decode cX2_isAllowed 176 = .ok (.invokestatic 113, 3) := by decide +kernel
theorem dX2_isAllowed_179 : decode cX2_isAllowed 179 = .ok (.ifCond .eq 7, 3) := by decide +kernel
theorem dX2_isAllowed_182 : decode cX2_isAllowed 182 = .ok (.iconst 1, 1) := by decide +kernel
theorem dX2_isAllowed_183 : decode cX2_isAllowed 183 = .ok (.goto 4, 3) := by decide +kernel
theorem dX2_isAllowed_186 : decode cX2_isAllowed 186 = .ok (.iconst 0, 1) := by decide +kernel
theorem dX2_isAllowed_187 : decode cX2_isAllowed 187 = .ok (.ireturn, 1) := by decide +kernel
theorem dX2_isAllowed_188 : decode cX2_isAllowed 188 = .ok (.iload_n 2, 1) := by decide +kernel
theorem dX2_isAllowed_189 : decode cX2_isAllowed 189 = .ok (.iconst 1, 1) := by decide +kernel
theorem dX2_isAllowed_190 : decode cX2_isAllowed 190 = .ok (.invokestatic 113, 3) := by decide +kernel
theorem dX2_isAllowed_193 : decode cX2_isAllowed 193 = .ok (.ifCond .ne 32, 3) := by decide +kernel
theorem dX2_isAllowed_196 : decode cX2_isAllowed 196 = .ok (.iload_n 2, 1) := by decide +kernel
theorem dX2_isAllowed_197 : decode cX2_isAllowed 197 = .ok (.iconst 3, 1) := by decide +kernel
theorem dX2_isAllowed_198 : decode cX2_isAllowed 198 = .ok (.invokestatic 113, 3) := by decide +kernel
theorem dX2_isAllowed_201 : decode cX2_isAllowed 201 = .ok (.ifCond .eq 28, 3) := by decide +kernel
theorem dX2_isAllowed_204 : decode cX2_isAllowed 204 = .ok (.aload_n 0, 1) := by decide +kernel
theorem dX2_isAllowed_205 : decode cX2_isAllowed 205 = .ok (.iconst 1, 1) := by decide +kernel
theorem dX2_isAllowed_206 : decode cX2_isAllowed 206 = .ok (.invokevirtual 120, 3) := by decide +kernel
theorem dX2_isAllowed_209 : decode cX2_isAllowed 209 = .ok (.ifCond .ne 16, 3) := by decide +kernel
theorem dX2_isAllowed_212 : decode cX2_isAllowed 212 = .ok (.iload_n 1, 1) := by decide +kernel
theorem dX2_isAllowed_213 : decode cX2_isAllowed 213 = .ok (.iconst 1, 1) := by decide +kernel
theorem dX2_isAllowed_214 : decode cX2_isAllowed 214 = .ok (.if_icmp .ne 15, 3) := by decide +kernel
theorem dX2_isAllowed_217 : decode cX2_isAllowed 217 = .ok (.aload_n 0, 1) := by decide +kernel
theorem dX2_isAllowed_218 : decode cX2_isAllowed 218 = .ok (.iconst 3, 1) := by decide +kernel
theorem dX2_isAllowed_219 : decode cX2_isAllowed 219 = .ok (.invokevirtual 120, 3) := by decide +kernel
theorem dX2_isAllowed_222 : decode cX2_isAllowed 222 = .ok (.ifCond .eq 7, 3) := by decide +kernel
theorem dX2_isAllowed_225 : decode cX2_isAllowed 225 = .ok (.iconst 1, 1) := by decide +kernel
theorem dX2_isAllowed_226 : decode cX2_isAllowed 226 = .ok (.goto 4, 3) := by decide +kernel
theorem dX2_isAllowed_229 : decode cX2_isAllowed 229 = .ok (.iconst 0, 1) := by decide +kernel
theorem dX2_isAllowed_230 : decode cX2_isAllowed 230 = .ok (.ireturn, 1) := by decide +kernel
abbrev cX2_isSet : ByteArray := prog_4_method_16_code
def yX2_isSet : MethodName := ⟨RX2, "isSet", "(II)Z"⟩
theorem dX2_isSet_0 : decode cX2_isSet 0 = .ok (.iload_n 0, 1) := by decide +kernel
theorem dX2_isSet_1 : decode cX2_isSet 1 = .ok (.iload_n 1, 1) := by decide +kernel
theorem dX2_isSet_2 : decode cX2_isSet 2 = .ok (.ishr, 1) := by decide +kernel
theorem dX2_isSet_3 : decode cX2_isSet 3 = .ok (.iconst 1, 1) := by decide +kernel
theorem dX2_isSet_4 : decode cX2_isSet 4 = .ok (.iand, 1) := by decide +kernel
theorem dX2_isSet_5 : decode cX2_isSet 5 = .ok (.iconst 1, 1) := by decide +kernel
theorem dX2_isSet_6 : decode cX2_isSet 6 = .ok (.if_icmp .ne 7, 3) := by decide +kernel
theorem dX2_isSet_9 : decode cX2_isSet 9 = .ok (.iconst 1, 1) := by decide +kernel
theorem dX2_isSet_10 : decode cX2_isSet 10 = .ok (.goto 4, 3) := by decide +kernel
theorem dX2_isSet_13 : decode cX2_isSet 13 = .ok (.iconst 0, 1) := by decide +kernel
theorem dX2_isSet_14 : decode cX2_isSet 14 = .ok (.ireturn, 1) := by decide +kernel
abbrev cX2_has : ByteArray := prog_4_method_8_code
def yX2_has : MethodName := ⟨RX2, "has", "(I)Z"⟩
theorem dX2_has_0 : decode cX2_has 0 = .ok (.aload_n 0, 1) := by decide +kernel
theorem dX2_has_1 : decode cX2_has 1 = .ok (.getfield 30, 3) := by decide +kernel
theorem dX2_has_4 : decode cX2_has 4 = .ok (.iload_n 1, 1) := by decide +kernel
theorem dX2_has_5 : decode cX2_has 5 = .ok (.ishr, 1) := by decide +kernel
theorem dX2_has_6 : decode cX2_has 6 = .ok (.iconst 1, 1) := by decide +kernel
theorem dX2_has_7 : decode cX2_has 7 = .ok (.iand, 1) := by decide +kernel
theorem dX2_has_8 : decode cX2_has 8 = .ok (.iconst 1, 1) := by decide +kernel
theorem dX2_has_9 : decode cX2_has 9 = .ok (.if_icmp .ne 7, 3) := by decide +kernel
theorem dX2_has_12 : decode cX2_has 12 = .ok (.iconst 1, 1) := by decide +kernel
theorem dX2_has_13 : decode cX2_has 13 = .ok (.goto 4, 3) := by decide +kernel
theorem dX2_has_16 : decode cX2_has 16 = .ok (.iconst 0, 1) := by decide +kernel
theorem dX2_has_17 : decode cX2_has 17 = .ok (.ireturn, 1) := by decide +kernel
abbrev cX2_place : ByteArray := prog_4_method_21_code
def yX2_place : MethodName := ⟨RX2, "place", "()I"⟩
theorem dX2_place_0 : decode cX2_place 0 = .ok (.aload_n 0, 1) := by decide +kernel
theorem dX2_place_1 : decode cX2_place 1 = .ok (.getfield 33, 3) := by decide +kernel
theorem dX2_place_4 : decode cX2_place 4 = .ok (.ireturn, 1) := by decide +kernel
abbrev cX2_second_2 : ByteArray := prog_4_method_22_code
def yX2_second_2 : MethodName := ⟨RX2, "second", "()I"⟩
theorem dX2_second_2_0 : decode cX2_second_2 0 = .ok (.aload_n 0, 1) := by decide +kernel
theorem dX2_second_2_1 : decode cX2_second_2 1 = .ok (.getfield 36, 3) := by decide +kernel
theorem dX2_second_2_4 : decode cX2_second_2 4 = .ok (.ireturn, 1) := by decide +kernel
abbrev cX2_entry : ByteArray := prog_4_method_23_code
def yX2_entry : MethodName := ⟨RX2, "entry", "()Z"⟩
theorem dX2_entry_0 : decode cX2_entry 0 = .ok (.aload_n 0, 1) := by decide +kernel
theorem dX2_entry_1 : decode cX2_entry 1 = .ok (.getfield 39, 3) := by decide +kernel
theorem dX2_entry_4 : decode cX2_entry 4 = .ok (.ireturn, 1) := by decide +kernel
abbrev cX2_pages : ByteArray := prog_4_method_24_code
def yX2_pages : MethodName := ⟨RX2, "pages", "(IIII)I"⟩
theorem dX2_pages_0 : decode cX2_pages 0 = .ok (.iload_n 1, 1) := by decide +kernel
theorem dX2_pages_1 : decode cX2_pages 1 = .ok (.iload_n 2, 1) := by decide +kernel
theorem dX2_pages_2 : decode cX2_pages 2 = .ok (.invokestatic 130, 3) := by decide +kernel
theorem dX2_pages_5 : decode cX2_pages 5 = .ok (.ifCond .ne 17, 3) := by decide +kernel
theorem dX2_pages_8 : decode cX2_pages 8 = .ok (.iload 4, 2) := by decide +kernel
theorem dX2_pages_10 : decode cX2_pages 10 = .ok (.iconst 1, 1) := by decide +kernel
theorem dX2_pages_11 : decode cX2_pages 11 = .ok (.if_icmp .lt 11, 3) := by decide +kernel
theorem dX2_pages_14 : decode cX2_pages 14 = .ok (.iload 4, 2) := by decide +kernel
theorem dX2_pages_16 : decode cX2_pages 16 = .ok (.sipush 1024, 3) := by decide +kernel
theorem dX2_pages_19 : decode cX2_pages 19 = .ok (.if_icmp .le 5, 3) := by decide +kernel
theorem dX2_pages_22 : decode cX2_pages 22 = .ok (.iconst (-1), 1) := by decide +kernel
theorem dX2_pages_23 : decode cX2_pages 23 = .ok (.ireturn, 1) := by decide +kernel
theorem dX2_pages_24 : decode cX2_pages 24 = .ok (.iconst 0, 1) := by decide +kernel
theorem dX2_pages_25 : decode cX2_pages 25 = .ok (.istore 5, 2) := by decide +kernel
theorem dX2_pages_27 : decode cX2_pages 27 = .ok (.iload_n 3, 1) := by decide +kernel
theorem dX2_pages_28 : decode cX2_pages 28 = .ok (.i2l, 1) := by decide +kernel
theorem dX2_pages_29 : decode cX2_pages 29 = .ok (.ldc2_w 88, 3) := by decide +kernel
theorem dX2_pages_32 : decode cX2_pages 32 = .ok (.land, 1) := by decide +kernel
theorem dX2_pages_33 : decode cX2_pages 33 = .ok (.lstore 6, 2) := by decide +kernel
theorem dX2_pages_35 : decode cX2_pages 35 = .ok (.iconst 0, 1) := by decide +kernel
theorem dX2_pages_36 : decode cX2_pages 36 = .ok (.istore 8, 2) := by decide +kernel
theorem dX2_pages_38 : decode cX2_pages 38 = .ok (.iload 8, 2) := by decide +kernel
theorem dX2_pages_40 : decode cX2_pages 40 = .ok (.iload 4, 2) := by decide +kernel
theorem dX2_pages_42 : decode cX2_pages 42 = .ok (.if_icmp .ge 50, 3) := by decide +kernel
theorem dX2_pages_45 : decode cX2_pages 45 = .ok (.lload 6, 2) := by decide +kernel
theorem dX2_pages_47 : decode cX2_pages 47 = .ok (.ldc2_w 137, 3) := by decide +kernel
theorem dX2_pages_50 : decode cX2_pages 50 = .ok (.lcmp, 1) := by decide +kernel
theorem dX2_pages_51 : decode cX2_pages 51 = .ok (.ifCond .ge 41, 3) := by decide +kernel
theorem dX2_pages_54 : decode cX2_pages 54 = .ok (.iload 5, 2) := by decide +kernel
theorem dX2_pages_56 : decode cX2_pages 56 = .ok (.aload_n 0, 1) := by decide +kernel
theorem dX2_pages_57 : decode cX2_pages 57 = .ok (.iload_n 1, 1) := by decide +kernel
theorem dX2_pages_58 : decode cX2_pages 58 = .ok (.iload_n 2, 1) := by decide +kernel
theorem dX2_pages_59 : decode cX2_pages 59 = .ok (.lload 6, 2) := by decide +kernel
theorem dX2_pages_61 : decode cX2_pages 61 = .ok (.l2i, 1) := by decide +kernel
theorem dX2_pages_62 : decode cX2_pages 62 = .ok (.invokevirtual 133, 3) := by decide +kernel
theorem dX2_pages_65 : decode cX2_pages 65 = .ok (.lconst 0, 1) := by decide +kernel
theorem dX2_pages_66 : decode cX2_pages 66 = .ok (.lcmp, 1) := by decide +kernel
theorem dX2_pages_67 : decode cX2_pages 67 = .ok (.ifCond .lt 7, 3) := by decide +kernel
theorem dX2_pages_70 : decode cX2_pages 70 = .ok (.iconst 1, 1) := by decide +kernel
theorem dX2_pages_71 : decode cX2_pages 71 = .ok (.goto 4, 3) := by decide +kernel
theorem dX2_pages_74 : decode cX2_pages 74 = .ok (.iconst 0, 1) := by decide +kernel
theorem dX2_pages_75 : decode cX2_pages 75 = .ok (.iadd, 1) := by decide +kernel
theorem dX2_pages_76 : decode cX2_pages 76 = .ok (.istore 5, 2) := by decide +kernel
theorem dX2_pages_78 : decode cX2_pages 78 = .ok (.lload 6, 2) := by decide +kernel
theorem dX2_pages_80 : decode cX2_pages 80 = .ok (.ldc2_w 70, 3) := by decide +kernel
theorem dX2_pages_83 : decode cX2_pages 83 = .ok (.ladd, 1) := by decide +kernel
theorem dX2_pages_84 : decode cX2_pages 84 = .ok (.lstore 6, 2) := by decide +kernel
theorem dX2_pages_86 : decode cX2_pages 86 = .ok (.iinc 8 1, 3) := by decide +kernel
theorem dX2_pages_89 : decode cX2_pages 89 = .ok (.goto (-51), 3) := by decide +kernel
theorem dX2_pages_92 : decode cX2_pages 92 = .ok (.iload 5, 2) := by decide +kernel
theorem dX2_pages_94 : decode cX2_pages 94 = .ok (.ireturn, 1) := by decide +kernel
theorem q21 : (Jvm.Cond.initialized "StageWalkerModel") ∈ lw_all := lw_g (lw_at lw_m1 3 rfl) rfl
theorem q237 : (Jvm.Cond.instantiable "StageWalkerModel" (16 : Nat)) ∈ lw_all := lw_g (lw_at lw_m1 219 rfl) rfl
theorem q239 : (Jvm.Cond.instanceMethod ({ cls := "StageWalkerModel", name := "<init>", desc := "()V" } : Jvm.MethodName)) ∈ lw_all := lw_g (lw_at lw_m1 221 rfl) rfl
theorem q240 : (Jvm.Cond.code ({ cls := "StageWalkerModel", name := "<init>", desc := "()V" } : Jvm.MethodName) prog_4_method_1_code (1 : Nat) (Option.none : Option Jvm.ClassFile.FieldType)) ∈ lw_all := lw_g (lw_at lw_m1 222 rfl) rfl
theorem q241 : (Jvm.Cond.methodLink "StageWalkerModel" (1 : Nat) ({ cls := "java/lang/Object", name := "<init>", desc := "()V" } : Jvm.MethodName)) ∈ lw_all := lw_g (lw_at lw_m1 223 rfl) rfl
theorem q242 : (Jvm.Cond.constant "StageWalkerModel" (7 : Nat) (65536 : Int32)) ∈ lw_all := lw_g (lw_at lw_m1 224 rfl) rfl
theorem q243 : (Jvm.Cond.methodLink "StageWalkerModel" (14 : Nat) ({ cls := "StageWalkerModel", name := "begin", desc := "()V" } : Jvm.MethodName)) ∈ lw_all := lw_g (lw_at lw_m1 225 rfl) rfl
theorem q244 : (Jvm.Cond.instanceMethod ({ cls := "StageWalkerModel", name := "begin", desc := "()V" } : Jvm.MethodName)) ∈ lw_all := lw_g (lw_at lw_m1 226 rfl) rfl
theorem q245 : (Jvm.Cond.selects "StageWalkerModel" ({ cls := "StageWalkerModel", name := "begin", desc := "()V" } : Jvm.MethodName) ({ cls := "StageWalkerModel", name := "begin", desc := "()V" } : Jvm.MethodName)) ∈ lw_all := lw_g (lw_at lw_m1 227 rfl) rfl
theorem q246 : (Jvm.Cond.code ({ cls := "StageWalkerModel", name := "begin", desc := "()V" } : Jvm.MethodName) prog_4_method_3_code (2 : Nat) (Option.none : Option Jvm.ClassFile.FieldType)) ∈ lw_all := lw_g (lw_at lw_m1 228 rfl) rfl
theorem q247 : (Jvm.Cond.fieldLink "StageWalkerModel" (8 : Nat) "StageWalkerModel" "memory" "[I") ∈ lw_all := lw_g (lw_at lw_m1 229 rfl) rfl
theorem q248 : (Jvm.Cond.fieldLink "StageWalkerModel" (21 : Nat) "StageWalkerModel" "atp" "I") ∈ lw_all := lw_g (lw_at lw_m1 230 rfl) rfl
theorem q249 : (Jvm.Cond.fieldLink "StageWalkerModel" (24 : Nat) "StageWalkerModel" "vsAtp" "I") ∈ lw_all := lw_g (lw_at lw_m1 231 rfl) rfl
theorem q250 : (Jvm.Cond.fieldLink "StageWalkerModel" (27 : Nat) "StageWalkerModel" "hgatp" "I") ∈ lw_all := lw_g (lw_at lw_m1 232 rfl) rfl
theorem q251 : (Jvm.Cond.fieldLink "StageWalkerModel" (30 : Nat) "StageWalkerModel" "rights" "I") ∈ lw_all := lw_g (lw_at lw_m1 233 rfl) rfl
theorem q252 : (Jvm.Cond.fieldLink "StageWalkerModel" (33 : Nat) "StageWalkerModel" "placed" "I") ∈ lw_all := lw_g (lw_at lw_m1 234 rfl) rfl
theorem q253 : (Jvm.Cond.fieldLink "StageWalkerModel" (36 : Nat) "StageWalkerModel" "told" "I") ∈ lw_all := lw_g (lw_at lw_m1 235 rfl) rfl
theorem q254 : (Jvm.Cond.fieldLink "StageWalkerModel" (39 : Nat) "StageWalkerModel" "toldEntry" "Z") ∈ lw_all := lw_g (lw_at lw_m1 236 rfl) rfl
theorem q255 : (Jvm.Cond.fieldLink "StageWalkerModel" (57 : Nat) "StageWalkerModel" "kind" "I") ∈ lw_all := lw_g (lw_at lw_m1 237 rfl) rfl
theorem q256 : (Jvm.Cond.fieldLink "StageWalkerModel" (127 : Nat) "StageWalkerModel" "virtual" "Z") ∈ lw_all := lw_g (lw_at lw_m1 238 rfl) rfl
theorem q257 : (Jvm.Cond.fieldLink "StageWalkerModel" (117 : Nat) "StageWalkerModel" "user" "Z") ∈ lw_all := lw_g (lw_at lw_m1 239 rfl) rfl
theorem q258 : (Jvm.Cond.fieldLink "StageWalkerModel" (124 : Nat) "StageWalkerModel" "executes" "Z") ∈ lw_all := lw_g (lw_at lw_m2 0 rfl) rfl
theorem q259 : (Jvm.Cond.fieldLink "StageWalkerModel" (45 : Nat) "StageWalkerModel" "cause" "I") ∈ lw_all := lw_g (lw_at lw_m2 1 rfl) rfl
theorem q260 : (Jvm.Cond.fieldLink "StageWalkerModel" (48 : Nat) "StageWalkerModel" "far" "J") ∈ lw_all := lw_g (lw_at lw_m2 2 rfl) rfl
theorem q261 : (Jvm.Cond.fieldLink "StageWalkerModel" (52 : Nat) "StageWalkerModel" "ofEntry" "Z") ∈ lw_all := lw_g (lw_at lw_m2 3 rfl) rfl
theorem q262 : (Jvm.Cond.lays "StageWalkerModel" "StageWalkerModel" "thrown" "I") ∈ lw_all := lw_g (lw_at lw_m2 4 rfl) rfl
theorem q263 : (Jvm.Cond.soleField "StageWalkerModel" "thrown") ∈ lw_all := lw_g (lw_at lw_m2 5 rfl) rfl
theorem q264 : (Jvm.Cond.laysFinal "StageWalkerModel" "StageWalkerModel" "memory" "[I") ∈ lw_all := lw_g (lw_at lw_m2 6 rfl) rfl
theorem q265 : (Jvm.Cond.soleField "StageWalkerModel" "memory") ∈ lw_all := lw_g (lw_at lw_m2 7 rfl) rfl
theorem q266 : (Jvm.Cond.lays "StageWalkerModel" "StageWalkerModel" "atp" "I") ∈ lw_all := lw_g (lw_at lw_m2 8 rfl) rfl
theorem q267 : (Jvm.Cond.soleField "StageWalkerModel" "atp") ∈ lw_all := lw_g (lw_at lw_m2 9 rfl) rfl
theorem q268 : (Jvm.Cond.lays "StageWalkerModel" "StageWalkerModel" "vsAtp" "I") ∈ lw_all := lw_g (lw_at lw_m2 10 rfl) rfl
theorem q269 : (Jvm.Cond.soleField "StageWalkerModel" "vsAtp") ∈ lw_all := lw_g (lw_at lw_m2 11 rfl) rfl
theorem q270 : (Jvm.Cond.lays "StageWalkerModel" "StageWalkerModel" "hgatp" "I") ∈ lw_all := lw_g (lw_at lw_m2 12 rfl) rfl
theorem q271 : (Jvm.Cond.soleField "StageWalkerModel" "hgatp") ∈ lw_all := lw_g (lw_at lw_m2 13 rfl) rfl
theorem q272 : (Jvm.Cond.lays "StageWalkerModel" "StageWalkerModel" "rights" "I") ∈ lw_all := lw_g (lw_at lw_m2 14 rfl) rfl
theorem q273 : (Jvm.Cond.soleField "StageWalkerModel" "rights") ∈ lw_all := lw_g (lw_at lw_m2 15 rfl) rfl
theorem q274 : (Jvm.Cond.lays "StageWalkerModel" "StageWalkerModel" "placed" "I") ∈ lw_all := lw_g (lw_at lw_m2 16 rfl) rfl
theorem q275 : (Jvm.Cond.soleField "StageWalkerModel" "placed") ∈ lw_all := lw_g (lw_at lw_m2 17 rfl) rfl
theorem q276 : (Jvm.Cond.lays "StageWalkerModel" "StageWalkerModel" "told" "I") ∈ lw_all := lw_g (lw_at lw_m2 18 rfl) rfl
theorem q277 : (Jvm.Cond.soleField "StageWalkerModel" "told") ∈ lw_all := lw_g (lw_at lw_m2 19 rfl) rfl
theorem q278 : (Jvm.Cond.lays "StageWalkerModel" "StageWalkerModel" "toldEntry" "Z") ∈ lw_all := lw_g (lw_at lw_m2 20 rfl) rfl
theorem q279 : (Jvm.Cond.soleField "StageWalkerModel" "toldEntry") ∈ lw_all := lw_g (lw_at lw_m2 21 rfl) rfl
theorem q280 : (Jvm.Cond.lays "StageWalkerModel" "StageWalkerModel" "kind" "I") ∈ lw_all := lw_g (lw_at lw_m2 22 rfl) rfl
theorem q281 : (Jvm.Cond.soleField "StageWalkerModel" "kind") ∈ lw_all := lw_g (lw_at lw_m2 23 rfl) rfl
theorem q282 : (Jvm.Cond.lays "StageWalkerModel" "StageWalkerModel" "virtual" "Z") ∈ lw_all := lw_g (lw_at lw_m2 24 rfl) rfl
theorem q283 : (Jvm.Cond.soleField "StageWalkerModel" "virtual") ∈ lw_all := lw_g (lw_at lw_m2 25 rfl) rfl
theorem q284 : (Jvm.Cond.lays "StageWalkerModel" "StageWalkerModel" "user" "Z") ∈ lw_all := lw_g (lw_at lw_m2 26 rfl) rfl
theorem q285 : (Jvm.Cond.soleField "StageWalkerModel" "user") ∈ lw_all := lw_g (lw_at lw_m2 27 rfl) rfl
theorem q286 : (Jvm.Cond.lays "StageWalkerModel" "StageWalkerModel" "executes" "Z") ∈ lw_all := lw_g (lw_at lw_m2 28 rfl) rfl
theorem q287 : (Jvm.Cond.soleField "StageWalkerModel" "executes") ∈ lw_all := lw_g (lw_at lw_m2 29 rfl) rfl
theorem q288 : (Jvm.Cond.lays "StageWalkerModel" "StageWalkerModel" "cause" "I") ∈ lw_all := lw_g (lw_at lw_m2 30 rfl) rfl
theorem q289 : (Jvm.Cond.soleField "StageWalkerModel" "cause") ∈ lw_all := lw_g (lw_at lw_m2 31 rfl) rfl
theorem q290 : (Jvm.Cond.lays "StageWalkerModel" "StageWalkerModel" "far" "J") ∈ lw_all := lw_g (lw_at lw_m2 32 rfl) rfl
theorem q291 : (Jvm.Cond.soleField "StageWalkerModel" "far") ∈ lw_all := lw_g (lw_at lw_m2 33 rfl) rfl
theorem q292 : (Jvm.Cond.lays "StageWalkerModel" "StageWalkerModel" "ofEntry" "Z") ∈ lw_all := lw_g (lw_at lw_m2 34 rfl) rfl
theorem q293 : (Jvm.Cond.soleField "StageWalkerModel" "ofEntry") ∈ lw_all := lw_g (lw_at lw_m2 35 rfl) rfl
theorem q294 : (Jvm.Cond.superclass "StageWalkerModel" "java/lang/Object") ∈ lw_all := lw_g (lw_at lw_m2 36 rfl) rfl
theorem q297 : (Jvm.Cond.instanceMethod ({ cls := "StageWalkerModel", name := "poke", desc := "(IIIIII)I" } : Jvm.MethodName)) ∈ lw_all := lw_g (lw_at lw_m2 39 rfl) rfl
theorem q298 : (Jvm.Cond.selects "StageWalkerModel" ({ cls := "StageWalkerModel", name := "poke", desc := "(IIIIII)I" } : Jvm.MethodName) ({ cls := "StageWalkerModel", name := "poke", desc := "(IIIIII)I" } : Jvm.MethodName)) ∈ lw_all := lw_g (lw_at lw_m2 40 rfl) rfl
theorem q299 : (Jvm.Cond.code ({ cls := "StageWalkerModel", name := "poke", desc := "(IIIIII)I" } : Jvm.MethodName) prog_4_method_4_code (7 : Nat) (Option.some Jvm.ClassFile.FieldType.int)) ∈ lw_all := lw_g (lw_at lw_m2 41 rfl) rfl
theorem q300 : (Jvm.Cond.constant "StageWalkerModel" (43 : Nat) (262124 : Int32)) ∈ lw_all := lw_g (lw_at lw_m2 42 rfl) rfl
theorem q302 : (Jvm.Cond.instanceMethod ({ cls := "StageWalkerModel", name := "word", desc := "(I)I" } : Jvm.MethodName)) ∈ lw_all := lw_g (lw_at lw_m2 44 rfl) rfl
theorem q303 : (Jvm.Cond.selects "StageWalkerModel" ({ cls := "StageWalkerModel", name := "word", desc := "(I)I" } : Jvm.MethodName) ({ cls := "StageWalkerModel", name := "word", desc := "(I)I" } : Jvm.MethodName)) ∈ lw_all := lw_g (lw_at lw_m2 45 rfl) rfl
theorem q304 : (Jvm.Cond.code ({ cls := "StageWalkerModel", name := "word", desc := "(I)I" } : Jvm.MethodName) prog_4_method_5_code (2 : Nat) (Option.some Jvm.ClassFile.FieldType.int)) ∈ lw_all := lw_g (lw_at lw_m2 46 rfl) rfl
theorem q305 : (Jvm.Cond.constant "StageWalkerModel" (44 : Nat) (262144 : Int32)) ∈ lw_all := lw_g (lw_at lw_m2 47 rfl) rfl
theorem q307 : (Jvm.Cond.instanceMethod ({ cls := "StageWalkerModel", name := "roots", desc := "(III)V" } : Jvm.MethodName)) ∈ lw_all := lw_g (lw_at lw_m2 49 rfl) rfl
theorem q308 : (Jvm.Cond.selects "StageWalkerModel" ({ cls := "StageWalkerModel", name := "roots", desc := "(III)V" } : Jvm.MethodName) ({ cls := "StageWalkerModel", name := "roots", desc := "(III)V" } : Jvm.MethodName)) ∈ lw_all := lw_g (lw_at lw_m2 50 rfl) rfl
theorem q309 : (Jvm.Cond.code ({ cls := "StageWalkerModel", name := "roots", desc := "(III)V" } : Jvm.MethodName) prog_4_method_6_code (4 : Nat) (Option.none : Option Jvm.ClassFile.FieldType)) ∈ lw_all := lw_g (lw_at lw_m2 51 rfl) rfl
theorem q311 : (Jvm.Cond.instanceMethod ({ cls := "StageWalkerModel", name := "rights", desc := "(I)I" } : Jvm.MethodName)) ∈ lw_all := lw_g (lw_at lw_m2 53 rfl) rfl
theorem q312 : (Jvm.Cond.selects "StageWalkerModel" ({ cls := "StageWalkerModel", name := "rights", desc := "(I)I" } : Jvm.MethodName) ({ cls := "StageWalkerModel", name := "rights", desc := "(I)I" } : Jvm.MethodName)) ∈ lw_all := lw_g (lw_at lw_m2 54 rfl) rfl
theorem q313 : (Jvm.Cond.code ({ cls := "StageWalkerModel", name := "rights", desc := "(I)I" } : Jvm.MethodName) prog_4_method_7_code (3 : Nat) (Option.some Jvm.ClassFile.FieldType.int)) ∈ lw_all := lw_g (lw_at lw_m2 55 rfl) rfl
theorem q315 : (Jvm.Cond.instanceMethod ({ cls := "StageWalkerModel", name := "translate", desc := "(III)I" } : Jvm.MethodName)) ∈ lw_all := lw_g (lw_at lw_m2 57 rfl) rfl
theorem q316 : (Jvm.Cond.selects "StageWalkerModel" ({ cls := "StageWalkerModel", name := "translate", desc := "(III)I" } : Jvm.MethodName) ({ cls := "StageWalkerModel", name := "translate", desc := "(III)I" } : Jvm.MethodName)) ∈ lw_all := lw_g (lw_at lw_m2 58 rfl) rfl
theorem q317 : (Jvm.Cond.code ({ cls := "StageWalkerModel", name := "translate", desc := "(III)I" } : Jvm.MethodName) prog_4_method_20_code (6 : Nat) (Option.some Jvm.ClassFile.FieldType.int)) ∈ lw_all := lw_g (lw_at lw_m2 59 rfl) rfl
theorem q318 : (Jvm.Cond.methodLink "StageWalkerModel" (130 : Nat) ({ cls := "StageWalkerModel", name := "isNone", desc := "(II)Z" } : Jvm.MethodName)) ∈ lw_all := lw_g (lw_at lw_m2 60 rfl) rfl
theorem q319 : (Jvm.Cond.static ({ cls := "StageWalkerModel", name := "isNone", desc := "(II)Z" } : Jvm.MethodName)) ∈ lw_all := lw_g (lw_at lw_m2 61 rfl) rfl
theorem q320 : (Jvm.Cond.code ({ cls := "StageWalkerModel", name := "isNone", desc := "(II)Z" } : Jvm.MethodName) prog_4_method_18_code (2 : Nat) (Option.some Jvm.ClassFile.FieldType.boolean)) ∈ lw_all := lw_g (lw_at lw_m2 62 rfl) rfl
theorem q321 : (Jvm.Cond.methodLink "StageWalkerModel" (133 : Nat) ({ cls := "StageWalkerModel", name := "lead", desc := "(III)J" } : Jvm.MethodName)) ∈ lw_all := lw_g (lw_at lw_m2 63 rfl) rfl
theorem q322 : (Jvm.Cond.privateMethod ({ cls := "StageWalkerModel", name := "lead", desc := "(III)J" } : Jvm.MethodName)) ∈ lw_tbl := lw_at lw_m2 64 rfl
theorem q323 : (Jvm.Cond.instanceMethod ({ cls := "StageWalkerModel", name := "lead", desc := "(III)J" } : Jvm.MethodName)) ∈ lw_all := lw_g (lw_at lw_m2 65 rfl) rfl
theorem q324 : (Jvm.Cond.code ({ cls := "StageWalkerModel", name := "lead", desc := "(III)J" } : Jvm.MethodName) prog_4_method_19_code (9 : Nat) (Option.some Jvm.ClassFile.FieldType.long)) ∈ lw_all := lw_g (lw_at lw_m2 66 rfl) rfl
theorem q325 : (Jvm.Cond.constantLong "StageWalkerModel" (88 : Nat) (4294967295 : Int64)) ∈ lw_all := lw_g (lw_at lw_m2 67 rfl) rfl
theorem q326 : (Jvm.Cond.constantLong "StageWalkerModel" (109 : Nat) (4194303 : Int64)) ∈ lw_all := lw_g (lw_at lw_m2 68 rfl) rfl
theorem q327 : (Jvm.Cond.constantLong "StageWalkerModel" (70 : Nat) (4096 : Int64)) ∈ lw_all := lw_g (lw_at lw_m2 69 rfl) rfl
theorem q328 : (Jvm.Cond.methodLink "StageWalkerModel" (72 : Nat) ({ cls := "StageWalkerModel", name := "walk", desc := "(IJJZ)J" } : Jvm.MethodName)) ∈ lw_all := lw_g (lw_at lw_m2 70 rfl) rfl
theorem q329 : (Jvm.Cond.privateMethod ({ cls := "StageWalkerModel", name := "walk", desc := "(IJJZ)J" } : Jvm.MethodName)) ∈ lw_tbl := lw_at lw_m2 71 rfl
theorem q330 : (Jvm.Cond.instanceMethod ({ cls := "StageWalkerModel", name := "walk", desc := "(IJJZ)J" } : Jvm.MethodName)) ∈ lw_all := lw_g (lw_at lw_m2 72 rfl) rfl
theorem q331 : (Jvm.Cond.code ({ cls := "StageWalkerModel", name := "walk", desc := "(IJJZ)J" } : Jvm.MethodName) prog_4_method_15_code (16 : Nat) (Option.some Jvm.ClassFile.FieldType.long)) ∈ lw_all := lw_g (lw_at lw_m2 73 rfl) rfl
theorem q332 : (Jvm.Cond.constantLong "StageWalkerModel" (66 : Nat) (4 : Int64)) ∈ lw_all := lw_g (lw_at lw_m2 74 rfl) rfl
theorem q333 : (Jvm.Cond.methodLink "StageWalkerModel" (90 : Nat) ({ cls := "StageWalkerModel", name := "entryAt", desc := "(IJ)J" } : Jvm.MethodName)) ∈ lw_all := lw_g (lw_at lw_m2 75 rfl) rfl
theorem q334 : (Jvm.Cond.privateMethod ({ cls := "StageWalkerModel", name := "entryAt", desc := "(IJ)J" } : Jvm.MethodName)) ∈ lw_tbl := lw_at lw_m2 76 rfl
theorem q335 : (Jvm.Cond.instanceMethod ({ cls := "StageWalkerModel", name := "entryAt", desc := "(IJ)J" } : Jvm.MethodName)) ∈ lw_all := lw_g (lw_at lw_m2 77 rfl) rfl
theorem q336 : (Jvm.Cond.code ({ cls := "StageWalkerModel", name := "entryAt", desc := "(IJ)J" } : Jvm.MethodName) prog_4_method_14_code (6 : Nat) (Option.some Jvm.ClassFile.FieldType.long)) ∈ lw_all := lw_g (lw_at lw_m2 78 rfl) rfl
theorem q337 : (Jvm.Cond.methodLink "StageWalkerModel" (80 : Nat) ({ cls := "StageWalkerModel", name := "second", desc := "(JZ)J" } : Jvm.MethodName)) ∈ lw_all := lw_g (lw_at lw_m2 79 rfl) rfl
theorem q338 : (Jvm.Cond.privateMethod ({ cls := "StageWalkerModel", name := "second", desc := "(JZ)J" } : Jvm.MethodName)) ∈ lw_tbl := lw_at lw_m2 80 rfl
theorem q339 : (Jvm.Cond.instanceMethod ({ cls := "StageWalkerModel", name := "second", desc := "(JZ)J" } : Jvm.MethodName)) ∈ lw_all := lw_g (lw_at lw_m2 81 rfl) rfl
theorem q340 : (Jvm.Cond.code ({ cls := "StageWalkerModel", name := "second", desc := "(JZ)J" } : Jvm.MethodName) prog_4_method_13_code (4 : Nat) (Option.some Jvm.ClassFile.FieldType.long)) ∈ lw_all := lw_g (lw_at lw_m2 82 rfl) rfl
theorem q341 : (Jvm.Cond.constantLong "StageWalkerModel" (68 : Nat) (4194300 : Int64)) ∈ lw_all := lw_g (lw_at lw_m2 83 rfl) rfl
theorem q342 : (Jvm.Cond.methodLink "StageWalkerModel" (76 : Nat) ({ cls := "StageWalkerModel", name := "inMemory", desc := "(J)J" } : Jvm.MethodName)) ∈ lw_all := lw_g (lw_at lw_m2 84 rfl) rfl
theorem q343 : (Jvm.Cond.privateMethod ({ cls := "StageWalkerModel", name := "inMemory", desc := "(J)J" } : Jvm.MethodName)) ∈ lw_tbl := lw_at lw_m2 85 rfl
theorem q344 : (Jvm.Cond.instanceMethod ({ cls := "StageWalkerModel", name := "inMemory", desc := "(J)J" } : Jvm.MethodName)) ∈ lw_all := lw_g (lw_at lw_m2 86 rfl) rfl
theorem q345 : (Jvm.Cond.code ({ cls := "StageWalkerModel", name := "inMemory", desc := "(J)J" } : Jvm.MethodName) prog_4_method_11_code (3 : Nat) (Option.some Jvm.ClassFile.FieldType.long)) ∈ lw_all := lw_g (lw_at lw_m2 87 rfl) rfl
theorem q346 : (Jvm.Cond.constantLong "StageWalkerModel" (64 : Nat) (262144 : Int64)) ∈ lw_all := lw_g (lw_at lw_m2 88 rfl) rfl
theorem q347 : (Jvm.Cond.methodLink "StageWalkerModel" (60 : Nat) ({ cls := "StageWalkerModel", name := "fails", desc := "(IJZ)J" } : Jvm.MethodName)) ∈ lw_all := lw_g (lw_at lw_m2 89 rfl) rfl
theorem q348 : (Jvm.Cond.privateMethod ({ cls := "StageWalkerModel", name := "fails", desc := "(IJZ)J" } : Jvm.MethodName)) ∈ lw_tbl := lw_at lw_m2 90 rfl
theorem q349 : (Jvm.Cond.instanceMethod ({ cls := "StageWalkerModel", name := "fails", desc := "(IJZ)J" } : Jvm.MethodName)) ∈ lw_all := lw_g (lw_at lw_m2 91 rfl) rfl
theorem q350 : (Jvm.Cond.code ({ cls := "StageWalkerModel", name := "fails", desc := "(IJZ)J" } : Jvm.MethodName) prog_4_method_9_code (5 : Nat) (Option.some Jvm.ClassFile.FieldType.long)) ∈ lw_all := lw_g (lw_at lw_m2 92 rfl) rfl
theorem q351 : (Jvm.Cond.constantLong "StageWalkerModel" (55 : Nat) (-1 : Int64)) ∈ lw_all := lw_g (lw_at lw_m2 93 rfl) rfl
theorem q352 : (Jvm.Cond.methodLink "StageWalkerModel" (84 : Nat) ({ cls := "StageWalkerModel", name := "wordAt", desc := "(J)I" } : Jvm.MethodName)) ∈ lw_all := lw_g (lw_at lw_m2 94 rfl) rfl
theorem q353 : (Jvm.Cond.privateMethod ({ cls := "StageWalkerModel", name := "wordAt", desc := "(J)I" } : Jvm.MethodName)) ∈ lw_tbl := lw_at lw_m2 95 rfl
theorem q354 : (Jvm.Cond.instanceMethod ({ cls := "StageWalkerModel", name := "wordAt", desc := "(J)I" } : Jvm.MethodName)) ∈ lw_all := lw_g (lw_at lw_m2 96 rfl) rfl
theorem q355 : (Jvm.Cond.code ({ cls := "StageWalkerModel", name := "wordAt", desc := "(J)I" } : Jvm.MethodName) prog_4_method_12_code (3 : Nat) (Option.some Jvm.ClassFile.FieldType.int)) ∈ lw_all := lw_g (lw_at lw_m2 97 rfl) rfl
theorem q356 : (Jvm.Cond.constantLong "StageWalkerModel" (94 : Nat) (14 : Int64)) ∈ lw_all := lw_g (lw_at lw_m2 98 rfl) rfl
theorem q357 : (Jvm.Cond.constantLong "StageWalkerModel" (96 : Nat) (208 : Int64)) ∈ lw_all := lw_g (lw_at lw_m2 99 rfl) rfl
theorem q358 : (Jvm.Cond.methodLink "StageWalkerModel" (98 : Nat) ({ cls := "StageWalkerModel", name := "stageFault", desc := "(IJZ)J" } : Jvm.MethodName)) ∈ lw_all := lw_g (lw_at lw_m2 100 rfl) rfl
theorem q359 : (Jvm.Cond.privateMethod ({ cls := "StageWalkerModel", name := "stageFault", desc := "(IJZ)J" } : Jvm.MethodName)) ∈ lw_tbl := lw_at lw_m2 101 rfl
theorem q360 : (Jvm.Cond.instanceMethod ({ cls := "StageWalkerModel", name := "stageFault", desc := "(IJZ)J" } : Jvm.MethodName)) ∈ lw_all := lw_g (lw_at lw_m2 102 rfl) rfl
theorem q361 : (Jvm.Cond.code ({ cls := "StageWalkerModel", name := "stageFault", desc := "(IJZ)J" } : Jvm.MethodName) prog_4_method_10_code (6 : Nat) (Option.some Jvm.ClassFile.FieldType.long)) ∈ lw_all := lw_g (lw_at lw_m2 103 rfl) rfl
theorem q362 : (Jvm.Cond.constantLong "StageWalkerModel" (101 : Nat) (1024 : Int64)) ∈ lw_all := lw_g (lw_at lw_m2 104 rfl) rfl
theorem q363 : (Jvm.Cond.constantLong "StageWalkerModel" (103 : Nat) (1023 : Int64)) ∈ lw_all := lw_g (lw_at lw_m2 105 rfl) rfl
theorem q364 : (Jvm.Cond.methodLink "StageWalkerModel" (105 : Nat) ({ cls := "StageWalkerModel", name := "isAllowed", desc := "(IIZ)Z" } : Jvm.MethodName)) ∈ lw_all := lw_g (lw_at lw_m2 106 rfl) rfl
theorem q365 : (Jvm.Cond.privateMethod ({ cls := "StageWalkerModel", name := "isAllowed", desc := "(IIZ)Z" } : Jvm.MethodName)) ∈ lw_tbl := lw_at lw_m2 107 rfl
theorem q366 : (Jvm.Cond.instanceMethod ({ cls := "StageWalkerModel", name := "isAllowed", desc := "(IIZ)Z" } : Jvm.MethodName)) ∈ lw_all := lw_g (lw_at lw_m2 108 rfl) rfl
theorem q367 : (Jvm.Cond.code ({ cls := "StageWalkerModel", name := "isAllowed", desc := "(IIZ)Z" } : Jvm.MethodName) prog_4_method_17_code (5 : Nat) (Option.some Jvm.ClassFile.FieldType.boolean)) ∈ lw_all := lw_g (lw_at lw_m2 109 rfl) rfl
theorem q368 : (Jvm.Cond.methodLink "StageWalkerModel" (113 : Nat) ({ cls := "StageWalkerModel", name := "isSet", desc := "(II)Z" } : Jvm.MethodName)) ∈ lw_all := lw_g (lw_at lw_m2 110 rfl) rfl
theorem q369 : (Jvm.Cond.static ({ cls := "StageWalkerModel", name := "isSet", desc := "(II)Z" } : Jvm.MethodName)) ∈ lw_all := lw_g (lw_at lw_m2 111 rfl) rfl
theorem q370 : (Jvm.Cond.code ({ cls := "StageWalkerModel", name := "isSet", desc := "(II)Z" } : Jvm.MethodName) prog_4_method_16_code (2 : Nat) (Option.some Jvm.ClassFile.FieldType.boolean)) ∈ lw_all := lw_g (lw_at lw_m2 112 rfl) rfl
theorem q371 : (Jvm.Cond.methodLink "StageWalkerModel" (120 : Nat) ({ cls := "StageWalkerModel", name := "has", desc := "(I)Z" } : Jvm.MethodName)) ∈ lw_all := lw_g (lw_at lw_m2 113 rfl) rfl
theorem q372 : (Jvm.Cond.privateMethod ({ cls := "StageWalkerModel", name := "has", desc := "(I)Z" } : Jvm.MethodName)) ∈ lw_tbl := lw_at lw_m2 114 rfl
theorem q373 : (Jvm.Cond.instanceMethod ({ cls := "StageWalkerModel", name := "has", desc := "(I)Z" } : Jvm.MethodName)) ∈ lw_all := lw_g (lw_at lw_m2 115 rfl) rfl
theorem q374 : (Jvm.Cond.code ({ cls := "StageWalkerModel", name := "has", desc := "(I)Z" } : Jvm.MethodName) prog_4_method_8_code (2 : Nat) (Option.some Jvm.ClassFile.FieldType.boolean)) ∈ lw_all := lw_g (lw_at lw_m2 116 rfl) rfl
theorem q375 : (Jvm.Cond.constantLong "StageWalkerModel" (111 : Nat) (4095 : Int64)) ∈ lw_all := lw_g (lw_at lw_m2 117 rfl) rfl
theorem q377 : (Jvm.Cond.instanceMethod ({ cls := "StageWalkerModel", name := "place", desc := "()I" } : Jvm.MethodName)) ∈ lw_all := lw_g (lw_at lw_m2 119 rfl) rfl
theorem q378 : (Jvm.Cond.selects "StageWalkerModel" ({ cls := "StageWalkerModel", name := "place", desc := "()I" } : Jvm.MethodName) ({ cls := "StageWalkerModel", name := "place", desc := "()I" } : Jvm.MethodName)) ∈ lw_all := lw_g (lw_at lw_m2 120 rfl) rfl
theorem q379 : (Jvm.Cond.code ({ cls := "StageWalkerModel", name := "place", desc := "()I" } : Jvm.MethodName) prog_4_method_21_code (1 : Nat) (Option.some Jvm.ClassFile.FieldType.int)) ∈ lw_all := lw_g (lw_at lw_m2 121 rfl) rfl
theorem q381 : (Jvm.Cond.instanceMethod ({ cls := "StageWalkerModel", name := "second", desc := "()I" } : Jvm.MethodName)) ∈ lw_all := lw_g (lw_at lw_m2 123 rfl) rfl
theorem q382 : (Jvm.Cond.selects "StageWalkerModel" ({ cls := "StageWalkerModel", name := "second", desc := "()I" } : Jvm.MethodName) ({ cls := "StageWalkerModel", name := "second", desc := "()I" } : Jvm.MethodName)) ∈ lw_all := lw_g (lw_at lw_m2 124 rfl) rfl
theorem q383 : (Jvm.Cond.code ({ cls := "StageWalkerModel", name := "second", desc := "()I" } : Jvm.MethodName) prog_4_method_22_code (1 : Nat) (Option.some Jvm.ClassFile.FieldType.int)) ∈ lw_all := lw_g (lw_at lw_m2 125 rfl) rfl
theorem q385 : (Jvm.Cond.instanceMethod ({ cls := "StageWalkerModel", name := "entry", desc := "()Z" } : Jvm.MethodName)) ∈ lw_all := lw_g (lw_at lw_m2 127 rfl) rfl
theorem q386 : (Jvm.Cond.selects "StageWalkerModel" ({ cls := "StageWalkerModel", name := "entry", desc := "()Z" } : Jvm.MethodName) ({ cls := "StageWalkerModel", name := "entry", desc := "()Z" } : Jvm.MethodName)) ∈ lw_all := lw_g (lw_at lw_m2 128 rfl) rfl
theorem q387 : (Jvm.Cond.code ({ cls := "StageWalkerModel", name := "entry", desc := "()Z" } : Jvm.MethodName) prog_4_method_23_code (1 : Nat) (Option.some Jvm.ClassFile.FieldType.boolean)) ∈ lw_all := lw_g (lw_at lw_m2 129 rfl) rfl
theorem q389 : (Jvm.Cond.instanceMethod ({ cls := "StageWalkerModel", name := "pages", desc := "(IIII)I" } : Jvm.MethodName)) ∈ lw_all := lw_g (lw_at lw_m2 131 rfl) rfl
theorem q390 : (Jvm.Cond.selects "StageWalkerModel" ({ cls := "StageWalkerModel", name := "pages", desc := "(IIII)I" } : Jvm.MethodName) ({ cls := "StageWalkerModel", name := "pages", desc := "(IIII)I" } : Jvm.MethodName)) ∈ lw_all := lw_g (lw_at lw_m2 132 rfl) rfl
theorem q391 : (Jvm.Cond.code ({ cls := "StageWalkerModel", name := "pages", desc := "(IIII)I" } : Jvm.MethodName) prog_4_method_24_code (9 : Nat) (Option.some Jvm.ClassFile.FieldType.int)) ∈ lw_all := lw_g (lw_at lw_m2 133 rfl) rfl
theorem q392 : (Jvm.Cond.constantLong "StageWalkerModel" (137 : Nat) (4294967296 : Int64)) ∈ lw_all := lw_g (lw_at lw_m2 134 rfl) rfl
theorem in_X2 : ∀ w ∈ wsX20, w ∈ lw_all := lw_in wsX20 [262, 264, 266, 268, 270, 272, 274, 276, 278, 280, 282, 284, 286, 288, 290, 292] (by decide +kernel) (by decide +kernel)
end
section
/-! the law's own entry -/
set_option maxRecDepth 100000
abbrev cL_law : ByteArray := code
theorem dL_law_0 : decode cL_law 0 = .ok (.new 7, 3) := by decide +kernel
theorem dL_law_3 : decode cL_law 3 = .ok (.dup, 1) := by decide +kernel
theorem dL_law_4 : decode cL_law 4 = .ok (.invokespecial 9, 3) := by decide +kernel
theorem dL_law_7 : decode cL_law 7 = .ok (.astore_n 1, 1) := by decide +kernel
theorem dL_law_8 : decode cL_law 8 = .ok (.new 10, 3) := by decide +kernel
theorem dL_law_11 : decode cL_law 11 = .ok (.dup, 1) := by decide +kernel
theorem dL_law_12 : decode cL_law 12 = .ok (.invokespecial 12, 3) := by decide +kernel
theorem dL_law_15 : decode cL_law 15 = .ok (.astore_n 2, 1) := by decide +kernel
theorem dL_law_16 : decode cL_law 16 = .ok (.iconst 0, 1) := by decide +kernel
theorem dL_law_17 : decode cL_law 17 = .ok (.istore_n 3, 1) := by decide +kernel
theorem dL_law_18 : decode cL_law 18 = .ok (.iload_n 3, 1) := by decide +kernel
theorem dL_law_19 : decode cL_law 19 = .ok (.aload_n 0, 1) := by decide +kernel
theorem dL_law_20 : decode cL_law 20 = .ok (.arraylength, 1) := by decide +kernel
theorem dL_law_21 : decode cL_law 21 = .ok (.bipush 7, 2) := by decide +kernel
theorem dL_law_23 : decode cL_law 23 = .ok (.isub, 1) := by decide +kernel
theorem dL_law_24 : decode cL_law 24 = .ok (.if_icmp .gt 378, 3) := by decide +kernel
theorem dL_law_27 : decode cL_law 27 = .ok (.aload_n 0, 1) := by decide +kernel
theorem dL_law_28 : decode cL_law 28 = .ok (.iload_n 3, 1) := by decide +kernel
theorem dL_law_29 : decode cL_law 29 = .ok (.iaload, 1) := by decide +kernel
theorem dL_law_30 : decode cL_law 30 = .ok (.bipush 15, 2) := by decide +kernel
theorem dL_law_32 : decode cL_law 32 = .ok (.iand, 1) := by decide +kernel
theorem dL_law_33 : decode cL_law 33 = .ok (.tableswitch 363 0 9 #[55, 66, 141, 164, 205, 228, 271, 284, 297, 310], 55) := by decide +kernel
theorem dL_law_88 : decode cL_law 88 = .ok (.aload_n 1, 1) := by decide +kernel
theorem dL_law_89 : decode cL_law 89 = .ok (.invokevirtual 13, 3) := by decide +kernel
theorem dL_law_92 : decode cL_law 92 = .ok (.aload_n 2, 1) := by decide +kernel
theorem dL_law_93 : decode cL_law 93 = .ok (.invokevirtual 16, 3) := by decide +kernel
theorem dL_law_96 : decode cL_law 96 = .ok (.goto 300, 3) := by decide +kernel
theorem dL_law_99 : decode cL_law 99 = .ok (.aload_n 1, 1) := by decide +kernel
theorem dL_law_100 : decode cL_law 100 = .ok (.aload_n 0, 1) := by decide +kernel
theorem dL_law_101 : decode cL_law 101 = .ok (.iload_n 3, 1) := by decide +kernel
theorem dL_law_102 : decode cL_law 102 = .ok (.iconst 1, 1) := by decide +kernel
theorem dL_law_103 : decode cL_law 103 = .ok (.iadd, 1) := by decide +kernel
theorem dL_law_104 : decode cL_law 104 = .ok (.iaload, 1) := by decide +kernel
theorem dL_law_105 : decode cL_law 105 = .ok (.aload_n 0, 1) := by decide +kernel
theorem dL_law_106 : decode cL_law 106 = .ok (.iload_n 3, 1) := by decide +kernel
theorem dL_law_107 : decode cL_law 107 = .ok (.iconst 2, 1) := by decide +kernel
theorem dL_law_108 : decode cL_law 108 = .ok (.iadd, 1) := by decide +kernel
theorem dL_law_109 : decode cL_law 109 = .ok (.iaload, 1) := by decide +kernel
theorem dL_law_110 : decode cL_law 110 = .ok (.aload_n 0, 1) := by decide +kernel
theorem dL_law_111 : decode cL_law 111 = .ok (.iload_n 3, 1) := by decide +kernel
theorem dL_law_112 : decode cL_law 112 = .ok (.iconst 3, 1) := by decide +kernel
theorem dL_law_113 : decode cL_law 113 = .ok (.iadd, 1) := by decide +kernel
theorem dL_law_114 : decode cL_law 114 = .ok (.iaload, 1) := by decide +kernel
theorem dL_law_115 : decode cL_law 115 = .ok (.aload_n 0, 1) := by decide +kernel
theorem dL_law_116 : decode cL_law 116 = .ok (.iload_n 3, 1) := by decide +kernel
theorem dL_law_117 : decode cL_law 117 = .ok (.iconst 4, 1) := by decide +kernel
theorem dL_law_118 : decode cL_law 118 = .ok (.iadd, 1) := by decide +kernel
theorem dL_law_119 : decode cL_law 119 = .ok (.iaload, 1) := by decide +kernel
theorem dL_law_120 : decode cL_law 120 = .ok (.aload_n 0, 1) := by decide +kernel
theorem dL_law_121 : decode cL_law 121 = .ok (.iload_n 3, 1) := by decide +kernel
theorem dL_law_122 : decode cL_law 122 = .ok (.iconst 5, 1) := by decide +kernel
theorem dL_law_123 : decode cL_law 123 = .ok (.iadd, 1) := by decide +kernel
theorem dL_law_124 : decode cL_law 124 = .ok (.iaload, 1) := by decide +kernel
theorem dL_law_125 : decode cL_law 125 = .ok (.aload_n 0, 1) := by decide +kernel
theorem dL_law_126 : decode cL_law 126 = .ok (.iload_n 3, 1) := by decide +kernel
theorem dL_law_127 : decode cL_law 127 = .ok (.bipush 6, 2) := by decide +kernel
theorem dL_law_129 : decode cL_law 129 = .ok (.iadd, 1) := by decide +kernel
theorem dL_law_130 : decode cL_law 130 = .ok (.iaload, 1) := by decide +kernel
theorem dL_law_131 : decode cL_law 131 = .ok (.invokevirtual 17, 3) := by decide +kernel
theorem dL_law_134 : decode cL_law 134 = .ok (.aload_n 2, 1) := by decide +kernel
theorem dL_law_135 : decode cL_law 135 = .ok (.aload_n 0, 1) := by decide +kernel
theorem dL_law_136 : decode cL_law 136 = .ok (.iload_n 3, 1) := by decide +kernel
theorem dL_law_137 : decode cL_law 137 = .ok (.iconst 1, 1) := by decide +kernel
theorem dL_law_138 : decode cL_law 138 = .ok (.iadd, 1) := by decide +kernel
theorem dL_law_139 : decode cL_law 139 = .ok (.iaload, 1) := by decide +kernel
theorem dL_law_140 : decode cL_law 140 = .ok (.aload_n 0, 1) := by decide +kernel
theorem dL_law_141 : decode cL_law 141 = .ok (.iload_n 3, 1) := by decide +kernel
theorem dL_law_142 : decode cL_law 142 = .ok (.iconst 2, 1) := by decide +kernel
theorem dL_law_143 : decode cL_law 143 = .ok (.iadd, 1) := by decide +kernel
theorem dL_law_144 : decode cL_law 144 = .ok (.iaload, 1) := by decide +kernel
theorem dL_law_145 : decode cL_law 145 = .ok (.aload_n 0, 1) := by decide +kernel
theorem dL_law_146 : decode cL_law 146 = .ok (.iload_n 3, 1) := by decide +kernel
theorem dL_law_147 : decode cL_law 147 = .ok (.iconst 3, 1) := by decide +kernel
theorem dL_law_148 : decode cL_law 148 = .ok (.iadd, 1) := by decide +kernel
theorem dL_law_149 : decode cL_law 149 = .ok (.iaload, 1) := by decide +kernel
theorem dL_law_150 : decode cL_law 150 = .ok (.aload_n 0, 1) := by decide +kernel
theorem dL_law_151 : decode cL_law 151 = .ok (.iload_n 3, 1) := by decide +kernel
theorem dL_law_152 : decode cL_law 152 = .ok (.iconst 4, 1) := by decide +kernel
theorem dL_law_153 : decode cL_law 153 = .ok (.iadd, 1) := by decide +kernel
theorem dL_law_154 : decode cL_law 154 = .ok (.iaload, 1) := by decide +kernel
theorem dL_law_155 : decode cL_law 155 = .ok (.aload_n 0, 1) := by decide +kernel
theorem dL_law_156 : decode cL_law 156 = .ok (.iload_n 3, 1) := by decide +kernel
theorem dL_law_157 : decode cL_law 157 = .ok (.iconst 5, 1) := by decide +kernel
theorem dL_law_158 : decode cL_law 158 = .ok (.iadd, 1) := by decide +kernel
theorem dL_law_159 : decode cL_law 159 = .ok (.iaload, 1) := by decide +kernel
theorem dL_law_160 : decode cL_law 160 = .ok (.aload_n 0, 1) := by decide +kernel
theorem dL_law_161 : decode cL_law 161 = .ok (.iload_n 3, 1) := by decide +kernel
theorem dL_law_162 : decode cL_law 162 = .ok (.bipush 6, 2) := by decide +kernel
theorem dL_law_164 : decode cL_law 164 = .ok (.iadd, 1) := by decide +kernel
theorem dL_law_165 : decode cL_law 165 = .ok (.iaload, 1) := by decide +kernel
theorem dL_law_166 : decode cL_law 166 = .ok (.invokevirtual 21, 3) := by decide +kernel
theorem dL_law_169 : decode cL_law 169 = .ok (.if_icmp .eq 227, 3) := by decide +kernel
theorem dL_law_172 : decode cL_law 172 = .ok (.iconst 0, 1) := by decide +kernel
theorem dL_law_173 : decode cL_law 173 = .ok (.ireturn, 1) := by decide +kernel
theorem dL_law_174 : decode cL_law 174 = .ok (.aload_n 1, 1) := by decide +kernel
theorem dL_law_175 : decode cL_law 175 = .ok (.aload_n 0, 1) := by decide +kernel
theorem dL_law_176 : decode cL_law 176 = .ok (.iload_n 3, 1) := by decide +kernel
theorem dL_law_177 : decode cL_law 177 = .ok (.iconst 1, 1) := by decide +kernel
theorem dL_law_178 : decode cL_law 178 = .ok (.iadd, 1) := by decide +kernel
theorem dL_law_179 : decode cL_law 179 = .ok (.iaload, 1) := by decide +kernel
theorem dL_law_180 : decode cL_law 180 = .ok (.invokevirtual 22, 3) := by decide +kernel
theorem dL_law_183 : decode cL_law 183 = .ok (.aload_n 2, 1) := by decide +kernel
theorem dL_law_184 : decode cL_law 184 = .ok (.aload_n 0, 1) := by decide +kernel
theorem dL_law_185 : decode cL_law 185 = .ok (.iload_n 3, 1) := by decide +kernel
theorem dL_law_186 : decode cL_law 186 = .ok (.iconst 1, 1) := by decide +kernel
theorem dL_law_187 : decode cL_law 187 = .ok (.iadd, 1) := by decide +kernel
theorem dL_law_188 : decode cL_law 188 = .ok (.iaload, 1) := by decide +kernel
theorem dL_law_189 : decode cL_law 189 = .ok (.invokevirtual 26, 3) := by decide +kernel
theorem dL_law_192 : decode cL_law 192 = .ok (.if_icmp .eq 204, 3) := by decide +kernel
theorem dL_law_195 : decode cL_law 195 = .ok (.iconst 0, 1) := by decide +kernel
theorem dL_law_196 : decode cL_law 196 = .ok (.ireturn, 1) := by decide +kernel
theorem dL_law_197 : decode cL_law 197 = .ok (.aload_n 1, 1) := by decide +kernel
theorem dL_law_198 : decode cL_law 198 = .ok (.aload_n 0, 1) := by decide +kernel
theorem dL_law_199 : decode cL_law 199 = .ok (.iload_n 3, 1) := by decide +kernel
theorem dL_law_200 : decode cL_law 200 = .ok (.iconst 1, 1) := by decide +kernel
theorem dL_law_201 : decode cL_law 201 = .ok (.iadd, 1) := by decide +kernel
theorem dL_law_202 : decode cL_law 202 = .ok (.iaload, 1) := by decide +kernel
theorem dL_law_203 : decode cL_law 203 = .ok (.aload_n 0, 1) := by decide +kernel
theorem dL_law_204 : decode cL_law 204 = .ok (.iload_n 3, 1) := by decide +kernel
theorem dL_law_205 : decode cL_law 205 = .ok (.iconst 2, 1) := by decide +kernel
theorem dL_law_206 : decode cL_law 206 = .ok (.iadd, 1) := by decide +kernel
theorem dL_law_207 : decode cL_law 207 = .ok (.iaload, 1) := by decide +kernel
theorem dL_law_208 : decode cL_law 208 = .ok (.aload_n 0, 1) := by decide +kernel
theorem dL_law_209 : decode cL_law 209 = .ok (.iload_n 3, 1) := by decide +kernel
theorem dL_law_210 : decode cL_law 210 = .ok (.iconst 3, 1) := by decide +kernel
theorem dL_law_211 : decode cL_law 211 = .ok (.iadd, 1) := by decide +kernel
theorem dL_law_212 : decode cL_law 212 = .ok (.iaload, 1) := by decide +kernel
theorem dL_law_213 : decode cL_law 213 = .ok (.invokevirtual 27, 3) := by decide +kernel
theorem dL_law_216 : decode cL_law 216 = .ok (.aload_n 2, 1) := by decide +kernel
theorem dL_law_217 : decode cL_law 217 = .ok (.aload_n 0, 1) := by decide +kernel
theorem dL_law_218 : decode cL_law 218 = .ok (.iload_n 3, 1) := by decide +kernel
theorem dL_law_219 : decode cL_law 219 = .ok (.iconst 1, 1) := by decide +kernel
theorem dL_law_220 : decode cL_law 220 = .ok (.iadd, 1) := by decide +kernel
theorem dL_law_221 : decode cL_law 221 = .ok (.iaload, 1) := by decide +kernel
theorem dL_law_222 : decode cL_law 222 = .ok (.aload_n 0, 1) := by decide +kernel
theorem dL_law_223 : decode cL_law 223 = .ok (.iload_n 3, 1) := by decide +kernel
theorem dL_law_224 : decode cL_law 224 = .ok (.iconst 2, 1) := by decide +kernel
theorem dL_law_225 : decode cL_law 225 = .ok (.iadd, 1) := by decide +kernel
theorem dL_law_226 : decode cL_law 226 = .ok (.iaload, 1) := by decide +kernel
theorem dL_law_227 : decode cL_law 227 = .ok (.aload_n 0, 1) := by decide +kernel
theorem dL_law_228 : decode cL_law 228 = .ok (.iload_n 3, 1) := by decide +kernel
theorem dL_law_229 : decode cL_law 229 = .ok (.iconst 3, 1) := by decide +kernel
theorem dL_law_230 : decode cL_law 230 = .ok (.iadd, 1) := by decide +kernel
theorem dL_law_231 : decode cL_law 231 = .ok (.iaload, 1) := by decide +kernel
theorem dL_law_232 : decode cL_law 232 = .ok (.invokevirtual 31, 3) := by decide +kernel
theorem dL_law_235 : decode cL_law 235 = .ok (.goto 161, 3) := by decide +kernel
theorem dL_law_238 : decode cL_law 238 = .ok (.aload_n 1, 1) := by decide +kernel
theorem dL_law_239 : decode cL_law 239 = .ok (.aload_n 0, 1) := by decide +kernel
theorem dL_law_240 : decode cL_law 240 = .ok (.iload_n 3, 1) := by decide +kernel
theorem dL_law_241 : decode cL_law 241 = .ok (.iconst 1, 1) := by decide +kernel
theorem dL_law_242 : decode cL_law 242 = .ok (.iadd, 1) := by decide +kernel
theorem dL_law_243 : decode cL_law 243 = .ok (.iaload, 1) := by decide +kernel
theorem dL_law_244 : decode cL_law 244 = .ok (.invokevirtual 32, 3) := by decide +kernel
theorem dL_law_247 : decode cL_law 247 = .ok (.aload_n 2, 1) := by decide +kernel
theorem dL_law_248 : decode cL_law 248 = .ok (.aload_n 0, 1) := by decide +kernel
theorem dL_law_249 : decode cL_law 249 = .ok (.iload_n 3, 1) := by decide +kernel
theorem dL_law_250 : decode cL_law 250 = .ok (.iconst 1, 1) := by decide +kernel
theorem dL_law_251 : decode cL_law 251 = .ok (.iadd, 1) := by decide +kernel
theorem dL_law_252 : decode cL_law 252 = .ok (.iaload, 1) := by decide +kernel
theorem dL_law_253 : decode cL_law 253 = .ok (.invokevirtual 35, 3) := by decide +kernel
theorem dL_law_256 : decode cL_law 256 = .ok (.if_icmp .eq 140, 3) := by decide +kernel
theorem dL_law_259 : decode cL_law 259 = .ok (.iconst 0, 1) := by decide +kernel
theorem dL_law_260 : decode cL_law 260 = .ok (.ireturn, 1) := by decide +kernel
theorem dL_law_261 : decode cL_law 261 = .ok (.aload_n 1, 1) := by decide +kernel
theorem dL_law_262 : decode cL_law 262 = .ok (.aload_n 0, 1) := by decide +kernel
theorem dL_law_263 : decode cL_law 263 = .ok (.iload_n 3, 1) := by decide +kernel
theorem dL_law_264 : decode cL_law 264 = .ok (.iconst 1, 1) := by decide +kernel
theorem dL_law_265 : decode cL_law 265 = .ok (.iadd, 1) := by decide +kernel
theorem dL_law_266 : decode cL_law 266 = .ok (.iaload, 1) := by decide +kernel
theorem dL_law_267 : decode cL_law 267 = .ok (.aload_n 0, 1) := by decide +kernel
theorem dL_law_268 : decode cL_law 268 = .ok (.iload_n 3, 1) := by decide +kernel
theorem dL_law_269 : decode cL_law 269 = .ok (.iconst 2, 1) := by decide +kernel
theorem dL_law_270 : decode cL_law 270 = .ok (.iadd, 1) := by decide +kernel
theorem dL_law_271 : decode cL_law 271 = .ok (.iaload, 1) := by decide +kernel
theorem dL_law_272 : decode cL_law 272 = .ok (.aload_n 0, 1) := by decide +kernel
theorem dL_law_273 : decode cL_law 273 = .ok (.iload_n 3, 1) := by decide +kernel
theorem dL_law_274 : decode cL_law 274 = .ok (.iconst 3, 1) := by decide +kernel
theorem dL_law_275 : decode cL_law 275 = .ok (.iadd, 1) := by decide +kernel
theorem dL_law_276 : decode cL_law 276 = .ok (.iaload, 1) := by decide +kernel
theorem dL_law_277 : decode cL_law 277 = .ok (.invokevirtual 36, 3) := by decide +kernel
theorem dL_law_280 : decode cL_law 280 = .ok (.aload_n 2, 1) := by decide +kernel
theorem dL_law_281 : decode cL_law 281 = .ok (.aload_n 0, 1) := by decide +kernel
theorem dL_law_282 : decode cL_law 282 = .ok (.iload_n 3, 1) := by decide +kernel
theorem dL_law_283 : decode cL_law 283 = .ok (.iconst 1, 1) := by decide +kernel
theorem dL_law_284 : decode cL_law 284 = .ok (.iadd, 1) := by decide +kernel
theorem dL_law_285 : decode cL_law 285 = .ok (.iaload, 1) := by decide +kernel
theorem dL_law_286 : decode cL_law 286 = .ok (.aload_n 0, 1) := by decide +kernel
theorem dL_law_287 : decode cL_law 287 = .ok (.iload_n 3, 1) := by decide +kernel
theorem dL_law_288 : decode cL_law 288 = .ok (.iconst 2, 1) := by decide +kernel
theorem dL_law_289 : decode cL_law 289 = .ok (.iadd, 1) := by decide +kernel
theorem dL_law_290 : decode cL_law 290 = .ok (.iaload, 1) := by decide +kernel
theorem dL_law_291 : decode cL_law 291 = .ok (.aload_n 0, 1) := by decide +kernel
theorem dL_law_292 : decode cL_law 292 = .ok (.iload_n 3, 1) := by decide +kernel
theorem dL_law_293 : decode cL_law 293 = .ok (.iconst 3, 1) := by decide +kernel
theorem dL_law_294 : decode cL_law 294 = .ok (.iadd, 1) := by decide +kernel
theorem dL_law_295 : decode cL_law 295 = .ok (.iaload, 1) := by decide +kernel
theorem dL_law_296 : decode cL_law 296 = .ok (.invokevirtual 40, 3) := by decide +kernel
theorem dL_law_299 : decode cL_law 299 = .ok (.if_icmp .eq 97, 3) := by decide +kernel
theorem dL_law_302 : decode cL_law 302 = .ok (.iconst 0, 1) := by decide +kernel
theorem dL_law_303 : decode cL_law 303 = .ok (.ireturn, 1) := by decide +kernel
theorem dL_law_304 : decode cL_law 304 = .ok (.aload_n 1, 1) := by decide +kernel
theorem dL_law_305 : decode cL_law 305 = .ok (.invokevirtual 41, 3) := by decide +kernel
theorem dL_law_308 : decode cL_law 308 = .ok (.aload_n 2, 1) := by decide +kernel
theorem dL_law_309 : decode cL_law 309 = .ok (.invokevirtual 45, 3) := by decide +kernel
theorem dL_law_312 : decode cL_law 312 = .ok (.if_icmp .eq 84, 3) := by decide +kernel
theorem dL_law_315 : decode cL_law 315 = .ok (.iconst 0, 1) := by decide +kernel
theorem dL_law_316 : decode cL_law 316 = .ok (.ireturn, 1) := by decide +kernel
theorem dL_law_317 : decode cL_law 317 = .ok (.aload_n 1, 1) := by decide +kernel
theorem dL_law_318 : decode cL_law 318 = .ok (.invokevirtual 46, 3) := by decide +kernel
theorem dL_law_321 : decode cL_law 321 = .ok (.aload_n 2, 1) := by decide +kernel
theorem dL_law_322 : decode cL_law 322 = .ok (.invokevirtual 49, 3) := by decide +kernel
theorem dL_law_325 : decode cL_law 325 = .ok (.if_icmp .eq 71, 3) := by decide +kernel
theorem dL_law_328 : decode cL_law 328 = .ok (.iconst 0, 1) := by decide +kernel
theorem dL_law_329 : decode cL_law 329 = .ok (.ireturn, 1) := by decide +kernel
theorem dL_law_330 : decode cL_law 330 = .ok (.aload_n 1, 1) := by decide +kernel
theorem dL_law_331 : decode cL_law 331 = .ok (.invokevirtual 50, 3) := by decide +kernel
theorem dL_law_334 : decode cL_law 334 = .ok (.aload_n 2, 1) := by decide +kernel
theorem dL_law_335 : decode cL_law 335 = .ok (.invokevirtual 54, 3) := by decide +kernel
theorem dL_law_338 : decode cL_law 338 = .ok (.if_icmp .eq 58, 3) := by decide +kernel
theorem dL_law_341 : decode cL_law 341 = .ok (.iconst 0, 1) := by decide +kernel
theorem dL_law_342 : decode cL_law 342 = .ok (.ireturn, 1) := by decide +kernel
theorem dL_law_343 : decode cL_law 343 = .ok (.aload_n 1, 1) := by decide +kernel
theorem dL_law_344 : decode cL_law 344 = .ok (.aload_n 0, 1) := by decide +kernel
theorem dL_law_345 : decode cL_law 345 = .ok (.iload_n 3, 1) := by decide +kernel
theorem dL_law_346 : decode cL_law 346 = .ok (.iconst 1, 1) := by decide +kernel
theorem dL_law_347 : decode cL_law 347 = .ok (.iadd, 1) := by decide +kernel
theorem dL_law_348 : decode cL_law 348 = .ok (.iaload, 1) := by decide +kernel
theorem dL_law_349 : decode cL_law 349 = .ok (.aload_n 0, 1) := by decide +kernel
theorem dL_law_350 : decode cL_law 350 = .ok (.iload_n 3, 1) := by decide +kernel
theorem dL_law_351 : decode cL_law 351 = .ok (.iconst 2, 1) := by decide +kernel
theorem dL_law_352 : decode cL_law 352 = .ok (.iadd, 1) := by decide +kernel
theorem dL_law_353 : decode cL_law 353 = .ok (.iaload, 1) := by decide +kernel
theorem dL_law_354 : decode cL_law 354 = .ok (.aload_n 0, 1) := by decide +kernel
theorem dL_law_355 : decode cL_law 355 = .ok (.iload_n 3, 1) := by decide +kernel
theorem dL_law_356 : decode cL_law 356 = .ok (.iconst 3, 1) := by decide +kernel
theorem dL_law_357 : decode cL_law 357 = .ok (.iadd, 1) := by decide +kernel
theorem dL_law_358 : decode cL_law 358 = .ok (.iaload, 1) := by decide +kernel
theorem dL_law_359 : decode cL_law 359 = .ok (.aload_n 0, 1) := by decide +kernel
theorem dL_law_360 : decode cL_law 360 = .ok (.iload_n 3, 1) := by decide +kernel
theorem dL_law_361 : decode cL_law 361 = .ok (.iconst 4, 1) := by decide +kernel
theorem dL_law_362 : decode cL_law 362 = .ok (.iadd, 1) := by decide +kernel
theorem dL_law_363 : decode cL_law 363 = .ok (.iaload, 1) := by decide +kernel
theorem dL_law_364 : decode cL_law 364 = .ok (.invokevirtual 55, 3) := by decide +kernel
theorem dL_law_367 : decode cL_law 367 = .ok (.aload_n 2, 1) := by decide +kernel
theorem dL_law_368 : decode cL_law 368 = .ok (.aload_n 0, 1) := by decide +kernel
theorem dL_law_369 : decode cL_law 369 = .ok (.iload_n 3, 1) := by decide +kernel
theorem dL_law_370 : decode cL_law 370 = .ok (.iconst 1, 1) := by decide +kernel
theorem dL_law_371 : decode cL_law 371 = .ok (.iadd, 1) := by decide +kernel
theorem dL_law_372 : decode cL_law 372 = .ok (.iaload, 1) := by decide +kernel
theorem dL_law_373 : decode cL_law 373 = .ok (.aload_n 0, 1) := by decide +kernel
theorem dL_law_374 : decode cL_law 374 = .ok (.iload_n 3, 1) := by decide +kernel
theorem dL_law_375 : decode cL_law 375 = .ok (.iconst 2, 1) := by decide +kernel
theorem dL_law_376 : decode cL_law 376 = .ok (.iadd, 1) := by decide +kernel
theorem dL_law_377 : decode cL_law 377 = .ok (.iaload, 1) := by decide +kernel
theorem dL_law_378 : decode cL_law 378 = .ok (.aload_n 0, 1) := by decide +kernel
theorem dL_law_379 : decode cL_law 379 = .ok (.iload_n 3, 1) := by decide +kernel
theorem dL_law_380 : decode cL_law 380 = .ok (.iconst 3, 1) := by decide +kernel
theorem dL_law_381 : decode cL_law 381 = .ok (.iadd, 1) := by decide +kernel
theorem dL_law_382 : decode cL_law 382 = .ok (.iaload, 1) := by decide +kernel
theorem dL_law_383 : decode cL_law 383 = .ok (.aload_n 0, 1) := by decide +kernel
theorem dL_law_384 : decode cL_law 384 = .ok (.iload_n 3, 1) := by decide +kernel
theorem dL_law_385 : decode cL_law 385 = .ok (.iconst 4, 1) := by decide +kernel
theorem dL_law_386 : decode cL_law 386 = .ok (.iadd, 1) := by decide +kernel
theorem dL_law_387 : decode cL_law 387 = .ok (.iaload, 1) := by decide +kernel
theorem dL_law_388 : decode cL_law 388 = .ok (.invokevirtual 59, 3) := by decide +kernel
theorem dL_law_391 : decode cL_law 391 = .ok (.if_icmp .eq 5, 3) := by decide +kernel
theorem dL_law_394 : decode cL_law 394 = .ok (.iconst 0, 1) := by decide +kernel
theorem dL_law_395 : decode cL_law 395 = .ok (.ireturn, 1) := by decide +kernel
theorem dL_law_396 : decode cL_law 396 = .ok (.iinc 3 7, 3) := by decide +kernel
theorem dL_law_399 : decode cL_law 399 = .ok (.goto (-381), 3) := by decide +kernel
theorem dL_law_402 : decode cL_law 402 = .ok (.iconst 1, 1) := by decide +kernel
theorem dL_law_403 : decode cL_law 403 = .ok (.ireturn, 1) := by decide +kernel
end
section
set_option maxRecDepth 100000
/-! ===== order of ints, in all its forms, and through longs ===== -/
theorem fa_lt (a b : Int32) : a < b ↔ a.toInt < b.toInt := Int32.lt_iff_toInt_lt
theorem fa_le (a b : Int32) : a ≤ b ↔ a.toInt ≤ b.toInt := Int32.le_iff_toInt_le
theorem fa_eq (a b : Int32) : a = b ↔ a.toInt = b.toInt := Int32.toInt_inj.symm
theorem fa_lt64 (a b : Int64) : a < b ↔ a.toInt < b.toInt := Int64.lt_iff_toInt_lt
theorem fa_le64 (a b : Int64) : a ≤ b ↔ a.toInt ≤ b.toInt := Int64.le_iff_toInt_le
theorem fa_eq64 (a b : Int64) : a = b ↔ a.toInt = b.toInt := Int64.toInt_inj.symm
/-- a comparison of two ints taken as longs -/
theorem fa_wide_lt (a b : Int32) : a.toInt64 < b.toInt64 ↔ a < b := by rw [fa_lt64, fa_lt, Int32.toInt_toInt64, Int32.toInt_toInt64]
theorem fa_wide_le (a b : Int32) : a.toInt64 ≤ b.toInt64 ↔ a ≤ b := by rw [fa_le64, fa_le, Int32.toInt_toInt64, Int32.toInt_toInt64]
theorem fa_wide_eq (a b : Int32) : a.toInt64 = b.toInt64 ↔ a = b := by rw [fa_eq64, fa_eq, Int32.toInt_toInt64, Int32.toInt_toInt64]
/-- one strict comparison gives all the others -/
theorem fa_of_lt {a b : Int32} (h : a < b) : a ≤ b ∧ ¬ b ≤ a ∧ ¬ b < a ∧ a ≠ b ∧ b ≠ a := by
  rw [fa_lt] at h
  refine ⟨?_, ?_, ?_, ?_, ?_⟩
  · rw [fa_le]; omega
  · rw [fa_le]; omega
  · rw [fa_lt]; omega
  · intro e; rw [fa_eq] at e; omega
  · intro e; rw [fa_eq] at e; omega
theorem fa_of_nlt {a b : Int32} (h : ¬ a < b) : b ≤ a := by
  rw [fa_lt] at h
  rw [fa_le]
  omega
theorem fa_of_nle {a b : Int32} (h : ¬ a ≤ b) : b < a := by
  rw [fa_le] at h
  rw [fa_lt]
  omega
theorem fa_le_ne {a b : Int32} (h : a ≤ b) (h2 : a ≠ b) : a < b := by
  rw [fa_le] at h
  rw [fa_lt]
  have h3 : a.toInt ≠ b.toInt := fun e => h2 ((fa_eq a b).mpr e)
  omega
theorem fa_three (a b : Int32) : a < b ∨ a = b ∨ b < a := by
  rw [fa_lt, fa_lt, fa_eq]
  omega
theorem fa_trans {a b c : Int32} (h : a < b) (h2 : b ≤ c) : a < c := by
  rw [fa_lt] at *
  rw [fa_le] at h2
  omega
/-! ===== small literals as numbers ===== -/
theorem fa_lit (n : Nat) : (OfNat.ofNat n : Int32) = nI n := rfl
theorem fa_litL (n : Nat) : (OfNat.ofNat n : Int64) = lN n := rfl
/-! ===== bits of a number: 'or', masks, one bit ===== -/
theorem fa_and (a b : Nat) : nI a &&& nI b = nI (a &&& b) := by
  apply Int32.toBitVec_inj.1
  show BitVec.ofNat 32 a &&& BitVec.ofNat 32 b = BitVec.ofNat 32 (a &&& b)
  apply BitVec.eq_of_getLsbD_eq
  intro i hi
  simp [hi]
theorem fa_or (a b : Nat) : nI a ||| nI b = nI (a ||| b) := by
  apply Int32.toBitVec_inj.1
  show BitVec.ofNat 32 a ||| BitVec.ofNat 32 b = BitVec.ofNat 32 (a ||| b)
  apply BitVec.eq_of_getLsbD_eq
  intro i hi
  simp [hi]
/-- a remainder by a power of two, as a mask -/
theorem fa_mask (n k : Nat) : nI n &&& nI (2 ^ k - 1) = nI (n % 2 ^ k) := by rw [fa_and, Nat.and_two_pow_sub_one_eq_mod]
/-- 'or' of a high part and a low one that don't meet is their sum -/
theorem fa_or_sum {a k : Nat} (b : Nat) (h : a < 2 ^ k) : nI (2 ^ k * b) ||| nI a = nI (2 ^ k * b + a) := by rw [fa_or, Nat.two_pow_add_eq_or_of_lt h]
/-- one bit, by 'and' with a power of two -/
theorem fa_bit {n j : Nat} (hj : j < 31) : nI n &&& nI (2 ^ j) = 0 ↔ n.testBit j = false := by
  have h2 : (2 : Nat) ^ j < 2 ^ 31 := Nat.pow_lt_pow_right (by decide) hj
  have hle : n &&& 2 ^ j ≤ 2 ^ j := Nat.and_le_right
  have e : n &&& 2 ^ j = 0 ↔ n.testBit j = false := by
    constructor
    · intro h
      have h1 : (n &&& 2 ^ j).testBit j = false := by rw [h]; simp
      rw [Nat.testBit_and] at h1
      first | simpa using h1 | simpa [Nat.testBit_two_pow_self] using h1 | simpa [Nat.testBit_two_pow] using h1
    · intro h
      apply Nat.eq_of_testBit_eq
      intro i
      rw [Nat.testBit_and]
      by_cases hi : j = i
      · subst hi; simp [h]
      · first | (simp [Nat.testBit_two_pow, hi]; done) | (simp [Nat.testBit_two_pow_of_ne hi]; done)
  rw [fa_and]
  constructor
  · intro h
    apply e.mp
    rcases Nat.eq_zero_or_pos (n &&& 2 ^ j) with z | z
    · exact z
    · exact absurd h (nI_ne0 z (Nat.lt_of_le_of_lt hle h2))
  · intro h
    rw [e.mpr h]; exact nI_0
/-- a remainder by a power of two of a number that isn't negative, as Java divides -/
theorem fa_rem {a k : Nat} (ha : a < 2 ^ 31) (hk : k < 31) : nI a - nI a / nI (2 ^ k) * nI (2 ^ k) = nI (a % 2 ^ k) := pk_rem ha (Nat.two_pow_pos k) (Nat.pow_lt_pow_right (by decide) hk)
/-! ===== an array behind i stores, a conditional store, a row copied ===== -/
/-- f where k < i, what stood there else -/
def fa_fill {α : Type} (f g : Nat → α) (i : Nat) : Nat → α := fun k => if k < i then f k else g k
theorem fa_fill_0 {α : Type} (f g : Nat → α) : fa_fill f g 0 = g := funext fun k => if_neg (Nat.not_lt_zero k)
theorem fa_fill_in {α : Type} {f g : Nat → α} {i k : Nat} (h : k < i) : fa_fill f g i k = f k := if_pos h
theorem fa_fill_out {α : Type} {f g : Nat → α} {i k : Nat} (h : i ≤ k) : fa_fill f g i k = g k := if_neg (Nat.not_lt.mpr h)
theorem fa_fill_succ (f g : Nat → Int32) (i : Nat) : upd (fa_fill f g i) i (f i) = fa_fill f g (i + 1) := by
  funext k
  by_cases e : k = i
  · subst e
    rw [pk_us]
    exact (if_pos (Nat.lt_succ_self k)).symm
  · rw [pk_un e]
    by_cases h : k < i
    · rw [fa_fill_in h, fa_fill_in (Nat.lt_succ_of_lt h)]
    · rw [fa_fill_out (Nat.le_of_not_lt h), fa_fill_out (by omega)]
/-- a store that changes nothing -/
theorem fa_upd_same {f : Nat → Int32} {i : Nat} {x : Int32} (h : f i = x) : upd f i x = f := by
  funext k
  by_cases e : k = i
  · subst e
    rw [pk_us, h]
  · rw [pk_un e]
/-- a store under a condition, told as one -/
theorem fa_upd_if (c : Prop) [Decidable c] (f : Nat → Int32) (i : Nat) (x : Int32) : (if c then upd f i x else f) = upd f i (if c then x else f i) := by
  by_cases h : c
  · rw [if_pos h, if_pos h]
  · rw [if_neg h, if_neg h, fa_upd_same rfl]
/-- two stores at one place, at two -/
theorem fa_upd_twice (f : Nat → Int32) (i : Nat) (x y : Int32) : upd (upd f i x) i y = upd f i y := by
  funext k
  by_cases e : k = i
  · subst e
    rw [pk_us, pk_us]
  · rw [pk_un e, pk_un e, pk_un e]
theorem fa_upd_swap (f : Nat → Int32) {i j : Nat} (h : i ≠ j) (x y : Int32) : upd (upd f i x) j y = upd (upd f j y) i x := by
  funext k
  by_cases e : k = i
  · subst e
    rw [pk_un h, pk_us, pk_us]
  · by_cases e2 : k = j
    · subst e2
      rw [pk_us, pk_un e, pk_us]
    · rw [pk_un e2, pk_un e, pk_un e, pk_un e2]
/-! ===== bits of a long that isn't negative ===== -/
theorem fb_andL (a b : Nat) : lN a &&& lN b = lN (a &&& b) := by
  apply Int64.toBitVec_inj.1
  show BitVec.ofNat 64 a &&& BitVec.ofNat 64 b = BitVec.ofNat 64 (a &&& b)
  apply BitVec.eq_of_getLsbD_eq
  intro i hi
  simp [hi]
theorem fb_orL (a b : Nat) : lN a ||| lN b = lN (a ||| b) := by
  apply Int64.toBitVec_inj.1
  show BitVec.ofNat 64 a ||| BitVec.ofNat 64 b = BitVec.ofNat 64 (a ||| b)
  apply BitVec.eq_of_getLsbD_eq
  intro i hi
  simp [hi]
theorem fb_xorL (a b : Nat) : lN a ^^^ lN b = lN (a ^^^ b) := by
  apply Int64.toBitVec_inj.1
  show BitVec.ofNat 64 a ^^^ BitVec.ofNat 64 b = BitVec.ofNat 64 (a ^^^ b)
  apply BitVec.eq_of_getLsbD_eq
  intro i hi
  simp [hi]
theorem fb_xorI (a b : Nat) : nI a ^^^ nI b = nI (a ^^^ b) := by
  apply Int32.toBitVec_inj.1
  show BitVec.ofNat 32 a ^^^ BitVec.ofNat 32 b = BitVec.ofNat 32 (a ^^^ b)
  apply BitVec.eq_of_getLsbD_eq
  intro i hi
  simp [hi]
theorem fb_maskL (n k : Nat) : lN n &&& lN (2 ^ k - 1) = lN (n % 2 ^ k) := by rw [fb_andL, Nat.and_two_pow_sub_one_eq_mod]
theorem fb_or_sumL {a k : Nat} (b : Nat) (h : a < 2 ^ k) : lN (2 ^ k * b) ||| lN a = lN (2 ^ k * b + a) := by rw [fb_orL, Nat.two_pow_add_eq_or_of_lt h]
theorem fb_lN_inj {a b : Nat} (ha : a < 2 ^ 63) (hb : b < 2 ^ 63) : lN a = lN b ↔ a = b := by
  constructor
  · intro h
    have h1 : (BitVec.ofNat 64 a).toNat = (BitVec.ofNat 64 b).toNat := congrArg (fun x : Int64 => x.toBitVec.toNat) h
    rw [BitVec.toNat_ofNat, BitVec.toNat_ofNat, Nat.mod_eq_of_lt (by omega), Nat.mod_eq_of_lt (by omega)] at h1
    exact h1
  · rintro rfl; rfl
theorem fb_bit_nat (n j : Nat) : n &&& 2 ^ j = 0 ↔ n.testBit j = false := by
  constructor
  · intro h
    have h1 : (n &&& 2 ^ j).testBit j = false := by rw [h]; simp
    rw [Nat.testBit_and] at h1
    simpa using h1
  · intro h
    apply Nat.eq_of_testBit_eq
    intro i
    rw [Nat.testBit_and]
    by_cases hi : j = i
    · subst hi; simp [h]
    · first | (simp [Nat.testBit_two_pow, hi]; done) | (simp [Nat.testBit_two_pow_of_ne hi]; done)
/-- one bit of a long -/
theorem fb_bitL {n j : Nat} (hj : j < 63) : lN n &&& lN (2 ^ j) = 0 ↔ n.testBit j = false := by
  have h2 : (2 : Nat) ^ j < 2 ^ 63 := Nat.pow_lt_pow_right (by decide) hj
  have hle : n &&& 2 ^ j ≤ 2 ^ j := Nat.and_le_right
  rw [fb_andL, ← fb_bit_nat, show (0 : Int64) = lN 0 from rfl]
  exact fb_lN_inj (by omega) (by decide)
/-- a bit set, a bit taken off -/
theorem fb_bit_set (n j i : Nat) : (n ||| 2 ^ j).testBit i = (n.testBit i || decide (i = j)) := by
  rw [Nat.testBit_or]
  by_cases h : j = i
  · subst h; simp
  · have h2 : ¬ i = j := fun e => h e.symm
    first | (simp [Nat.testBit_two_pow, h, h2]; done) | (simp [Nat.testBit_two_pow_of_ne h, h2]; done)
theorem fb_bit_flip (n j i : Nat) : (n ^^^ 2 ^ j).testBit i = (n.testBit i ^^ decide (i = j)) := by
  rw [Nat.testBit_xor]
  by_cases h : j = i
  · subst h; simp
  · have h2 : ¬ i = j := fun e => h e.symm
    first | (simp [Nat.testBit_two_pow, h, h2]; done) | (simp [Nat.testBit_two_pow_of_ne h, h2]; done)
/-! ===== signed ints as whole numbers, within bounds ===== -/
theorem fb_rng (x : Int32) : -2147483648 ≤ x.toInt ∧ x.toInt < 2147483648 := by
  have h1 := Int32.le_toInt x
  have h2 := Int32.toInt_lt x
  omega
theorem fb_bmod {z : Int} (h1 : -2147483648 ≤ z) (h2 : z < 2147483648) : z.bmod (2 ^ 32) = z := by
  rw [Int.bmod_eq_of_le (by omega) (by omega)]
theorem fb_addI {x y : Int32} (h1 : -2147483648 ≤ x.toInt + y.toInt) (h2 : x.toInt + y.toInt < 2147483648) : (x + y).toInt = x.toInt + y.toInt := by
  rw [Int32.toInt_add, fb_bmod h1 h2]
theorem fb_subI {x y : Int32} (h1 : -2147483648 ≤ x.toInt - y.toInt) (h2 : x.toInt - y.toInt < 2147483648) : (x - y).toInt = x.toInt - y.toInt := by
  rw [Int32.toInt_sub, fb_bmod h1 h2]
theorem fb_mulI {x y : Int32} (h1 : -2147483648 ≤ x.toInt * y.toInt) (h2 : x.toInt * y.toInt < 2147483648) : (x * y).toInt = x.toInt * y.toInt := by
  rw [Int32.toInt_mul, fb_bmod h1 h2]
theorem fb_negI {x : Int32} (h : x.toInt ≠ -2147483648) : (-x).toInt = -x.toInt := by
  have := fb_rng x
  rw [Int32.toInt_neg, fb_bmod (by omega) (by omega)]
theorem fb_ofI {z : Int} (h1 : -2147483648 ≤ z) (h2 : z < 2147483648) : (Int32.ofInt z).toInt = z := by
  rw [Int32.toInt_ofInt, fb_bmod h1 h2]
theorem fb_asI (x : Int32) : Int32.ofInt x.toInt = x := Int32.ofInt_toInt x
theorem fb_rngL (x : Int64) : -9223372036854775808 ≤ x.toInt ∧ x.toInt < 9223372036854775808 := by
  have h1 := Int64.le_toInt x
  have h2 := Int64.toInt_lt x
  omega
theorem fb_bmodL {z : Int} (h1 : -9223372036854775808 ≤ z) (h2 : z < 9223372036854775808) : z.bmod (2 ^ 64) = z := by
  rw [Int.bmod_eq_of_le (by omega) (by omega)]
theorem fb_addL {x y : Int64} (h1 : -9223372036854775808 ≤ x.toInt + y.toInt) (h2 : x.toInt + y.toInt < 9223372036854775808) : (x + y).toInt = x.toInt + y.toInt := by
  rw [Int64.toInt_add, fb_bmodL h1 h2]
theorem fb_subL {x y : Int64} (h1 : -9223372036854775808 ≤ x.toInt - y.toInt) (h2 : x.toInt - y.toInt < 9223372036854775808) : (x - y).toInt = x.toInt - y.toInt := by
  rw [Int64.toInt_sub, fb_bmodL h1 h2]
theorem fb_mulL {x y : Int64} (h1 : -9223372036854775808 ≤ x.toInt * y.toInt) (h2 : x.toInt * y.toInt < 9223372036854775808) : (x * y).toInt = x.toInt * y.toInt := by
  rw [Int64.toInt_mul, fb_bmodL h1 h2]
/-! ===== Int32 by its bits: bt x i ===== -/
def bt (x : Int32) (i : Nat) : Bool := x.toBitVec.getLsbD i
theorem b_ext {x y : Int32} (h : ∀ i, i < 32 → bt x i = bt y i) : x = y := Int32.toBitVec_inj.mp (BitVec.eq_of_getLsbD_eq (fun i hi => h i hi))
theorem b_or (x y : Int32) (i : Nat) : bt (x ||| y) i = (bt x i || bt y i) := by unfold bt; rw [Int32.toBitVec_or, BitVec.getLsbD_or]
theorem b_and (x y : Int32) (i : Nat) : bt (x &&& y) i = (bt x i && bt y i) := by unfold bt; rw [Int32.toBitVec_and, BitVec.getLsbD_and]
theorem b_xor (x y : Int32) (i : Nat) : bt (x ^^^ y) i = (bt x i ^^ bt y i) := by unfold bt; rw [Int32.toBitVec_xor, BitVec.getLsbD_xor]
theorem b_big {x : Int32} {i : Nat} (h : 32 ≤ i) : bt x i = false := BitVec.getLsbD_of_ge _ _ h
theorem b_255 (i : Nat) : bt 255 i = decide (i < 8) := by
  rcases Nat.lt_or_ge i 32 with h | h
  · exact (by decide +kernel : ∀ i, i < 32 → bt 255 i = decide (i < 8)) i h
  · rw [b_big h, decide_eq_false (by omega)]
theorem b_65535 (i : Nat) : bt 65535 i = decide (i < 16) := by
  rcases Nat.lt_or_ge i 32 with h | h
  · exact (by decide +kernel : ∀ i, i < 32 → bt 65535 i = decide (i < 16)) i h
  · rw [b_big h, decide_eq_false (by omega)]
theorem b_m1 : ∀ i, i < 32 → bt (-1) i = true := by decide +kernel
theorem b_0 (i : Nat) : bt 0 i = false := BitVec.getLsbD_zero
theorem s_l : ∀ n, n < 32 → ((nI n &&& 31).toBitVec.smod 32).toNat = n := by decide +kernel
theorem s_u : ∀ n, n < 32 → (((nI n).toUInt32 &&& Int32.toUInt32 31).toBitVec % 32).toNat = n := by decide +kernel
theorem b_shl (n : Nat) (hn : n < 32) (x : Int32) {i : Nat} (hi : i < 32) : bt (x <<< (nI n &&& 31)) i = (decide (n ≤ i) && bt x (i - n)) := by
  unfold bt
  rw [Int32.toBitVec_shiftLeft]
  show (x.toBitVec <<< ((nI n &&& 31).toBitVec.smod 32).toNat).getLsbD i = _
  rw [s_l n hn, BitVec.getLsbD_shiftLeft]
  rcases Nat.lt_or_ge i n with h | h
  · simp [h, Nat.not_le.mpr h]
  · simp [hi, h, Nat.not_lt.mpr h]
theorem b_ushr (n : Nat) (hn : n < 32) (x : Int32) (i : Nat) : bt ((x.toUInt32 >>> ((nI n).toUInt32 &&& Int32.toUInt32 31)).toInt32) i = bt x (n + i) := by
  show (x.toUInt32 >>> ((nI n).toUInt32 &&& Int32.toUInt32 31)).toBitVec.getLsbD i = x.toUInt32.toBitVec.getLsbD (n + i)
  rw [UInt32.toBitVec_shiftRight]
  show (x.toUInt32.toBitVec >>> (((nI n).toUInt32 &&& Int32.toUInt32 31).toBitVec % 32).toNat).getLsbD i = _
  rw [s_u n hn, BitVec.getLsbD_ushiftRight]
theorem b_sshr (n : Nat) (hn : n < 32) (x : Int32) {i : Nat} (hi : i < 32) : bt (x >>> (nI n &&& 31)) i = if n + i < 32 then bt x (n + i) else bt x 31 := by
  unfold bt
  rw [Int32.toBitVec_shiftRight]
  show (x.toBitVec.sshiftRight ((nI n &&& 31).toBitVec.smod 32).toNat).getLsbD i = _
  rw [s_l n hn, BitVec.getLsbD_sshiftRight, BitVec.msb_eq_getLsbD_last]
  simp [hi]
theorem b_shl8 (x : Int32) {i : Nat} (hi : i < 32) : bt (x <<< ((8 : Int32) &&& 31)) i = (decide (8 ≤ i) && bt x (i - 8)) := b_shl 8 (by omega) x hi
theorem b_shl16 (x : Int32) {i : Nat} (hi : i < 32) : bt (x <<< ((16 : Int32) &&& 31)) i = (decide (16 ≤ i) && bt x (i - 16)) := b_shl 16 (by omega) x hi
theorem b_shl24 (x : Int32) {i : Nat} (hi : i < 32) : bt (x <<< ((24 : Int32) &&& 31)) i = (decide (24 ≤ i) && bt x (i - 24)) := b_shl 24 (by omega) x hi
theorem b_sshr8 (x : Int32) {i : Nat} (hi : i < 32) : bt (x >>> ((8 : Int32) &&& 31)) i = if 8 + i < 32 then bt x (8 + i) else bt x 31 := b_sshr 8 (by omega) x hi
/-! ===== lN n to 2^64: shifts, and, or, masks, one bit ===== -/
theorem wb_tb (n : Nat) : (lN n).toBitVec = BitVec.ofNat 64 n := rfl
theorem wb_inj {a b : Int64} (h : a.toBitVec = b.toBitVec) : a = b := Int64.toBitVec_inj.mp h
theorem wb_tn {n : Nat} (h : n < 2 ^ 64) : (lN n).toBitVec.toNat = n := by rw [wb_tb, BitVec.toNat_ofNat, Nat.mod_eq_of_lt h]
theorem wb_of (x : Int64) : ∃ n, n < 2 ^ 64 ∧ x = lN n := ⟨x.toBitVec.toNat, x.toBitVec.isLt, wb_inj (by rw [wb_tb]; simp)⟩
theorem wb_of32 (x : Int32) : ∃ n, n < 2 ^ 32 ∧ x = nI n := ⟨x.toBitVec.toNat, x.toBitVec.isLt, Int32.toBitVec_inj.mp (by show _ = BitVec.ofNat 32 _; simp)⟩
theorem wb_c : ∀ k, k < 64 → ((nI k).toInt64 &&& 63) = lN k := by decide +kernel
theorem wb_cu : ∀ k, k < 64 → ((nI k).toInt64.toUInt64 &&& Int64.toUInt64 63) = UInt64.ofNat k := by decide +kernel
theorem wb_sm : ∀ k, k < 64 → (BitVec.ofNat 64 k).smod 64 = BitVec.ofNat 64 k := by decide +kernel
theorem wb_pw {a b : Nat} (h : a ≤ b) : 2 ^ b = 2 ^ a * 2 ^ (b - a) := by rw [← Nat.pow_add]; congr 1; omega
theorem wb_lt2 {a b : Nat} (h : a < b) : 2 ^ a < 2 ^ b := Nat.pow_lt_pow_right (by decide) h
theorem wb_mod (n : Nat) : lN n = lN (n % 2 ^ 64) := wb_inj (by rw [wb_tb, wb_tb]; apply BitVec.eq_of_toNat_eq; rw [BitVec.toNat_ofNat, BitVec.toNat_ofNat, Nat.mod_mod])
theorem wb_shr {n k : Nat} (hn : n < 2 ^ 64) (hk : k < 64) : ((lN n).toUInt64 >>> ((nI k).toInt64.toUInt64 &&& Int64.toUInt64 63)).toInt64 = lN (n / 2 ^ k) := by
  rw [wb_cu k hk]
  apply wb_inj
  apply BitVec.eq_of_toNat_eq
  show ((lN n).toUInt64 >>> UInt64.ofNat k).toNat = (BitVec.ofNat 64 _).toNat
  have h1 : (UInt64.ofNat k).toNat = k := by
    show (BitVec.ofNat 64 k).toNat = k
    rw [BitVec.toNat_ofNat, Nat.mod_eq_of_lt (by omega)]
  have h2 : (lN n).toUInt64.toNat = n := wb_tn hn
  rw [UInt64.toNat_shiftRight, h1, h2, Nat.mod_eq_of_lt hk, Nat.shiftRight_eq_div_pow, BitVec.toNat_ofNat, Nat.mod_eq_of_lt (Nat.lt_of_le_of_lt (Nat.div_le_self _ _) hn)]
theorem wb_shl (n : Nat) {k : Nat} (hk : k < 64) : lN n <<< ((nI k).toInt64 &&& 63) = lN (n * 2 ^ k) := by
  rw [wb_c k hk]
  apply wb_inj
  rw [Int64.toBitVec_shiftLeft, wb_tb, wb_tb, wb_tb, wb_sm k hk]
  apply BitVec.eq_of_toNat_eq
  rw [BitVec.shiftLeft_eq', BitVec.toNat_shiftLeft, BitVec.toNat_ofNat, BitVec.toNat_ofNat, BitVec.toNat_ofNat, Nat.mod_eq_of_lt (show k < 2 ^ 64 by omega), Nat.shiftLeft_eq, Nat.mul_mod, Nat.mod_mod, ← Nat.mul_mod]
theorem wb_and {a b : Nat} (ha : a < 2 ^ 64) (hb : b < 2 ^ 64) : lN a &&& lN b = lN (a &&& b) := by
  apply wb_inj
  rw [Int64.toBitVec_and, wb_tb, wb_tb, wb_tb]
  apply BitVec.eq_of_toNat_eq
  rw [BitVec.toNat_and, BitVec.toNat_ofNat, BitVec.toNat_ofNat, BitVec.toNat_ofNat, Nat.mod_eq_of_lt ha, Nat.mod_eq_of_lt hb, Nat.mod_eq_of_lt (Nat.and_lt_two_pow _ hb)]
theorem wb_or {a b : Nat} (ha : a < 2 ^ 64) (hb : b < 2 ^ 64) : lN a ||| lN b = lN (a ||| b) := by
  apply wb_inj
  rw [Int64.toBitVec_or, wb_tb, wb_tb, wb_tb]
  apply BitVec.eq_of_toNat_eq
  rw [BitVec.toNat_or, BitVec.toNat_ofNat, BitVec.toNat_ofNat, BitVec.toNat_ofNat, Nat.mod_eq_of_lt ha, Nat.mod_eq_of_lt hb, Nat.mod_eq_of_lt (Nat.or_lt_two_pow ha hb)]
theorem wb_mask {n k : Nat} (hn : n < 2 ^ 64) (hk : k < 64) : lN n &&& lN (2 ^ k - 1) = lN (n % 2 ^ k) := by
  rw [wb_and hn (by have := wb_lt2 hk; omega), Nat.and_two_pow_sub_one_eq_mod]
theorem wb_a1 {n : Nat} (hn : n < 2 ^ 64) : lN n &&& 1 = lN (n % 2) := wb_mask (k := 1) hn (by decide)
theorem wb_bit {n k : Nat} (hn : n < 2 ^ 64) (hk : k < 64) : ((lN n).toUInt64 >>> ((nI k).toInt64.toUInt64 &&& Int64.toUInt64 63)).toInt64 &&& 1 = lN (n / 2 ^ k % 2) := by
  rw [wb_shr hn hk, wb_a1 (Nat.lt_of_le_of_lt (Nat.div_le_self _ _) hn)]
theorem wb_xor {q k : Nat} (hk : k < 63) (h : 2 ^ k ≤ q) (h2 : q < 2 ^ (k + 1)) : lN q ^^^ lN (2 ^ k) = lN (q - 2 ^ k) := by
  obtain ⟨r, rfl⟩ : ∃ r, q = 2 ^ k + r := ⟨q - 2 ^ k, by omega⟩
  have hr : r < 2 ^ k := by rw [Nat.pow_succ] at h2; omega
  have hx : (2 ^ k + r) ^^^ 2 ^ k = r := by
    apply Nat.eq_of_testBit_eq
    intro i
    rw [Nat.testBit_xor, Nat.testBit_two_pow]
    rcases Nat.lt_trichotomy i k with h | h | h
    · rw [Nat.testBit_two_pow_add_gt h]
      simp [show ¬ k = i by omega]
    · subst h
      rw [Nat.testBit_two_pow_add_eq]
      simp
    · have a1 : 2 ^ (k + 1) ≤ 2 ^ i := Nat.pow_le_pow_right (by decide) h
      rw [Nat.testBit_lt_two_pow (show 2 ^ k + r < 2 ^ i by omega), Nat.testBit_lt_two_pow (show r < 2 ^ i by omega)]
      simp [show ¬ k = i by omega]
  have b1 := wb_lt2 (show k + 1 < 64 by omega)
  have b2 := wb_lt2 (show k < 64 by omega)
  apply wb_inj
  rw [Int64.toBitVec_xor, wb_tb, wb_tb, wb_tb]
  apply BitVec.eq_of_toNat_eq
  rw [BitVec.toNat_xor, BitVec.toNat_ofNat, BitVec.toNat_ofNat, BitVec.toNat_ofNat, Nat.mod_eq_of_lt (by omega : 2 ^ k + r < 2 ^ 64), Nat.mod_eq_of_lt b2, hx, Nat.add_sub_cancel_left, Nat.mod_eq_of_lt (by omega)]
/-! ===== lN to 2^62 under >> and >>> ===== -/
theorem pf_lI {a : Nat} (h : a < 2 ^ 63) : (lN a).toInt = (a : Int) := lg_ofNat_toInt h
theorem pf_shr {a d : Nat} {D : Int64} (hD : (D.toBitVec.smod 64).toNat = d) (h : a < 2 ^ 62) : lN a >>> D = lN (a / 2 ^ d) := by
  have hd : a / 2 ^ d ≤ a := Nat.div_le_self _ _
  apply Int64.toInt_inj.mp
  have e : (lN a >>> D).toInt = (lN a).toInt >>> d := by
    rw [← hD]
    exact BitVec.toInt_sshiftRight ..
  rw [e, Int.shiftRight_eq_div_pow, pf_lI (by omega), pf_lI (by omega)]
  rfl
theorem pf_ushr {a d : Nat} {D : UInt64} (hD : D.toNat % 64 = d) (h : a < 2 ^ 62) : ((lN a).toUInt64 >>> D).toInt64 = lN (a / 2 ^ d) := by
  have hd : a / 2 ^ d ≤ a := Nat.div_le_self _ _
  have e : (lN a).toUInt64 >>> D = UInt64.ofNat (a / 2 ^ d) := UInt64.toNat_inj.mp (by
    rw [UInt64.toNat_shiftRight, hD, Nat.shiftRight_eq_div_pow, UInt64.toNat_ofNat']
    show (UInt64.ofNat a).toNat / 2 ^ d = _
    rw [UInt64.toNat_ofNat', Nat.mod_eq_of_lt (by omega), Nat.mod_eq_of_lt (by omega)])
  rw [e]
  rfl
theorem pf_andw (x : Int64) : ∃ m, m < 2 ^ 32 ∧ x &&& 4294967295 = lN m := ⟨x.toBitVec.toNat % 2 ^ 32, Nat.mod_lt _ (by decide), Int64.toBitVec_inj.mp (BitVec.eq_of_toNat_eq (by
  show (x.toBitVec &&& 4294967295#64).toNat = (BitVec.ofNat 64 (x.toBitVec.toNat % 2 ^ 32)).toNat
  rw [BitVec.toNat_and, show (4294967295#64).toNat = 2 ^ 32 - 1 from by decide, Nat.and_two_pow_sub_one_eq_mod, BitVec.toNat_ofNat]
  omega))⟩
end
section
/-! own layer: answers that only read, worlds whose addresses stay, joins of branches, a method's start -/
set_option maxRecDepth 100000
def bI : Bool → Int32
  | true => 1
  | false => 0
theorem bI_z (b : Bool) : (bI b = 0) ↔ b = false := by cases b <;> decide
theorem bI_n (b : Bool) : (¬ bI b = 0) ↔ b = true := by cases b <;> decide
theorem bI_o (b : Bool) : (bI b = 1) ↔ b = true := by cases b <;> decide
theorem bI_zf {b : Bool} (h : b = false) : bI b = 0 := by rw [h]; rfl
theorem bI_zt {b : Bool} (h : b = true) : ¬ bI b = 0 := by rw [h]; decide
theorem bI_inj {a b : Bool} (h : bI a = bI b) : a = b := by
  cases a <;> cases b <;> first | rfl | exact absurd h (by decide)
theorem nar_bI (b : Bool) : narrow .boolean (.int (bI b)) = .int (bI b) := by cases b <;> rfl
theorem fit_bI (b : Bool) : fits .boolean (.int (bI b)) = true := by cases b <;> rfl
/-- a method that only reads: its answer, the heap as it was -/
def QP (v : Value) : Array Value → State → Outcome → State → Prop := fun _ st o t => o = .returned (some v) ∧ t.heap = st.heap
def NoA : Addr → Prop := fun _ => False
/-- a method that writes: its answer and the new values of its world -/
def GQi {S : Type} (D : va_G) (cl : List vw_C) (A : Nat → Prop) (w : S → va_W) (post : Int32 → S → Prop) : Array Value → State → Outcome → State → Prop := fun _ st o t => ∃ (r : Int32) (u : S), o = .returned (some (.int r)) ∧ post r u ∧ va_P D cl (w u) t.heap ∧ va_F A st t
def GQl {S : Type} (D : va_G) (cl : List vw_C) (A : Nat → Prop) (w : S → va_W) (post : Int64 → S → Prop) : Array Value → State → Outcome → State → Prop := fun _ st o t => ∃ (r : Int64) (u : S), o = .returned (some (.long r)) ∧ post r u ∧ va_P D cl (w u) t.heap ∧ va_F A st t
def GQv {S : Type} (D : va_G) (cl : List vw_C) (A : Nat → Prop) (w : S → va_W) (post : S → Prop) : Array Value → State → Outcome → State → Prop := fun _ st o t => ∃ (u : S), o = .returned none ∧ post u ∧ va_P D cl (w u) t.heap ∧ va_F A st t
section OWN
variable {p : Program} {l : Launch} {e : Env} {R : Room} {s : State} {m : MethodId} {args : Array Value} {below : List Frame} {meth : Method} {c : Code} {H : Heap} {locs : List Loc} {cells slots : Nat} {Q : State → Prop}
variable {pc : Nat} {ls : Array Slot} {rest st0 : List Value} {a : Array Value} {cc : ByteArray} {D : va_G} {cl : List vw_C} {A A1 : Nat → Prop} {H0 : Heap}
theorem tpi {x y : Int32} (h : x = y) (k : W p l e R s m args below meth c H locs cells slots Q (F0 m pc ls (.int y :: rest))) : W p l e R s m args below meth c H locs cells slots Q (F0 m pc ls (.int x :: rest)) := by
  subst h; exact k
theorem tpl {x y : Int64} (h : x = y) (k : W p l e R s m args below meth c H locs cells slots Q (F0 m pc ls (.long y :: rest))) : W p l e R s m args below meth c H locs cells slots Q (F0 m pc ls (.long x :: rest)) := by
  subst h; exact k
theorem jn {X : Type} (F : X → JFrame) (P : X → Prop) {g : JFrame} (K : ∀ x, P x → W p l e R s m args below meth c H locs cells slots Q (F x)) (main : (∀ x, P x → W p l e R s m args below meth c H locs cells slots Q (F x)) → W p l e R s m args below meth c H locs cells slots Q g) : W p l e R s m args below meth c H locs cells slots Q g := main K
theorem jg {X : Type} (F : X → Array Slot → JFrame) (P : X → Heap → List Loc → Array Slot → Prop) {g : JFrame} (K : ∀ (x : X) (H1 : Heap) (locs1 : List Loc) (ls1 : Array Slot), P x H1 locs1 ls1 → W p l e R s m args below meth c H1 locs1 cells slots Q (F x ls1)) (main : (∀ (x : X) (H1 : Heap) (locs1 : List Loc) (ls1 : Array Slot), P x H1 locs1 ls1 → W p l e R s m args below meth c H1 locs1 cells slots Q (F x ls1)) → W p l e R s m args below meth c H locs cells slots Q g) : W p l e R s m args below meth c H locs cells slots Q g := main K
theorem pcall {v : Value} (hr : va_Run p l e R s m args below meth c H locs cells slots 0 0 (F0 m pc ls st0) rest (QP v a) NoA) (kk : W p l e R s m args below meth c H locs cells slots Q (F0 m (pc + 3) ls (v :: rest))) : W p l e R s m args below meth c H locs cells slots Q (F0 m pc ls st0) := by
  intro T hT X
  obtain ⟨w, st₀, t, T', L, h0, X', hL, e1, e2, ⟨hv, hh⟩, st⟩ := hr T hT X
  cases hv
  obtain ⟨t2, a1, b1⟩ := kk T' (by rw [e1, hh, h0]) (Stand.forget X' (fun q h => (hL q h).elim))
  exact ⟨t2, st t2 a1, b1⟩
theorem pri {v r : Int32} (he : r = v) (hx : p.tables.exec = Jvm.exec) (hb : c.code = cc) (hr : meth.sig.returnType = some .int) (hlocks : meth.locks = false) (hdg : decode cc pc = .ok (.ireturn, 1)) : W p l e R s m args below meth c s.heap [] cells slots (MQ below (QP (.int v)) args s cells slots NoA) (F0 m pc ls [.int r]) := by
  subst he
  exact W.iret hx hb hr (fun t ht _ => ⟨rfl, ht⟩) (fun q h => by cases h) hdg hlocks
theorem prz {b : Bool} {r : Int32} (he : r = bI b) (hx : p.tables.exec = Jvm.exec) (hb : c.code = cc) (hr : meth.sig.returnType = some .boolean) (hlocks : meth.locks = false) (hdg : decode cc pc = .ok (.ireturn, 1)) : W p l e R s m args below meth c s.heap [] cells slots (MQ below (QP (.int (bI b))) args s cells slots NoA) (F0 m pc ls [.int r]) := by
  subst he
  exact W.zret hx hb hr (nar_bI b) (fun t ht _ => ⟨rfl, ht⟩) (fun q h => by cases h) hdg hlocks
theorem prl {v r : Int64} (he : r = v) (hx : p.tables.exec = Jvm.exec) (hb : c.code = cc) (hr : meth.sig.returnType = some .long) (hlocks : meth.locks = false) (hdg : decode cc pc = .ok (.lreturn, 1)) : W p l e R s m args below meth c s.heap [] cells slots (MQ below (QP (.long v)) args s cells slots NoA) (F0 m pc ls [.long r]) := by
  subst he
  exact W.lret hx hb hr (fun t ht _ => ⟨rfl, ht⟩) (fun q h => by cases h) hdg hlocks
theorem gci {S : Type} {w : S → va_W} {post : Int32 → S → Prop} (hr : va_Run p l e R s m args below meth c H locs cells slots 0 0 (F0 m pc ls st0) rest (GQi D cl A1 w post a) A1) (hS : va_S A H0 H locs) (hA : ∀ q, A1 q → A q)
    (kk : ∀ (r : Int32) (u : S) (H1 : Heap) (locs1 : List Loc), post r u → va_P D cl (w u) H1 → H.size ≤ H1.size → (∀ q : Nat, q < H.size → ¬ A1 q → H1[q]? = H[q]?) → va_S A H0 H1 locs1 → W p l e R s m args below meth c H1 locs1 cells slots Q (F0 m (pc + 3) ls (.int r :: rest))) : W p l e R s m args below meth c H locs cells slots Q (F0 m pc ls st0) := by
  intro T hT X
  obtain ⟨v, st₀, t, T', L, h0, X', hL, e1, e2, ⟨r, u, hv, hp, hP, hz, hk⟩, st⟩ := hr T hT X
  cases hv
  rw [h0] at hz hk
  obtain ⟨t2, a1, b1⟩ := kk r u T'.heap (locs ++ L) hp (by rw [e1]; exact hP) (by rw [e1]; exact hz) (fun q h1 h2 => by rw [e1]; exact hk q h1 h2)
    ⟨Nat.le_trans hS.1 (by rw [e1]; exact hz), fun q h1 h2 => by rw [e1, hk q (Nat.lt_of_lt_of_le h1 hS.1) (fun z => h2 (hA q z))]; exact hS.2.1 q h1 h2, fun q hq => by
      rcases List.mem_append.mp hq with h | h
      · exact hS.2.2 q h
      · exact hA _ (hL q h)⟩ T' rfl X'
  exact ⟨t2, st t2 a1, b1⟩
theorem gcl {S : Type} {w : S → va_W} {post : Int64 → S → Prop} (hr : va_Run p l e R s m args below meth c H locs cells slots 0 0 (F0 m pc ls st0) rest (GQl D cl A1 w post a) A1) (hS : va_S A H0 H locs) (hA : ∀ q, A1 q → A q)
    (kk : ∀ (r : Int64) (u : S) (H1 : Heap) (locs1 : List Loc), post r u → va_P D cl (w u) H1 → H.size ≤ H1.size → (∀ q : Nat, q < H.size → ¬ A1 q → H1[q]? = H[q]?) → va_S A H0 H1 locs1 → W p l e R s m args below meth c H1 locs1 cells slots Q (F0 m (pc + 3) ls (.long r :: rest))) : W p l e R s m args below meth c H locs cells slots Q (F0 m pc ls st0) := by
  intro T hT X
  obtain ⟨v, st₀, t, T', L, h0, X', hL, e1, e2, ⟨r, u, hv, hp, hP, hz, hk⟩, st⟩ := hr T hT X
  cases hv
  rw [h0] at hz hk
  obtain ⟨t2, a1, b1⟩ := kk r u T'.heap (locs ++ L) hp (by rw [e1]; exact hP) (by rw [e1]; exact hz) (fun q h1 h2 => by rw [e1]; exact hk q h1 h2)
    ⟨Nat.le_trans hS.1 (by rw [e1]; exact hz), fun q h1 h2 => by rw [e1, hk q (Nat.lt_of_lt_of_le h1 hS.1) (fun z => h2 (hA q z))]; exact hS.2.1 q h1 h2, fun q hq => by
      rcases List.mem_append.mp hq with h | h
      · exact hS.2.2 q h
      · exact hA _ (hL q h)⟩ T' rfl X'
  exact ⟨t2, st t2 a1, b1⟩
theorem gcv {S : Type} {w : S → va_W} {post : S → Prop} (hr : va_Run p l e R s m args below meth c H locs cells slots 0 0 (F0 m pc ls st0) rest (GQv D cl A1 w post a) A1) (hS : va_S A H0 H locs) (hA : ∀ q, A1 q → A q)
    (kk : ∀ (u : S) (H1 : Heap) (locs1 : List Loc), post u → va_P D cl (w u) H1 → H.size ≤ H1.size → (∀ q : Nat, q < H.size → ¬ A1 q → H1[q]? = H[q]?) → va_S A H0 H1 locs1 → W p l e R s m args below meth c H1 locs1 cells slots Q (F0 m (pc + 3) ls rest)) : W p l e R s m args below meth c H locs cells slots Q (F0 m pc ls st0) := by
  intro T hT X
  obtain ⟨v, st₀, t, T', L, h0, X', hL, e1, e2, ⟨u, hv, hp, hP, hz, hk⟩, st⟩ := hr T hT X
  cases hv
  rw [h0] at hz hk
  obtain ⟨t2, a1, b1⟩ := kk u T'.heap (locs ++ L) hp (by rw [e1]; exact hP) (by rw [e1]; exact hz) (fun q h1 h2 => by rw [e1]; exact hk q h1 h2)
    ⟨Nat.le_trans hS.1 (by rw [e1]; exact hz), fun q h1 h2 => by rw [e1, hk q (Nat.lt_of_lt_of_le h1 hS.1) (fun z => h2 (hA q z))]; exact hS.2.1 q h1 h2, fun q hq => by
      rcases List.mem_append.mp hq with h | h
      · exact hS.2.2 q h
      · exact hA _ (hL q h)⟩ T' rfl X'
  exact ⟨t2, st t2 a1, b1⟩
theorem gri {S : Type} {w : S → va_W} {post : Int32 → S → Prop} {r : Int32} (u : S) (hp : post r u) (hP : va_P D cl (w u) H) (hS : va_S A s.heap H locs) (hx : p.tables.exec = Jvm.exec) (hb : c.code = cc) (hr : meth.sig.returnType = some .int) (hlocks : meth.locks = false) (hdg : decode cc pc = .ok (.ireturn, 1)) : W p l e R s m args below meth c H locs cells slots (MQ below (GQi D cl A w post) args s cells slots A) (F0 m pc ls [.int r]) :=
  W.iret hx hb hr (fun t ht _ => ⟨r, u, rfl, hp, by rw [ht]; exact hP, hS.F ht⟩) hS.2.2 hdg hlocks
theorem grz {S : Type} {w : S → va_W} {post : Int32 → S → Prop} {r : Int32} {b : Bool} (he : r = bI b) (u : S) (hp : post r u) (hP : va_P D cl (w u) H) (hS : va_S A s.heap H locs) (hx : p.tables.exec = Jvm.exec) (hb : c.code = cc) (hr : meth.sig.returnType = some .boolean) (hlocks : meth.locks = false) (hdg : decode cc pc = .ok (.ireturn, 1)) : W p l e R s m args below meth c H locs cells slots (MQ below (GQi D cl A w post) args s cells slots A) (F0 m pc ls [.int r]) :=
  W.zret hx hb hr (by rw [he]; exact nar_bI b) (fun t ht _ => ⟨r, u, rfl, hp, by rw [ht]; exact hP, hS.F ht⟩) hS.2.2 hdg hlocks
theorem grl {S : Type} {w : S → va_W} {post : Int64 → S → Prop} {r : Int64} (u : S) (hp : post r u) (hP : va_P D cl (w u) H) (hS : va_S A s.heap H locs) (hx : p.tables.exec = Jvm.exec) (hb : c.code = cc) (hr : meth.sig.returnType = some .long) (hlocks : meth.locks = false) (hdg : decode cc pc = .ok (.lreturn, 1)) : W p l e R s m args below meth c H locs cells slots (MQ below (GQl D cl A w post) args s cells slots A) (F0 m pc ls [.long r]) :=
  W.lret hx hb hr (fun t ht _ => ⟨r, u, rfl, hp, by rw [ht]; exact hP, hS.F ht⟩) hS.2.2 hdg hlocks
theorem grv {S : Type} {w : S → va_W} {post : S → Prop} (u : S) (hp : post u) (hP : va_P D cl (w u) H) (hS : va_S A s.heap H locs) (hx : p.tables.exec = Jvm.exec) (hb : c.code = cc) (hr : meth.sig.returnType = none) (hlocks : meth.locks = false) (hdg : decode cc pc = .ok (.return_, 1)) : W p l e R s m args below meth c H locs cells slots (MQ below (GQv D cl A w post) args s cells slots A) (F0 m pc ls []) :=
  W.vret hx hb hr (fun t ht _ => ⟨u, rfl, hp, by rw [ht]; exact hP, hS.F ht⟩) hS.2.2 hdg hlocks
end OWN
/-- a method's start: what its body may use -/
theorem mst {l : Launch} {y : MethodName} {cc : ByteArray} {maxL : Nat} {ret : Option FieldType} {rm : Room} {av : List Value} {B : State → Prop} {Qc : Array Value → State → Outcome → State → Prop} {mc ms : Nat} {free : Addr → Prop} (hy : plainName y.cls = true) (hn : (lg_sl av).length ≤ maxL)
    (body : ∀ (p : Program) (e : Env) (s : State) (m : MethodId) (below : List Frame) (meth : Method) (c : Code), p.tables.exec = Jvm.exec → c.code = cc → meth.sig.returnType = ret → meth.locks = false → c.maxLocals = maxL → s.vm.findClass y.cls = some m.cls → (∀ w ∈ lw_all, w.before av.toArray s = true) → meth.name = y.name → B s →
      ∀ ls : Array Slot, lv_has ls maxL (lv_args 0 av) → W p l e (headSpec (ws_ y cc maxL ret) rm).room s m av.toArray below meth c s.heap [] 0 0 (MQ below Qc av.toArray s mc ms free) (F0 m 0 ls [])) : Met l y (ws_ y cc maxL ret) rm (va_Pc av B) Qc mc ms free := by
  refine Met.ofW (cc := cc) (maxL := maxL) (ret := ret) hy rfl ?_
  intro p e s m args below meth c s₁ B0 hml hv
  obtain ⟨rfl, hB⟩ := hv
  have hts := atoms_spec (ws := ws_ y cc maxL ret) B0.pre
  rw [lg_entry_eq]
  exact body p e s m below meth c B0.exec B0.bytes B0.returns B0.notSynchronized hml (findClass_of_methodNamed B0.named) (fun w h => hts w (List.mem_cons_of_mem _ h)) (name_of_methodNamed B0.named B0.method).1 hB _ (lv_entry av hn)
theorem va_D.re {A : Nat → Prop} {ws ws' : va_W} (h : va_D A ws) (e : ws.map Prod.fst = ws'.map Prod.fst) : va_D A ws' := by
  have at' : ∀ (k : Nat) (q : Nat × va_E), ws'[k]? = some q → ∃ q0, ws[k]? = some q0 ∧ q0.1 = q.1 := by
    intro k q hk
    have h1 : (ws'.map Prod.fst)[k]? = some q.1 := by rw [List.getElem?_map, hk]; rfl
    rw [← e, List.getElem?_map] at h1
    cases h2 : ws[k]? with
    | none => rw [h2] at h1; cases h1
    | some q0 => rw [h2] at h1; exact ⟨q0, rfl, Option.some.inj h1⟩
  refine ⟨fun i j x y hi hj hxy => ?_, fun k q hk => ?_⟩
  · obtain ⟨x0, h1, h2⟩ := at' i x hi
    obtain ⟨y0, h3, h4⟩ := at' j y hj
    exact h.1 i j x0 y0 h1 h3 (h2.trans (hxy.trans h4.symm))
  · obtain ⟨q0, h1, h2⟩ := at' k q hk
    rw [← h2]
    exact h.2 k q0 h1
/-- what lies outside the callee's cells stays -/
theorem va_P.out {D : va_G} {cl : List vw_C} {ws wr : va_W} {H H1 : Heap} {A1 : Nat → Prop} (hP : va_P D cl ws H) (hk : ∀ q : Nat, q < H.size → ¬ A1 q → H1[q]? = H[q]?) (is : List Nat) (hs : is.filterMap (fun i => ws[i]?) = wr) (hn : ∀ (k : Nat) (q : Nat × va_E), wr[k]? = some q → ¬ A1 q.1) : va_P D cl wr H1 :=
  fun k q hq => ((hP.sub is hs) k q hq).kept (hk q.1 ((hP.sub is hs) k q hq).lt (hn k q hq))
/-! ## the three static tables -/
def oT (j : Nat) : Int32 := if j = 0 then 1 else if j = 1 then 5 else 7
def pT (j : Nat) : Int32 := if j = 0 then 12 else if j = 1 then 13 else 15
def gT (j : Nat) : Int32 := if j = 0 then 20 else if j = 1 then 21 else 23
def Stt (A : Nat → Prop) (U : State) : Prop := ∃ tO tP tG : Nat, (va_Z "StageWalker$Walker" "OUTSIDE" "[B" (.ref tO) A U U.heap ∧ va_T .byte tO 3 (fun j => .int (oT j)) A U U.heap) ∧ (va_Z "StageWalker$Walker" "PAGE" "[B" (.ref tP) A U U.heap ∧ va_T .byte tP 3 (fun j => .int (pT j)) A U U.heap) ∧ (va_Z "StageWalker$Walker" "GUEST" "[B" (.ref tG) A U U.heap ∧ va_T .byte tG 3 (fun j => .int (gT j)) A U U.heap)
theorem Stt.at {A : Nat → Prop} {s U : State} {H : Heap} {locs : List Loc} (h : Stt A s) (hS : va_S A s.heap H locs) (hU : U.heap = H) (hvm : s.vm.Alike U.vm) : Stt A U := by
  obtain ⟨tO, tP, tG, ⟨z1, t1⟩, ⟨z2, t2⟩, ⟨z3, t3⟩⟩ := h
  have hk : ∀ a : Nat, a < s.heap.size → ¬ A a → U.heap[a]? = s.heap[a]? := fun a h1 h2 => by rw [hU]; exact hS.2.1 a h1 h2
  exact ⟨tO, tP, tG, ⟨(z1.moved hvm).kept hk, (t1.moved hvm).kept hk⟩, ⟨(z2.moved hvm).kept hk, (t2.moved hvm).kept hk⟩, ⟨(z3.moved hvm).kept hk, (t3.moved hvm).kept hk⟩⟩
theorem Stt.narrow {A B : Nat → Prop} {U : State} (h : Stt A U) (hAB : ∀ q, B q → A q) : Stt B U := by
  obtain ⟨tO, tP, tG, ⟨z1, t1⟩, ⟨z2, t2⟩, ⟨z3, t3⟩⟩ := h
  exact ⟨tO, tP, tG, ⟨z1.narrow hAB, t1.narrow hAB⟩, ⟨z2.narrow hAB, t2.narrow hAB⟩, ⟨z3.narrow hAB, t3.narrow hAB⟩⟩
/-! ## what a contract takes as given of its world -/
def Gr (D : va_G) (cl : List vw_C) (tys : List (ClassId × FieldType)) (ws : va_W) (U : State) : Prop := va_P D cl ws U.heap ∧ va_K D cl tys U
def Gm (D : va_G) (cl : List vw_C) (tys : List (ClassId × FieldType)) (A : Nat → Prop) (ws : va_W) (U : State) : Prop := va_P D cl ws U.heap ∧ va_K D cl tys U ∧ va_D A ws
def Gx (D : va_G) (cl : List vw_C) (tys : List (ClassId × FieldType)) (A : Nat → Prop) (ws : va_W) (U : State) : Prop := va_P D cl ws U.heap ∧ va_K D cl tys U ∧ va_D A ws ∧ Stt A U
def Tt (_ : State) : Prop := True
section PRE
variable {s : State} {H : Heap} {locs : List Loc} {D : va_G} {cl : List vw_C} {A : Nat → Prop} {tys : List (ClassId × FieldType)} {ws : va_W} {As : List Value} {b ci N : Nat} {C : String} {T : u_T} {fs : List Value}
theorem pT_S : PreS s H (va_Pc As Tt) As := ⟨fun _ _ _ _ h => h, fun _ _ _ => ⟨rfl, trivial⟩⟩
theorem pR_V (hK : va_K D cl tys s) (hP : va_P D cl ws H) (q0 : Nat) (he : ws[q0]? = some (b, .inr (ci, fs))) (hc : cl[ci]? = some (C, T, N)) : PreV s H C b (va_Pc (.ref b :: As) (Gr D cl tys ws)) As :=
  ⟨fun a U g mk h => ⟨h.1, h.2.1, va_K.moved (u := U) (U := U.calling g mk a) (Vm.Alike.refl U.vm) h.2.2⟩, va_recv hK hP hc he, fun U hU hW => ⟨rfl, by rw [hU]; exact hP, va_K.moved hW.alike hK⟩⟩
theorem pM_V (hK : va_K D cl tys s) (hP : va_P D cl ws H) (hD : va_D A ws) (q0 : Nat) (he : ws[q0]? = some (b, .inr (ci, fs))) (hc : cl[ci]? = some (C, T, N)) : PreV s H C b (va_Pc (.ref b :: As) (Gm D cl tys A ws)) As :=
  ⟨fun a U g mk h => ⟨h.1, h.2.1, va_K.moved (u := U) (U := U.calling g mk a) (Vm.Alike.refl U.vm) h.2.2.1, h.2.2.2⟩, va_recv hK hP hc he, fun U hU hW => ⟨rfl, by rw [hU]; exact hP, va_K.moved hW.alike hK, hD⟩⟩
theorem pX_V (hK : va_K D cl tys s) (hP : va_P D cl ws H) (hD : va_D A ws) (hZ : Stt A s) (hS : va_S A s.heap H locs) (q0 : Nat) (he : ws[q0]? = some (b, .inr (ci, fs))) (hc : cl[ci]? = some (C, T, N)) : PreV s H C b (va_Pc (.ref b :: As) (Gx D cl tys A ws)) As :=
  ⟨fun a U g mk h => ⟨h.1, h.2.1, va_K.moved (u := U) (U := U.calling g mk a) (Vm.Alike.refl U.vm) h.2.2.1, h.2.2.2.1, h.2.2.2.2.at (U := U.calling g mk a) (va_S.rf (A := A)) rfl (Vm.Alike.refl U.vm)⟩, va_recv hK hP hc he, fun U hU hW => ⟨rfl, by rw [hU]; exact hP, va_K.moved hW.alike hK, hD, hZ.at hS hU hW.alike⟩⟩
end PRE
abbrev rmX (f n : Nat) : Room := { frames := f, cells := 0, slots := 0, locals := n }
abbrev vCl : List vw_C := [(RX0, TX0, 6), (RX1, TX1, 16), (RX2, TX2, 16)]
end
section
/-! the common picture of both sides: entries by their bits, walks over a memory of words -/
set_option maxRecDepth 100000
def tn (x : Int32) : Nat := x.toBitVec.toNat
theorem tn_lt (x : Int32) : tn x < 4294967296 := x.toBitVec.isLt
theorem nI_tn (x : Int32) : nI (tn x) = x := Int32.toBitVec_inj.mp (by show BitVec.ofNat 32 _ = _; simp [tn])
theorem tn_nI {n : Nat} (h : n < 4294967296) : tn (nI n) = n := Nat.mod_eq_of_lt h
def eb (x : Int32) (k : Nat) : Bool := (tn x).testBit k
theorem mk1 (e : Int32) (j : Nat) (hj : j < 31) : (e &&& nI (2 ^ j) = 0) ↔ eb e j = false := by
  have h := fa_bit (n := tn e) hj
  rw [nI_tn] at h
  exact h
theorem eb_t {x : Int32} {k : Nat} : (¬ eb x k = false) ↔ eb x k = true := by cases eb x k <;> simp
theorem z_1 (e : Int32) : (e &&& 1 = 0) ↔ eb e 0 = false := mk1 e 0 (by decide)
theorem z_2 (e : Int32) : (e &&& 2 = 0) ↔ eb e 1 = false := mk1 e 1 (by decide)
theorem z_4 (e : Int32) : (e &&& 4 = 0) ↔ eb e 2 = false := mk1 e 2 (by decide)
theorem z_8 (e : Int32) : (e &&& 8 = 0) ↔ eb e 3 = false := mk1 e 3 (by decide)
theorem z_16 (e : Int32) : (e &&& 16 = 0) ↔ eb e 4 = false := mk1 e 4 (by decide)
theorem z_64 (e : Int32) : (e &&& 64 = 0) ↔ eb e 6 = false := mk1 e 6 (by decide)
theorem z_128 (e : Int32) : (e &&& 128 = 0) ↔ eb e 7 = false := mk1 e 7 (by decide)
theorem n_1 (e : Int32) : (¬ e &&& 1 = 0) ↔ eb e 0 = true := (not_congr (z_1 e)).trans eb_t
theorem n_2 (e : Int32) : (¬ e &&& 2 = 0) ↔ eb e 1 = true := (not_congr (z_2 e)).trans eb_t
theorem n_4 (e : Int32) : (¬ e &&& 4 = 0) ↔ eb e 2 = true := (not_congr (z_4 e)).trans eb_t
theorem n_8 (e : Int32) : (¬ e &&& 8 = 0) ↔ eb e 3 = true := (not_congr (z_8 e)).trans eb_t
theorem n_16 (e : Int32) : (¬ e &&& 16 = 0) ↔ eb e 4 = true := (not_congr (z_16 e)).trans eb_t
theorem n_64 (e : Int32) : (¬ e &&& 64 = 0) ↔ eb e 6 = true := (not_congr (z_64 e)).trans eb_t
theorem n_128 (e : Int32) : (¬ e &&& 128 = 0) ↔ eb e 7 = true := (not_congr (z_128 e)).trans eb_t
theorem low8 (n m : Nat) (hm : m < 256) : n &&& m = (n % 256) &&& m := by
  have h1 : m = 255 &&& m := by
    have : m &&& 255 = m % 256 := Nat.and_two_pow_sub_one_eq_mod m 8
    rw [Nat.and_comm, this]
    omega
  have h2 : n &&& (2 ^ 8 - 1) = n % 2 ^ 8 := Nat.and_two_pow_sub_one_eq_mod n 8
  have h3 : n % 256 = n &&& 255 := h2.symm
  rw [h3, Nat.and_assoc, ← h1]
theorem tbm (n k : Nat) (hk : k < 8) : (n % 256).testBit k = n.testBit k := by
  have := Nat.testBit_mod_two_pow n 8 k
  rw [show (256 : Nat) = 2 ^ 8 from rfl, this]
  simp [hk]
/-- sorts of an entry -/
def knd (e : Int32) : Bool := eb e 1 || eb e 2 || eb e 3
def tbb (e : Int32) : Bool := eb e 4 || eb e 6 || eb e 7
def wnr (e : Int32) : Bool := eb e 2 && !eb e 1
def okS (e : Int32) : Bool := eb e 0 && !wnr e
def tab (e : Int32) : Bool := okS e && !knd e && !tbb e
def lef (e : Int32) : Bool := okS e && knd e
theorem y_6 (e : Int32) : (e &&& 6 = 4) ↔ wnr e = true := by
  have h : ∀ n, n < 256 → ((nI (n &&& 6) = 4) ↔ ((n.testBit 2 && !n.testBit 1) = true)) := by decide +kernel
  have h2 := h (tn e % 256) (Nat.mod_lt _ (by decide))
  rw [← low8 (tn e) 6 (by decide), ← fa_and, nI_tn, tbm _ 2 (by decide), tbm _ 1 (by decide)] at h2
  exact h2
theorem x_6 (e : Int32) : (¬ e &&& 6 = 4) ↔ wnr e = false := (not_congr (y_6 e)).trans (by cases wnr e <;> simp)
theorem z_14 (e : Int32) : (e &&& 14 = 0) ↔ knd e = false := by
  have h : ∀ n, n < 256 → ((nI (n &&& 14) = 0) ↔ ((n.testBit 1 || n.testBit 2 || n.testBit 3) = false)) := by decide +kernel
  have h2 := h (tn e % 256) (Nat.mod_lt _ (by decide))
  rw [← low8 (tn e) 14 (by decide), ← fa_and, nI_tn, tbm _ 2 (by decide), tbm _ 1 (by decide), tbm _ 3 (by decide)] at h2
  exact h2
theorem n_14 (e : Int32) : (¬ e &&& 14 = 0) ↔ knd e = true := (not_congr (z_14 e)).trans (by cases knd e <;> simp)
theorem z_208 (e : Int32) : (e &&& 208 = 0) ↔ tbb e = false := by
  have h : ∀ n, n < 256 → ((nI (n &&& 208) = 0) ↔ ((n.testBit 4 || n.testBit 6 || n.testBit 7) = false)) := by decide +kernel
  have h2 := h (tn e % 256) (Nat.mod_lt _ (by decide))
  rw [← low8 (tn e) 208 (by decide), ← fa_and, nI_tn, tbm _ 4 (by decide), tbm _ 6 (by decide), tbm _ 7 (by decide)] at h2
  exact h2
theorem n_208 (e : Int32) : (¬ e &&& 208 = 0) ↔ tbb e = true := (not_congr (z_208 e)).trans (by cases tbb e <;> simp)
/-- the frame's number, where it begins, whether a large one is placed well -/
def ppn (e : Int32) : Nat := tn e / 1024
def tgt (e : Int32) : Nat := ppn e * 4096
def lowz (e : Int32) : Bool := decide (ppn e % 1024 = 0)
theorem ppn_lt (e : Int32) : ppn e < 4194304 := by have := tn_lt e; unfold ppn; omega
theorem tgt_lt (e : Int32) : tgt e ≤ 17179865088 := by have := ppn_lt e; unfold tgt; omega
theorem tgt_4096 (e : Int32) : tgt e % 4096 = 0 := Nat.mul_mod_left _ _
theorem tgt_big {e : Int32} (h : lowz e = true) : tgt e % 4194304 = 0 := by
  have h := of_decide_eq_true h; unfold tgt; omega
theorem z_low_nat (a : Nat) : (a &&& 1047552 = 0) ↔ a / 1024 % 1024 = 0 := by
  have h1 : (a &&& 1047552) % 2 ^ 10 = (a % 2 ^ 10) &&& (1047552 % 2 ^ 10) := Nat.and_mod_two_pow
  have h2 : (a &&& 1047552) >>> 10 = (a >>> 10) &&& (1047552 >>> 10) := Nat.shiftRight_and_distrib
  rw [show (1047552 : Nat) % 2 ^ 10 = 0 from rfl, Nat.and_zero] at h1
  rw [show (1047552 : Nat) >>> 10 = 2 ^ 10 - 1 from rfl, Nat.and_two_pow_sub_one_eq_mod, Nat.shiftRight_eq_div_pow, Nat.shiftRight_eq_div_pow] at h2
  generalize (a &&& 1047552) = z at h1 h2 ⊢
  omega
theorem and_lt {a m : Nat} : a &&& m ≤ m := Nat.and_le_right
theorem z_low (e : Int32) : (e &&& 1047552 = 0) ↔ lowz e = true := by
  have h : e &&& nI 1047552 = nI (tn e &&& 1047552) := by rw [← fa_and, nI_tn]
  have hb : tn e &&& 1047552 ≤ 1047552 := and_lt
  show (e &&& nI 1047552 = nI 0) ↔ _
  rw [h, nI_eq (by omega) (by omega), z_low_nat]
  unfold lowz ppn
  rw [decide_eq_true_iff]
theorem n_low (e : Int32) : (¬ e &&& 1047552 = 0) ↔ lowz e = false := (not_congr (z_low e)).trans (by cases lowz e <;> simp)
/-- i2l and a mask -/
theorem i2l_and (x : Int32) (m : Nat) (hm : m < 4294967296) : x.toInt64 &&& lN m = lN (tn x &&& m) := by
  apply Int64.toBitVec_inj.mp
  rw [Int64.toBitVec_and]
  apply BitVec.eq_of_getLsbD_eq
  intro i hi
  rw [BitVec.getLsbD_and]
  show (x.toInt64.toBitVec.getLsbD i && (BitVec.ofNat 64 m).getLsbD i) = (BitVec.ofNat 64 (tn x &&& m)).getLsbD i
  rw [BitVec.getLsbD_ofNat, BitVec.getLsbD_ofNat, Nat.testBit_and]
  rcases Nat.lt_or_ge i 32 with h | h
  · have e1 : x.toInt64.toBitVec.getLsbD i = (tn x).testBit i := by
      rw [Int32.toBitVec_toInt64, BitVec.getLsbD_signExtend]
      simp [hi, h, tn, BitVec.testBit_toNat]
    rw [e1]
    simp [hi]
  · have e2 : m.testBit i = false := Nat.testBit_lt_two_pow (Nat.lt_of_lt_of_le hm (by rw [show (4294967296 : Nat) = 2 ^ 32 from rfl]; exact Nat.pow_le_pow_right (by decide) h))
    rw [e2]
    simp
theorem i2l_low (x : Int32) : x.toInt64 &&& 4294967295 = lN (tn x) := by
  have h := i2l_and x 4294967295 (by decide)
  have e : tn x &&& (2 ^ 32 - 1) = tn x % 2 ^ 32 := Nat.and_two_pow_sub_one_eq_mod (tn x) 32
  rw [show (4294967295 : Nat) = 2 ^ 32 - 1 from rfl, e, Nat.mod_eq_of_lt (tn_lt x)] at h
  exact h
/-- fault codes of the three kinds of access -/
def k3 (k : Int32) : Prop := k = 0 ∨ k = 1 ∨ k = 2
def outC (k : Int32) : Int32 := if k = 0 then 1 else if k = 1 then 5 else 7
def pagC (k : Int32) : Int32 := if k = 0 then 12 else if k = 1 then 13 else 15
def gueC (k : Int32) : Int32 := if k = 0 then 20 else if k = 1 then 21 else 23
theorem k3_in {k : Int32} (h : k3 k) : vp_in k 3 := by rcases h with rfl | rfl | rfl <;> (unfold vp_in; decide)
theorem k3_o {k : Int32} (h : k3 k) : (Value.int (oT k.toNatClampNeg)) = .int (outC k) := by rcases h with rfl | rfl | rfl <;> rfl
theorem k3_p {k : Int32} (h : k3 k) : (Value.int (pT k.toNatClampNeg)) = .int (pagC k) := by rcases h with rfl | rfl | rfl <;> rfl
theorem k3_g {k : Int32} (h : k3 k) : (Value.int (gT k.toNatClampNeg)) = .int (gueC k) := by rcases h with rfl | rfl | rfl <;> rfl
theorem out_n (k : Int32) : ¬ outC k = 0 := by
  unfold outC
  split
  · decide
  · split <;> decide
theorem pag_n (k : Int32) : ¬ pagC k = 0 := by
  unfold pagC
  split
  · decide
  · split <;> decide
theorem gue_n (k : Int32) : ¬ gueC k = 0 := by
  unfold gueC
  split
  · decide
  · split <;> decide
theorem out_gue (k : Int32) : ¬ outC k = gueC k := by
  unfold gueC outC
  by_cases h : k = 0
  · rw [if_pos h, if_pos h]; decide
  · rw [if_neg h, if_neg h]
    by_cases h1 : k = 1
    · rw [if_pos h1, if_pos h1]; decide
    · rw [if_neg h1, if_neg h1]; decide
/-- what an entry allows -/
def acc (k : Int32) (fx tx : Bool) (e : Int32) : Bool := eb e 6 && (if k = 0 ∨ fx = true then eb e 3 else if k = 2 then (eb e 2 && eb e 7) else (eb e 1 || (tx && eb e 3)))
def usr (us sm : Bool) (k : Int32) (e : Int32) : Bool := if us = true then eb e 4 else (!eb e 4 || (decide (¬ k = 0) && sm))
def ok1 (us sm fx tx : Bool) (k : Int32) (e : Int32) : Bool := lef e && acc k fx tx e && usr us sm k e
def ok2 (fx tx : Bool) (k : Int32) (e : Int32) : Bool := lef e && acc k fx tx e && eb e 4
/-- a fault: its code, the far address, whether that was an entry's -/
abbrev Flt : Type := Int32 × Nat × Bool
def ldm (M : Nat → Int32) (k : Int32) (a : Nat) : Flt ⊕ Int32 := if a < 262144 then .inr (M (a / 4)) else .inl (outC k, 0, false)
def wk2 (e : Int32) (fr : Nat) (ok : Int32 → Bool) (f : Flt) : Flt ⊕ Nat := if ok e = true then .inr (tgt e + fr % 4096) else .inl f
def wk (rd : Nat → Flt ⊕ Int32) (root fr : Nat) (ok : Int32 → Bool) (f : Flt) : Flt ⊕ Nat :=
  match rd (root + 4 * (fr / 4194304)) with
  | .inl g => .inl g
  | .inr e => if tab e = true then
      (match rd (tgt e + 4 * (fr / 4096 % 1024)) with
      | .inl g => .inl g
      | .inr e2 => wk2 e2 fr ok f)
    else if (ok e && lowz e) = true then .inr (tgt e + fr % 4194304) else .inl f
def rt1 (r : Int32) : Nat := tn r % 4194304 * 4096
def rt2 (r : Int32) : Nat := (tn r &&& 4194300) * 4096
def s2 (M : Nat → Int32) (hg k : Int32) (fr : Nat) (ok : Int32 → Bool) (ent : Bool) : Flt ⊕ Nat :=
  if hg < 0 then wk (ldm M k) (rt2 hg) fr ok (gueC k, fr, ent) else .inr fr
def rd1 (M : Nat → Int32) (hg k : Int32) (a : Nat) : Flt ⊕ Int32 :=
  match s2 M hg k a (ok2 false false 1) true with
  | .inl f => .inl f
  | .inr q => ldm M k q
def inm (k : Int32) (x : Flt ⊕ Nat) : Flt ⊕ Nat :=
  match x with
  | .inl f => .inl f
  | .inr a => if a < 262144 then .inr a else .inl (outC k, 0, false)
def rdx (M : Nat → Int32) (hg k : Int32) (vi : Bool) : Nat → Flt ⊕ Int32 := if vi = true then rd1 M hg k else ldm M k
def st1 (M : Nat → Int32) (hg k root : Int32) (vi us sm fx tx : Bool) (ad : Nat) : Flt ⊕ Nat :=
  if root < 0 then wk (rdx M hg k vi) (rt1 root) ad (ok1 us sm fx tx k) (pagC k, 0, false) else .inr ad
def st2 (M : Nat → Int32) (hg k : Int32) (vi fx mx : Bool) (x : Flt ⊕ Nat) : Flt ⊕ Nat :=
  match x with
  | .inl f => .inl f
  | .inr a => if vi = true then s2 M hg k a (ok2 fx mx k) false else .inr a
def tr (M : Nat → Int32) (hg k root : Int32) (vi us sm fx tx mx : Bool) (ad : Nat) : Flt ⊕ Nat := inm k (st2 M hg k vi fx mx (st1 M hg k root vi us sm fx tx ad))
/-- bounds -/
theorem wk2_lt {e : Int32} {fr a : Nat} {ok : Int32 → Bool} {f : Flt} (h : wk2 e fr ok f = .inr a) : a < 17179869184 := by
  unfold wk2 at h
  split at h
  · have := tgt_lt e
    cases h
    omega
  · cases h
theorem wk_lt {rd : Nat → Flt ⊕ Int32} {root fr a : Nat} {ok : Int32 → Bool} {f : Flt} (h : wk rd root fr ok f = .inr a) : a < 17179869184 := by
  unfold wk at h
  split at h
  · cases h
  · split at h
    · split at h
      · cases h
      · exact wk2_lt h
    · split at h
      · rename_i e _ _ hq
        have h1 := tgt_lt e
        have h2 := tgt_big (e := e) (by cases hl : lowz e <;> simp_all)
        cases h
        omega
      · cases h
theorem s2_lt {M : Nat → Int32} {hg k : Int32} {fr a : Nat} {ok : Int32 → Bool} {ent : Bool} (hfr : fr < 17179869184) (h : s2 M hg k fr ok ent = .inr a) : a < 17179869184 := by
  unfold s2 at h
  split at h
  · exact wk_lt h
  · cases h; exact hfr
theorem st1_lt {M : Nat → Int32} {hg k root : Int32} {vi us sm fx tx : Bool} {ad a : Nat} (hfr : ad < 4294967296) (h : st1 M hg k root vi us sm fx tx ad = .inr a) : a < 17179869184 := by
  unfold st1 at h
  split at h
  · exact wk_lt h
  · cases h; omega
/-- which faults there are -/
theorem ldm_f {M : Nat → Int32} {k : Int32} {a : Nat} {f : Flt} (h : ldm M k a = .inl f) : f = (outC k, 0, false) := by
  unfold ldm at h
  split at h
  · cases h
  · cases h; rfl
theorem wk_f {M : Nat → Int32} {k : Int32} {root fr : Nat} {ok : Int32 → Bool} {f g : Flt} (h : wk (ldm M k) root fr ok f = .inl g) : g = (outC k, 0, false) ∨ g = f := by
  unfold wk at h
  split at h
  · rename_i hq
    cases h
    exact Or.inl (ldm_f hq)
  · split at h
    · split at h
      · rename_i hq
        cases h
        exact Or.inl (ldm_f hq)
      · unfold wk2 at h
        split at h
        · cases h
        · cases h; exact Or.inr rfl
    · split at h
      · cases h
      · cases h; exact Or.inr rfl
theorem s2_f {M : Nat → Int32} {hg k : Int32} {fr : Nat} {ok : Int32 → Bool} {ent : Bool} {g : Flt} (h : s2 M hg k fr ok ent = .inl g) : g = (outC k, 0, false) ∨ g = (gueC k, fr, ent) := by
  unfold s2 at h
  split at h
  · exact wk_f h
  · cases h
end
section
/-! StageWalker$Walker: the methods that only read -/
set_option maxRecDepth 100000
abbrev swO (mm wr : Nat) (ri pl se : Int32) (en : Bool) : va_E := .inr (0, [.ref mm, .ref wr, .int ri, .int pl, .int se, .int (bI en)])
abbrev wkO (mm : Nat) (vi us ex : Bool) (ap vp hg : Int32) (su mx su2 mx2 : Bool) (pl se : Int64) (en : Bool) (tb : Int64) (rd : Int32) : va_E := .inr (1, [.ref mm, .int (bI vi), .int (bI us), .int (bI ex), .int ap, .int vp, .int hg, .int (bI su), .int (bI mx), .int (bI su2), .int (bI mx2), .long pl, .long se, .int (bI en), .long tb, .int rd])
abbrev mdO (th : Int32) (mm : Nat) (ap vp hg ri pl to : Int32) (te : Bool) (kd : Int32) (vi us ex : Bool) (ca : Int32) (fa : Int64) (oe : Bool) : va_E := .inr (2, [.int th, .ref mm, .int ap, .int vp, .int hg, .int ri, .int pl, .int to, .int (bI te), .int kd, .int (bI vi), .int (bI us), .int (bI ex), .int ca, .long fa, .int (bI oe)])
abbrev arO (dA : ClassId) (M : Nat → Int32) : va_E := .inl (dA, 65536, .inl M)
abbrev wU : Type := Int64 × Int64 × Bool × Int64 × Int32
abbrev wW (hw mm : Nat) (dA : ClassId) (M : Nat → Int32) (vi us ex : Bool) (ap vp hg : Int32) (su mx su2 mx2 : Bool) (u : wU) : va_W := [(hw, wkO mm vi us ex ap vp hg su mx su2 mx2 u.1 u.2.1 u.2.2.1 u.2.2.2.1 u.2.2.2.2), (mm, arO dA M)]
set_option maxHeartbeats 4000000 in
/-- isSound -/
theorem m_isSound (l : Launch) (x : Int32) : Met l yX1_isSound (ws_ yX1_isSound cX1_isSound 1 (some .boolean)) (rmX 0 0) (va_Pc [.int x] (Tt)) (QP (.int (bI (okS x)))) 0 0 NoA := by
  refine mst (by decide) (Nat.le_of_ble_eq_true rfl) ?_
  intro p ee s m below meth c hx hb hr hlocks hml hown hts hin hB ls hl
  have hl : lv_has ls 1 [(0, .int x)] := hl
  refine lv_iload_n hx hb dX1_isSound_0 rfl (lv_at hl 0 rfl) ?_
  refine lv_iconst (v := 1) hx hb dX1_isSound_1 (by decide) ?_
  refine lv_iand hx hb dX1_isSound_2 ?_
  refine lv_if_eq (tgt := 18) hx hb dX1_isSound_3 (by decide) (fun c_1 => ?_) (fun c_1 => ?_)
  · skip
    have c_1 := (z_1 _).mp c_1
    refine lv_iconst (v := 0) hx hb dX1_isSound_18 (by decide) ?_
    exact prz (by simp [bI, okS, c_1]) hx hb hr hlocks dX1_isSound_19
  · skip
    have c_1 := (n_1 _).mp c_1
    refine lv_iload_n hx hb dX1_isSound_6 rfl (lv_at hl 0 rfl) ?_
    refine lv_bipush (v := 6) hx hb dX1_isSound_7 (by decide) ?_
    refine lv_iand hx hb dX1_isSound_9 ?_
    refine lv_iconst (v := 4) hx hb dX1_isSound_10 (by decide) ?_
    refine lv_icmp_eq (tgt := 18) hx hb dX1_isSound_11 (by decide) (fun c_2 => ?_) (fun c_2 => ?_)
    · skip
      have c_2 := (y_6 _).mp c_2
      refine lv_iconst (v := 0) hx hb dX1_isSound_18 (by decide) ?_
      exact prz (by simp [bI, okS, c_1, c_2]) hx hb hr hlocks dX1_isSound_19
    · skip
      have c_2 := (x_6 _).mp c_2
      refine lv_iconst (v := 1) hx hb dX1_isSound_14 (by decide) ?_
      refine lv_goto (tgt := 19) hx hb dX1_isSound_15 (by decide) ?_
      exact prz (by simp [bI, okS, c_1, c_2]) hx hb hr hlocks dX1_isSound_19
set_option maxHeartbeats 4000000 in
/-- isTable -/
theorem m_isTable (l : Launch) (x : Int32) : Met l yX1_isTable (ws_ yX1_isTable cX1_isTable 1 (some .boolean)) (rmX 1 20) (va_Pc [.int x] (Tt)) (QP (.int (bI (tab x)))) 0 0 NoA := by
  refine mst (by decide) (Nat.le_of_ble_eq_true rfl) ?_
  intro p ee s m below meth c hx hb hr hlocks hml hown hts hin hB ls hl
  have hl : lv_has ls 1 [(0, .int x)] := hl
  refine lv_iload_n hx hb dX1_isTable_0 rfl (lv_at hl 0 rfl) ?_
  refine pcall (va_runS (As := [.int x]) (rest := []) ⟨hx, hb, hml, hown, hts⟩ (m_isSound l x) (va_cwS 1 hts (lw_S q194 q195 q20 q196) rfl rfl rfl (by decide +kernel) ⟨Nat.le_of_ble_eq_true rfl, Nat.le_of_ble_eq_true rfl⟩) pT_S rfl rfl hl.1 rfl (lv_room (Nat.le_of_ble_eq_true rfl)) dX1_isTable_1 ⟨Nat.le_refl _, Nat.le_refl _⟩) ?_
  refine lv_if_eq (tgt := 26) hx hb dX1_isTable_4 (by decide) (fun c_1 => ?_) (fun c_1 => ?_)
  · skip
    have c_1 := (bI_z _).mp c_1
    refine lv_iconst (v := 0) hx hb dX1_isTable_26 (by decide) ?_
    exact prz (by simp [bI, tab, c_1]) hx hb hr hlocks dX1_isTable_27
  · skip
    have c_1 := (bI_n _).mp c_1
    refine lv_iload_n hx hb dX1_isTable_7 rfl (lv_at hl 0 rfl) ?_
    refine lv_bipush (v := 14) hx hb dX1_isTable_8 (by decide) ?_
    refine lv_iand hx hb dX1_isTable_10 ?_
    refine lv_if_ne (tgt := 26) hx hb dX1_isTable_11 (by decide) (fun c_2 => ?_) (fun c_2 => ?_)
    · skip
      have c_2 := (n_14 _).mp c_2
      refine lv_iconst (v := 0) hx hb dX1_isTable_26 (by decide) ?_
      exact prz (by simp [bI, tab, c_1, c_2]) hx hb hr hlocks dX1_isTable_27
    · skip
      have c_2 := (z_14 _).mp c_2
      refine lv_iload_n hx hb dX1_isTable_14 rfl (lv_at hl 0 rfl) ?_
      refine lv_sipush (v := 208) hx hb dX1_isTable_15 (by decide) ?_
      refine lv_iand hx hb dX1_isTable_18 ?_
      refine lv_if_ne (tgt := 26) hx hb dX1_isTable_19 (by decide) (fun c_3 => ?_) (fun c_3 => ?_)
      · skip
        have c_3 := (n_208 _).mp c_3
        refine lv_iconst (v := 0) hx hb dX1_isTable_26 (by decide) ?_
        exact prz (by simp [bI, tab, c_1, c_2, c_3]) hx hb hr hlocks dX1_isTable_27
      · skip
        have c_3 := (z_208 _).mp c_3
        refine lv_iconst (v := 1) hx hb dX1_isTable_22 (by decide) ?_
        refine lv_goto (tgt := 27) hx hb dX1_isTable_23 (by decide) ?_
        exact prz (by simp [bI, tab, c_1, c_2, c_3]) hx hb hr hlocks dX1_isTable_27
set_option maxHeartbeats 4000000 in
/-- isLeaf -/
theorem m_isLeaf (l : Launch) (x : Int32) : Met l yX1_isLeaf (ws_ yX1_isLeaf cX1_isLeaf 1 (some .boolean)) (rmX 1 20) (va_Pc [.int x] (Tt)) (QP (.int (bI (lef x)))) 0 0 NoA := by
  refine mst (by decide) (Nat.le_of_ble_eq_true rfl) ?_
  intro p ee s m below meth c hx hb hr hlocks hml hown hts hin hB ls hl
  have hl : lv_has ls 1 [(0, .int x)] := hl
  refine lv_iload_n hx hb dX1_isLeaf_0 rfl (lv_at hl 0 rfl) ?_
  refine pcall (va_runS (As := [.int x]) (rest := []) ⟨hx, hb, hml, hown, hts⟩ (m_isSound l x) (va_cwS 1 hts (lw_S q194 q195 q20 q196) rfl rfl rfl (by decide +kernel) ⟨Nat.le_of_ble_eq_true rfl, Nat.le_of_ble_eq_true rfl⟩) pT_S rfl rfl hl.1 rfl (lv_room (Nat.le_of_ble_eq_true rfl)) dX1_isLeaf_1 ⟨Nat.le_refl _, Nat.le_refl _⟩) ?_
  refine lv_if_eq (tgt := 18) hx hb dX1_isLeaf_4 (by decide) (fun c_1 => ?_) (fun c_1 => ?_)
  · skip
    have c_1 := (bI_z _).mp c_1
    refine lv_iconst (v := 0) hx hb dX1_isLeaf_18 (by decide) ?_
    exact prz (by simp [bI, lef, c_1]) hx hb hr hlocks dX1_isLeaf_19
  · skip
    have c_1 := (bI_n _).mp c_1
    refine lv_iload_n hx hb dX1_isLeaf_7 rfl (lv_at hl 0 rfl) ?_
    refine lv_bipush (v := 14) hx hb dX1_isLeaf_8 (by decide) ?_
    refine lv_iand hx hb dX1_isLeaf_10 ?_
    refine lv_if_eq (tgt := 18) hx hb dX1_isLeaf_11 (by decide) (fun c_2 => ?_) (fun c_2 => ?_)
    · skip
      have c_2 := (z_14 _).mp c_2
      refine lv_iconst (v := 0) hx hb dX1_isLeaf_18 (by decide) ?_
      exact prz (by simp [bI, lef, c_1, c_2]) hx hb hr hlocks dX1_isLeaf_19
    · skip
      have c_2 := (n_14 _).mp c_2
      refine lv_iconst (v := 1) hx hb dX1_isLeaf_14 (by decide) ?_
      refine lv_goto (tgt := 19) hx hb dX1_isLeaf_15 (by decide) ?_
      exact prz (by simp [bI, lef, c_1, c_2]) hx hb hr hlocks dX1_isLeaf_19
theorem tgt_v (x : Int32) : ((x : Int32).toUInt32 >>> ((10 : Int32).toUInt32 &&& Int32.toUInt32 31)).toInt32.toInt64 * 4096 = lN (tgt x) := by
  have h := pk_ushrN (n := tn x) (tn_lt x) 10 10 (by decide)
  rw [nI_tn] at h
  have hlt := tn_lt x
  rw [h, nI_l (by omega)]
  show lN _ * lN 4096 = _
  rw [lN_mul]
  rfl
set_option maxHeartbeats 4000000 in
/-- target -/
theorem m_target (l : Launch) (x : Int32) : Met l yX1_target (ws_ yX1_target cX1_target 1 (some .long)) (rmX 0 0) (va_Pc [.int x] (Tt)) (QP (.long (lN (tgt x)))) 0 0 NoA := by
  refine mst (by decide) (Nat.le_of_ble_eq_true rfl) ?_
  intro p ee s m below meth c hx hb hr hlocks hml hown hts hin hB ls hl
  have hl : lv_has ls 1 [(0, .int x)] := hl
  refine lv_iload_n hx hb dX1_target_0 rfl (lv_at hl 0 rfl) ?_
  refine lv_bipush (v := 10) hx hb dX1_target_1 (by decide) ?_
  refine lv_iushr hx hb dX1_target_3 rfl ?_
  refine lv_i2l hx hb dX1_target_4 rfl ?_
  refine lv_ldc2 hx hb hown (hts _ q163) dX1_target_5 ?_
  refine lv_lmul hx hb dX1_target_8 ?_
  exact prl (tgt_v x) hx hb hr hlocks dX1_target_9
set_option maxHeartbeats 4000000 in
/-- allows -/
theorem m_allows (l : Launch) (x kd : Int32) (fx tx : Bool) : Met l yX1_allows (ws_ yX1_allows cX1_allows 4 (some .boolean)) (rmX 0 0) (va_Pc [.int x, .int kd, .int (bI fx), .int (bI tx)] (Tt)) (QP (.int (bI (acc kd fx tx x)))) 0 0 NoA := by
  refine mst (by decide) (Nat.le_of_ble_eq_true rfl) ?_
  intro p ee s m below meth c hx hb hr hlocks hml hown hts hin hB ls hl
  have hl : lv_has ls 4 [(0, .int x), (1, .int kd), (2, .int (bI fx)), (3, .int (bI tx))] := hl
  refine lv_iload_n hx hb dX1_allows_0 rfl (lv_at hl 0 rfl) ?_
  refine lv_bipush (v := 64) hx hb dX1_allows_1 (by decide) ?_
  refine lv_iand hx hb dX1_allows_3 ?_
  refine lv_if_ne (tgt := 9) hx hb dX1_allows_4 (by decide) (fun c_1 => ?_) (fun c_1 => ?_)
  · skip
    have c_1 := (n_64 _).mp c_1
    refine lv_iload_n hx hb dX1_allows_9 rfl (lv_at hl 1 rfl) ?_
    refine lv_if_eq (tgt := 17) hx hb dX1_allows_10 (by decide) (fun c_2 => ?_) (fun c_2 => ?_)
    · skip
      refine lv_iload_n hx hb dX1_allows_17 rfl (lv_at hl 0 rfl) ?_
      refine lv_bipush (v := 8) hx hb dX1_allows_18 (by decide) ?_
      refine lv_iand hx hb dX1_allows_20 ?_
      refine lv_if_eq (tgt := 28) hx hb dX1_allows_21 (by decide) (fun c_3 => ?_) (fun c_3 => ?_)
      · skip
        have c_3 := (z_8 _).mp c_3
        refine lv_iconst (v := 0) hx hb dX1_allows_28 (by decide) ?_
        exact prz (by simp [bI, acc, c_1, c_2, c_3]) hx hb hr hlocks dX1_allows_29
      · skip
        have c_3 := (n_8 _).mp c_3
        refine lv_iconst (v := 1) hx hb dX1_allows_24 (by decide) ?_
        refine lv_goto (tgt := 29) hx hb dX1_allows_25 (by decide) ?_
        exact prz (by simp [bI, acc, c_1, c_2, c_3]) hx hb hr hlocks dX1_allows_29
    · skip
      refine lv_iload_n hx hb dX1_allows_13 rfl (lv_at hl 2 rfl) ?_
      refine lv_if_eq (tgt := 30) hx hb dX1_allows_14 (by decide) (fun c_4 => ?_) (fun c_4 => ?_)
      · skip
        have c_4 := (bI_z _).mp c_4
        refine lv_iload_n hx hb dX1_allows_30 rfl (lv_at hl 1 rfl) ?_
        refine lv_iconst (v := 2) hx hb dX1_allows_31 (by decide) ?_
        refine lv_icmp_ne (tgt := 57) hx hb dX1_allows_32 (by decide) (fun c_5 => ?_) (fun c_5 => ?_)
        · skip
          refine lv_iload_n hx hb dX1_allows_57 rfl (lv_at hl 0 rfl) ?_
          refine lv_iconst (v := 2) hx hb dX1_allows_58 (by decide) ?_
          refine lv_iand hx hb dX1_allows_59 ?_
          refine lv_if_ne (tgt := 74) hx hb dX1_allows_60 (by decide) (fun c_6 => ?_) (fun c_6 => ?_)
          · skip
            have c_6 := (n_2 _).mp c_6
            refine lv_iconst (v := 1) hx hb dX1_allows_74 (by decide) ?_
            refine lv_goto (tgt := 79) hx hb dX1_allows_75 (by decide) ?_
            exact prz (by simp [bI, acc, c_1, c_2, c_4, c_5, c_6]) hx hb hr hlocks dX1_allows_79
          · skip
            have c_6 := (z_2 _).mp c_6
            refine lv_iload_n hx hb dX1_allows_63 rfl (lv_at hl 3 rfl) ?_
            refine lv_if_eq (tgt := 78) hx hb dX1_allows_64 (by decide) (fun c_7 => ?_) (fun c_7 => ?_)
            · skip
              have c_7 := (bI_z _).mp c_7
              refine lv_iconst (v := 0) hx hb dX1_allows_78 (by decide) ?_
              exact prz (by simp [bI, acc, c_1, c_2, c_4, c_5, c_6, c_7]) hx hb hr hlocks dX1_allows_79
            · skip
              have c_7 := (bI_n _).mp c_7
              refine lv_iload_n hx hb dX1_allows_67 rfl (lv_at hl 0 rfl) ?_
              refine lv_bipush (v := 8) hx hb dX1_allows_68 (by decide) ?_
              refine lv_iand hx hb dX1_allows_70 ?_
              refine lv_if_eq (tgt := 78) hx hb dX1_allows_71 (by decide) (fun c_8 => ?_) (fun c_8 => ?_)
              · skip
                have c_8 := (z_8 _).mp c_8
                refine lv_iconst (v := 0) hx hb dX1_allows_78 (by decide) ?_
                exact prz (by simp [bI, acc, c_1, c_2, c_4, c_5, c_6, c_7, c_8]) hx hb hr hlocks dX1_allows_79
              · skip
                have c_8 := (n_8 _).mp c_8
                refine lv_iconst (v := 1) hx hb dX1_allows_74 (by decide) ?_
                refine lv_goto (tgt := 79) hx hb dX1_allows_75 (by decide) ?_
                exact prz (by simp [bI, acc, c_1, c_2, c_4, c_5, c_6, c_7, c_8]) hx hb hr hlocks dX1_allows_79
        · skip
          refine lv_iload_n hx hb dX1_allows_35 rfl (lv_at hl 0 rfl) ?_
          refine lv_iconst (v := 4) hx hb dX1_allows_36 (by decide) ?_
          refine lv_iand hx hb dX1_allows_37 ?_
          refine lv_if_eq (tgt := 53) hx hb dX1_allows_38 (by decide) (fun c_9 => ?_) (fun c_9 => ?_)
          · skip
            have c_9 := (z_4 _).mp c_9
            refine lv_iconst (v := 0) hx hb dX1_allows_53 (by decide) ?_
            refine lv_goto (tgt := 79) hx hb dX1_allows_54 (by decide) ?_
            exact prz (by simp [bI, acc, c_1, c_2, c_4, c_5, c_9]) hx hb hr hlocks dX1_allows_79
          · skip
            have c_9 := (n_4 _).mp c_9
            refine lv_iload_n hx hb dX1_allows_41 rfl (lv_at hl 0 rfl) ?_
            refine lv_sipush (v := 128) hx hb dX1_allows_42 (by decide) ?_
            refine lv_iand hx hb dX1_allows_45 ?_
            refine lv_if_eq (tgt := 53) hx hb dX1_allows_46 (by decide) (fun c_10 => ?_) (fun c_10 => ?_)
            · skip
              have c_10 := (z_128 _).mp c_10
              refine lv_iconst (v := 0) hx hb dX1_allows_53 (by decide) ?_
              refine lv_goto (tgt := 79) hx hb dX1_allows_54 (by decide) ?_
              exact prz (by simp [bI, acc, c_1, c_2, c_4, c_5, c_9, c_10]) hx hb hr hlocks dX1_allows_79
            · skip
              have c_10 := (n_128 _).mp c_10
              refine lv_iconst (v := 1) hx hb dX1_allows_49 (by decide) ?_
              refine lv_goto (tgt := 79) hx hb dX1_allows_50 (by decide) ?_
              exact prz (by simp [bI, acc, c_1, c_2, c_4, c_5, c_9, c_10]) hx hb hr hlocks dX1_allows_79
      · skip
        have c_4 := (bI_n _).mp c_4
        refine lv_iload_n hx hb dX1_allows_17 rfl (lv_at hl 0 rfl) ?_
        refine lv_bipush (v := 8) hx hb dX1_allows_18 (by decide) ?_
        refine lv_iand hx hb dX1_allows_20 ?_
        refine lv_if_eq (tgt := 28) hx hb dX1_allows_21 (by decide) (fun c_11 => ?_) (fun c_11 => ?_)
        · skip
          have c_11 := (z_8 _).mp c_11
          refine lv_iconst (v := 0) hx hb dX1_allows_28 (by decide) ?_
          exact prz (by simp [bI, acc, c_1, c_2, c_4, c_11]) hx hb hr hlocks dX1_allows_29
        · skip
          have c_11 := (n_8 _).mp c_11
          refine lv_iconst (v := 1) hx hb dX1_allows_24 (by decide) ?_
          refine lv_goto (tgt := 29) hx hb dX1_allows_25 (by decide) ?_
          exact prz (by simp [bI, acc, c_1, c_2, c_4, c_11]) hx hb hr hlocks dX1_allows_29
  · skip
    have c_1 := (z_64 _).mp c_1
    refine lv_iconst (v := 0) hx hb dX1_allows_7 (by decide) ?_
    exact prz (by simp [bI, acc, c_1]) hx hb hr hlocks dX1_allows_8
end
section
/-! StageWalker$Walker: methods over its world -/
set_option maxRecDepth 100000
theorem sh2 {a : Nat} (h : a < 4611686018427387904) : lN a >>> ((2 : Int32).toInt64 &&& 63) = lN (a / 4) := pf_shr (d := 2) (by decide) h
theorem sh10 {a : Nat} (h : a < 4611686018427387904) : lN a >>> ((10 : Int32).toInt64 &&& 63) = lN (a / 1024) := pf_shr (d := 10) (by decide) h
theorem sh12 {a : Nat} (h : a < 4611686018427387904) : lN a >>> ((12 : Int32).toInt64 &&& 63) = lN (a / 4096) := pf_shr (d := 12) (by decide) h
theorem sh22 {a : Nat} (h : a < 4611686018427387904) : lN a >>> ((22 : Int32).toInt64 &&& 63) = lN (a / 4194304) := pf_shr (d := 22) (by decide) h
theorem sh32 {a : Nat} (h : a < 4611686018427387904) : lN a >>> ((32 : Int32).toInt64 &&& 63) = lN (a / 4294967296) := pf_shr (d := 32) (by decide) h
set_option maxHeartbeats 4000000 in
/-- allowsUser -/
theorem m_allowsUser (l : Launch) (D : va_G) (hw mm : Nat) (dA : ClassId) (M : Nat → Int32) (vi us ex : Bool) (ap vp hg : Int32) (su mx su2 mx2 : Bool) (pl se : Int64) (en : Bool) (tb : Int64) (rd : Int32) (x kd : Int32) : Met l yX1_allowsUser (ws_ yX1_allowsUser cX1_allowsUser 4 (some .boolean)) (rmX 0 0) (va_Pc [.ref hw, .int x, .int kd] (Gr D vCl [(dA, .int)] (wW hw mm dA M vi us ex ap vp hg su mx su2 mx2 (pl, se, en, tb, rd)))) (QP (.int (bI (usr us (if vi = true then su2 else su) kd x)))) 0 0 NoA := by
  refine mst (by decide) (Nat.le_of_ble_eq_true rfl) ?_
  intro p ee s m below meth c hx hb hr hlocks hml hown hts hin hB ls hl
  have hl : lv_has ls 4 [(0, .ref hw), (1, .int x), (2, .int kd)] := hl
  obtain ⟨hP, hK⟩ := hB
  have hP : va_P D vCl [(hw, wkO mm vi us ex ap vp hg su mx su2 mx2 pl se en tb rd), (mm, arO dA M)] s.heap := hP
  refine lv_iload_n hx hb dX1_allowsUser_0 rfl (lv_at hl 1 rfl) ?_
  refine lv_bipush (v := 16) hx hb dX1_allowsUser_1 (by decide) ?_
  refine lv_iand hx hb dX1_allowsUser_3 ?_
  refine lv_if_eq (tgt := 11) hx hb dX1_allowsUser_4 (by decide) (fun c_1 => ?_) (fun c_1 => ?_)
  · skip
    have c_1 := (z_16 _).mp c_1
    refine lv_iconst (v := 0) hx hb dX1_allowsUser_11 (by decide) ?_
    refine lv_istore_n (lv' := [(3, .int 0), (0, .ref hw), (1, .int x), (2, .int kd)]) hx hb dX1_allowsUser_12 rfl hl (by decide) rfl (fun ls hl => ?_)
    refine lv_aload_n hx hb dX1_allowsUser_13 rfl (lv_at hl 1 rfl) ?_
    refine va_get (D := D) (ci := 1) (v := .int (bI us)) (C := RX1) (T := TX1) (N := 16) hx hb hts in_X1 hown hK hP 0 rfl rfl 2 (by decide) (hts _ q41) (fun _ h9 => h9) rfl dX1_allowsUser_14 ?_
    refine lv_if_eq (tgt := 24) hx hb dX1_allowsUser_17 (by decide) (fun c_2 => ?_) (fun c_2 => ?_)
    · skip
      have c_2 := (bI_z _).mp c_2
      refine lv_iload_n hx hb dX1_allowsUser_24 rfl (lv_at hl 0 rfl) ?_
      refine lv_if_eq (tgt := 56) hx hb dX1_allowsUser_25 (by decide) (fun c_3 => ?_) (fun c_3 => absurd c_3 (by decide))
      refine lv_iconst (v := 1) hx hb dX1_allowsUser_56 (by decide) ?_
      refine lv_goto (tgt := 61) hx hb dX1_allowsUser_57 (by decide) ?_
      exact prz (by simp [bI, usr, c_1, c_2, c_3]) hx hb hr hlocks dX1_allowsUser_61
    · skip
      have c_2 := (bI_n _).mp c_2
      refine lv_iload_n hx hb dX1_allowsUser_20 rfl (lv_at hl 0 rfl) ?_
      refine lv_goto (tgt := 61) hx hb dX1_allowsUser_21 (by decide) ?_
      exact prz (by simp [bI, usr, c_1, c_2]) hx hb hr hlocks dX1_allowsUser_61
  · skip
    have c_1 := (n_16 _).mp c_1
    refine lv_iconst (v := 1) hx hb dX1_allowsUser_7 (by decide) ?_
    refine lv_goto (tgt := 12) hx hb dX1_allowsUser_8 (by decide) ?_
    refine lv_istore_n (lv' := [(3, .int 1), (0, .ref hw), (1, .int x), (2, .int kd)]) hx hb dX1_allowsUser_12 rfl hl (by decide) rfl (fun ls hl => ?_)
    refine lv_aload_n hx hb dX1_allowsUser_13 rfl (lv_at hl 1 rfl) ?_
    refine va_get (D := D) (ci := 1) (v := .int (bI us)) (C := RX1) (T := TX1) (N := 16) hx hb hts in_X1 hown hK hP 0 rfl rfl 2 (by decide) (hts _ q41) (fun _ h9 => h9) rfl dX1_allowsUser_14 ?_
    refine lv_if_eq (tgt := 24) hx hb dX1_allowsUser_17 (by decide) (fun c_4 => ?_) (fun c_4 => ?_)
    · skip
      have c_4 := (bI_z _).mp c_4
      refine lv_iload_n hx hb dX1_allowsUser_24 rfl (lv_at hl 0 rfl) ?_
      refine lv_if_eq (tgt := 56) hx hb dX1_allowsUser_25 (by decide) (fun c_5 => absurd c_5 (by decide)) (fun c_5 => ?_)
      refine lv_iload_n hx hb dX1_allowsUser_28 rfl (lv_at hl 3 rfl) ?_
      refine lv_if_eq (tgt := 60) hx hb dX1_allowsUser_29 (by decide) (fun c_6 => ?_) (fun c_6 => ?_)
      · skip
        refine lv_iconst (v := 0) hx hb dX1_allowsUser_60 (by decide) ?_
        exact prz (by simp [bI, usr, c_1, c_4, c_5, c_6]) hx hb hr hlocks dX1_allowsUser_61
      · skip
        refine lv_aload_n hx hb dX1_allowsUser_32 rfl (lv_at hl 1 rfl) ?_
        refine va_get (D := D) (ci := 1) (v := .int (bI vi)) (C := RX1) (T := TX1) (N := 16) hx hb hts in_X1 hown hK hP 0 rfl rfl 1 (by decide) (hts _ q38) (fun _ h9 => h9) rfl dX1_allowsUser_33 ?_
        refine lv_if_eq (tgt := 49) hx hb dX1_allowsUser_36 (by decide) (fun c_7 => ?_) (fun c_7 => ?_)
        · skip
          have c_7 := (bI_z _).mp c_7
          refine lv_aload_n hx hb dX1_allowsUser_49 rfl (lv_at hl 1 rfl) ?_
          refine va_get (D := D) (ci := 1) (v := .int (bI su)) (C := RX1) (T := TX1) (N := 16) hx hb hts in_X1 hown hK hP 0 rfl rfl 7 (by decide) (hts _ q51) (fun _ h9 => h9) rfl dX1_allowsUser_50 ?_
          refine lv_if_eq (tgt := 60) hx hb dX1_allowsUser_53 (by decide) (fun c_8 => ?_) (fun c_8 => ?_)
          · skip
            have c_8 := (bI_z _).mp c_8
            refine lv_iconst (v := 0) hx hb dX1_allowsUser_60 (by decide) ?_
            exact prz (by simp [bI, usr, c_1, c_4, c_5, c_6, c_7, c_8]) hx hb hr hlocks dX1_allowsUser_61
          · skip
            have c_8 := (bI_n _).mp c_8
            refine lv_iconst (v := 1) hx hb dX1_allowsUser_56 (by decide) ?_
            refine lv_goto (tgt := 61) hx hb dX1_allowsUser_57 (by decide) ?_
            exact prz (by simp [bI, usr, c_1, c_4, c_5, c_6, c_7, c_8]) hx hb hr hlocks dX1_allowsUser_61
        · skip
          have c_7 := (bI_n _).mp c_7
          refine lv_aload_n hx hb dX1_allowsUser_39 rfl (lv_at hl 1 rfl) ?_
          refine va_get (D := D) (ci := 1) (v := .int (bI su2)) (C := RX1) (T := TX1) (N := 16) hx hb hts in_X1 hown hK hP 0 rfl rfl 9 (by decide) (hts _ q55) (fun _ h9 => h9) rfl dX1_allowsUser_40 ?_
          refine lv_if_eq (tgt := 60) hx hb dX1_allowsUser_43 (by decide) (fun c_9 => ?_) (fun c_9 => ?_)
          · skip
            have c_9 := (bI_z _).mp c_9
            refine lv_iconst (v := 0) hx hb dX1_allowsUser_60 (by decide) ?_
            exact prz (by simp [bI, usr, c_1, c_4, c_5, c_6, c_7, c_9]) hx hb hr hlocks dX1_allowsUser_61
          · skip
            have c_9 := (bI_n _).mp c_9
            refine lv_goto (tgt := 56) hx hb dX1_allowsUser_46 (by decide) ?_
            refine lv_iconst (v := 1) hx hb dX1_allowsUser_56 (by decide) ?_
            refine lv_goto (tgt := 61) hx hb dX1_allowsUser_57 (by decide) ?_
            exact prz (by simp [bI, usr, c_1, c_4, c_5, c_6, c_7, c_9]) hx hb hr hlocks dX1_allowsUser_61
    · skip
      have c_4 := (bI_n _).mp c_4
      refine lv_iload_n hx hb dX1_allowsUser_20 rfl (lv_at hl 0 rfl) ?_
      refine lv_goto (tgt := 61) hx hb dX1_allowsUser_21 (by decide) ?_
      exact prz (by simp [bI, usr, c_1, c_4]) hx hb hr hlocks dX1_allowsUser_61
set_option maxHeartbeats 4000000 in
/-- isInside -/
theorem m_isInside (l : Launch) (D : va_G) (hw mm : Nat) (dA : ClassId) (M : Nat → Int32) (vi us ex : Bool) (ap vp hg : Int32) (su mx su2 mx2 : Bool) (pl se : Int64) (en : Bool) (tb : Int64) (rd : Int32) (a : Nat) (ha : a < 1099511627776) : Met l yX1_isInside (ws_ yX1_isInside cX1_isInside 3 (some .boolean)) (rmX 0 0) (va_Pc [.ref hw, .long (lN a)] (Gr D vCl [(dA, .int)] (wW hw mm dA M vi us ex ap vp hg su mx su2 mx2 (pl, se, en, tb, rd)))) (QP (.int (bI (decide (a < 262144))))) 0 0 NoA := by
  refine mst (by decide) (Nat.le_of_ble_eq_true rfl) ?_
  intro p ee s m below meth c hx hb hr hlocks hml hown hts hin hB ls hl
  have hl : lv_has ls 3 [(0, .ref hw), (1, .long (lN a))] := hl
  obtain ⟨hP, hK⟩ := hB
  have hP : va_P D vCl [(hw, wkO mm vi us ex ap vp hg su mx su2 mx2 pl se en tb rd), (mm, arO dA M)] s.heap := hP
  refine lv_lload_n hx hb dX1_isInside_0 rfl (lv_at hl 1 rfl) ?_
  refine lv_ldc2 hx hb hown (hts _ q168) dX1_isInside_1 ?_
  refine lv_aload_n hx hb dX1_isInside_4 rfl (lv_at hl 0 rfl) ?_
  refine va_get (D := D) (ci := 1) (v := .ref mm) (C := RX1) (T := TX1) (N := 16) hx hb hts in_X1 hown hK hP 0 rfl rfl 0 (by decide) (hts _ q37) (fun _ h9 => h9) rfl dX1_isInside_5 ?_
  refine va_alen (v := 65536) hx hb hK hP 1 0 rfl rfl rfl dX1_isInside_8 ?_
  refine lv_i2l hx hb dX1_isInside_9 rfl ?_
  refine lv_lmul hx hb dX1_isInside_10 ?_
  refine tpl (y := lN 262144) (by decide) ?_
  refine W.lcmp hx hb dX1_isInside_11 ?_
  refine lv_if_ge (tgt := 19) hx hb dX1_isInside_12 (by decide) (fun c_1 => ?_) (fun c_1 => ?_)
  · skip
    have c_1 := (pk_lLE (by decide) (by omega)).mp ((lg_cmp_ge _ _).mp c_1)
    refine lv_iconst (v := 0) hx hb dX1_isInside_19 (by decide) ?_
    exact prz (by rw [decide_eq_false (by omega)]; rfl) hx hb hr hlocks dX1_isInside_20
  · skip
    have c_1 : ¬ 262144 ≤ a := fun z => c_1 ((lg_cmp_ge _ _).mpr ((pk_lLE (by decide) (by omega)).mpr z))
    refine lv_iconst (v := 1) hx hb dX1_isInside_15 (by decide) ?_
    refine lv_goto (tgt := 20) hx hb dX1_isInside_16 (by decide) ?_
    exact prz (by rw [decide_eq_true (by omega)]; rfl) hx hb hr hlocks dX1_isInside_20
theorem set_v {t f pw : Nat} {bt : Int32} (h : (bt = 12 ∧ pw = 4096) ∨ (bt = 22 ∧ pw = 4194304)) (ht : t % pw = 0) : lN t ||| (lN f &&& (((1 : Int64) <<< ((bt : Int32).toInt64 &&& 63)) - 1)) = lN (t + f % pw) := by
  rcases h with ⟨rfl, rfl⟩ | ⟨rfl, rfl⟩
  · have e1 : (((1 : Int64) <<< ((12 : Int32).toInt64 &&& 63)) - 1) = lN (2 ^ 12 - 1) := by decide
    obtain ⟨b, rfl⟩ : ∃ b, t = 2 ^ 12 * b := ⟨t / 4096, by omega⟩
    rw [e1, fb_maskL]
    exact fb_or_sumL b (Nat.mod_lt _ (by decide))
  · have e1 : (((1 : Int64) <<< ((22 : Int32).toInt64 &&& 63)) - 1) = lN (2 ^ 22 - 1) := by decide
    obtain ⟨b, rfl⟩ : ∃ b, t = 2 ^ 22 * b := ⟨t / 4194304, by omega⟩
    rw [e1, fb_maskL]
    exact fb_or_sumL b (Nat.mod_lt _ (by decide))
set_option maxHeartbeats 4000000 in
/-- settle: the place is the frame's, with the lowest bits of the address -/
theorem m_settle (l : Launch) (D : va_G) (hw mm : Nat) (dA : ClassId) (M : Nat → Int32) (vi us ex : Bool) (ap vp hg : Int32) (su mx su2 mx2 : Bool) (A : Nat → Prop) (pl se : Int64) (en : Bool) (tb : Int64) (rd : Int32) (t f pw : Nat) (bt : Int32) (hbp : (bt = 12 ∧ pw = 4096) ∨ (bt = 22 ∧ pw = 4194304)) (ht : t % pw = 0) : Met l yX1_settle (ws_ yX1_settle cX1_settle 6 (some .int)) (rmX 0 0) (va_Pc [.ref hw, .long (lN t), .long (lN f), .int bt] (Gm D vCl [(dA, .int)] A (wW hw mm dA M vi us ex ap vp hg su mx su2 mx2 (pl, se, en, tb, rd)))) (GQi D vCl A (wW hw mm dA M vi us ex ap vp hg su mx su2 mx2) (fun r u => r = 0 ∧ u = (lN (t + f % pw), se, en, tb, rd))) 0 0 A := by
  refine mst (by decide) (Nat.le_of_ble_eq_true rfl) ?_
  intro p ee s m below meth c hx hb hr hlocks hml hown hts hin hB ls hl
  have hl : lv_has ls 6 [(0, .ref hw), (1, .long (lN t)), (3, .long (lN f)), (5, .int bt)] := hl
  obtain ⟨hP, hK, hD⟩ := hB
  have hP : va_P D vCl [(hw, wkO mm vi us ex ap vp hg su mx su2 mx2 pl se en tb rd), (mm, arO dA M)] s.heap := hP
  have hD : va_D A [(hw, wkO mm vi us ex ap vp hg su mx su2 mx2 pl se en tb rd), (mm, arO dA M)] := hD
  have hS : va_S A s.heap s.heap [] := va_S.rf
  refine lv_aload_n hx hb dX1_settle_0 rfl (lv_at hl 0 rfl) ?_
  refine lv_lload_n hx hb dX1_settle_1 rfl (lv_at hl 1 rfl) ?_
  refine lv_lload_n hx hb dX1_settle_2 rfl (lv_at hl 2 rfl) ?_
  refine lv_lconst (v := 1) hx hb dX1_settle_3 (by decide) ?_
  refine lv_iload hx hb dX1_settle_4 (lv_at hl 3 rfl) ?_
  refine lv_lshl hx hb dX1_settle_6 rfl ?_
  refine lv_lconst (v := 1) hx hb dX1_settle_7 (by decide) ?_
  refine lv_lsub hx hb dX1_settle_8 ?_
  refine lv_land hx hb dX1_settle_9 ?_
  refine lv_lor hx hb dX1_settle_10 ?_
  refine tpl (y := lN (t + f % pw)) (set_v hbp ht) ?_
  refine va_put (D := D) (ci := 1) (v := .long (lN (t + f % pw))) (ty := .long) (C := RX1) (T := TX1) (N := 16) hx hb hts in_X1 tyX1 tyX1_ok nmX1 hown hK hP hD hS 0 rfl rfl 11 (by decide) (hts _ q58) (fun _ h9 => h9) rfl (by decide +kernel) rfl rfl (Nat.le_of_ble_eq_true rfl) dX1_settle_11 (fun H locs hP hD hS => ?_)
  have hP : va_P D vCl [(hw, wkO mm vi us ex ap vp hg su mx su2 mx2 (lN (t + f % pw)) se en tb rd), (mm, arO dA M)] H := hP
  have hD : va_D A [(hw, wkO mm vi us ex ap vp hg su mx su2 mx2 (lN (t + f % pw)) se en tb rd), (mm, arO dA M)] := hD
  refine lv_iconst (v := 0) hx hb dX1_settle_14 (by decide) ?_
  exact gri ((lN (t + f % pw), se, en, tb, rd)) (⟨rfl, rfl⟩) hP hS hx hb hr hlocks dX1_settle_15
set_option maxHeartbeats 4000000 in
/-- fetch -/
theorem m_fetch (l : Launch) (D : va_G) (hw mm : Nat) (dA : ClassId) (M : Nat → Int32) (vi us ex : Bool) (ap vp hg : Int32) (su mx su2 mx2 : Bool) (A : Nat → Prop) (pl se : Int64) (en : Bool) (tb : Int64) (rd : Int32) (a : Nat) (ha : a < 1099511627776) : Met l yX1_fetch (ws_ yX1_fetch cX1_fetch 4 (some .boolean)) (rmX 1 22) (va_Pc [.ref hw, .long (lN a)] (Gm D vCl [(dA, .int)] A (wW hw mm dA M vi us ex ap vp hg su mx su2 mx2 (pl, se, en, tb, rd)))) (GQi D vCl A (wW hw mm dA M vi us ex ap vp hg su mx su2 mx2) (fun r u => r = bI (decide (a < 262144)) ∧ ∃ tb1 rd1, u = (pl, se, en, tb1, rd1) ∧ (a < 262144 → rd1 = M (a / 4)))) 0 0 A := by
  refine mst (by decide) (Nat.le_of_ble_eq_true rfl) ?_
  intro p ee s m below meth c hx hb hr hlocks hml hown hts hin hB ls hl
  have hl : lv_has ls 4 [(0, .ref hw), (1, .long (lN a))] := hl
  obtain ⟨hP, hK, hD⟩ := hB
  have hP : va_P D vCl [(hw, wkO mm vi us ex ap vp hg su mx su2 mx2 pl se en tb rd), (mm, arO dA M)] s.heap := hP
  have hD : va_D A [(hw, wkO mm vi us ex ap vp hg su mx su2 mx2 pl se en tb rd), (mm, arO dA M)] := hD
  have hS : va_S A s.heap s.heap [] := va_S.rf
  refine lv_aload_n hx hb dX1_fetch_0 rfl (lv_at hl 0 rfl) ?_
  refine lv_lload_n hx hb dX1_fetch_1 rfl (lv_at hl 1 rfl) ?_
  refine pcall (va_runV (As := [.long (lN a)]) (rest := []) ⟨hx, hb, hml, hown, hts⟩ (m_isInside l D hw mm dA M vi us ex ap vp hg su mx su2 mx2 pl se en tb rd a (by omega)) (cwV 1 hts (lw_V q184 q186 qs5 q20 q187) rfl rfl rfl (by decide +kernel) ⟨Nat.le_of_ble_eq_true rfl, Nat.le_of_ble_eq_true rfl⟩) (pR_V hK hP 0 rfl rfl) rfl rfl hl.1 rfl (lv_room (Nat.le_of_ble_eq_true rfl)) dX1_fetch_2 ⟨Nat.le_refl _, Nat.le_refl _⟩) ?_
  refine lv_istore_n (lv' := [(3, .int (bI (decide (a < 262144)))), (0, .ref hw), (1, .long (lN a))]) hx hb dX1_fetch_5 rfl hl (by decide) rfl (fun ls hl => ?_)
  refine lv_iload_n hx hb dX1_fetch_6 rfl (lv_at hl 0 rfl) ?_
  refine lv_if_eq (tgt := 40) hx hb dX1_fetch_7 (by decide) (fun c_1 => ?_) (fun c_1 => ?_)
  · skip
    have c_1 := of_decide_eq_false ((bI_z _).mp c_1)
    refine lv_iload_n hx hb dX1_fetch_40 rfl (lv_at hl 0 rfl) ?_
    exact grz (rfl) ((pl, se, en, tb, rd)) (⟨rfl, _, _, rfl, fun z => absurd z c_1⟩) hP hS hx hb hr hlocks dX1_fetch_41
  · skip
    have c_1 := of_decide_eq_true ((bI_n _).mp c_1)
    refine lv_aload_n hx hb dX1_fetch_10 rfl (lv_at hl 1 rfl) ?_
    refine lv_aload_n hx hb dX1_fetch_11 rfl (lv_at hl 1 rfl) ?_
    refine va_get (D := D) (ci := 1) (v := .ref mm) (C := RX1) (T := TX1) (N := 16) hx hb hts in_X1 hown hK hP 0 rfl rfl 0 (by decide) (hts _ q37) (fun _ h9 => h9) rfl dX1_fetch_12 ?_
    refine lv_lload_n hx hb dX1_fetch_15 rfl (lv_at hl 2 rfl) ?_
    refine lv_iconst (v := 2) hx hb dX1_fetch_16 (by decide) ?_
    refine lv_lshr hx hb dX1_fetch_17 rfl ?_
    refine tpl (y := lN (a / 4)) (sh2 (by omega)) ?_
    refine lv_l2i hx hb dX1_fetch_18 rfl ?_
    refine tpi (y := nI (a / 4)) (lN_i _) ?_
    refine va_iald hx hb hK hP 1 0 rfl rfl (vp_in_nI (by omega) (by decide)) dX1_fetch_19 ?_
    refine tpi (y := M (a / 4)) (by rw [nI_clamp (by omega)]) ?_
    refine va_put (D := D) (ci := 1) (v := .int (M (a / 4))) (ty := .int) (C := RX1) (T := TX1) (N := 16) hx hb hts in_X1 tyX1 tyX1_ok nmX1 hown hK hP hD hS 0 rfl rfl 15 (by decide) (hts _ q65) (fun _ h9 => h9) rfl (by decide +kernel) rfl rfl (Nat.le_of_ble_eq_true rfl) dX1_fetch_20 (fun H locs hP hD hS => ?_)
    have hP : va_P D vCl [(hw, wkO mm vi us ex ap vp hg su mx su2 mx2 pl se en tb (M (a / 4))), (mm, arO dA M)] H := hP
    have hD : va_D A [(hw, wkO mm vi us ex ap vp hg su mx su2 mx2 pl se en tb (M (a / 4))), (mm, arO dA M)] := hD
    refine lv_aload_n hx hb dX1_fetch_23 rfl (lv_at hl 1 rfl) ?_
    refine lv_dup hx hb dX1_fetch_24 rfl ?_
    refine va_get (D := D) (ci := 1) (v := .long tb) (C := RX1) (T := TX1) (N := 16) hx hb hts in_X1 hown hK hP 0 rfl rfl 14 (by decide) (hts _ q64) (fun _ h9 => h9) rfl dX1_fetch_25 ?_
    refine lv_lconst (v := 1) hx hb dX1_fetch_28 (by decide) ?_
    refine lv_lload_n hx hb dX1_fetch_29 rfl (lv_at hl 2 rfl) ?_
    refine lv_ldc2 hx hb hown (hts _ q163) dX1_fetch_30 ?_
    refine lv_ldiv hx hb dX1_fetch_33 (by decide) ?_
    refine lv_l2i hx hb dX1_fetch_34 rfl ?_
    refine lv_lshl hx hb dX1_fetch_35 rfl ?_
    refine lv_lor hx hb dX1_fetch_36 ?_
    refine lv_topl (fun tb1 e_tb1 => ?_)
    refine va_put (D := D) (ci := 1) (v := .long tb1) (ty := .long) (C := RX1) (T := TX1) (N := 16) hx hb hts in_X1 tyX1 tyX1_ok nmX1 hown hK hP hD hS 0 rfl rfl 14 (by decide) (hts _ q64) (fun _ h9 => h9) rfl (by decide +kernel) rfl rfl (Nat.le_of_ble_eq_true rfl) dX1_fetch_37 (fun H locs hP hD hS => ?_)
    have hP : va_P D vCl [(hw, wkO mm vi us ex ap vp hg su mx su2 mx2 pl se en tb1 (M (a / 4))), (mm, arO dA M)] H := hP
    have hD : va_D A [(hw, wkO mm vi us ex ap vp hg su mx su2 mx2 pl se en tb1 (M (a / 4))), (mm, arO dA M)] := hD
    refine lv_iload_n hx hb dX1_fetch_40 rfl (lv_at hl 0 rfl) ?_
    exact grz (rfl) ((pl, se, en, tb1, M (a / 4))) (⟨rfl, _, _, rfl, fun _ => rfl⟩) hP hS hx hb hr hlocks dX1_fetch_41
end
section
/-! StageWalker$Walker: onward, read, walk, translate -/
set_option maxRecDepth 100000
theorem rt2_v (hg : Int32) : (hg &&& 4194300).toInt64 * 4096 = lN (rt2 hg) := by
  have h : hg &&& nI 4194300 = nI (tn hg &&& 4194300) := by rw [← fa_and, nI_tn]
  have hb : tn hg &&& 4194300 ≤ 4194300 := and_lt
  show (hg &&& nI 4194300).toInt64 * lN 4096 = _
  rw [h, nI_l (by omega), lN_mul]
  rfl
theorem rt2_lt (hg : Int32) : rt2 hg ≤ 17179852800 := by
  have hb : tn hg &&& 4194300 ≤ 4194300 := and_lt
  unfold rt2; omega
theorem rt1_v (r : Int32) : (r &&& 4194303).toInt64 * 4096 = lN (rt1 r) := by
  have h := pk_and r (m := 4194303) 22 (by decide)
  have hb : tn r % 2 ^ 22 < 2 ^ 22 := Nat.mod_lt _ (by decide)
  rw [h]
  show (nI (tn r % 2 ^ 22)).toInt64 * lN 4096 = _
  rw [nI_l (by omega), lN_mul]
  rfl
theorem rt1_lt (r : Int32) : rt1 r ≤ 17179865088 := by unfold rt1; omega
theorem ad22w {r fr : Nat} (h : fr < 17179869184) : lN r + 4 * ((lN fr >>> ((22 : Int32).toInt64 &&& 63)) &&& 4095) = lN (r + 4 * (fr / 4194304)) := by
  rw [sh22 (by omega)]
  have e : lN (fr / 4194304) &&& 4095 = lN (fr / 4194304) := by
    have h2 := fb_maskL (fr / 4194304) 12
    rw [Nat.mod_eq_of_lt (by omega)] at h2
    exact h2
  rw [e]
  show lN r + lN 4 * _ = _
  rw [lN_mul, lN_add]
theorem ad22 {r fr : Nat} (h : fr < 4294967296) : lN r + 4 * ((lN fr >>> ((22 : Int32).toInt64 &&& 63)) &&& 1023) = lN (r + 4 * (fr / 4194304)) := by
  rw [sh22 (by omega)]
  have e : lN (fr / 4194304) &&& 1023 = lN (fr / 4194304) := by
    have h2 := fb_maskL (fr / 4194304) 10
    rw [Nat.mod_eq_of_lt (by omega)] at h2
    exact h2
  rw [e]
  show lN r + lN 4 * _ = _
  rw [lN_mul, lN_add]
theorem ad12 {r fr : Nat} (h : fr < 17179869184) : lN r + 4 * ((lN fr >>> ((12 : Int32).toInt64 &&& 63)) &&& 1023) = lN (r + 4 * (fr / 4096 % 1024)) := by
  rw [sh12 (by omega)]
  have e : lN (fr / 4096) &&& 1023 = lN (fr / 4096 % 1024) := fb_maskL (fr / 4096) 10
  rw [e]
  show lN r + lN 4 * _ = _
  rw [lN_mul, lN_add]
theorem nb_t {b : Bool} (h : (!b) = true) : b = false := by cases b <;> first | rfl | cases h
theorem nb_f {b : Bool} (h : (!b) = false) : b = true := by cases b <;> first | rfl | cases h
section
variable {rd : Nat → Flt ⊕ Int32} {root fr : Nat} {ok : Int32 → Bool} {f g : Flt} {x x2 : Int32} {M : Nat → Int32} {hg k : Int32} {a q : Nat} {ent : Bool}
theorem wk_no (h : rd (root + 4 * (fr / 4194304)) = .inl g) : wk rd root fr ok f = .inl g := by unfold wk; rw [h]
theorem wk_tn (h : rd (root + 4 * (fr / 4194304)) = .inr x) (ht : tab x = true) (h2 : rd (tgt x + 4 * (fr / 4096 % 1024)) = .inl g) : wk rd root fr ok f = .inl g := by
  unfold wk; rw [h]; simp only [ht, if_true]; rw [h2]
theorem wk_ty (h : rd (root + 4 * (fr / 4194304)) = .inr x) (ht : tab x = true) (h2 : rd (tgt x + 4 * (fr / 4096 % 1024)) = .inr x2) : wk rd root fr ok f = if ok x2 = true then .inr (tgt x2 + fr % 4096) else .inl f := by
  unfold wk; rw [h]; simp only [ht, if_true]; rw [h2]; rfl
theorem wk_l (h : rd (root + 4 * (fr / 4194304)) = .inr x) (ht : tab x = false) : wk rd root fr ok f = if (ok x && lowz x) = true then .inr (tgt x + fr % 4194304) else .inl f := by
  unfold wk; rw [h]; simp only [ht]; rfl
theorem ldm_n (h : ¬ a < 262144) : ldm M k a = .inl (outC k, 0, false) := if_neg h
theorem ldm_y (h : a < 262144) : ldm M k a = .inr (M (a / 4)) := if_pos h
theorem rdx_f : rdx M hg k false = ldm M k := rfl
theorem rdx_t : rdx M hg k true = rd1 M hg k := rfl
theorem rd1_l (h : s2 M hg k a (ok2 false false 1) true = .inl f) : rd1 M hg k a = .inl f := by unfold rd1; rw [h]
theorem rd1_r (h : s2 M hg k a (ok2 false false 1) true = .inr q) : rd1 M hg k a = ldm M k q := by unfold rd1; rw [h]
theorem s2_ef (h : s2 M hg k a ok true = .inl f) (c : ¬ f.1 = gueC k) : f.2.2 = false := by
  rcases s2_f h with rfl | rfl
  · rfl
  · exact absurd rfl c
theorem s2_et (h : s2 M hg k a ok true = .inl f) (c : f.1 = gueC k) : f.2.2 = true := by
  rcases s2_f h with rfl | rfl
  · exact absurd c (out_gue k)
  · rfl
theorem s2_en (h : s2 M hg k a ok false = .inl f) : f.2.2 = false := by
  rcases s2_f h with rfl | rfl <;> rfl
theorem inm_n (h : ¬ a < 262144) : inm k (.inr a) = .inl (outC k, 0, false) := if_neg h
theorem inm_y (h : a < 262144) : inm k (.inr a) = .inr a := if_pos h
end
def poO (sp : Flt ⊕ Nat) (en : Bool) (r : Int32) (u : wU) : Prop := match sp with
  | .inl f => r = f.1 ∧ ¬ f.1 = 0 ∧ ∃ pl tb rd, u = (pl, lN f.2.1, en, tb, rd)
  | .inr a => r = 0 ∧ ∃ tb rd, u = (lN a, 0, en, tb, rd)
def poR (sp : Flt ⊕ Int32) (r : Int32) (u : wU) : Prop := match sp with
  | .inl f => r = f.1 ∧ ¬ f.1 = 0 ∧ ∃ pl tb rd, u = (pl, lN f.2.1, f.2.2, tb, rd)
  | .inr x => r = 0 ∧ ∃ pl tb, u = (pl, 0, false, tb, x)
def poW (sp : Flt ⊕ Nat) (r : Int32) (u : wU) : Prop := match sp with
  | .inl f => r = f.1 ∧ ¬ f.1 = 0 ∧ ∃ pl tb rd, u = (pl, lN f.2.1, f.2.2, tb, rd)
  | .inr a => r = 0 ∧ ∃ tb rd, u = (lN a, 0, false, tb, rd)
theorem poO_l {f : Flt} {en : Bool} {r : Int32} {u : wU} {pl tb : Int64} {rd : Int32} (h : r = f.1) (hn : ¬ f.1 = 0) (hu : u = (pl, lN f.2.1, en, tb, rd)) : poO (.inl f) en r u := And.intro h (And.intro hn ⟨pl, tb, rd, hu⟩)
theorem poO_r {a : Nat} {en : Bool} {r : Int32} {u : wU} {tb : Int64} {rd : Int32} (h : r = 0) (hu : u = (lN a, 0, en, tb, rd)) : poO (.inr a) en r u := And.intro h ⟨tb, rd, hu⟩
theorem poR_l {f : Flt} {r : Int32} {u : wU} {pl tb : Int64} {rd : Int32} (h : r = f.1) (hn : ¬ f.1 = 0) (hu : u = (pl, lN f.2.1, f.2.2, tb, rd)) : poR (.inl f) r u := And.intro h (And.intro hn ⟨pl, tb, rd, hu⟩)
theorem poR_r {x r : Int32} {u : wU} {pl tb : Int64} (h : r = 0) (hu : u = (pl, 0, false, tb, x)) : poR (.inr x) r u := And.intro h ⟨pl, tb, hu⟩
theorem poW_l {f : Flt} {r : Int32} {u : wU} {pl tb : Int64} {rd : Int32} (h : r = f.1) (hn : ¬ f.1 = 0) (hu : u = (pl, lN f.2.1, f.2.2, tb, rd)) : poW (.inl f) r u := And.intro h (And.intro hn ⟨pl, tb, rd, hu⟩)
theorem poW_r {a : Nat} {r : Int32} {u : wU} {tb : Int64} {rd : Int32} (h : r = 0) (hu : u = (lN a, 0, false, tb, rd)) : poW (.inr a) r u := And.intro h ⟨tb, rd, hu⟩
set_option maxHeartbeats 4000000 in
/-- onward: the second stage -/
theorem m_onward (l : Launch) (D : va_G) (hw mm : Nat) (dA : ClassId) (M : Nat → Int32) (vi us ex : Bool) (ap vp hg : Int32) (su mx su2 mx2 : Bool) (A : Nat → Prop) (pl : Int64) (en : Bool) (tb : Int64) (rd : Int32) (fr : Nat) (k2 : Int32) (fx tx : Bool) (kd : Int32) (ent : Bool) (hfr : fr < 17179869184) (hk : k3 kd) : Met l yX1_onward (ws_ yX1_onward cX1_onward 12 (some .int)) (rmX 2 45) (va_Pc [.ref hw, .long (lN fr), .int k2, .int (bI fx), .int (bI tx), .int kd] (Gx D vCl [(dA, .int)] A (wW hw mm dA M vi us ex ap vp hg su mx su2 mx2 (pl, 0, en, tb, rd)))) (GQi D vCl A (wW hw mm dA M vi us ex ap vp hg su mx su2 mx2) (poO (s2 M hg kd fr (ok2 fx tx k2) ent) en)) 0 0 A := by
  refine mst (by decide) (Nat.le_of_ble_eq_true rfl) ?_
  intro p ee s m below meth c hx hb hr hlocks hml hown hts hin hB ls hl
  have hl : lv_has ls 12 [(0, .ref hw), (1, .long (lN fr)), (3, .int k2), (4, .int (bI fx)), (5, .int (bI tx)), (6, .int kd)] := hl
  obtain ⟨hP, hK, hD, hZ⟩ := hB
  have ⟨tO, tP, tG, ⟨hZO, hTO⟩, ⟨hZP, hTP⟩, ⟨hZG, hTG⟩⟩ := hZ
  have hP : va_P D vCl [(hw, wkO mm vi us ex ap vp hg su mx su2 mx2 pl 0 en tb rd), (mm, arO dA M)] s.heap := hP
  have hD : va_D A [(hw, wkO mm vi us ex ap vp hg su mx su2 mx2 pl 0 en tb rd), (mm, arO dA M)] := hD
  have hS : va_S A s.heap s.heap [] := va_S.rf
  refine lv_aload_n hx hb dX1_onward_0 rfl (lv_at hl 0 rfl) ?_
  refine lv_lload_n hx hb dX1_onward_1 rfl (lv_at hl 1 rfl) ?_
  refine va_put (D := D) (ci := 1) (v := .long (lN fr)) (ty := .long) (C := RX1) (T := TX1) (N := 16) hx hb hts in_X1 tyX1 tyX1_ok nmX1 hown hK hP hD hS 0 rfl rfl 11 (by decide) (hts _ q58) (fun _ h9 => h9) rfl (by decide +kernel) rfl rfl (Nat.le_of_ble_eq_true rfl) dX1_onward_2 (fun H locs hP hD hS => ?_)
  have hP : va_P D vCl [(hw, wkO mm vi us ex ap vp hg su mx su2 mx2 (lN fr) 0 en tb rd), (mm, arO dA M)] H := hP
  have hD : va_D A [(hw, wkO mm vi us ex ap vp hg su mx su2 mx2 (lN fr) 0 en tb rd), (mm, arO dA M)] := hD
  refine lv_aload_n hx hb dX1_onward_5 rfl (lv_at hl 0 rfl) ?_
  refine va_get (D := D) (ci := 1) (v := .int hg) (C := RX1) (T := TX1) (N := 16) hx hb hts in_X1 hown hK hP 0 rfl rfl 6 (by decide) (hts _ q49) (fun _ h9 => h9) rfl dX1_onward_6 ?_
  refine lv_if_lt (tgt := 14) hx hb dX1_onward_9 (by decide) (fun c_1 => ?_) (fun c_1 => ?_)
  · skip
    have hs2 : s2 M hg kd fr (ok2 fx tx k2) ent = wk (ldm M kd) (rt2 hg) fr (ok2 fx tx k2) (gueC kd, fr, ent) := if_pos c_1
    have hrt := rt2_lt hg
    refine lv_aload_n hx hb dX1_onward_14 rfl (lv_at hl 0 rfl) ?_
    refine va_get (D := D) (ci := 1) (v := .int hg) (C := RX1) (T := TX1) (N := 16) hx hb hts in_X1 hown hK hP 0 rfl rfl 6 (by decide) (hts _ q49) (fun _ h9 => h9) rfl dX1_onward_15 ?_
    refine lv_ldc hx hb hown (hts _ q178) dX1_onward_18 ?_
    refine lv_iand hx hb dX1_onward_20 ?_
    refine lv_i2l hx hb dX1_onward_21 rfl ?_
    refine lv_ldc2 hx hb hown (hts _ q163) dX1_onward_22 ?_
    refine lv_lmul hx hb dX1_onward_25 ?_
    refine tpl (y := lN (rt2 hg)) (rt2_v hg) ?_
    refine lv_lstore (lv' := [(7, .long (lN (rt2 hg))), (0, .ref hw), (1, .long (lN fr)), (3, .int k2), (4, .int (bI fx)), (5, .int (bI tx)), (6, .int kd)]) hx hb dX1_onward_26 hl (by decide) rfl (fun ls hl => ?_)
    refine lv_aload_n hx hb dX1_onward_28 rfl (lv_at hl 1 rfl) ?_
    refine lv_lload hx hb dX1_onward_29 (lv_at hl 0 rfl) ?_
    refine lv_ldc2 hx hb hown (hts _ q168) dX1_onward_31 ?_
    refine lv_lload_n hx hb dX1_onward_34 rfl (lv_at hl 2 rfl) ?_
    refine lv_bipush (v := 22) hx hb dX1_onward_35 (by decide) ?_
    refine lv_lshr hx hb dX1_onward_37 rfl ?_
    refine lv_ldc2 hx hb hown (hts _ q179) dX1_onward_38 ?_
    refine lv_land hx hb dX1_onward_41 ?_
    refine lv_lmul hx hb dX1_onward_42 ?_
    refine lv_ladd hx hb dX1_onward_43 ?_
    refine tpl (y := lN (rt2 hg + 4 * (fr / 4194304))) (ad22w hfr) ?_
    refine gci (va_runV (As := [.long (lN (rt2 hg + 4 * (fr / 4194304)))]) (rest := []) ⟨hx, hb, hml, hown, hts⟩ (m_fetch l D hw mm dA M vi us ex ap vp hg su mx su2 mx2 A (lN fr) 0 en tb rd (rt2 hg + 4 * (fr / 4194304)) (by omega)) (cwV 1 hts (lw_V q180 q182 qs4 q20 q183) rfl rfl rfl (by decide +kernel) ⟨Nat.le_of_ble_eq_true rfl, Nat.le_of_ble_eq_true rfl⟩) (pM_V hK hP hD 0 rfl rfl) rfl rfl hl.1 rfl (lv_room (Nat.le_of_ble_eq_true rfl)) dX1_onward_44 ⟨Nat.le_refl _, Nat.le_refl _⟩) hS (fun _ h => h) (fun r_2 u_2 H locs po_2 hP hz_2 hk_2 hS => ?_)
    obtain ⟨rfl, tb_2, rd_2, rfl, hrd_2⟩ := po_2
    have hP : va_P D vCl [(hw, wkO mm vi us ex ap vp hg su mx su2 mx2 (lN fr) 0 en tb_2 rd_2), (mm, arO dA M)] H := hP
    have hD : va_D A [(hw, wkO mm vi us ex ap vp hg su mx su2 mx2 (lN fr) 0 en tb_2 rd_2), (mm, arO dA M)] := hD.re rfl
    refine lv_if_ne (tgt := 57) hx hb dX1_onward_47 (by decide) (fun c_3 => ?_) (fun c_3 => ?_)
    · skip
      have c_3 := of_decide_eq_true ((bI_n _).mp c_3)
      have hld_2 : ldm M kd (rt2 hg + 4 * (fr / 4194304)) = .inr rd_2 := by rw [ldm_y c_3, hrd_2 c_3]
      refine lv_aload_n hx hb dX1_onward_57 rfl (lv_at hl 1 rfl) ?_
      refine va_get (D := D) (ci := 1) (v := .int rd_2) (C := RX1) (T := TX1) (N := 16) hx hb hts in_X1 hown hK hP 0 rfl rfl 15 (by decide) (hts _ q65) (fun _ h9 => h9) rfl dX1_onward_58 ?_
      refine lv_istore (lv' := [(9, .int rd_2), (7, .long (lN (rt2 hg))), (0, .ref hw), (1, .long (lN fr)), (3, .int k2), (4, .int (bI fx)), (5, .int (bI tx)), (6, .int kd)]) hx hb dX1_onward_61 hl (by decide) rfl (fun ls hl => ?_)
      refine lv_bipush (v := 22) hx hb dX1_onward_63 (by decide) ?_
      refine lv_istore (lv' := [(10, .int 22), (9, .int rd_2), (7, .long (lN (rt2 hg))), (0, .ref hw), (1, .long (lN fr)), (3, .int k2), (4, .int (bI fx)), (5, .int (bI tx)), (6, .int kd)]) hx hb dX1_onward_65 hl (by decide) rfl (fun ls hl => ?_)
      refine lv_iload hx hb dX1_onward_67 (lv_at hl 1 rfl) ?_
      refine lv_ldc hx hb hown (hts _ q190) dX1_onward_69 ?_
      refine lv_iand hx hb dX1_onward_71 ?_
      refine jn (X := Int32) (fun x_ => F0 m 80 ls [.int x_]) (fun x_ => x_ = bI (lowz rd_2)) ?_ (fun K_4 => ?_)
      · intro x_ ex_
        have ex_ := ex_.symm
        subst ex_
        refine lv_istore (lv' := [(11, .int (bI (lowz rd_2))), (10, .int 22), (9, .int rd_2), (7, .long (lN (rt2 hg))), (0, .ref hw), (1, .long (lN fr)), (3, .int k2), (4, .int (bI fx)), (5, .int (bI tx)), (6, .int kd)]) hx hb dX1_onward_80 hl (by decide) rfl (fun ls hl => ?_)
        refine lv_iload hx hb dX1_onward_82 (lv_at hl 2 rfl) ?_
        refine pcall (va_runS (As := [.int rd_2]) (rest := []) ⟨hx, hb, hml, hown, hts⟩ (m_isTable l rd_2) (va_cwS 1 hts (lw_S q191 q192 q20 q193) rfl rfl rfl (by decide +kernel) ⟨Nat.le_of_ble_eq_true rfl, Nat.le_of_ble_eq_true rfl⟩) pT_S rfl rfl hl.1 rfl (lv_room (Nat.le_of_ble_eq_true rfl)) dX1_onward_84 ⟨Nat.le_refl _, Nat.le_refl _⟩) ?_
        refine lv_if_eq (tgt := 135) hx hb dX1_onward_87 (by decide) (fun c_5 => ?_) (fun c_5 => ?_)
        · skip
          have c_5 := (bI_z _).mp c_5
          refine lv_iload hx hb dX1_onward_135 (lv_at hl 0 rfl) ?_
          refine lv_if_eq (tgt := 169) hx hb dX1_onward_137 (by decide) (fun c_6 => ?_) (fun c_6 => ?_)
          · skip
            have c_6 := (bI_z _).mp c_6
            refine lv_aload_n hx hb dX1_onward_169 rfl (lv_at hl 4 rfl) ?_
            refine lv_lload_n hx hb dX1_onward_170 rfl (lv_at hl 5 rfl) ?_
            refine va_put (D := D) (ci := 1) (v := .long (lN fr)) (ty := .long) (C := RX1) (T := TX1) (N := 16) hx hb hts in_X1 tyX1 tyX1_ok nmX1 hown hK hP hD hS 0 rfl rfl 12 (by decide) (hts _ q60) (fun _ h9 => h9) rfl (by decide +kernel) rfl rfl (Nat.le_of_ble_eq_true rfl) dX1_onward_171 (fun H locs hP hD hS => ?_)
            have hP : va_P D vCl [(hw, wkO mm vi us ex ap vp hg su mx su2 mx2 (lN fr) (lN fr) en tb_2 rd_2), (mm, arO dA M)] H := hP
            have hD : va_D A [(hw, wkO mm vi us ex ap vp hg su mx su2 mx2 (lN fr) (lN fr) en tb_2 rd_2), (mm, arO dA M)] := hD
            refine va_gets hx hb hZG hS hown (hts _ q206) (fun _ h9 => h9) dX1_onward_174 ?_
            refine lv_iload hx hb dX1_onward_177 (lv_at hl 9 rfl) ?_
            refine va_tb hx hb hTG hS (k3_in hk) (k3_g hk) dX1_onward_179 ?_
            exact gri ((lN fr, lN fr, en, tb_2, rd_2)) (by rw [hs2, wk_l hld_2 c_5, if_neg (by simp [ok2, c_6])]; exact poO_l rfl (gue_n _) rfl) hP hS hx hb hr hlocks dX1_onward_180
          · skip
            have c_6 := (bI_n _).mp c_6
            refine lv_iload hx hb dX1_onward_140 (lv_at hl 2 rfl) ?_
            refine pcall (va_runS (As := [.int rd_2]) (rest := []) ⟨hx, hb, hml, hown, hts⟩ (m_isLeaf l rd_2) (va_cwS 1 hts (lw_S q200 q201 q20 q202) rfl rfl rfl (by decide +kernel) ⟨Nat.le_of_ble_eq_true rfl, Nat.le_of_ble_eq_true rfl⟩) pT_S rfl rfl hl.1 rfl (lv_room (Nat.le_of_ble_eq_true rfl)) dX1_onward_142 ⟨Nat.le_refl _, Nat.le_refl _⟩) ?_
            refine lv_if_eq (tgt := 169) hx hb dX1_onward_145 (by decide) (fun c_7 => ?_) (fun c_7 => ?_)
            · skip
              have c_7 := (bI_z _).mp c_7
              refine lv_aload_n hx hb dX1_onward_169 rfl (lv_at hl 4 rfl) ?_
              refine lv_lload_n hx hb dX1_onward_170 rfl (lv_at hl 5 rfl) ?_
              refine va_put (D := D) (ci := 1) (v := .long (lN fr)) (ty := .long) (C := RX1) (T := TX1) (N := 16) hx hb hts in_X1 tyX1 tyX1_ok nmX1 hown hK hP hD hS 0 rfl rfl 12 (by decide) (hts _ q60) (fun _ h9 => h9) rfl (by decide +kernel) rfl rfl (Nat.le_of_ble_eq_true rfl) dX1_onward_171 (fun H locs hP hD hS => ?_)
              have hP : va_P D vCl [(hw, wkO mm vi us ex ap vp hg su mx su2 mx2 (lN fr) (lN fr) en tb_2 rd_2), (mm, arO dA M)] H := hP
              have hD : va_D A [(hw, wkO mm vi us ex ap vp hg su mx su2 mx2 (lN fr) (lN fr) en tb_2 rd_2), (mm, arO dA M)] := hD
              refine va_gets hx hb hZG hS hown (hts _ q206) (fun _ h9 => h9) dX1_onward_174 ?_
              refine lv_iload hx hb dX1_onward_177 (lv_at hl 9 rfl) ?_
              refine va_tb hx hb hTG hS (k3_in hk) (k3_g hk) dX1_onward_179 ?_
              exact gri ((lN fr, lN fr, en, tb_2, rd_2)) (by rw [hs2, wk_l hld_2 c_5, if_neg (by simp [ok2, c_6, c_7])]; exact poO_l rfl (gue_n _) rfl) hP hS hx hb hr hlocks dX1_onward_180
            · skip
              have c_7 := (bI_n _).mp c_7
              refine lv_iload hx hb dX1_onward_148 (lv_at hl 2 rfl) ?_
              refine lv_iload_n hx hb dX1_onward_150 rfl (lv_at hl 6 rfl) ?_
              refine lv_iload hx hb dX1_onward_151 (lv_at hl 7 rfl) ?_
              refine lv_iload hx hb dX1_onward_153 (lv_at hl 8 rfl) ?_
              refine pcall (va_runS (As := [.int rd_2, .int k2, .int (bI fx), .int (bI tx)]) (rest := []) ⟨hx, hb, hml, hown, hts⟩ (m_allows l rd_2 k2 fx tx) (va_cwS 4 hts (lw_S q203 q204 q20 q205) rfl rfl rfl (by decide +kernel) ⟨Nat.le_of_ble_eq_true rfl, Nat.le_of_ble_eq_true rfl⟩) pT_S rfl rfl hl.1 rfl (lv_room (Nat.le_of_ble_eq_true rfl)) dX1_onward_155 ⟨Nat.le_refl _, Nat.le_refl _⟩) ?_
              refine lv_if_eq (tgt := 169) hx hb dX1_onward_158 (by decide) (fun c_8 => ?_) (fun c_8 => ?_)
              · skip
                have c_8 := (bI_z _).mp c_8
                refine lv_aload_n hx hb dX1_onward_169 rfl (lv_at hl 4 rfl) ?_
                refine lv_lload_n hx hb dX1_onward_170 rfl (lv_at hl 5 rfl) ?_
                refine va_put (D := D) (ci := 1) (v := .long (lN fr)) (ty := .long) (C := RX1) (T := TX1) (N := 16) hx hb hts in_X1 tyX1 tyX1_ok nmX1 hown hK hP hD hS 0 rfl rfl 12 (by decide) (hts _ q60) (fun _ h9 => h9) rfl (by decide +kernel) rfl rfl (Nat.le_of_ble_eq_true rfl) dX1_onward_171 (fun H locs hP hD hS => ?_)
                have hP : va_P D vCl [(hw, wkO mm vi us ex ap vp hg su mx su2 mx2 (lN fr) (lN fr) en tb_2 rd_2), (mm, arO dA M)] H := hP
                have hD : va_D A [(hw, wkO mm vi us ex ap vp hg su mx su2 mx2 (lN fr) (lN fr) en tb_2 rd_2), (mm, arO dA M)] := hD
                refine va_gets hx hb hZG hS hown (hts _ q206) (fun _ h9 => h9) dX1_onward_174 ?_
                refine lv_iload hx hb dX1_onward_177 (lv_at hl 9 rfl) ?_
                refine va_tb hx hb hTG hS (k3_in hk) (k3_g hk) dX1_onward_179 ?_
                exact gri ((lN fr, lN fr, en, tb_2, rd_2)) (by rw [hs2, wk_l hld_2 c_5, if_neg (by simp [ok2, c_6, c_7, c_8])]; exact poO_l rfl (gue_n _) rfl) hP hS hx hb hr hlocks dX1_onward_180
              · skip
                have c_8 := (bI_n _).mp c_8
                refine lv_iload hx hb dX1_onward_161 (lv_at hl 2 rfl) ?_
                refine lv_bipush (v := 16) hx hb dX1_onward_163 (by decide) ?_
                refine lv_iand hx hb dX1_onward_165 ?_
                refine lv_if_ne (tgt := 181) hx hb dX1_onward_166 (by decide) (fun c_9 => ?_) (fun c_9 => ?_)
                · skip
                  have c_9 := (n_16 _).mp c_9
                  refine lv_aload_n hx hb dX1_onward_181 rfl (lv_at hl 4 rfl) ?_
                  refine lv_iload hx hb dX1_onward_182 (lv_at hl 2 rfl) ?_
                  refine pcall (va_runS (As := [.int rd_2]) (rest := [.ref hw]) ⟨hx, hb, hml, hown, hts⟩ (m_target l rd_2) (va_cwS 1 hts (lw_S q197 q198 q20 q199) rfl rfl rfl (by decide +kernel) ⟨Nat.le_of_ble_eq_true rfl, Nat.le_of_ble_eq_true rfl⟩) pT_S rfl rfl hl.1 rfl (lv_room (Nat.le_of_ble_eq_true rfl)) dX1_onward_184 ⟨Nat.le_refl _, Nat.le_refl _⟩) ?_
                  refine lv_lload_n hx hb dX1_onward_187 rfl (lv_at hl 5 rfl) ?_
                  refine lv_iload hx hb dX1_onward_188 (lv_at hl 1 rfl) ?_
                  refine gci (va_runV (As := [.long (lN (tgt rd_2)), .long (lN fr), .int 22]) (rest := []) ⟨hx, hb, hml, hown, hts⟩ (m_settle l D hw mm dA M vi us ex ap vp hg su mx su2 mx2 A (lN fr) 0 en tb_2 rd_2 (tgt rd_2) fr 4194304 22 (Or.inr ⟨rfl, rfl⟩) (tgt_big c_6)) (cwV 3 hts (lw_V q208 q210 qs6 q20 q211) rfl rfl rfl (by decide +kernel) ⟨Nat.le_of_ble_eq_true rfl, Nat.le_of_ble_eq_true rfl⟩) (pM_V hK hP hD 0 rfl rfl) rfl rfl hl.1 rfl (lv_room (Nat.le_of_ble_eq_true rfl)) dX1_onward_190 ⟨Nat.le_refl _, Nat.le_refl _⟩) hS (fun _ h => h) (fun r_10 u_10 H locs po_10 hP hz_10 hk_10 hS => ?_)
                  obtain ⟨rfl, rfl⟩ := po_10
                  have hP : va_P D vCl [(hw, wkO mm vi us ex ap vp hg su mx su2 mx2 (lN (tgt rd_2 + fr % 4194304)) 0 en tb_2 rd_2), (mm, arO dA M)] H := hP
                  have hD : va_D A [(hw, wkO mm vi us ex ap vp hg su mx su2 mx2 (lN (tgt rd_2 + fr % 4194304)) 0 en tb_2 rd_2), (mm, arO dA M)] := hD.re rfl
                  exact gri ((lN (tgt rd_2 + fr % 4194304), 0, en, tb_2, rd_2)) (by rw [hs2, wk_l hld_2 c_5, if_pos (by simp [ok2, c_6, c_7, c_8, c_9])]; exact poO_r rfl rfl) hP hS hx hb hr hlocks dX1_onward_193
                · skip
                  have c_9 := (z_16 _).mp c_9
                  refine lv_aload_n hx hb dX1_onward_169 rfl (lv_at hl 4 rfl) ?_
                  refine lv_lload_n hx hb dX1_onward_170 rfl (lv_at hl 5 rfl) ?_
                  refine va_put (D := D) (ci := 1) (v := .long (lN fr)) (ty := .long) (C := RX1) (T := TX1) (N := 16) hx hb hts in_X1 tyX1 tyX1_ok nmX1 hown hK hP hD hS 0 rfl rfl 12 (by decide) (hts _ q60) (fun _ h9 => h9) rfl (by decide +kernel) rfl rfl (Nat.le_of_ble_eq_true rfl) dX1_onward_171 (fun H locs hP hD hS => ?_)
                  have hP : va_P D vCl [(hw, wkO mm vi us ex ap vp hg su mx su2 mx2 (lN fr) (lN fr) en tb_2 rd_2), (mm, arO dA M)] H := hP
                  have hD : va_D A [(hw, wkO mm vi us ex ap vp hg su mx su2 mx2 (lN fr) (lN fr) en tb_2 rd_2), (mm, arO dA M)] := hD
                  refine va_gets hx hb hZG hS hown (hts _ q206) (fun _ h9 => h9) dX1_onward_174 ?_
                  refine lv_iload hx hb dX1_onward_177 (lv_at hl 9 rfl) ?_
                  refine va_tb hx hb hTG hS (k3_in hk) (k3_g hk) dX1_onward_179 ?_
                  exact gri ((lN fr, lN fr, en, tb_2, rd_2)) (by rw [hs2, wk_l hld_2 c_5, if_neg (by simp [ok2, c_6, c_7, c_8, c_9])]; exact poO_l rfl (gue_n _) rfl) hP hS hx hb hr hlocks dX1_onward_180
        · skip
          have c_5 := (bI_n _).mp c_5
          have htg := tgt_lt rd_2
          refine lv_aload_n hx hb dX1_onward_90 rfl (lv_at hl 4 rfl) ?_
          refine lv_iload hx hb dX1_onward_91 (lv_at hl 2 rfl) ?_
          refine pcall (va_runS (As := [.int rd_2]) (rest := [.ref hw]) ⟨hx, hb, hml, hown, hts⟩ (m_target l rd_2) (va_cwS 1 hts (lw_S q197 q198 q20 q199) rfl rfl rfl (by decide +kernel) ⟨Nat.le_of_ble_eq_true rfl, Nat.le_of_ble_eq_true rfl⟩) pT_S rfl rfl hl.1 rfl (lv_room (Nat.le_of_ble_eq_true rfl)) dX1_onward_93 ⟨Nat.le_refl _, Nat.le_refl _⟩) ?_
          refine lv_ldc2 hx hb hown (hts _ q168) dX1_onward_96 ?_
          refine lv_lload_n hx hb dX1_onward_99 rfl (lv_at hl 5 rfl) ?_
          refine lv_bipush (v := 12) hx hb dX1_onward_100 (by decide) ?_
          refine lv_lshr hx hb dX1_onward_102 rfl ?_
          refine lv_ldc2 hx hb hown (hts _ q169) dX1_onward_103 ?_
          refine lv_land hx hb dX1_onward_106 ?_
          refine lv_lmul hx hb dX1_onward_107 ?_
          refine lv_ladd hx hb dX1_onward_108 ?_
          refine tpl (y := lN (tgt rd_2 + 4 * (fr / 4096 % 1024))) (ad12 hfr) ?_
          refine gci (va_runV (As := [.long (lN (tgt rd_2 + 4 * (fr / 4096 % 1024)))]) (rest := []) ⟨hx, hb, hml, hown, hts⟩ (m_fetch l D hw mm dA M vi us ex ap vp hg su mx su2 mx2 A (lN fr) 0 en tb_2 rd_2 (tgt rd_2 + 4 * (fr / 4096 % 1024)) (by omega)) (cwV 1 hts (lw_V q180 q182 qs4 q20 q183) rfl rfl rfl (by decide +kernel) ⟨Nat.le_of_ble_eq_true rfl, Nat.le_of_ble_eq_true rfl⟩) (pM_V hK hP hD 0 rfl rfl) rfl rfl hl.1 rfl (lv_room (Nat.le_of_ble_eq_true rfl)) dX1_onward_109 ⟨Nat.le_refl _, Nat.le_refl _⟩) hS (fun _ h => h) (fun r_11 u_11 H locs po_11 hP hz_11 hk_11 hS => ?_)
          obtain ⟨rfl, tb_11, rd_11, rfl, hrd_11⟩ := po_11
          have hP : va_P D vCl [(hw, wkO mm vi us ex ap vp hg su mx su2 mx2 (lN fr) 0 en tb_11 rd_11), (mm, arO dA M)] H := hP
          have hD : va_D A [(hw, wkO mm vi us ex ap vp hg su mx su2 mx2 (lN fr) 0 en tb_11 rd_11), (mm, arO dA M)] := hD.re rfl
          refine lv_if_ne (tgt := 122) hx hb dX1_onward_112 (by decide) (fun c_12 => ?_) (fun c_12 => ?_)
          · skip
            have c_12 := of_decide_eq_true ((bI_n _).mp c_12)
            have hld_11 : ldm M kd (tgt rd_2 + 4 * (fr / 4096 % 1024)) = .inr rd_11 := by rw [ldm_y c_12, hrd_11 c_12]
            refine lv_aload_n hx hb dX1_onward_122 rfl (lv_at hl 4 rfl) ?_
            refine va_get (D := D) (ci := 1) (v := .int rd_11) (C := RX1) (T := TX1) (N := 16) hx hb hts in_X1 hown hK hP 0 rfl rfl 15 (by decide) (hts _ q65) (fun _ h9 => h9) rfl dX1_onward_123 ?_
            refine lv_istore (lv' := [(9, .int rd_11), (11, .int (bI (lowz rd_2))), (10, .int 22), (7, .long (lN (rt2 hg))), (0, .ref hw), (1, .long (lN fr)), (3, .int k2), (4, .int (bI fx)), (5, .int (bI tx)), (6, .int kd)]) hx hb dX1_onward_126 hl (by decide) rfl (fun ls hl => ?_)
            refine lv_bipush (v := 12) hx hb dX1_onward_128 (by decide) ?_
            refine lv_istore (lv' := [(10, .int 12), (9, .int rd_11), (11, .int (bI (lowz rd_2))), (7, .long (lN (rt2 hg))), (0, .ref hw), (1, .long (lN fr)), (3, .int k2), (4, .int (bI fx)), (5, .int (bI tx)), (6, .int kd)]) hx hb dX1_onward_130 hl (by decide) rfl (fun ls hl => ?_)
            refine lv_iconst (v := 1) hx hb dX1_onward_132 (by decide) ?_
            refine lv_istore (lv' := [(11, .int 1), (10, .int 12), (9, .int rd_11), (7, .long (lN (rt2 hg))), (0, .ref hw), (1, .long (lN fr)), (3, .int k2), (4, .int (bI fx)), (5, .int (bI tx)), (6, .int kd)]) hx hb dX1_onward_133 hl (by decide) rfl (fun ls hl => ?_)
            refine lv_iload hx hb dX1_onward_135 (lv_at hl 0 rfl) ?_
            refine lv_if_eq (tgt := 169) hx hb dX1_onward_137 (by decide) (fun c_13 => absurd c_13 (by decide)) (fun c_13 => ?_)
            refine lv_iload hx hb dX1_onward_140 (lv_at hl 2 rfl) ?_
            refine pcall (va_runS (As := [.int rd_11]) (rest := []) ⟨hx, hb, hml, hown, hts⟩ (m_isLeaf l rd_11) (va_cwS 1 hts (lw_S q200 q201 q20 q202) rfl rfl rfl (by decide +kernel) ⟨Nat.le_of_ble_eq_true rfl, Nat.le_of_ble_eq_true rfl⟩) pT_S rfl rfl hl.1 rfl (lv_room (Nat.le_of_ble_eq_true rfl)) dX1_onward_142 ⟨Nat.le_refl _, Nat.le_refl _⟩) ?_
            refine lv_if_eq (tgt := 169) hx hb dX1_onward_145 (by decide) (fun c_14 => ?_) (fun c_14 => ?_)
            · skip
              have c_14 := (bI_z _).mp c_14
              refine lv_aload_n hx hb dX1_onward_169 rfl (lv_at hl 4 rfl) ?_
              refine lv_lload_n hx hb dX1_onward_170 rfl (lv_at hl 5 rfl) ?_
              refine va_put (D := D) (ci := 1) (v := .long (lN fr)) (ty := .long) (C := RX1) (T := TX1) (N := 16) hx hb hts in_X1 tyX1 tyX1_ok nmX1 hown hK hP hD hS 0 rfl rfl 12 (by decide) (hts _ q60) (fun _ h9 => h9) rfl (by decide +kernel) rfl rfl (Nat.le_of_ble_eq_true rfl) dX1_onward_171 (fun H locs hP hD hS => ?_)
              have hP : va_P D vCl [(hw, wkO mm vi us ex ap vp hg su mx su2 mx2 (lN fr) (lN fr) en tb_11 rd_11), (mm, arO dA M)] H := hP
              have hD : va_D A [(hw, wkO mm vi us ex ap vp hg su mx su2 mx2 (lN fr) (lN fr) en tb_11 rd_11), (mm, arO dA M)] := hD
              refine va_gets hx hb hZG hS hown (hts _ q206) (fun _ h9 => h9) dX1_onward_174 ?_
              refine lv_iload hx hb dX1_onward_177 (lv_at hl 9 rfl) ?_
              refine va_tb hx hb hTG hS (k3_in hk) (k3_g hk) dX1_onward_179 ?_
              exact gri ((lN fr, lN fr, en, tb_11, rd_11)) (by rw [hs2, wk_ty hld_2 c_5 hld_11, if_neg (by simp [ok2, c_14])]; exact poO_l rfl (gue_n _) rfl) hP hS hx hb hr hlocks dX1_onward_180
            · skip
              have c_14 := (bI_n _).mp c_14
              refine lv_iload hx hb dX1_onward_148 (lv_at hl 2 rfl) ?_
              refine lv_iload_n hx hb dX1_onward_150 rfl (lv_at hl 6 rfl) ?_
              refine lv_iload hx hb dX1_onward_151 (lv_at hl 7 rfl) ?_
              refine lv_iload hx hb dX1_onward_153 (lv_at hl 8 rfl) ?_
              refine pcall (va_runS (As := [.int rd_11, .int k2, .int (bI fx), .int (bI tx)]) (rest := []) ⟨hx, hb, hml, hown, hts⟩ (m_allows l rd_11 k2 fx tx) (va_cwS 4 hts (lw_S q203 q204 q20 q205) rfl rfl rfl (by decide +kernel) ⟨Nat.le_of_ble_eq_true rfl, Nat.le_of_ble_eq_true rfl⟩) pT_S rfl rfl hl.1 rfl (lv_room (Nat.le_of_ble_eq_true rfl)) dX1_onward_155 ⟨Nat.le_refl _, Nat.le_refl _⟩) ?_
              refine lv_if_eq (tgt := 169) hx hb dX1_onward_158 (by decide) (fun c_15 => ?_) (fun c_15 => ?_)
              · skip
                have c_15 := (bI_z _).mp c_15
                refine lv_aload_n hx hb dX1_onward_169 rfl (lv_at hl 4 rfl) ?_
                refine lv_lload_n hx hb dX1_onward_170 rfl (lv_at hl 5 rfl) ?_
                refine va_put (D := D) (ci := 1) (v := .long (lN fr)) (ty := .long) (C := RX1) (T := TX1) (N := 16) hx hb hts in_X1 tyX1 tyX1_ok nmX1 hown hK hP hD hS 0 rfl rfl 12 (by decide) (hts _ q60) (fun _ h9 => h9) rfl (by decide +kernel) rfl rfl (Nat.le_of_ble_eq_true rfl) dX1_onward_171 (fun H locs hP hD hS => ?_)
                have hP : va_P D vCl [(hw, wkO mm vi us ex ap vp hg su mx su2 mx2 (lN fr) (lN fr) en tb_11 rd_11), (mm, arO dA M)] H := hP
                have hD : va_D A [(hw, wkO mm vi us ex ap vp hg su mx su2 mx2 (lN fr) (lN fr) en tb_11 rd_11), (mm, arO dA M)] := hD
                refine va_gets hx hb hZG hS hown (hts _ q206) (fun _ h9 => h9) dX1_onward_174 ?_
                refine lv_iload hx hb dX1_onward_177 (lv_at hl 9 rfl) ?_
                refine va_tb hx hb hTG hS (k3_in hk) (k3_g hk) dX1_onward_179 ?_
                exact gri ((lN fr, lN fr, en, tb_11, rd_11)) (by rw [hs2, wk_ty hld_2 c_5 hld_11, if_neg (by simp [ok2, c_14, c_15])]; exact poO_l rfl (gue_n _) rfl) hP hS hx hb hr hlocks dX1_onward_180
              · skip
                have c_15 := (bI_n _).mp c_15
                refine lv_iload hx hb dX1_onward_161 (lv_at hl 2 rfl) ?_
                refine lv_bipush (v := 16) hx hb dX1_onward_163 (by decide) ?_
                refine lv_iand hx hb dX1_onward_165 ?_
                refine lv_if_ne (tgt := 181) hx hb dX1_onward_166 (by decide) (fun c_16 => ?_) (fun c_16 => ?_)
                · skip
                  have c_16 := (n_16 _).mp c_16
                  refine lv_aload_n hx hb dX1_onward_181 rfl (lv_at hl 4 rfl) ?_
                  refine lv_iload hx hb dX1_onward_182 (lv_at hl 2 rfl) ?_
                  refine pcall (va_runS (As := [.int rd_11]) (rest := [.ref hw]) ⟨hx, hb, hml, hown, hts⟩ (m_target l rd_11) (va_cwS 1 hts (lw_S q197 q198 q20 q199) rfl rfl rfl (by decide +kernel) ⟨Nat.le_of_ble_eq_true rfl, Nat.le_of_ble_eq_true rfl⟩) pT_S rfl rfl hl.1 rfl (lv_room (Nat.le_of_ble_eq_true rfl)) dX1_onward_184 ⟨Nat.le_refl _, Nat.le_refl _⟩) ?_
                  refine lv_lload_n hx hb dX1_onward_187 rfl (lv_at hl 5 rfl) ?_
                  refine lv_iload hx hb dX1_onward_188 (lv_at hl 1 rfl) ?_
                  refine gci (va_runV (As := [.long (lN (tgt rd_11)), .long (lN fr), .int 12]) (rest := []) ⟨hx, hb, hml, hown, hts⟩ (m_settle l D hw mm dA M vi us ex ap vp hg su mx su2 mx2 A (lN fr) 0 en tb_11 rd_11 (tgt rd_11) fr 4096 12 (Or.inl ⟨rfl, rfl⟩) (tgt_4096 rd_11)) (cwV 3 hts (lw_V q208 q210 qs6 q20 q211) rfl rfl rfl (by decide +kernel) ⟨Nat.le_of_ble_eq_true rfl, Nat.le_of_ble_eq_true rfl⟩) (pM_V hK hP hD 0 rfl rfl) rfl rfl hl.1 rfl (lv_room (Nat.le_of_ble_eq_true rfl)) dX1_onward_190 ⟨Nat.le_refl _, Nat.le_refl _⟩) hS (fun _ h => h) (fun r_17 u_17 H locs po_17 hP hz_17 hk_17 hS => ?_)
                  obtain ⟨rfl, rfl⟩ := po_17
                  have hP : va_P D vCl [(hw, wkO mm vi us ex ap vp hg su mx su2 mx2 (lN (tgt rd_11 + fr % 4096)) 0 en tb_11 rd_11), (mm, arO dA M)] H := hP
                  have hD : va_D A [(hw, wkO mm vi us ex ap vp hg su mx su2 mx2 (lN (tgt rd_11 + fr % 4096)) 0 en tb_11 rd_11), (mm, arO dA M)] := hD.re rfl
                  exact gri ((lN (tgt rd_11 + fr % 4096), 0, en, tb_11, rd_11)) (by rw [hs2, wk_ty hld_2 c_5 hld_11, if_pos (by simp [ok2, c_14, c_15, c_16])]; exact poO_r rfl rfl) hP hS hx hb hr hlocks dX1_onward_193
                · skip
                  have c_16 := (z_16 _).mp c_16
                  refine lv_aload_n hx hb dX1_onward_169 rfl (lv_at hl 4 rfl) ?_
                  refine lv_lload_n hx hb dX1_onward_170 rfl (lv_at hl 5 rfl) ?_
                  refine va_put (D := D) (ci := 1) (v := .long (lN fr)) (ty := .long) (C := RX1) (T := TX1) (N := 16) hx hb hts in_X1 tyX1 tyX1_ok nmX1 hown hK hP hD hS 0 rfl rfl 12 (by decide) (hts _ q60) (fun _ h9 => h9) rfl (by decide +kernel) rfl rfl (Nat.le_of_ble_eq_true rfl) dX1_onward_171 (fun H locs hP hD hS => ?_)
                  have hP : va_P D vCl [(hw, wkO mm vi us ex ap vp hg su mx su2 mx2 (lN fr) (lN fr) en tb_11 rd_11), (mm, arO dA M)] H := hP
                  have hD : va_D A [(hw, wkO mm vi us ex ap vp hg su mx su2 mx2 (lN fr) (lN fr) en tb_11 rd_11), (mm, arO dA M)] := hD
                  refine va_gets hx hb hZG hS hown (hts _ q206) (fun _ h9 => h9) dX1_onward_174 ?_
                  refine lv_iload hx hb dX1_onward_177 (lv_at hl 9 rfl) ?_
                  refine va_tb hx hb hTG hS (k3_in hk) (k3_g hk) dX1_onward_179 ?_
                  exact gri ((lN fr, lN fr, en, tb_11, rd_11)) (by rw [hs2, wk_ty hld_2 c_5 hld_11, if_neg (by simp [ok2, c_14, c_15, c_16])]; exact poO_l rfl (gue_n _) rfl) hP hS hx hb hr hlocks dX1_onward_180
          · skip
            have c_12 := of_decide_eq_false ((bI_z _).mp c_12)
            refine va_gets hx hb hZO hS hown (hts _ q188) (fun _ h9 => h9) dX1_onward_115 ?_
            refine lv_iload hx hb dX1_onward_118 (lv_at hl 9 rfl) ?_
            refine va_tb hx hb hTO hS (k3_in hk) (k3_o hk) dX1_onward_120 ?_
            exact gri ((lN fr, 0, en, tb_11, rd_11)) (by rw [hs2, wk_tn hld_2 c_5 (ldm_n c_12)]; exact poO_l rfl (out_n _) rfl) hP hS hx hb hr hlocks dX1_onward_121
      · skip
        refine lv_if_ne (tgt := 79) hx hb dX1_onward_72 (by decide) (fun c_18 => ?_) (fun c_18 => ?_)
        · skip
          have c_18 := (n_low _).mp c_18
          refine lv_iconst (v := 0) hx hb dX1_onward_79 (by decide) ?_
          exact K_4 _ (by simp [bI, c_18])
        · skip
          have c_18 := (z_low _).mp c_18
          refine lv_iconst (v := 1) hx hb dX1_onward_75 (by decide) ?_
          refine lv_goto (tgt := 80) hx hb dX1_onward_76 (by decide) ?_
          exact K_4 _ (by simp [bI, c_18])
    · skip
      have c_3 := of_decide_eq_false ((bI_z _).mp c_3)
      refine va_gets hx hb hZO hS hown (hts _ q188) (fun _ h9 => h9) dX1_onward_50 ?_
      refine lv_iload hx hb dX1_onward_53 (lv_at hl 6 rfl) ?_
      refine va_tb hx hb hTO hS (k3_in hk) (k3_o hk) dX1_onward_55 ?_
      exact gri ((lN fr, 0, en, tb_2, rd_2)) (by rw [hs2, wk_no (ldm_n c_3)]; exact poO_l rfl (out_n _) rfl) hP hS hx hb hr hlocks dX1_onward_56
  · skip
    refine lv_iconst (v := 0) hx hb dX1_onward_12 (by decide) ?_
    exact gri ((lN fr, 0, en, tb, rd)) (by unfold s2; rw [if_neg c_1]; exact poO_r rfl rfl) hP hS hx hb hr hlocks dX1_onward_13
end
section
/-! StageWalker$Walker: read, walk -/
set_option maxRecDepth 100000
set_option maxHeartbeats 4000000 in
/-- read: an entry of the first stage -/
theorem m_read (l : Launch) (D : va_G) (hw mm : Nat) (dA : ClassId) (M : Nat → Int32) (vi us ex : Bool) (ap vp hg : Int32) (su mx su2 mx2 : Bool) (A : Nat → Prop) (pl : Int64) (tb : Int64) (rd : Int32) (a : Nat) (kd : Int32) (rv : Bool) (ha : a < 17179869184) (hk : k3 kd) : Met l yX1_read (ws_ yX1_read cX1_read 8 (some .int)) (rmX 3 76) (va_Pc [.ref hw, .long (lN a), .int kd, .int (bI (!rv))] (Gx D vCl [(dA, .int)] A (wW hw mm dA M vi us ex ap vp hg su mx su2 mx2 (pl, 0, false, tb, rd)))) (GQi D vCl A (wW hw mm dA M vi us ex ap vp hg su mx su2 mx2) (poR (rdx M hg kd rv a))) 0 0 A := by
  refine mst (by decide) (Nat.le_of_ble_eq_true rfl) ?_
  intro p ee s m below meth c hx hb hr hlocks hml hown hts hin hB ls hl
  have hl : lv_has ls 8 [(0, .ref hw), (1, .long (lN a)), (3, .int kd), (4, .int (bI (!rv)))] := hl
  obtain ⟨hP, hK, hD, hZ⟩ := hB
  have ⟨tO, tP, tG, ⟨hZO, hTO⟩, ⟨hZP, hTP⟩, ⟨hZG, hTG⟩⟩ := hZ
  have hP : va_P D vCl [(hw, wkO mm vi us ex ap vp hg su mx su2 mx2 pl 0 false tb rd), (mm, arO dA M)] s.heap := hP
  have hD : va_D A [(hw, wkO mm vi us ex ap vp hg su mx su2 mx2 pl 0 false tb rd), (mm, arO dA M)] := hD
  have hS : va_S A s.heap s.heap [] := va_S.rf
  refine lv_lload_n hx hb dX1_read_0 rfl (lv_at hl 1 rfl) ?_
  refine lv_lstore (lv' := [(5, .long (lN a)), (0, .ref hw), (1, .long (lN a)), (3, .int kd), (4, .int (bI (!rv)))]) hx hb dX1_read_1 hl (by decide) rfl (fun ls hl => ?_)
  refine lv_iload hx hb dX1_read_3 (lv_at hl 4 rfl) ?_
  refine lv_if_ne (tgt := 52) hx hb dX1_read_5 (by decide) (fun c_1 => ?_) (fun c_1 => ?_)
  · skip
    have c_1 := nb_t ((bI_n _).mp c_1)
    have hrx : rdx M hg kd rv a = ldm M kd a := by rw [c_1]; rfl
    refine lv_aload_n hx hb dX1_read_52 rfl (lv_at hl 1 rfl) ?_
    refine lv_lload hx hb dX1_read_53 (lv_at hl 0 rfl) ?_
    refine gci (va_runV (As := [.long (lN a)]) (rest := []) ⟨hx, hb, hml, hown, hts⟩ (m_fetch l D hw mm dA M vi us ex ap vp hg su mx su2 mx2 A pl 0 false tb rd a (by omega)) (cwV 1 hts (lw_V q180 q182 qs4 q20 q183) rfl rfl rfl (by decide +kernel) ⟨Nat.le_of_ble_eq_true rfl, Nat.le_of_ble_eq_true rfl⟩) (pM_V hK hP hD 0 rfl rfl) rfl rfl hl.1 rfl (lv_room (Nat.le_of_ble_eq_true rfl)) dX1_read_55 ⟨Nat.le_refl _, Nat.le_refl _⟩) hS (fun _ h => h) (fun r_2 u_2 H locs po_2 hP hz_2 hk_2 hS => ?_)
    obtain ⟨rfl, tb_2, rd_2, rfl, hrd_2⟩ := po_2
    have hP : va_P D vCl [(hw, wkO mm vi us ex ap vp hg su mx su2 mx2 pl 0 false tb_2 rd_2), (mm, arO dA M)] H := hP
    have hD : va_D A [(hw, wkO mm vi us ex ap vp hg su mx su2 mx2 pl 0 false tb_2 rd_2), (mm, arO dA M)] := hD.re rfl
    refine lv_if_eq (tgt := 65) hx hb dX1_read_58 (by decide) (fun c_3 => ?_) (fun c_3 => ?_)
    · skip
      have c_3 := of_decide_eq_false ((bI_z _).mp c_3)
      refine va_gets hx hb hZO hS hown (hts _ q188) (fun _ h9 => h9) dX1_read_65 ?_
      refine lv_iload_n hx hb dX1_read_68 rfl (lv_at hl 3 rfl) ?_
      refine va_tb hx hb hTO hS (k3_in hk) (k3_o hk) dX1_read_69 ?_
      exact gri ((pl, 0, false, tb_2, rd_2)) (by rw [hrx, ldm_n c_3]; exact poR_l rfl (out_n _) rfl) hP hS hx hb hr hlocks dX1_read_70
    · skip
      have c_3 := of_decide_eq_true ((bI_n _).mp c_3)
      refine lv_iconst (v := 0) hx hb dX1_read_61 (by decide) ?_
      refine lv_goto (tgt := 70) hx hb dX1_read_62 (by decide) ?_
      exact gri ((pl, 0, false, tb_2, rd_2)) (by rw [hrx, ldm_y c_3]; exact poR_r rfl (by rw [hrd_2 c_3])) hP hS hx hb hr hlocks dX1_read_70
  · skip
    have c_1 := nb_f ((bI_z _).mp c_1)
    have hrx : rdx M hg kd rv a = rd1 M hg kd a := by rw [c_1]; rfl
    refine lv_aload_n hx hb dX1_read_8 rfl (lv_at hl 1 rfl) ?_
    refine lv_lload_n hx hb dX1_read_9 rfl (lv_at hl 2 rfl) ?_
    refine lv_iconst (v := 1) hx hb dX1_read_10 (by decide) ?_
    refine lv_iconst (v := 0) hx hb dX1_read_11 (by decide) ?_
    refine lv_iconst (v := 0) hx hb dX1_read_12 (by decide) ?_
    refine lv_iload_n hx hb dX1_read_13 rfl (lv_at hl 3 rfl) ?_
    refine gci (va_runV (As := [.long (lN a), .int 1, .int 0, .int 0, .int kd]) (rest := []) ⟨hx, hb, hml, hown, hts⟩ (m_onward l D hw mm dA M vi us ex ap vp hg su mx su2 mx2 A pl false tb rd a 1 false false kd true (by omega) hk) (cwV 5 hts (lw_V q174 q176 qs3 q20 q177) rfl rfl rfl (by decide +kernel) ⟨Nat.le_of_ble_eq_true rfl, Nat.le_of_ble_eq_true rfl⟩) (pX_V hK hP hD hZ hS 0 rfl rfl) rfl rfl hl.1 rfl (lv_room (Nat.le_of_ble_eq_true rfl)) dX1_read_14 ⟨Nat.le_refl _, Nat.le_refl _⟩) hS (fun _ h => h) (fun r_4 u_4 H locs po_4 hP hz_4 hk_4 hS => ?_)
    rcases hs_4 : s2 M hg kd a (ok2 false false 1) true with f_4 | q_4
    · skip
      rw [hs_4] at po_4
      obtain ⟨rfl, hn_4, pl_4, tb_4, rd_4, rfl⟩ := po_4
      have hP : va_P D vCl [(hw, wkO mm vi us ex ap vp hg su mx su2 mx2 pl_4 (lN f_4.2.1) false tb_4 rd_4), (mm, arO dA M)] H := hP
      have hD : va_D A [(hw, wkO mm vi us ex ap vp hg su mx su2 mx2 pl_4 (lN f_4.2.1) false tb_4 rd_4), (mm, arO dA M)] := hD.re rfl
      refine lv_istore (lv' := [(7, .int f_4.1), (5, .long (lN a)), (0, .ref hw), (1, .long (lN a)), (3, .int kd), (4, .int (bI (!rv)))]) hx hb dX1_read_17 hl (by decide) rfl (fun ls hl => ?_)
      refine lv_iload hx hb dX1_read_19 (lv_at hl 0 rfl) ?_
      refine lv_if_eq (tgt := 46) hx hb dX1_read_21 (by decide) (fun c_5 => absurd c_5 hn_4) (fun c_5 => ?_)
      refine lv_aload_n hx hb dX1_read_24 rfl (lv_at hl 2 rfl) ?_
      refine lv_iload hx hb dX1_read_25 (lv_at hl 0 rfl) ?_
      refine va_gets hx hb hZG hS hown (hts _ q206) (fun _ h9 => h9) dX1_read_27 ?_
      refine lv_iload_n hx hb dX1_read_30 rfl (lv_at hl 4 rfl) ?_
      refine va_tb hx hb hTG hS (k3_in hk) (k3_g hk) dX1_read_31 ?_
      refine lv_icmp_ne (tgt := 39) hx hb dX1_read_32 (by decide) (fun c_6 => ?_) (fun c_6 => ?_)
      · skip
        refine lv_iconst (v := 0) hx hb dX1_read_39 (by decide) ?_
        refine va_put (D := D) (ci := 1) (v := .int 0) (ty := .boolean) (C := RX1) (T := TX1) (N := 16) hx hb hts in_X1 tyX1 tyX1_ok nmX1 hown hK hP hD hS 0 rfl rfl 13 (by decide) (hts _ q62) (fun _ h9 => h9) rfl (by decide +kernel) rfl rfl (Nat.le_of_ble_eq_true rfl) dX1_read_40 (fun H locs hP hD hS => ?_)
        have hP : va_P D vCl [(hw, wkO mm vi us ex ap vp hg su mx su2 mx2 pl_4 (lN f_4.2.1) false tb_4 rd_4), (mm, arO dA M)] H := hP
        have hD : va_D A [(hw, wkO mm vi us ex ap vp hg su mx su2 mx2 pl_4 (lN f_4.2.1) false tb_4 rd_4), (mm, arO dA M)] := hD
        refine lv_iload hx hb dX1_read_43 (lv_at hl 0 rfl) ?_
        exact gri ((pl_4, lN f_4.2.1, false, tb_4, rd_4)) (by rw [hrx, rd1_l hs_4]; exact poR_l rfl hn_4 (by rw [s2_ef hs_4 c_6])) hP hS hx hb hr hlocks dX1_read_45
      · skip
        refine lv_iconst (v := 1) hx hb dX1_read_35 (by decide) ?_
        refine lv_goto (tgt := 40) hx hb dX1_read_36 (by decide) ?_
        refine va_put (D := D) (ci := 1) (v := .int 1) (ty := .boolean) (C := RX1) (T := TX1) (N := 16) hx hb hts in_X1 tyX1 tyX1_ok nmX1 hown hK hP hD hS 0 rfl rfl 13 (by decide) (hts _ q62) (fun _ h9 => h9) rfl (by decide +kernel) rfl rfl (Nat.le_of_ble_eq_true rfl) dX1_read_40 (fun H locs hP hD hS => ?_)
        have hP : va_P D vCl [(hw, wkO mm vi us ex ap vp hg su mx su2 mx2 pl_4 (lN f_4.2.1) true tb_4 rd_4), (mm, arO dA M)] H := hP
        have hD : va_D A [(hw, wkO mm vi us ex ap vp hg su mx su2 mx2 pl_4 (lN f_4.2.1) true tb_4 rd_4), (mm, arO dA M)] := hD
        refine lv_iload hx hb dX1_read_43 (lv_at hl 0 rfl) ?_
        exact gri ((pl_4, lN f_4.2.1, true, tb_4, rd_4)) (by rw [hrx, rd1_l hs_4]; exact poR_l rfl hn_4 (by rw [s2_et hs_4 c_6])) hP hS hx hb hr hlocks dX1_read_45
    · skip
      rw [hs_4] at po_4
      obtain ⟨rfl, tb_4, rd_4, rfl⟩ := po_4
      have hq_4 := s2_lt (by omega) hs_4
      have hP : va_P D vCl [(hw, wkO mm vi us ex ap vp hg su mx su2 mx2 (lN q_4) 0 false tb_4 rd_4), (mm, arO dA M)] H := hP
      have hD : va_D A [(hw, wkO mm vi us ex ap vp hg su mx su2 mx2 (lN q_4) 0 false tb_4 rd_4), (mm, arO dA M)] := hD.re rfl
      refine lv_istore (lv' := [(7, .int 0), (5, .long (lN a)), (0, .ref hw), (1, .long (lN a)), (3, .int kd), (4, .int (bI (!rv)))]) hx hb dX1_read_17 hl (by decide) rfl (fun ls hl => ?_)
      refine lv_iload hx hb dX1_read_19 (lv_at hl 0 rfl) ?_
      refine lv_if_eq (tgt := 46) hx hb dX1_read_21 (by decide) (fun c_7 => ?_) (fun c_7 => absurd c_7 (by decide))
      refine lv_aload_n hx hb dX1_read_46 rfl (lv_at hl 2 rfl) ?_
      refine va_get (D := D) (ci := 1) (v := .long (lN q_4)) (C := RX1) (T := TX1) (N := 16) hx hb hts in_X1 hown hK hP 0 rfl rfl 11 (by decide) (hts _ q58) (fun _ h9 => h9) rfl dX1_read_47 ?_
      refine lv_lstore (lv' := [(5, .long (lN q_4)), (7, .int 0), (0, .ref hw), (1, .long (lN a)), (3, .int kd), (4, .int (bI (!rv)))]) hx hb dX1_read_50 hl (by decide) rfl (fun ls hl => ?_)
      refine lv_aload_n hx hb dX1_read_52 rfl (lv_at hl 2 rfl) ?_
      refine lv_lload hx hb dX1_read_53 (lv_at hl 0 rfl) ?_
      refine gci (va_runV (As := [.long (lN q_4)]) (rest := []) ⟨hx, hb, hml, hown, hts⟩ (m_fetch l D hw mm dA M vi us ex ap vp hg su mx su2 mx2 A (lN q_4) 0 false tb_4 rd_4 q_4 (by omega)) (cwV 1 hts (lw_V q180 q182 qs4 q20 q183) rfl rfl rfl (by decide +kernel) ⟨Nat.le_of_ble_eq_true rfl, Nat.le_of_ble_eq_true rfl⟩) (pM_V hK hP hD 0 rfl rfl) rfl rfl hl.1 rfl (lv_room (Nat.le_of_ble_eq_true rfl)) dX1_read_55 ⟨Nat.le_refl _, Nat.le_refl _⟩) hS (fun _ h => h) (fun r_8 u_8 H locs po_8 hP hz_8 hk_8 hS => ?_)
      obtain ⟨rfl, tb_8, rd_8, rfl, hrd_8⟩ := po_8
      have hP : va_P D vCl [(hw, wkO mm vi us ex ap vp hg su mx su2 mx2 (lN q_4) 0 false tb_8 rd_8), (mm, arO dA M)] H := hP
      have hD : va_D A [(hw, wkO mm vi us ex ap vp hg su mx su2 mx2 (lN q_4) 0 false tb_8 rd_8), (mm, arO dA M)] := hD.re rfl
      refine lv_if_eq (tgt := 65) hx hb dX1_read_58 (by decide) (fun c_9 => ?_) (fun c_9 => ?_)
      · skip
        have c_9 := of_decide_eq_false ((bI_z _).mp c_9)
        refine va_gets hx hb hZO hS hown (hts _ q188) (fun _ h9 => h9) dX1_read_65 ?_
        refine lv_iload_n hx hb dX1_read_68 rfl (lv_at hl 4 rfl) ?_
        refine va_tb hx hb hTO hS (k3_in hk) (k3_o hk) dX1_read_69 ?_
        exact gri ((lN q_4, 0, false, tb_8, rd_8)) (by rw [hrx, rd1_r hs_4, ldm_n c_9]; exact poR_l rfl (out_n _) rfl) hP hS hx hb hr hlocks dX1_read_70
      · skip
        have c_9 := of_decide_eq_true ((bI_n _).mp c_9)
        refine lv_iconst (v := 0) hx hb dX1_read_61 (by decide) ?_
        refine lv_goto (tgt := 70) hx hb dX1_read_62 (by decide) ?_
        exact gri ((lN q_4, 0, false, tb_8, rd_8)) (by rw [hrx, rd1_r hs_4, ldm_y c_9]; exact poR_r rfl (by rw [hrd_8 c_9])) hP hS hx hb hr hlocks dX1_read_70
theorem ok_lz {a b : Bool} (h : (a && b) = true) : b = true := by cases a <;> cases b <;> first | rfl | cases h
set_option maxHeartbeats 4000000 in
/-- walk: the first stage -/
theorem m_walk (l : Launch) (D : va_G) (hw mm : Nat) (dA : ClassId) (M : Nat → Int32) (vi us ex : Bool) (ap vp hg : Int32) (su mx su2 mx2 : Bool) (A : Nat → Prop) (pl : Int64) (tb : Int64) (rd : Int32) (rt fr : Nat) (kd : Int32) (rv : Bool) (hrt : rt ≤ 17179865088) (hfr : fr < 4294967296) (hk : k3 kd) : Met l yX1_walk (ws_ yX1_walk cX1_walk 11 (some .int)) (rmX 4 103) (va_Pc [.ref hw, .long (lN rt), .long (lN fr), .int kd, .int (bI (!rv))] (Gx D vCl [(dA, .int)] A (wW hw mm dA M vi us ex ap vp hg su mx su2 mx2 (pl, 0, false, tb, rd)))) (GQi D vCl A (wW hw mm dA M vi us ex ap vp hg su mx su2 mx2) (poW (wk (rdx M hg kd rv) rt fr (ok1 us (if vi = true then su2 else su) ex (mx || (vi && mx2)) kd) (pagC kd, 0, false)))) 0 0 A := by
  refine mst (by decide) (Nat.le_of_ble_eq_true rfl) ?_
  intro p ee s m below meth c hx hb hr hlocks hml hown hts hin hB ls hl
  have hl : lv_has ls 11 [(0, .ref hw), (1, .long (lN rt)), (3, .long (lN fr)), (5, .int kd), (6, .int (bI (!rv)))] := hl
  obtain ⟨hP, hK, hD, hZ⟩ := hB
  have ⟨tO, tP, tG, ⟨hZO, hTO⟩, ⟨hZP, hTP⟩, ⟨hZG, hTG⟩⟩ := hZ
  have hP : va_P D vCl [(hw, wkO mm vi us ex ap vp hg su mx su2 mx2 pl 0 false tb rd), (mm, arO dA M)] s.heap := hP
  have hD : va_D A [(hw, wkO mm vi us ex ap vp hg su mx su2 mx2 pl 0 false tb rd), (mm, arO dA M)] := hD
  have hS : va_S A s.heap s.heap [] := va_S.rf
  have hrt := hrt
  refine lv_aload_n hx hb dX1_walk_0 rfl (lv_at hl 0 rfl) ?_
  refine va_get (D := D) (ci := 1) (v := .int (bI mx)) (C := RX1) (T := TX1) (N := 16) hx hb hts in_X1 hown hK hP 0 rfl rfl 8 (by decide) (hts _ q52) (fun _ h9 => h9) rfl dX1_walk_1 ?_
  refine jn (X := Int32) (fun x_ => F0 m 26 ls [.int x_]) (fun x_ => x_ = bI (mx || (vi && mx2))) ?_ (fun K_1 => ?_)
  · intro x_ ex_
    have ex_ := ex_.symm
    subst ex_
    refine lv_istore (lv' := [(7, .int (bI (mx || (vi && mx2)))), (0, .ref hw), (1, .long (lN rt)), (3, .long (lN fr)), (5, .int kd), (6, .int (bI (!rv)))]) hx hb dX1_walk_26 hl (by decide) rfl (fun ls hl => ?_)
    refine lv_aload_n hx hb dX1_walk_28 rfl (lv_at hl 1 rfl) ?_
    refine lv_lload_n hx hb dX1_walk_29 rfl (lv_at hl 2 rfl) ?_
    refine lv_ldc2 hx hb hown (hts _ q168) dX1_walk_30 ?_
    refine lv_lload_n hx hb dX1_walk_33 rfl (lv_at hl 3 rfl) ?_
    refine lv_bipush (v := 22) hx hb dX1_walk_34 (by decide) ?_
    refine lv_lshr hx hb dX1_walk_36 rfl ?_
    refine lv_ldc2 hx hb hown (hts _ q169) dX1_walk_37 ?_
    refine lv_land hx hb dX1_walk_40 ?_
    refine lv_lmul hx hb dX1_walk_41 ?_
    refine lv_ladd hx hb dX1_walk_42 ?_
    refine tpl (y := lN (rt + 4 * (fr / 4194304))) (ad22 hfr) ?_
    refine lv_iload hx hb dX1_walk_43 (lv_at hl 4 rfl) ?_
    refine lv_iload hx hb dX1_walk_45 (lv_at hl 5 rfl) ?_
    refine gci (va_runV (As := [.long (lN (rt + 4 * (fr / 4194304))), .int kd, .int (bI (!rv))]) (rest := []) ⟨hx, hb, hml, hown, hts⟩ (m_read l D hw mm dA M vi us ex ap vp hg su mx su2 mx2 A pl tb rd (rt + 4 * (fr / 4194304)) kd rv (by omega) hk) (cwV 3 hts (lw_V q170 q172 qs2 q20 q173) rfl rfl rfl (by decide +kernel) ⟨Nat.le_of_ble_eq_true rfl, Nat.le_of_ble_eq_true rfl⟩) (pX_V hK hP hD hZ hS 0 rfl rfl) rfl rfl hl.1 rfl (lv_room (Nat.le_of_ble_eq_true rfl)) dX1_walk_47 ⟨Nat.le_refl _, Nat.le_refl _⟩) hS (fun _ h => h) (fun r_2 u_2 H locs po_2 hP hz_2 hk_2 hS => ?_)
    rcases hs_2 : rdx M hg kd rv (rt + 4 * (fr / 4194304)) with f_2 | x_2
    · skip
      rw [hs_2] at po_2
      obtain ⟨rfl, hn_2, pl_2, tb_2, rd_2, rfl⟩ := po_2
      have hP : va_P D vCl [(hw, wkO mm vi us ex ap vp hg su mx su2 mx2 pl_2 (lN f_2.2.1) f_2.2.2 tb_2 rd_2), (mm, arO dA M)] H := hP
      have hD : va_D A [(hw, wkO mm vi us ex ap vp hg su mx su2 mx2 pl_2 (lN f_2.2.1) f_2.2.2 tb_2 rd_2), (mm, arO dA M)] := hD.re rfl
      refine lv_istore (lv' := [(8, .int f_2.1), (7, .int (bI (mx || (vi && mx2)))), (0, .ref hw), (1, .long (lN rt)), (3, .long (lN fr)), (5, .int kd), (6, .int (bI (!rv)))]) hx hb dX1_walk_50 hl (by decide) rfl (fun ls hl => ?_)
      refine lv_iload hx hb dX1_walk_52 (lv_at hl 0 rfl) ?_
      refine lv_if_eq (tgt := 60) hx hb dX1_walk_54 (by decide) (fun c_3 => absurd c_3 hn_2) (fun c_3 => ?_)
      refine lv_iload hx hb dX1_walk_57 (lv_at hl 0 rfl) ?_
      exact gri ((pl_2, lN f_2.2.1, f_2.2.2, tb_2, rd_2)) (by rw [wk_no hs_2]; exact poW_l rfl hn_2 rfl) hP hS hx hb hr hlocks dX1_walk_59
    · skip
      rw [hs_2] at po_2
      obtain ⟨rfl, pl_2, tb_2, rfl⟩ := po_2
      have hP : va_P D vCl [(hw, wkO mm vi us ex ap vp hg su mx su2 mx2 pl_2 0 false tb_2 x_2), (mm, arO dA M)] H := hP
      have hD : va_D A [(hw, wkO mm vi us ex ap vp hg su mx su2 mx2 pl_2 0 false tb_2 x_2), (mm, arO dA M)] := hD.re rfl
      refine lv_istore (lv' := [(8, .int 0), (7, .int (bI (mx || (vi && mx2)))), (0, .ref hw), (1, .long (lN rt)), (3, .long (lN fr)), (5, .int kd), (6, .int (bI (!rv)))]) hx hb dX1_walk_50 hl (by decide) rfl (fun ls hl => ?_)
      refine lv_iload hx hb dX1_walk_52 (lv_at hl 0 rfl) ?_
      refine lv_if_eq (tgt := 60) hx hb dX1_walk_54 (by decide) (fun c_4 => ?_) (fun c_4 => absurd c_4 (by decide))
      refine lv_aload_n hx hb dX1_walk_60 rfl (lv_at hl 2 rfl) ?_
      refine va_get (D := D) (ci := 1) (v := .int x_2) (C := RX1) (T := TX1) (N := 16) hx hb hts in_X1 hown hK hP 0 rfl rfl 15 (by decide) (hts _ q65) (fun _ h9 => h9) rfl dX1_walk_61 ?_
      refine lv_istore (lv' := [(9, .int x_2), (8, .int 0), (7, .int (bI (mx || (vi && mx2)))), (0, .ref hw), (1, .long (lN rt)), (3, .long (lN fr)), (5, .int kd), (6, .int (bI (!rv)))]) hx hb dX1_walk_64 hl (by decide) rfl (fun ls hl => ?_)
      refine lv_iload hx hb dX1_walk_66 (lv_at hl 0 rfl) ?_
      refine pcall (va_runS (As := [.int x_2]) (rest := []) ⟨hx, hb, hml, hown, hts⟩ (m_isTable l x_2) (va_cwS 1 hts (lw_S q191 q192 q20 q193) rfl rfl rfl (by decide +kernel) ⟨Nat.le_of_ble_eq_true rfl, Nat.le_of_ble_eq_true rfl⟩) pT_S rfl rfl hl.1 rfl (lv_room (Nat.le_of_ble_eq_true rfl)) dX1_walk_68 ⟨Nat.le_refl _, Nat.le_refl _⟩) ?_
      refine lv_if_eq (tgt := 173) hx hb dX1_walk_71 (by decide) (fun c_5 => ?_) (fun c_5 => ?_)
      · skip
        have c_5 := (bI_z _).mp c_5
        refine lv_iload hx hb dX1_walk_173 (lv_at hl 0 rfl) ?_
        refine pcall (va_runS (As := [.int x_2]) (rest := []) ⟨hx, hb, hml, hown, hts⟩ (m_isLeaf l x_2) (va_cwS 1 hts (lw_S q200 q201 q20 q202) rfl rfl rfl (by decide +kernel) ⟨Nat.le_of_ble_eq_true rfl, Nat.le_of_ble_eq_true rfl⟩) pT_S rfl rfl hl.1 rfl (lv_room (Nat.le_of_ble_eq_true rfl)) dX1_walk_175 ⟨Nat.le_refl _, Nat.le_refl _⟩) ?_
        refine jn (X := Int32) (fun x_ => F0 m 221 ls [.int x_]) (fun x_ => x_ = bI (ok1 us (if vi = true then su2 else su) ex (mx || (vi && mx2)) kd x_2 && lowz x_2)) ?_ (fun K_6 => ?_)
        · intro x_ ex_
          have ex_ := ex_.symm
          subst ex_
          refine lv_istore (lv' := [(10, .int (bI (ok1 us (if vi = true then su2 else su) ex (mx || (vi && mx2)) kd x_2 && lowz x_2))), (9, .int x_2), (8, .int 0), (7, .int (bI (mx || (vi && mx2)))), (0, .ref hw), (1, .long (lN rt)), (3, .long (lN fr)), (5, .int kd), (6, .int (bI (!rv)))]) hx hb dX1_walk_221 hl (by decide) rfl (fun ls hl => ?_)
          refine lv_iload hx hb dX1_walk_223 (lv_at hl 0 rfl) ?_
          refine lv_if_eq (tgt := 243) hx hb dX1_walk_225 (by decide) (fun c_7 => ?_) (fun c_7 => ?_)
          · skip
            have c_7 := (bI_z _).mp c_7
            refine va_gets hx hb hZP hS hown (hts _ q216) (fun _ h9 => h9) dX1_walk_243 ?_
            refine lv_iload hx hb dX1_walk_246 (lv_at hl 7 rfl) ?_
            refine va_tb hx hb hTP hS (k3_in hk) (k3_p hk) dX1_walk_248 ?_
            exact gri ((pl_2, 0, false, tb_2, x_2)) (by rw [wk_l hs_2 c_5, if_neg (by rw [c_7]; decide)]; exact poW_l rfl (pag_n _) rfl) hP hS hx hb hr hlocks dX1_walk_249
          · skip
            have c_7 := (bI_n _).mp c_7
            refine lv_aload_n hx hb dX1_walk_228 rfl (lv_at hl 4 rfl) ?_
            refine lv_iload hx hb dX1_walk_229 (lv_at hl 1 rfl) ?_
            refine pcall (va_runS (As := [.int x_2]) (rest := [.ref hw]) ⟨hx, hb, hml, hown, hts⟩ (m_target l x_2) (va_cwS 1 hts (lw_S q197 q198 q20 q199) rfl rfl rfl (by decide +kernel) ⟨Nat.le_of_ble_eq_true rfl, Nat.le_of_ble_eq_true rfl⟩) pT_S rfl rfl hl.1 rfl (lv_room (Nat.le_of_ble_eq_true rfl)) dX1_walk_231 ⟨Nat.le_refl _, Nat.le_refl _⟩) ?_
            refine lv_lload_n hx hb dX1_walk_234 rfl (lv_at hl 6 rfl) ?_
            refine lv_bipush (v := 22) hx hb dX1_walk_235 (by decide) ?_
            refine gci (va_runV (As := [.long (lN (tgt x_2)), .long (lN fr), .int 22]) (rest := []) ⟨hx, hb, hml, hown, hts⟩ (m_settle l D hw mm dA M vi us ex ap vp hg su mx su2 mx2 A pl_2 0 false tb_2 x_2 (tgt x_2) fr 4194304 22 (Or.inr ⟨rfl, rfl⟩) (tgt_big (ok_lz c_7))) (cwV 3 hts (lw_V q208 q210 qs6 q20 q211) rfl rfl rfl (by decide +kernel) ⟨Nat.le_of_ble_eq_true rfl, Nat.le_of_ble_eq_true rfl⟩) (pM_V hK hP hD 0 rfl rfl) rfl rfl hl.1 rfl (lv_room (Nat.le_of_ble_eq_true rfl)) dX1_walk_237 ⟨Nat.le_refl _, Nat.le_refl _⟩) hS (fun _ h => h) (fun r_8 u_8 H locs po_8 hP hz_8 hk_8 hS => ?_)
            obtain ⟨rfl, rfl⟩ := po_8
            have hP : va_P D vCl [(hw, wkO mm vi us ex ap vp hg su mx su2 mx2 (lN (tgt x_2 + fr % 4194304)) 0 false tb_2 x_2), (mm, arO dA M)] H := hP
            have hD : va_D A [(hw, wkO mm vi us ex ap vp hg su mx su2 mx2 (lN (tgt x_2 + fr % 4194304)) 0 false tb_2 x_2), (mm, arO dA M)] := hD.re rfl
            refine lv_goto (tgt := 249) hx hb dX1_walk_240 (by decide) ?_
            exact gri ((lN (tgt x_2 + fr % 4194304), 0, false, tb_2, x_2)) (by rw [wk_l hs_2 c_5, if_pos c_7]; exact poW_r rfl rfl) hP hS hx hb hr hlocks dX1_walk_249
        · skip
          refine lv_if_eq (tgt := 220) hx hb dX1_walk_178 (by decide) (fun c_9 => ?_) (fun c_9 => ?_)
          · skip
            have c_9 := (bI_z _).mp c_9
            refine lv_iconst (v := 0) hx hb dX1_walk_220 (by decide) ?_
            exact K_6 _ (by simp [bI, ok1, c_9])
          · skip
            have c_9 := (bI_n _).mp c_9
            refine lv_iload hx hb dX1_walk_181 (lv_at hl 0 rfl) ?_
            refine lv_ldc hx hb hown (hts _ q190) dX1_walk_183 ?_
            refine lv_iand hx hb dX1_walk_185 ?_
            refine lv_if_ne (tgt := 220) hx hb dX1_walk_186 (by decide) (fun c_10 => ?_) (fun c_10 => ?_)
            · skip
              have c_10 := (n_low _).mp c_10
              refine lv_iconst (v := 0) hx hb dX1_walk_220 (by decide) ?_
              exact K_6 _ (by simp [bI, ok1, c_9, c_10])
            · skip
              have c_10 := (z_low _).mp c_10
              refine lv_iload hx hb dX1_walk_189 (lv_at hl 0 rfl) ?_
              refine lv_iload hx hb dX1_walk_191 (lv_at hl 6 rfl) ?_
              refine lv_aload_n hx hb dX1_walk_193 rfl (lv_at hl 3 rfl) ?_
              refine va_get (D := D) (ci := 1) (v := .int (bI ex)) (C := RX1) (T := TX1) (N := 16) hx hb hts in_X1 hown hK hP 0 rfl rfl 3 (by decide) (hts _ q42) (fun _ h9 => h9) rfl dX1_walk_194 ?_
              refine lv_iload hx hb dX1_walk_197 (lv_at hl 2 rfl) ?_
              refine pcall (va_runS (As := [.int x_2, .int kd, .int (bI ex), .int (bI (mx || (vi && mx2)))]) (rest := []) ⟨hx, hb, hml, hown, hts⟩ (m_allows l x_2 kd ex (mx || (vi && mx2))) (va_cwS 4 hts (lw_S q203 q204 q20 q205) rfl rfl rfl (by decide +kernel) ⟨Nat.le_of_ble_eq_true rfl, Nat.le_of_ble_eq_true rfl⟩) pT_S rfl rfl hl.1 rfl (lv_room (Nat.le_of_ble_eq_true rfl)) dX1_walk_199 ⟨Nat.le_refl _, Nat.le_refl _⟩) ?_
              refine lv_if_eq (tgt := 220) hx hb dX1_walk_202 (by decide) (fun c_11 => ?_) (fun c_11 => ?_)
              · skip
                have c_11 := (bI_z _).mp c_11
                refine lv_iconst (v := 0) hx hb dX1_walk_220 (by decide) ?_
                exact K_6 _ (by simp [bI, ok1, c_9, c_10, c_11])
              · skip
                have c_11 := (bI_n _).mp c_11
                refine lv_aload_n hx hb dX1_walk_205 rfl (lv_at hl 3 rfl) ?_
                refine lv_iload hx hb dX1_walk_206 (lv_at hl 0 rfl) ?_
                refine lv_iload hx hb dX1_walk_208 (lv_at hl 6 rfl) ?_
                refine pcall (va_runV (As := [.int x_2, .int kd]) (rest := []) ⟨hx, hb, hml, hown, hts⟩ (m_allowsUser l D hw mm dA M vi us ex ap vp hg su mx su2 mx2 pl_2 0 false tb_2 x_2 x_2 kd) (cwV 2 hts (lw_V q212 q214 qs7 q20 q215) rfl rfl rfl (by decide +kernel) ⟨Nat.le_of_ble_eq_true rfl, Nat.le_of_ble_eq_true rfl⟩) (pR_V hK hP 0 rfl rfl) rfl rfl hl.1 rfl (lv_room (Nat.le_of_ble_eq_true rfl)) dX1_walk_210 ⟨Nat.le_refl _, Nat.le_refl _⟩) ?_
                refine lv_if_eq (tgt := 220) hx hb dX1_walk_213 (by decide) (fun c_12 => ?_) (fun c_12 => ?_)
                · skip
                  have c_12 := (bI_z _).mp c_12
                  refine lv_iconst (v := 0) hx hb dX1_walk_220 (by decide) ?_
                  exact K_6 _ (by simp [bI, ok1, c_9, c_10, c_11, c_12])
                · skip
                  have c_12 := (bI_n _).mp c_12
                  refine lv_iconst (v := 1) hx hb dX1_walk_216 (by decide) ?_
                  refine lv_goto (tgt := 221) hx hb dX1_walk_217 (by decide) ?_
                  exact K_6 _ (by simp [bI, ok1, c_9, c_10, c_11, c_12])
      · skip
        have c_5 := (bI_n _).mp c_5
        have htg := tgt_lt x_2
        refine lv_aload_n hx hb dX1_walk_74 rfl (lv_at hl 3 rfl) ?_
        refine lv_iload hx hb dX1_walk_75 (lv_at hl 0 rfl) ?_
        refine pcall (va_runS (As := [.int x_2]) (rest := [.ref hw]) ⟨hx, hb, hml, hown, hts⟩ (m_target l x_2) (va_cwS 1 hts (lw_S q197 q198 q20 q199) rfl rfl rfl (by decide +kernel) ⟨Nat.le_of_ble_eq_true rfl, Nat.le_of_ble_eq_true rfl⟩) pT_S rfl rfl hl.1 rfl (lv_room (Nat.le_of_ble_eq_true rfl)) dX1_walk_77 ⟨Nat.le_refl _, Nat.le_refl _⟩) ?_
        refine lv_ldc2 hx hb hown (hts _ q168) dX1_walk_80 ?_
        refine lv_lload_n hx hb dX1_walk_83 rfl (lv_at hl 5 rfl) ?_
        refine lv_bipush (v := 12) hx hb dX1_walk_84 (by decide) ?_
        refine lv_lshr hx hb dX1_walk_86 rfl ?_
        refine lv_ldc2 hx hb hown (hts _ q169) dX1_walk_87 ?_
        refine lv_land hx hb dX1_walk_90 ?_
        refine lv_lmul hx hb dX1_walk_91 ?_
        refine lv_ladd hx hb dX1_walk_92 ?_
        refine tpl (y := lN (tgt x_2 + 4 * (fr / 4096 % 1024))) (ad12 (by omega)) ?_
        refine lv_iload hx hb dX1_walk_93 (lv_at hl 6 rfl) ?_
        refine lv_iload hx hb dX1_walk_95 (lv_at hl 7 rfl) ?_
        refine gci (va_runV (As := [.long (lN (tgt x_2 + 4 * (fr / 4096 % 1024))), .int kd, .int (bI (!rv))]) (rest := []) ⟨hx, hb, hml, hown, hts⟩ (m_read l D hw mm dA M vi us ex ap vp hg su mx su2 mx2 A pl_2 tb_2 x_2 (tgt x_2 + 4 * (fr / 4096 % 1024)) kd rv (by omega) hk) (cwV 3 hts (lw_V q170 q172 qs2 q20 q173) rfl rfl rfl (by decide +kernel) ⟨Nat.le_of_ble_eq_true rfl, Nat.le_of_ble_eq_true rfl⟩) (pX_V hK hP hD hZ hS 0 rfl rfl) rfl rfl hl.1 rfl (lv_room (Nat.le_of_ble_eq_true rfl)) dX1_walk_97 ⟨Nat.le_refl _, Nat.le_refl _⟩) hS (fun _ h => h) (fun r_13 u_13 H locs po_13 hP hz_13 hk_13 hS => ?_)
        rcases hs_13 : rdx M hg kd rv (tgt x_2 + 4 * (fr / 4096 % 1024)) with f_13 | x_13
        · skip
          rw [hs_13] at po_13
          obtain ⟨rfl, hn_13, pl_13, tb_13, rd_13, rfl⟩ := po_13
          have hP : va_P D vCl [(hw, wkO mm vi us ex ap vp hg su mx su2 mx2 pl_13 (lN f_13.2.1) f_13.2.2 tb_13 rd_13), (mm, arO dA M)] H := hP
          have hD : va_D A [(hw, wkO mm vi us ex ap vp hg su mx su2 mx2 pl_13 (lN f_13.2.1) f_13.2.2 tb_13 rd_13), (mm, arO dA M)] := hD.re rfl
          refine lv_istore (lv' := [(8, .int f_13.1), (9, .int x_2), (7, .int (bI (mx || (vi && mx2)))), (0, .ref hw), (1, .long (lN rt)), (3, .long (lN fr)), (5, .int kd), (6, .int (bI (!rv)))]) hx hb dX1_walk_100 hl (by decide) rfl (fun ls hl => ?_)
          refine lv_iload hx hb dX1_walk_102 (lv_at hl 0 rfl) ?_
          refine lv_if_eq (tgt := 110) hx hb dX1_walk_104 (by decide) (fun c_14 => absurd c_14 hn_13) (fun c_14 => ?_)
          refine lv_iload hx hb dX1_walk_107 (lv_at hl 0 rfl) ?_
          exact gri ((pl_13, lN f_13.2.1, f_13.2.2, tb_13, rd_13)) (by rw [wk_tn hs_2 c_5 hs_13]; exact poW_l rfl hn_13 rfl) hP hS hx hb hr hlocks dX1_walk_109
        · skip
          rw [hs_13] at po_13
          obtain ⟨rfl, pl_13, tb_13, rfl⟩ := po_13
          have hP : va_P D vCl [(hw, wkO mm vi us ex ap vp hg su mx su2 mx2 pl_13 0 false tb_13 x_13), (mm, arO dA M)] H := hP
          have hD : va_D A [(hw, wkO mm vi us ex ap vp hg su mx su2 mx2 pl_13 0 false tb_13 x_13), (mm, arO dA M)] := hD.re rfl
          refine lv_istore (lv' := [(8, .int 0), (9, .int x_2), (7, .int (bI (mx || (vi && mx2)))), (0, .ref hw), (1, .long (lN rt)), (3, .long (lN fr)), (5, .int kd), (6, .int (bI (!rv)))]) hx hb dX1_walk_100 hl (by decide) rfl (fun ls hl => ?_)
          refine lv_iload hx hb dX1_walk_102 (lv_at hl 0 rfl) ?_
          refine lv_if_eq (tgt := 110) hx hb dX1_walk_104 (by decide) (fun c_15 => ?_) (fun c_15 => absurd c_15 (by decide))
          refine lv_aload_n hx hb dX1_walk_110 rfl (lv_at hl 3 rfl) ?_
          refine va_get (D := D) (ci := 1) (v := .int x_13) (C := RX1) (T := TX1) (N := 16) hx hb hts in_X1 hown hK hP 0 rfl rfl 15 (by decide) (hts _ q65) (fun _ h9 => h9) rfl dX1_walk_111 ?_
          refine lv_istore (lv' := [(9, .int x_13), (8, .int 0), (7, .int (bI (mx || (vi && mx2)))), (0, .ref hw), (1, .long (lN rt)), (3, .long (lN fr)), (5, .int kd), (6, .int (bI (!rv)))]) hx hb dX1_walk_114 hl (by decide) rfl (fun ls hl => ?_)
          refine lv_iload hx hb dX1_walk_116 (lv_at hl 0 rfl) ?_
          refine pcall (va_runS (As := [.int x_13]) (rest := []) ⟨hx, hb, hml, hown, hts⟩ (m_isLeaf l x_13) (va_cwS 1 hts (lw_S q200 q201 q20 q202) rfl rfl rfl (by decide +kernel) ⟨Nat.le_of_ble_eq_true rfl, Nat.le_of_ble_eq_true rfl⟩) pT_S rfl rfl hl.1 rfl (lv_room (Nat.le_of_ble_eq_true rfl)) dX1_walk_118 ⟨Nat.le_refl _, Nat.le_refl _⟩) ?_
          refine lv_if_eq (tgt := 166) hx hb dX1_walk_121 (by decide) (fun c_16 => ?_) (fun c_16 => ?_)
          · skip
            have c_16 := (bI_z _).mp c_16
            refine va_gets hx hb hZP hS hown (hts _ q216) (fun _ h9 => h9) dX1_walk_166 ?_
            refine lv_iload hx hb dX1_walk_169 (lv_at hl 6 rfl) ?_
            refine va_tb hx hb hTP hS (k3_in hk) (k3_p hk) dX1_walk_171 ?_
            exact gri ((pl_13, 0, false, tb_13, x_13)) (by rw [wk_ty hs_2 c_5 hs_13, if_neg (by simp [ok1, c_16])]; exact poW_l rfl (pag_n _) rfl) hP hS hx hb hr hlocks dX1_walk_172
          · skip
            have c_16 := (bI_n _).mp c_16
            refine lv_iload hx hb dX1_walk_124 (lv_at hl 0 rfl) ?_
            refine lv_iload hx hb dX1_walk_126 (lv_at hl 6 rfl) ?_
            refine lv_aload_n hx hb dX1_walk_128 rfl (lv_at hl 3 rfl) ?_
            refine va_get (D := D) (ci := 1) (v := .int (bI ex)) (C := RX1) (T := TX1) (N := 16) hx hb hts in_X1 hown hK hP 0 rfl rfl 3 (by decide) (hts _ q42) (fun _ h9 => h9) rfl dX1_walk_129 ?_
            refine lv_iload hx hb dX1_walk_132 (lv_at hl 2 rfl) ?_
            refine pcall (va_runS (As := [.int x_13, .int kd, .int (bI ex), .int (bI (mx || (vi && mx2)))]) (rest := []) ⟨hx, hb, hml, hown, hts⟩ (m_allows l x_13 kd ex (mx || (vi && mx2))) (va_cwS 4 hts (lw_S q203 q204 q20 q205) rfl rfl rfl (by decide +kernel) ⟨Nat.le_of_ble_eq_true rfl, Nat.le_of_ble_eq_true rfl⟩) pT_S rfl rfl hl.1 rfl (lv_room (Nat.le_of_ble_eq_true rfl)) dX1_walk_134 ⟨Nat.le_refl _, Nat.le_refl _⟩) ?_
            refine lv_if_eq (tgt := 166) hx hb dX1_walk_137 (by decide) (fun c_17 => ?_) (fun c_17 => ?_)
            · skip
              have c_17 := (bI_z _).mp c_17
              refine va_gets hx hb hZP hS hown (hts _ q216) (fun _ h9 => h9) dX1_walk_166 ?_
              refine lv_iload hx hb dX1_walk_169 (lv_at hl 6 rfl) ?_
              refine va_tb hx hb hTP hS (k3_in hk) (k3_p hk) dX1_walk_171 ?_
              exact gri ((pl_13, 0, false, tb_13, x_13)) (by rw [wk_ty hs_2 c_5 hs_13, if_neg (by simp [ok1, c_16, c_17])]; exact poW_l rfl (pag_n _) rfl) hP hS hx hb hr hlocks dX1_walk_172
            · skip
              have c_17 := (bI_n _).mp c_17
              refine lv_aload_n hx hb dX1_walk_140 rfl (lv_at hl 3 rfl) ?_
              refine lv_iload hx hb dX1_walk_141 (lv_at hl 0 rfl) ?_
              refine lv_iload hx hb dX1_walk_143 (lv_at hl 6 rfl) ?_
              refine pcall (va_runV (As := [.int x_13, .int kd]) (rest := []) ⟨hx, hb, hml, hown, hts⟩ (m_allowsUser l D hw mm dA M vi us ex ap vp hg su mx su2 mx2 pl_13 0 false tb_13 x_13 x_13 kd) (cwV 2 hts (lw_V q212 q214 qs7 q20 q215) rfl rfl rfl (by decide +kernel) ⟨Nat.le_of_ble_eq_true rfl, Nat.le_of_ble_eq_true rfl⟩) (pR_V hK hP 0 rfl rfl) rfl rfl hl.1 rfl (lv_room (Nat.le_of_ble_eq_true rfl)) dX1_walk_145 ⟨Nat.le_refl _, Nat.le_refl _⟩) ?_
              refine lv_if_eq (tgt := 166) hx hb dX1_walk_148 (by decide) (fun c_18 => ?_) (fun c_18 => ?_)
              · skip
                have c_18 := (bI_z _).mp c_18
                refine va_gets hx hb hZP hS hown (hts _ q216) (fun _ h9 => h9) dX1_walk_166 ?_
                refine lv_iload hx hb dX1_walk_169 (lv_at hl 6 rfl) ?_
                refine va_tb hx hb hTP hS (k3_in hk) (k3_p hk) dX1_walk_171 ?_
                exact gri ((pl_13, 0, false, tb_13, x_13)) (by rw [wk_ty hs_2 c_5 hs_13, if_neg (by simp [ok1, c_16, c_17, c_18])]; exact poW_l rfl (pag_n _) rfl) hP hS hx hb hr hlocks dX1_walk_172
              · skip
                have c_18 := (bI_n _).mp c_18
                refine lv_aload_n hx hb dX1_walk_151 rfl (lv_at hl 3 rfl) ?_
                refine lv_iload hx hb dX1_walk_152 (lv_at hl 0 rfl) ?_
                refine pcall (va_runS (As := [.int x_13]) (rest := [.ref hw]) ⟨hx, hb, hml, hown, hts⟩ (m_target l x_13) (va_cwS 1 hts (lw_S q197 q198 q20 q199) rfl rfl rfl (by decide +kernel) ⟨Nat.le_of_ble_eq_true rfl, Nat.le_of_ble_eq_true rfl⟩) pT_S rfl rfl hl.1 rfl (lv_room (Nat.le_of_ble_eq_true rfl)) dX1_walk_154 ⟨Nat.le_refl _, Nat.le_refl _⟩) ?_
                refine lv_lload_n hx hb dX1_walk_157 rfl (lv_at hl 5 rfl) ?_
                refine lv_bipush (v := 12) hx hb dX1_walk_158 (by decide) ?_
                refine gci (va_runV (As := [.long (lN (tgt x_13)), .long (lN fr), .int 12]) (rest := []) ⟨hx, hb, hml, hown, hts⟩ (m_settle l D hw mm dA M vi us ex ap vp hg su mx su2 mx2 A pl_13 0 false tb_13 x_13 (tgt x_13) fr 4096 12 (Or.inl ⟨rfl, rfl⟩) (tgt_4096 x_13)) (cwV 3 hts (lw_V q208 q210 qs6 q20 q211) rfl rfl rfl (by decide +kernel) ⟨Nat.le_of_ble_eq_true rfl, Nat.le_of_ble_eq_true rfl⟩) (pM_V hK hP hD 0 rfl rfl) rfl rfl hl.1 rfl (lv_room (Nat.le_of_ble_eq_true rfl)) dX1_walk_160 ⟨Nat.le_refl _, Nat.le_refl _⟩) hS (fun _ h => h) (fun r_19 u_19 H locs po_19 hP hz_19 hk_19 hS => ?_)
                obtain ⟨rfl, rfl⟩ := po_19
                have hP : va_P D vCl [(hw, wkO mm vi us ex ap vp hg su mx su2 mx2 (lN (tgt x_13 + fr % 4096)) 0 false tb_13 x_13), (mm, arO dA M)] H := hP
                have hD : va_D A [(hw, wkO mm vi us ex ap vp hg su mx su2 mx2 (lN (tgt x_13 + fr % 4096)) 0 false tb_13 x_13), (mm, arO dA M)] := hD.re rfl
                refine lv_goto (tgt := 172) hx hb dX1_walk_163 (by decide) ?_
                exact gri ((lN (tgt x_13 + fr % 4096), 0, false, tb_13, x_13)) (by rw [wk_ty hs_2 c_5 hs_13, if_pos (by simp [ok1, c_16, c_17, c_18])]; exact poW_r rfl rfl) hP hS hx hb hr hlocks dX1_walk_172
  · skip
    refine lv_if_ne (tgt := 21) hx hb dX1_walk_4 (by decide) (fun c_20 => ?_) (fun c_20 => ?_)
    · skip
      have c_20 := (bI_n _).mp c_20
      refine lv_iconst (v := 1) hx hb dX1_walk_21 (by decide) ?_
      refine lv_goto (tgt := 26) hx hb dX1_walk_22 (by decide) ?_
      exact K_1 _ (by simp [bI, c_20])
    · skip
      have c_20 := (bI_z _).mp c_20
      refine lv_aload_n hx hb dX1_walk_7 rfl (lv_at hl 0 rfl) ?_
      refine va_get (D := D) (ci := 1) (v := .int (bI vi)) (C := RX1) (T := TX1) (N := 16) hx hb hts in_X1 hown hK hP 0 rfl rfl 1 (by decide) (hts _ q38) (fun _ h9 => h9) rfl dX1_walk_8 ?_
      refine lv_if_eq (tgt := 25) hx hb dX1_walk_11 (by decide) (fun c_21 => ?_) (fun c_21 => ?_)
      · skip
        have c_21 := (bI_z _).mp c_21
        refine lv_iconst (v := 0) hx hb dX1_walk_25 (by decide) ?_
        exact K_1 _ (by simp [bI, c_20, c_21])
      · skip
        have c_21 := (bI_n _).mp c_21
        refine lv_aload_n hx hb dX1_walk_14 rfl (lv_at hl 0 rfl) ?_
        refine va_get (D := D) (ci := 1) (v := .int (bI mx2)) (C := RX1) (T := TX1) (N := 16) hx hb hts in_X1 hown hK hP 0 rfl rfl 10 (by decide) (hts _ q56) (fun _ h9 => h9) rfl dX1_walk_15 ?_
        refine lv_if_eq (tgt := 25) hx hb dX1_walk_18 (by decide) (fun c_22 => ?_) (fun c_22 => ?_)
        · skip
          have c_22 := (bI_z _).mp c_22
          refine lv_iconst (v := 0) hx hb dX1_walk_25 (by decide) ?_
          exact K_1 _ (by simp [bI, c_20, c_21, c_22])
        · skip
          have c_22 := (bI_n _).mp c_22
          refine lv_iconst (v := 1) hx hb dX1_walk_21 (by decide) ?_
          refine lv_goto (tgt := 26) hx hb dX1_walk_22 (by decide) ?_
          exact K_1 _ (by simp [bI, c_20, c_21, c_22])
end
section
/-! StageWalker$Walker: translate -/
set_option maxRecDepth 100000
section
variable {M : Nat → Int32} {hg k root : Int32} {vi us sm fx tx mx : Bool} {ad a : Nat} {f : Flt}
theorem tr_l (h : st1 M hg k root vi us sm fx tx ad = .inl f) : tr M hg k root vi us sm fx tx mx ad = .inl f := by unfold tr; rw [h]; rfl
theorem tr_n (h : st1 M hg k root vi us sm fx tx ad = .inr a) (c : vi = false) : tr M hg k root vi us sm fx tx mx ad = inm k (.inr a) := by
  unfold tr; rw [h]; subst c; rfl
theorem tr_y (h : st1 M hg k root vi us sm fx tx ad = .inr a) (c : vi = true) : tr M hg k root vi us sm fx tx mx ad = inm k (s2 M hg k a (ok2 fx mx k) false) := by
  unfold tr; rw [h]; subst c; rfl
theorem inm_l : inm k (.inl f) = .inl f := rfl
end
theorem fa_of_nlt' {x : Int32} (h : 0 ≤ x) : ¬ x < 0 := fun z => by rw [fa_lt] at z; rw [fa_le] at h; omega
theorem fa_of_nle' {x : Int32} (h : ¬ 0 ≤ x) : x < 0 := fa_of_nle h
set_option maxHeartbeats 4000000 in
/-- translate -/
theorem m_translate (l : Launch) (D : va_G) (hw mm : Nat) (dA : ClassId) (M : Nat → Int32) (vi us ex : Bool) (ap vp hg : Int32) (su mx su2 mx2 : Bool) (A : Nat → Prop) (pl se : Int64) (en : Bool) (tb : Int64) (rd : Int32) (ad kd root : Int32) (hro : root = if vi = true then vp else ap) (hk : k3 kd) : Met l yX1_translate (ws_ yX1_translate cX1_translate 7 (some .int)) (rmX 5 133) (va_Pc [.ref hw, .int ad, .int kd] (Gx D vCl [(dA, .int)] A (wW hw mm dA M vi us ex ap vp hg su mx su2 mx2 (pl, se, en, tb, rd)))) (GQi D vCl A (wW hw mm dA M vi us ex ap vp hg su mx su2 mx2) (poW (tr M hg kd root vi us (if vi = true then su2 else su) ex (mx || (vi && mx2)) mx (tn ad)))) 0 0 A := by
  refine mst (by decide) (Nat.le_of_ble_eq_true rfl) ?_
  intro p ee s m below meth c hx hb hr hlocks hml hown hts hin hB ls hl
  have hl : lv_has ls 7 [(0, .ref hw), (1, .int ad), (2, .int kd)] := hl
  obtain ⟨hP, hK, hD, hZ⟩ := hB
  have ⟨tO, tP, tG, ⟨hZO, hTO⟩, ⟨hZP, hTP⟩, ⟨hZG, hTG⟩⟩ := hZ
  have hP : va_P D vCl [(hw, wkO mm vi us ex ap vp hg su mx su2 mx2 pl se en tb rd), (mm, arO dA M)] s.heap := hP
  have hD : va_D A [(hw, wkO mm vi us ex ap vp hg su mx su2 mx2 pl se en tb rd), (mm, arO dA M)] := hD
  have hS : va_S A s.heap s.heap [] := va_S.rf
  have had := tn_lt ad
  have hrt := rt1_lt root
  refine lv_iload_n hx hb dX1_translate_0 rfl (lv_at hl 1 rfl) ?_
  refine lv_i2l hx hb dX1_translate_1 rfl ?_
  refine lv_ldc2 hx hb hown (hts _ q161) dX1_translate_2 ?_
  refine lv_land hx hb dX1_translate_5 ?_
  refine tpl (y := lN (tn ad)) (i2l_low ad) ?_
  refine lv_lstore_n (lv' := [(3, .long (lN (tn ad))), (0, .ref hw), (1, .int ad), (2, .int kd)]) hx hb dX1_translate_6 rfl hl (by decide) rfl (fun ls hl => ?_)
  refine lv_aload_n hx hb dX1_translate_7 rfl (lv_at hl 1 rfl) ?_
  refine lv_lconst (v := 0) hx hb dX1_translate_8 (by decide) ?_
  refine va_put (D := D) (ci := 1) (v := .long 0) (ty := .long) (C := RX1) (T := TX1) (N := 16) hx hb hts in_X1 tyX1 tyX1_ok nmX1 hown hK hP hD hS 0 rfl rfl 12 (by decide) (hts _ q60) (fun _ h9 => h9) rfl (by decide +kernel) rfl rfl (Nat.le_of_ble_eq_true rfl) dX1_translate_9 (fun H locs hP hD hS => ?_)
  have hP : va_P D vCl [(hw, wkO mm vi us ex ap vp hg su mx su2 mx2 pl 0 en tb rd), (mm, arO dA M)] H := hP
  have hD : va_D A [(hw, wkO mm vi us ex ap vp hg su mx su2 mx2 pl 0 en tb rd), (mm, arO dA M)] := hD
  refine lv_aload_n hx hb dX1_translate_12 rfl (lv_at hl 1 rfl) ?_
  refine lv_iconst (v := 0) hx hb dX1_translate_13 (by decide) ?_
  refine va_put (D := D) (ci := 1) (v := .int 0) (ty := .boolean) (C := RX1) (T := TX1) (N := 16) hx hb hts in_X1 tyX1 tyX1_ok nmX1 hown hK hP hD hS 0 rfl rfl 13 (by decide) (hts _ q62) (fun _ h9 => h9) rfl (by decide +kernel) rfl rfl (Nat.le_of_ble_eq_true rfl) dX1_translate_14 (fun H locs hP hD hS => ?_)
  have hP : va_P D vCl [(hw, wkO mm vi us ex ap vp hg su mx su2 mx2 pl 0 false tb rd), (mm, arO dA M)] H := hP
  have hD : va_D A [(hw, wkO mm vi us ex ap vp hg su mx su2 mx2 pl 0 false tb rd), (mm, arO dA M)] := hD
  refine lv_aload_n hx hb dX1_translate_17 rfl (lv_at hl 1 rfl) ?_
  refine va_get (D := D) (ci := 1) (v := .int (bI vi)) (C := RX1) (T := TX1) (N := 16) hx hb hts in_X1 hown hK hP 0 rfl rfl 1 (by decide) (hts _ q38) (fun _ h9 => h9) rfl dX1_translate_18 ?_
  refine jn (X := Int32) (fun x_ => F0 m 35 ls [.int x_]) (fun x_ => x_ = root) ?_ (fun K_1 => ?_)
  · intro x_ ex_
    have ex_ := ex_.symm
    subst ex_
    refine lv_istore (lv' := [(5, .int root), (3, .long (lN (tn ad))), (0, .ref hw), (1, .int ad), (2, .int kd)]) hx hb dX1_translate_35 hl (by decide) rfl (fun ls hl => ?_)
    refine lv_iconst (v := 0) hx hb dX1_translate_37 (by decide) ?_
    refine lv_istore (lv' := [(6, .int 0), (5, .int root), (3, .long (lN (tn ad))), (0, .ref hw), (1, .int ad), (2, .int kd)]) hx hb dX1_translate_38 hl (by decide) rfl (fun ls hl => ?_)
    refine lv_aload_n hx hb dX1_translate_40 rfl (lv_at hl 3 rfl) ?_
    refine lv_lload_n hx hb dX1_translate_41 rfl (lv_at hl 2 rfl) ?_
    refine va_put (D := D) (ci := 1) (v := .long (lN (tn ad))) (ty := .long) (C := RX1) (T := TX1) (N := 16) hx hb hts in_X1 tyX1 tyX1_ok nmX1 hown hK hP hD hS 0 rfl rfl 11 (by decide) (hts _ q58) (fun _ h9 => h9) rfl (by decide +kernel) rfl rfl (Nat.le_of_ble_eq_true rfl) dX1_translate_42 (fun H locs hP hD hS => ?_)
    have hP : va_P D vCl [(hw, wkO mm vi us ex ap vp hg su mx su2 mx2 (lN (tn ad)) 0 false tb rd), (mm, arO dA M)] H := hP
    have hD : va_D A [(hw, wkO mm vi us ex ap vp hg su mx su2 mx2 (lN (tn ad)) 0 false tb rd), (mm, arO dA M)] := hD
    refine lv_iload hx hb dX1_translate_45 (lv_at hl 1 rfl) ?_
    refine jg (X := Int32 × wU) (fun _ ls => F0 m 80 ls []) (fun y_ H locs ls => poW (st1 M hg kd root vi us (if vi = true then su2 else su) ex (mx || (vi && mx2)) (tn ad)) y_.1 y_.2 ∧ va_P D vCl (wW hw mm dA M vi us ex ap vp hg su mx su2 mx2 y_.2) H ∧ va_S A s.heap H locs ∧ lv_has ls 7 [(6, .int y_.1), (5, .int root), (3, .long (lN (tn ad))), (0, .ref hw), (1, .int ad), (2, .int kd)]) ?_ (fun K_2 => ?_)
    · rintro ⟨r_0, u_0⟩ H locs ls ⟨po_0, hP, hS, hl⟩
      rcases hs_0 : st1 M hg kd root vi us (if vi = true then su2 else su) ex (mx || (vi && mx2)) (tn ad) with f_0 | a_0
      · skip
        rw [hs_0] at po_0
        obtain ⟨hr_0, hn_0, pl_0, tb_0, rd_0, rfl⟩ := po_0
        have hr_0 : r_0 = f_0.1 := hr_0
        subst hr_0
        have hP : va_P D vCl [(hw, wkO mm vi us ex ap vp hg su mx su2 mx2 pl_0 (lN f_0.2.1) f_0.2.2 tb_0 rd_0), (mm, arO dA M)] H := hP
        have hD : va_D A [(hw, wkO mm vi us ex ap vp hg su mx su2 mx2 pl_0 (lN f_0.2.1) f_0.2.2 tb_0 rd_0), (mm, arO dA M)] := hD.re rfl
        have hl : lv_has ls 7 [(6, .int f_0.1), (5, .int root), (3, .long (lN (tn ad))), (0, .ref hw), (1, .int ad), (2, .int kd)] := hl
        refine lv_iload hx hb dX1_translate_80 (lv_at hl 0 rfl) ?_
        refine lv_if_ne (tgt := 112) hx hb dX1_translate_82 (by decide) (fun c_3 => ?_) (fun c_3 => absurd c_3 hn_0)
        refine lv_iload hx hb dX1_translate_112 (lv_at hl 0 rfl) ?_
        refine lv_if_eq (tgt := 122) hx hb dX1_translate_114 (by decide) (fun c_4 => absurd c_4 hn_0) (fun c_4 => ?_)
        refine lv_iload hx hb dX1_translate_117 (lv_at hl 0 rfl) ?_
        refine lv_goto (tgt := 142) hx hb dX1_translate_119 (by decide) ?_
        exact gri ((pl_0, lN f_0.2.1, f_0.2.2, tb_0, rd_0)) (by rw [tr_l hs_0]; exact poW_l rfl hn_0 rfl) hP hS hx hb hr hlocks dX1_translate_142
      · skip
        rw [hs_0] at po_0
        obtain ⟨hr_0, tb_0, rd_0, rfl⟩ := po_0
        have hr_0 : r_0 = 0 := hr_0
        subst hr_0
        have hq_0 := st1_lt had hs_0
        have hP : va_P D vCl [(hw, wkO mm vi us ex ap vp hg su mx su2 mx2 (lN a_0) 0 false tb_0 rd_0), (mm, arO dA M)] H := hP
        have hD : va_D A [(hw, wkO mm vi us ex ap vp hg su mx su2 mx2 (lN a_0) 0 false tb_0 rd_0), (mm, arO dA M)] := hD.re rfl
        have hl : lv_has ls 7 [(6, .int 0), (5, .int root), (3, .long (lN (tn ad))), (0, .ref hw), (1, .int ad), (2, .int kd)] := hl
        refine lv_iload hx hb dX1_translate_80 (lv_at hl 0 rfl) ?_
        refine lv_if_ne (tgt := 112) hx hb dX1_translate_82 (by decide) (fun c_5 => absurd c_5 (by decide)) (fun c_5 => ?_)
        refine lv_aload_n hx hb dX1_translate_85 rfl (lv_at hl 3 rfl) ?_
        refine va_get (D := D) (ci := 1) (v := .int (bI vi)) (C := RX1) (T := TX1) (N := 16) hx hb hts in_X1 hown hK hP 0 rfl rfl 1 (by decide) (hts _ q38) (fun _ h9 => h9) rfl dX1_translate_86 ?_
        refine lv_if_eq (tgt := 112) hx hb dX1_translate_89 (by decide) (fun c_6 => ?_) (fun c_6 => ?_)
        · skip
          have c_6 := (bI_z _).mp c_6
          refine lv_iload hx hb dX1_translate_112 (lv_at hl 0 rfl) ?_
          refine lv_if_eq (tgt := 122) hx hb dX1_translate_114 (by decide) (fun c_7 => ?_) (fun c_7 => absurd c_7 (by decide))
          refine lv_aload_n hx hb dX1_translate_122 rfl (lv_at hl 3 rfl) ?_
          refine lv_aload_n hx hb dX1_translate_123 rfl (lv_at hl 3 rfl) ?_
          refine va_get (D := D) (ci := 1) (v := .long (lN a_0)) (C := RX1) (T := TX1) (N := 16) hx hb hts in_X1 hown hK hP 0 rfl rfl 11 (by decide) (hts _ q58) (fun _ h9 => h9) rfl dX1_translate_124 ?_
          refine pcall (va_runV (As := [.long (lN a_0)]) (rest := []) ⟨hx, hb, hml, hown, hts⟩ (m_isInside l D hw mm dA M vi us ex ap vp hg su mx su2 mx2 (lN a_0) 0 false tb_0 rd_0 a_0 (by omega)) (cwV 1 hts (lw_V q184 q186 qs5 q20 q187) rfl rfl rfl (by decide +kernel) ⟨Nat.le_of_ble_eq_true rfl, Nat.le_of_ble_eq_true rfl⟩) (pR_V hK hP 0 rfl rfl) rfl rfl hl.1 rfl (lv_room (Nat.le_of_ble_eq_true rfl)) dX1_translate_127 ⟨Nat.le_refl _, Nat.le_refl _⟩) ?_
          refine lv_if_eq (tgt := 137) hx hb dX1_translate_130 (by decide) (fun c_8 => ?_) (fun c_8 => ?_)
          · skip
            have c_8 := of_decide_eq_false ((bI_z _).mp c_8)
            refine va_gets hx hb hZO hS hown (hts _ q188) (fun _ h9 => h9) dX1_translate_137 ?_
            refine lv_iload_n hx hb dX1_translate_140 rfl (lv_at hl 5 rfl) ?_
            refine va_tb hx hb hTO hS (k3_in hk) (k3_o hk) dX1_translate_141 ?_
            exact gri ((lN a_0, 0, false, tb_0, rd_0)) (by rw [tr_n hs_0 c_6, inm_n c_8]; exact poW_l rfl (out_n _) rfl) hP hS hx hb hr hlocks dX1_translate_142
          · skip
            have c_8 := of_decide_eq_true ((bI_n _).mp c_8)
            refine lv_iconst (v := 0) hx hb dX1_translate_133 (by decide) ?_
            refine lv_goto (tgt := 142) hx hb dX1_translate_134 (by decide) ?_
            exact gri ((lN a_0, 0, false, tb_0, rd_0)) (by rw [tr_n hs_0 c_6, inm_y c_8]; exact poW_r rfl rfl) hP hS hx hb hr hlocks dX1_translate_142
        · skip
          have c_6 := (bI_n _).mp c_6
          refine lv_aload_n hx hb dX1_translate_92 rfl (lv_at hl 3 rfl) ?_
          refine lv_aload_n hx hb dX1_translate_93 rfl (lv_at hl 3 rfl) ?_
          refine va_get (D := D) (ci := 1) (v := .long (lN a_0)) (C := RX1) (T := TX1) (N := 16) hx hb hts in_X1 hown hK hP 0 rfl rfl 11 (by decide) (hts _ q58) (fun _ h9 => h9) rfl dX1_translate_94 ?_
          refine lv_iload_n hx hb dX1_translate_97 rfl (lv_at hl 5 rfl) ?_
          refine lv_aload_n hx hb dX1_translate_98 rfl (lv_at hl 3 rfl) ?_
          refine va_get (D := D) (ci := 1) (v := .int (bI ex)) (C := RX1) (T := TX1) (N := 16) hx hb hts in_X1 hown hK hP 0 rfl rfl 3 (by decide) (hts _ q42) (fun _ h9 => h9) rfl dX1_translate_99 ?_
          refine lv_aload_n hx hb dX1_translate_102 rfl (lv_at hl 3 rfl) ?_
          refine va_get (D := D) (ci := 1) (v := .int (bI mx)) (C := RX1) (T := TX1) (N := 16) hx hb hts in_X1 hown hK hP 0 rfl rfl 8 (by decide) (hts _ q52) (fun _ h9 => h9) rfl dX1_translate_103 ?_
          refine lv_iload_n hx hb dX1_translate_106 rfl (lv_at hl 5 rfl) ?_
          refine gci (va_runV (As := [.long (lN a_0), .int kd, .int (bI ex), .int (bI mx), .int kd]) (rest := []) ⟨hx, hb, hml, hown, hts⟩ (m_onward l D hw mm dA M vi us ex ap vp hg su mx su2 mx2 A (lN a_0) false tb_0 rd_0 a_0 kd ex mx kd false (by omega) hk) (cwV 5 hts (lw_V q174 q176 qs3 q20 q177) rfl rfl rfl (by decide +kernel) ⟨Nat.le_of_ble_eq_true rfl, Nat.le_of_ble_eq_true rfl⟩) (pX_V hK hP hD hZ hS 0 rfl rfl) rfl rfl hl.1 rfl (lv_room (Nat.le_of_ble_eq_true rfl)) dX1_translate_107 ⟨Nat.le_refl _, Nat.le_refl _⟩) hS (fun _ h => h) (fun r_9 u_9 H locs po_9 hP hz_9 hk_9 hS => ?_)
          rcases hs_9 : s2 M hg kd a_0 (ok2 ex mx kd) false with f_9 | q_9
          · skip
            rw [hs_9] at po_9
            obtain ⟨rfl, hn_9, pl_9, tb_9, rd_9, rfl⟩ := po_9
            have hP : va_P D vCl [(hw, wkO mm vi us ex ap vp hg su mx su2 mx2 pl_9 (lN f_9.2.1) false tb_9 rd_9), (mm, arO dA M)] H := hP
            have hD : va_D A [(hw, wkO mm vi us ex ap vp hg su mx su2 mx2 pl_9 (lN f_9.2.1) false tb_9 rd_9), (mm, arO dA M)] := hD.re rfl
            refine lv_istore (lv' := [(6, .int f_9.1), (5, .int root), (3, .long (lN (tn ad))), (0, .ref hw), (1, .int ad), (2, .int kd)]) hx hb dX1_translate_110 hl (by decide) rfl (fun ls hl => ?_)
            refine lv_iload hx hb dX1_translate_112 (lv_at hl 0 rfl) ?_
            refine lv_if_eq (tgt := 122) hx hb dX1_translate_114 (by decide) (fun c_10 => absurd c_10 hn_9) (fun c_10 => ?_)
            refine lv_iload hx hb dX1_translate_117 (lv_at hl 0 rfl) ?_
            refine lv_goto (tgt := 142) hx hb dX1_translate_119 (by decide) ?_
            exact gri ((pl_9, lN f_9.2.1, false, tb_9, rd_9)) (by rw [tr_y hs_0 c_6, hs_9, inm_l]; exact poW_l rfl hn_9 (by rw [s2_en hs_9])) hP hS hx hb hr hlocks dX1_translate_142
          · skip
            rw [hs_9] at po_9
            obtain ⟨rfl, tb_9, rd_9, rfl⟩ := po_9
            have hq_9 := s2_lt (by omega) hs_9
            have hP : va_P D vCl [(hw, wkO mm vi us ex ap vp hg su mx su2 mx2 (lN q_9) 0 false tb_9 rd_9), (mm, arO dA M)] H := hP
            have hD : va_D A [(hw, wkO mm vi us ex ap vp hg su mx su2 mx2 (lN q_9) 0 false tb_9 rd_9), (mm, arO dA M)] := hD.re rfl
            refine lv_istore (lv' := [(6, .int 0), (5, .int root), (3, .long (lN (tn ad))), (0, .ref hw), (1, .int ad), (2, .int kd)]) hx hb dX1_translate_110 hl (by decide) rfl (fun ls hl => ?_)
            refine lv_iload hx hb dX1_translate_112 (lv_at hl 0 rfl) ?_
            refine lv_if_eq (tgt := 122) hx hb dX1_translate_114 (by decide) (fun c_11 => ?_) (fun c_11 => absurd c_11 (by decide))
            refine lv_aload_n hx hb dX1_translate_122 rfl (lv_at hl 3 rfl) ?_
            refine lv_aload_n hx hb dX1_translate_123 rfl (lv_at hl 3 rfl) ?_
            refine va_get (D := D) (ci := 1) (v := .long (lN q_9)) (C := RX1) (T := TX1) (N := 16) hx hb hts in_X1 hown hK hP 0 rfl rfl 11 (by decide) (hts _ q58) (fun _ h9 => h9) rfl dX1_translate_124 ?_
            refine pcall (va_runV (As := [.long (lN q_9)]) (rest := []) ⟨hx, hb, hml, hown, hts⟩ (m_isInside l D hw mm dA M vi us ex ap vp hg su mx su2 mx2 (lN q_9) 0 false tb_9 rd_9 q_9 (by omega)) (cwV 1 hts (lw_V q184 q186 qs5 q20 q187) rfl rfl rfl (by decide +kernel) ⟨Nat.le_of_ble_eq_true rfl, Nat.le_of_ble_eq_true rfl⟩) (pR_V hK hP 0 rfl rfl) rfl rfl hl.1 rfl (lv_room (Nat.le_of_ble_eq_true rfl)) dX1_translate_127 ⟨Nat.le_refl _, Nat.le_refl _⟩) ?_
            refine lv_if_eq (tgt := 137) hx hb dX1_translate_130 (by decide) (fun c_12 => ?_) (fun c_12 => ?_)
            · skip
              have c_12 := of_decide_eq_false ((bI_z _).mp c_12)
              refine va_gets hx hb hZO hS hown (hts _ q188) (fun _ h9 => h9) dX1_translate_137 ?_
              refine lv_iload_n hx hb dX1_translate_140 rfl (lv_at hl 5 rfl) ?_
              refine va_tb hx hb hTO hS (k3_in hk) (k3_o hk) dX1_translate_141 ?_
              exact gri ((lN q_9, 0, false, tb_9, rd_9)) (by rw [tr_y hs_0 c_6, hs_9, inm_n c_12]; exact poW_l rfl (out_n _) rfl) hP hS hx hb hr hlocks dX1_translate_142
            · skip
              have c_12 := of_decide_eq_true ((bI_n _).mp c_12)
              refine lv_iconst (v := 0) hx hb dX1_translate_133 (by decide) ?_
              refine lv_goto (tgt := 142) hx hb dX1_translate_134 (by decide) ?_
              exact gri ((lN q_9, 0, false, tb_9, rd_9)) (by rw [tr_y hs_0 c_6, hs_9, inm_y c_12]; exact poW_r rfl rfl) hP hS hx hb hr hlocks dX1_translate_142
    · skip
      refine lv_if_ge (tgt := 80) hx hb dX1_translate_47 (by decide) (fun c_13 => ?_) (fun c_13 => ?_)
      · skip
        have hst : st1 M hg kd root vi us (if vi = true then su2 else su) ex (mx || (vi && mx2)) (tn ad) = .inr (tn ad) := if_neg (fa_of_nlt' c_13)
        exact K_2 (0, (lN (tn ad), 0, false, tb, rd)) _ _ _ ⟨by rw [hst]; exact poW_r rfl rfl, hP, hS, hl⟩
      · skip
        have hst : st1 M hg kd root vi us (if vi = true then su2 else su) ex (mx || (vi && mx2)) (tn ad) = wk (rdx M hg kd vi) (rt1 root) (tn ad) (ok1 us (if vi = true then su2 else su) ex (mx || (vi && mx2)) kd) (pagC kd, 0, false) := if_pos (fa_of_nle' c_13)
        refine lv_aload_n hx hb dX1_translate_50 rfl (lv_at hl 3 rfl) ?_
        refine lv_iload hx hb dX1_translate_51 (lv_at hl 1 rfl) ?_
        refine lv_ldc hx hb hown (hts _ q162) dX1_translate_53 ?_
        refine lv_iand hx hb dX1_translate_55 ?_
        refine lv_i2l hx hb dX1_translate_56 rfl ?_
        refine lv_ldc2 hx hb hown (hts _ q163) dX1_translate_57 ?_
        refine lv_lmul hx hb dX1_translate_60 ?_
        refine tpl (y := lN (rt1 root)) (rt1_v root) ?_
        refine lv_lload_n hx hb dX1_translate_61 rfl (lv_at hl 2 rfl) ?_
        refine lv_iload_n hx hb dX1_translate_62 rfl (lv_at hl 5 rfl) ?_
        refine lv_aload_n hx hb dX1_translate_63 rfl (lv_at hl 3 rfl) ?_
        refine va_get (D := D) (ci := 1) (v := .int (bI vi)) (C := RX1) (T := TX1) (N := 16) hx hb hts in_X1 hown hK hP 0 rfl rfl 1 (by decide) (hts _ q38) (fun _ h9 => h9) rfl dX1_translate_64 ?_
        refine jn (X := Int32) (fun x_ => F0 m 75 ls [.int x_, .int kd, .long (lN (tn ad)), .long (lN (rt1 root)), .ref hw]) (fun x_ => x_ = bI (!vi)) ?_ (fun K_14 => ?_)
        · intro x_ ex_
          have ex_ := ex_.symm
          subst ex_
          refine gci (va_runV (As := [.long (lN (rt1 root)), .long (lN (tn ad)), .int kd, .int (bI (!vi))]) (rest := []) ⟨hx, hb, hml, hown, hts⟩ (m_walk l D hw mm dA M vi us ex ap vp hg su mx su2 mx2 A (lN (tn ad)) tb rd (rt1 root) (tn ad) kd vi hrt had hk) (cwV 4 hts (lw_V q164 q166 qs1 q20 q167) rfl rfl rfl (by decide +kernel) ⟨Nat.le_of_ble_eq_true rfl, Nat.le_of_ble_eq_true rfl⟩) (pX_V hK hP hD hZ hS 0 rfl rfl) rfl rfl hl.1 rfl (lv_room (Nat.le_of_ble_eq_true rfl)) dX1_translate_75 ⟨Nat.le_refl _, Nat.le_refl _⟩) hS (fun _ h => h) (fun r_15 u_15 H locs po_15 hP hz_15 hk_15 hS => ?_)
          obtain ⟨pl_15, se_15, en_15, tb_15, rd_15⟩ := u_15
          have hP : va_P D vCl [(hw, wkO mm vi us ex ap vp hg su mx su2 mx2 pl_15 se_15 en_15 tb_15 rd_15), (mm, arO dA M)] H := hP
          have hD : va_D A [(hw, wkO mm vi us ex ap vp hg su mx su2 mx2 pl_15 se_15 en_15 tb_15 rd_15), (mm, arO dA M)] := hD.re rfl
          refine lv_istore (lv' := [(6, .int r_15), (5, .int root), (3, .long (lN (tn ad))), (0, .ref hw), (1, .int ad), (2, .int kd)]) hx hb dX1_translate_78 hl (by decide) rfl (fun ls hl => ?_)
          exact K_2 (r_15, (pl_15, se_15, en_15, tb_15, rd_15)) _ _ _ ⟨by rw [hst]; exact po_15, hP, hS, lv_sub hl [0, 1, 2, 3, 4, 5] rfl⟩
        · skip
          refine lv_if_ne (tgt := 74) hx hb dX1_translate_67 (by decide) (fun c_16 => ?_) (fun c_16 => ?_)
          · skip
            have c_16 := (bI_n _).mp c_16
            refine lv_iconst (v := 0) hx hb dX1_translate_74 (by decide) ?_
            exact K_14 _ (by simp [bI, c_16])
          · skip
            have c_16 := (bI_z _).mp c_16
            refine lv_iconst (v := 1) hx hb dX1_translate_70 (by decide) ?_
            refine lv_goto (tgt := 75) hx hb dX1_translate_71 (by decide) ?_
            exact K_14 _ (by simp [bI, c_16])
  · skip
    refine lv_if_eq (tgt := 31) hx hb dX1_translate_21 (by decide) (fun c_17 => ?_) (fun c_17 => ?_)
    · skip
      have c_17 := (bI_z _).mp c_17
      refine lv_aload_n hx hb dX1_translate_31 rfl (lv_at hl 1 rfl) ?_
      refine va_get (D := D) (ci := 1) (v := .int ap) (C := RX1) (T := TX1) (N := 16) hx hb hts in_X1 hown hK hP 0 rfl rfl 4 (by decide) (hts _ q44) (fun _ h9 => h9) rfl dX1_translate_32 ?_
      exact K_1 _ (by rw [hro]; simp [c_17])
    · skip
      have c_17 := (bI_n _).mp c_17
      refine lv_aload_n hx hb dX1_translate_24 rfl (lv_at hl 1 rfl) ?_
      refine va_get (D := D) (ci := 1) (v := .int vp) (C := RX1) (T := TX1) (N := 16) hx hb hts in_X1 hown hK hP 0 rfl rfl 5 (by decide) (hts _ q46) (fun _ h9 => h9) rfl dX1_translate_25 ?_
      refine lv_goto (tgt := 35) hx hb dX1_translate_28 (by decide) ?_
      exact K_1 _ (by rw [hro]; simp [c_17])
end
section
/-! StageWalkerModel: leaves -/
set_option maxRecDepth 100000
abbrev mU : Type := Int32 × Int64 × Bool
abbrev mW (hm mm : Nat) (dA : ClassId) (M : Nat → Int32) (th ap vp hg ri pl to : Int32) (te : Bool) (kd : Int32) (vi us ex : Bool) (u : mU) : va_W := [(hm, mdO th mm ap vp hg ri pl to te kd vi us ex u.1 u.2.1 u.2.2), (mm, arO dA M)]
theorem set_b (x : Int32) (k : Nat) (hk : k < 31) : ((x >>> (nI k &&& 31)) &&& 1 = 1) ↔ eb x k = true := by
  have h1 := b_sshr k (by omega) x (i := 0) (by decide)
  rw [Nat.add_zero, if_pos (by omega)] at h1
  have h2 := pk_and (x >>> (nI k &&& 31)) (m := 1) 1 (by decide)
  rw [h2]
  show (nI _ = nI 1) ↔ _
  rw [nI_eq (by have := Nat.mod_lt (x >>> (nI k &&& 31)).toBitVec.toNat (show 0 < 2 ^ 1 by decide); omega) (by decide)]
  have h3 : bt x k = eb x k := rfl
  rw [← h3, ← h1]
  show _ ↔ (x >>> (nI k &&& 31)).toBitVec.toNat.testBit 0 = true
  rw [Nat.testBit_zero, decide_eq_true_iff]
theorem set_bn (x : Int32) (k : Nat) (hk : k < 31) : (¬ (x >>> (nI k &&& 31)) &&& 1 = 1) ↔ eb x k = false := (not_congr (set_b x k hk)).trans (by cases eb x k <;> simp)
theorem pag8 (k : Int32) : pagC k + 8 = gueC k := by
  unfold pagC gueC
  by_cases h : k = 0
  · rw [if_pos h, if_pos h]; decide
  · rw [if_neg h, if_neg h]
    by_cases h1 : k = 1
    · rw [if_pos h1, if_pos h1]; decide
    · rw [if_neg h1, if_neg h1]; decide
/-- the fault of a walk at its stage -/
def sf (st k : Int32) (fr : Nat) (ent : Bool) : Flt := if st < 2 then (pagC k, 0, false) else (gueC k, fr, ent)
/-- what the model asks of a leaf -/
def okA (st k ri : Int32) (us ex en : Bool) (x : Int32) : Bool :=
  lef x && eb x 6 && (if st = 2 ∨ us = true then eb x 4 else (!eb x 4 || (decide (¬ k = 0) && eb ri (if st = 1 then 2 else 0)))) &&
    (if en = true then eb x 1 else if k = 0 ∨ ex = true then eb x 3 else if k = 2 then (eb x 2 && eb x 7) else (eb x 1 || (eb x 3 && (eb ri 1 || (decide (st = 1) && eb ri 3)))))
def poM (sp : Flt ⊕ Nat) (r : Int64) (u : mU) : Prop := match sp with
  | .inl f => r = -1 ∧ u = (f.1, lN f.2.1, f.2.2)
  | .inr a => r = lN a
def poE (sp : Flt ⊕ Int32) (r : Int64) (u : mU) : Prop := match sp with
  | .inl f => r = -1 ∧ u = (f.1, lN f.2.1, f.2.2)
  | .inr x => r = lN (tn x)
theorem poM_l {f : Flt} {r : Int64} {u : mU} (h : r = -1) (hu : u = (f.1, lN f.2.1, f.2.2)) : poM (.inl f) r u := And.intro h hu
theorem poM_r {a : Nat} {r : Int64} {u : mU} (h : r = lN a) : poM (.inr a) r u := h
theorem poE_l {f : Flt} {r : Int64} {u : mU} (h : r = -1) (hu : u = (f.1, lN f.2.1, f.2.2)) : poE (.inl f) r u := And.intro h hu
theorem poE_r {x : Int32} {r : Int64} {u : mU} (h : r = lN (tn x)) : poE (.inr x) r u := h
theorem lg_nn {n : Nat} (h : n < 9223372036854775808) : 0 ≤ lg_cmp (lN n) 0 := (lg_cmp_ge _ _).mpr ((pk_lLE (a := 0) (by decide) h).mpr (Nat.zero_le _))
theorem lg_nl {n : Nat} (h : n < 9223372036854775808) : ¬ lg_cmp (lN n) 0 < 0 := fun z => by
  have z := (lg_cmp_lt _ _).mp z
  exact absurd ((pk_lLT (b := 0) h (by decide)).mp z) (by omega)
set_option maxHeartbeats 4000000 in
/-- isSet -/
theorem m_isSet (l : Launch) (x bi : Int32) (k : Nat) (hbk : bi = nI k) (hk : k < 31) : Met l yX2_isSet (ws_ yX2_isSet cX2_isSet 2 (some .boolean)) (rmX 0 0) (va_Pc [.int x, .int bi] (Tt)) (QP (.int (bI (eb x k)))) 0 0 NoA := by
  refine mst (by decide) (Nat.le_of_ble_eq_true rfl) ?_
  intro p ee s m below meth c hx hb hr hlocks hml hown hts hin hB ls hl
  have hl : lv_has ls 2 [(0, .int x), (1, .int bi)] := hl
  subst hbk
  refine lv_iload_n hx hb dX2_isSet_0 rfl (lv_at hl 0 rfl) ?_
  refine lv_iload_n hx hb dX2_isSet_1 rfl (lv_at hl 1 rfl) ?_
  refine lv_ishr hx hb dX2_isSet_2 ?_
  refine lv_iconst (v := 1) hx hb dX2_isSet_3 (by decide) ?_
  refine lv_iand hx hb dX2_isSet_4 ?_
  refine lv_iconst (v := 1) hx hb dX2_isSet_5 (by decide) ?_
  refine lv_icmp_ne (tgt := 13) hx hb dX2_isSet_6 (by decide) (fun c_1 => ?_) (fun c_1 => ?_)
  · skip
    have c_1 := (set_bn _ k hk).mp c_1
    refine lv_iconst (v := 0) hx hb dX2_isSet_13 (by decide) ?_
    exact prz (by rw [c_1]; rfl) hx hb hr hlocks dX2_isSet_14
  · skip
    have c_1 := (set_b _ k hk).mp c_1
    refine lv_iconst (v := 1) hx hb dX2_isSet_9 (by decide) ?_
    refine lv_goto (tgt := 14) hx hb dX2_isSet_10 (by decide) ?_
    exact prz (by rw [c_1]; rfl) hx hb hr hlocks dX2_isSet_14
set_option maxHeartbeats 4000000 in
/-- has -/
theorem m_has (l : Launch) (D : va_G) (hm mm : Nat) (dA : ClassId) (M : Nat → Int32) (th ap vp hg ri pl to : Int32) (te : Bool) (kd : Int32) (vi us ex : Bool) (ca : Int32) (fa : Int64) (oe : Bool) (bi : Int32) (k : Nat) (hbk : bi = nI k) (hk : k < 31) : Met l yX2_has (ws_ yX2_has cX2_has 2 (some .boolean)) (rmX 0 0) (va_Pc [.ref hm, .int bi] (Gr D vCl [(dA, .int)] (mW hm mm dA M th ap vp hg ri pl to te kd vi us ex (ca, fa, oe)))) (QP (.int (bI (eb ri k)))) 0 0 NoA := by
  refine mst (by decide) (Nat.le_of_ble_eq_true rfl) ?_
  intro p ee s m below meth c hx hb hr hlocks hml hown hts hin hB ls hl
  have hl : lv_has ls 2 [(0, .ref hm), (1, .int bi)] := hl
  obtain ⟨hP, hK⟩ := hB
  have hP : va_P D vCl [(hm, mdO th mm ap vp hg ri pl to te kd vi us ex ca fa oe), (mm, arO dA M)] s.heap := hP
  subst hbk
  refine lv_aload_n hx hb dX2_has_0 rfl (lv_at hl 0 rfl) ?_
  refine va_get (D := D) (ci := 2) (v := .int ri) (C := RX2) (T := TX2) (N := 16) hx hb hts in_X2 hown hK hP 0 rfl rfl 5 (by decide) (hts _ q251) (fun _ h9 => h9) rfl dX2_has_1 ?_
  refine lv_iload_n hx hb dX2_has_4 rfl (lv_at hl 1 rfl) ?_
  refine lv_ishr hx hb dX2_has_5 ?_
  refine lv_iconst (v := 1) hx hb dX2_has_6 (by decide) ?_
  refine lv_iand hx hb dX2_has_7 ?_
  refine lv_iconst (v := 1) hx hb dX2_has_8 (by decide) ?_
  refine lv_icmp_ne (tgt := 16) hx hb dX2_has_9 (by decide) (fun c_1 => ?_) (fun c_1 => ?_)
  · skip
    have c_1 := (set_bn _ k hk).mp c_1
    refine lv_iconst (v := 0) hx hb dX2_has_16 (by decide) ?_
    exact prz (by rw [c_1]; rfl) hx hb hr hlocks dX2_has_17
  · skip
    have c_1 := (set_b _ k hk).mp c_1
    refine lv_iconst (v := 1) hx hb dX2_has_12 (by decide) ?_
    refine lv_goto (tgt := 17) hx hb dX2_has_13 (by decide) ?_
    exact prz (by rw [c_1]; rfl) hx hb hr hlocks dX2_has_17
set_option maxHeartbeats 4000000 in
/-- wordAt -/
theorem m_wordAt (l : Launch) (D : va_G) (hm mm : Nat) (dA : ClassId) (M : Nat → Int32) (th ap vp hg ri pl to : Int32) (te : Bool) (kd : Int32) (vi us ex : Bool) (ca : Int32) (fa : Int64) (oe : Bool) (a : Nat) (ha : a < 262144) : Met l yX2_wordAt (ws_ yX2_wordAt cX2_wordAt 3 (some .int)) (rmX 0 0) (va_Pc [.ref hm, .long (lN a)] (Gr D vCl [(dA, .int)] (mW hm mm dA M th ap vp hg ri pl to te kd vi us ex (ca, fa, oe)))) (QP (.int (M (a / 4)))) 0 0 NoA := by
  refine mst (by decide) (Nat.le_of_ble_eq_true rfl) ?_
  intro p ee s m below meth c hx hb hr hlocks hml hown hts hin hB ls hl
  have hl : lv_has ls 3 [(0, .ref hm), (1, .long (lN a))] := hl
  obtain ⟨hP, hK⟩ := hB
  have hP : va_P D vCl [(hm, mdO th mm ap vp hg ri pl to te kd vi us ex ca fa oe), (mm, arO dA M)] s.heap := hP
  refine lv_aload_n hx hb dX2_wordAt_0 rfl (lv_at hl 0 rfl) ?_
  refine va_get (D := D) (ci := 2) (v := .ref mm) (C := RX2) (T := TX2) (N := 16) hx hb hts in_X2 hown hK hP 0 rfl rfl 1 (by decide) (hts _ q247) (fun _ h9 => h9) rfl dX2_wordAt_1 ?_
  refine lv_lload_n hx hb dX2_wordAt_4 rfl (lv_at hl 1 rfl) ?_
  refine lv_ldc2 hx hb hown (hts _ q332) dX2_wordAt_5 ?_
  refine lv_ldiv hx hb dX2_wordAt_8 (by decide) ?_
  refine tpl (y := lN (a / 4)) (pk_lDiv (b := 4) (by omega) (by decide) (by decide)) ?_
  refine lv_l2i hx hb dX2_wordAt_9 rfl ?_
  refine tpi (y := nI (a / 4)) (lN_i _) ?_
  refine va_iald hx hb hK hP 1 0 rfl rfl (vp_in_nI (by omega) (by decide)) dX2_wordAt_10 ?_
  exact pri (by rw [nI_clamp (by omega)]) hx hb hr hlocks dX2_wordAt_11
set_option maxHeartbeats 4000000 in
/-- fails -/
theorem m_fails (l : Launch) (D : va_G) (hm mm : Nat) (dA : ClassId) (M : Nat → Int32) (th ap vp hg ri pl to : Int32) (te : Bool) (kd : Int32) (vi us ex : Bool) (A : Nat → Prop) (ca : Int32) (fa : Int64) (oe : Bool) (wy : Int32) (of_ : Int64) (en : Bool) : Met l yX2_fails (ws_ yX2_fails cX2_fails 5 (some .long)) (rmX 0 0) (va_Pc [.ref hm, .int wy, .long of_, .int (bI en)] (Gm D vCl [(dA, .int)] A (mW hm mm dA M th ap vp hg ri pl to te kd vi us ex (ca, fa, oe)))) (GQl D vCl A (mW hm mm dA M th ap vp hg ri pl to te kd vi us ex) (fun r u => r = -1 ∧ u = (wy, of_, en))) 0 0 A := by
  refine mst (by decide) (Nat.le_of_ble_eq_true rfl) ?_
  intro p ee s m below meth c hx hb hr hlocks hml hown hts hin hB ls hl
  have hl : lv_has ls 5 [(0, .ref hm), (1, .int wy), (2, .long of_), (4, .int (bI en))] := hl
  obtain ⟨hP, hK, hD⟩ := hB
  have hP : va_P D vCl [(hm, mdO th mm ap vp hg ri pl to te kd vi us ex ca fa oe), (mm, arO dA M)] s.heap := hP
  have hD : va_D A [(hm, mdO th mm ap vp hg ri pl to te kd vi us ex ca fa oe), (mm, arO dA M)] := hD
  have hS : va_S A s.heap s.heap [] := va_S.rf
  refine lv_aload_n hx hb dX2_fails_0 rfl (lv_at hl 0 rfl) ?_
  refine lv_iload_n hx hb dX2_fails_1 rfl (lv_at hl 1 rfl) ?_
  refine va_put (D := D) (ci := 2) (v := .int wy) (ty := .int) (C := RX2) (T := TX2) (N := 16) hx hb hts in_X2 tyX2 tyX2_ok nmX2 hown hK hP hD hS 0 rfl rfl 13 (by decide) (hts _ q259) (fun _ h9 => h9) rfl (by decide +kernel) rfl rfl (Nat.le_of_ble_eq_true rfl) dX2_fails_2 (fun H locs hP hD hS => ?_)
  have hP : va_P D vCl [(hm, mdO th mm ap vp hg ri pl to te kd vi us ex wy fa oe), (mm, arO dA M)] H := hP
  have hD : va_D A [(hm, mdO th mm ap vp hg ri pl to te kd vi us ex wy fa oe), (mm, arO dA M)] := hD
  refine lv_aload_n hx hb dX2_fails_5 rfl (lv_at hl 0 rfl) ?_
  refine lv_lload_n hx hb dX2_fails_6 rfl (lv_at hl 2 rfl) ?_
  refine va_put (D := D) (ci := 2) (v := .long of_) (ty := .long) (C := RX2) (T := TX2) (N := 16) hx hb hts in_X2 tyX2 tyX2_ok nmX2 hown hK hP hD hS 0 rfl rfl 14 (by decide) (hts _ q260) (fun _ h9 => h9) rfl (by decide +kernel) rfl rfl (Nat.le_of_ble_eq_true rfl) dX2_fails_7 (fun H locs hP hD hS => ?_)
  have hP : va_P D vCl [(hm, mdO th mm ap vp hg ri pl to te kd vi us ex wy of_ oe), (mm, arO dA M)] H := hP
  have hD : va_D A [(hm, mdO th mm ap vp hg ri pl to te kd vi us ex wy of_ oe), (mm, arO dA M)] := hD
  refine lv_aload_n hx hb dX2_fails_10 rfl (lv_at hl 0 rfl) ?_
  refine lv_iload hx hb dX2_fails_11 (lv_at hl 3 rfl) ?_
  refine va_put (D := D) (ci := 2) (v := .int (bI en)) (ty := .boolean) (C := RX2) (T := TX2) (N := 16) hx hb hts in_X2 tyX2 tyX2_ok nmX2 hown hK hP hD hS 0 rfl rfl 15 (by decide) (hts _ q261) (fun _ h9 => h9) rfl (by decide +kernel) (nar_bI _) (fit_bI _) (Nat.le_of_ble_eq_true rfl) dX2_fails_13 (fun H locs hP hD hS => ?_)
  have hP : va_P D vCl [(hm, mdO th mm ap vp hg ri pl to te kd vi us ex wy of_ en), (mm, arO dA M)] H := hP
  have hD : va_D A [(hm, mdO th mm ap vp hg ri pl to te kd vi us ex wy of_ en), (mm, arO dA M)] := hD
  refine lv_ldc2 hx hb hown (hts _ q351) dX2_fails_16 ?_
  exact grl ((wy, of_, en)) (⟨rfl, rfl⟩) hP hS hx hb hr hlocks dX2_fails_19
theorem fa_ge2 {x : Int32} (h : 2 ≤ x) : ¬ x < 2 := fun z => by rw [fa_lt] at z; rw [fa_le] at h; omega
set_option maxHeartbeats 4000000 in
/-- stageFault -/
theorem m_stageFault (l : Launch) (D : va_G) (hm mm : Nat) (dA : ClassId) (M : Nat → Int32) (th ap vp hg ri pl to : Int32) (te : Bool) (kd : Int32) (vi us ex : Bool) (A : Nat → Prop) (ca : Int32) (fa : Int64) (oe : Bool) (st : Int32) (fr : Nat) (en : Bool) : Met l yX2_stageFault (ws_ yX2_stageFault cX2_stageFault 6 (some .long)) (rmX 1 24) (va_Pc [.ref hm, .int st, .long (lN fr), .int (bI en)] (Gm D vCl [(dA, .int)] A (mW hm mm dA M th ap vp hg ri pl to te kd vi us ex (ca, fa, oe)))) (GQl D vCl A (mW hm mm dA M th ap vp hg ri pl to te kd vi us ex) (fun r u => r = -1 ∧ u = ((sf st kd fr en).1, lN (sf st kd fr en).2.1, (sf st kd fr en).2.2))) 0 0 A := by
  refine mst (by decide) (Nat.le_of_ble_eq_true rfl) ?_
  intro p ee s m below meth c hx hb hr hlocks hml hown hts hin hB ls hl
  have hl : lv_has ls 6 [(0, .ref hm), (1, .int st), (2, .long (lN fr)), (4, .int (bI en))] := hl
  obtain ⟨hP, hK, hD⟩ := hB
  have hP : va_P D vCl [(hm, mdO th mm ap vp hg ri pl to te kd vi us ex ca fa oe), (mm, arO dA M)] s.heap := hP
  have hD : va_D A [(hm, mdO th mm ap vp hg ri pl to te kd vi us ex ca fa oe), (mm, arO dA M)] := hD
  have hS : va_S A s.heap s.heap [] := va_S.rf
  refine lv_aload_n hx hb dX2_stageFault_0 rfl (lv_at hl 0 rfl) ?_
  refine va_get (D := D) (ci := 2) (v := .int kd) (C := RX2) (T := TX2) (N := 16) hx hb hts in_X2 hown hK hP 0 rfl rfl 9 (by decide) (hts _ q255) (fun _ h9 => h9) rfl dX2_stageFault_1 ?_
  refine jn (X := Int32) (fun x_ => F0 m 27 ls [.int x_]) (fun x_ => x_ = pagC kd) ?_ (fun K_1 => ?_)
  · intro x_ ex_
    have ex_ := ex_.symm
    subst ex_
    refine lv_istore (lv' := [(5, .int (pagC kd)), (0, .ref hm), (1, .int st), (2, .long (lN fr)), (4, .int (bI en))]) hx hb dX2_stageFault_27 hl (by decide) rfl (fun ls hl => ?_)
    refine lv_iload_n hx hb dX2_stageFault_29 rfl (lv_at hl 2 rfl) ?_
    refine lv_iconst (v := 2) hx hb dX2_stageFault_30 (by decide) ?_
    refine lv_icmp_ge (tgt := 45) hx hb dX2_stageFault_31 (by decide) (fun c_2 => ?_) (fun c_2 => ?_)
    · skip
      refine lv_aload_n hx hb dX2_stageFault_45 rfl (lv_at hl 1 rfl) ?_
      refine lv_iload hx hb dX2_stageFault_46 (lv_at hl 0 rfl) ?_
      refine lv_bipush (v := 8) hx hb dX2_stageFault_48 (by decide) ?_
      refine lv_iadd hx hb dX2_stageFault_50 ?_
      refine tpi (y := gueC kd) (pag8 kd) ?_
      refine lv_lload_n hx hb dX2_stageFault_51 rfl (lv_at hl 3 rfl) ?_
      refine lv_iload hx hb dX2_stageFault_52 (lv_at hl 4 rfl) ?_
      refine gcl (va_runV (As := [.int (gueC kd), .long (lN fr), .int (bI en)]) (rest := []) ⟨hx, hb, hml, hown, hts⟩ (m_fails l D hm mm dA M th ap vp hg ri pl to te kd vi us ex A ca fa oe (gueC kd) (lN fr) en) (cwV 3 hts (lw_V q347 q349 qs13 q21 q350) rfl rfl rfl (by decide +kernel) ⟨Nat.le_of_ble_eq_true rfl, Nat.le_of_ble_eq_true rfl⟩) (pM_V hK hP hD 0 rfl rfl) rfl rfl hl.1 rfl (lv_room (Nat.le_of_ble_eq_true rfl)) dX2_stageFault_54 ⟨Nat.le_refl _, Nat.le_refl _⟩) hS (fun _ h => h) (fun r_3 u_3 H locs po_3 hP hz_3 hk_3 hS => ?_)
      obtain ⟨rfl, rfl⟩ := po_3
      have hP : va_P D vCl [(hm, mdO th mm ap vp hg ri pl to te kd vi us ex (gueC kd) (lN fr) en), (mm, arO dA M)] H := hP
      have hD : va_D A [(hm, mdO th mm ap vp hg ri pl to te kd vi us ex (gueC kd) (lN fr) en), (mm, arO dA M)] := hD.re rfl
      exact grl ((gueC kd, lN fr, en)) (⟨rfl, by rw [sf, if_neg (fa_ge2 c_2)]⟩) hP hS hx hb hr hlocks dX2_stageFault_57
    · skip
      refine lv_aload_n hx hb dX2_stageFault_34 rfl (lv_at hl 1 rfl) ?_
      refine lv_iload hx hb dX2_stageFault_35 (lv_at hl 0 rfl) ?_
      refine lv_lconst (v := 0) hx hb dX2_stageFault_37 (by decide) ?_
      refine lv_iconst (v := 0) hx hb dX2_stageFault_38 (by decide) ?_
      refine gcl (va_runV (As := [.int (pagC kd), .long 0, .int 0]) (rest := []) ⟨hx, hb, hml, hown, hts⟩ (m_fails l D hm mm dA M th ap vp hg ri pl to te kd vi us ex A ca fa oe (pagC kd) 0 false) (cwV 3 hts (lw_V q347 q349 qs13 q21 q350) rfl rfl rfl (by decide +kernel) ⟨Nat.le_of_ble_eq_true rfl, Nat.le_of_ble_eq_true rfl⟩) (pM_V hK hP hD 0 rfl rfl) rfl rfl hl.1 rfl (lv_room (Nat.le_of_ble_eq_true rfl)) dX2_stageFault_39 ⟨Nat.le_refl _, Nat.le_refl _⟩) hS (fun _ h => h) (fun r_4 u_4 H locs po_4 hP hz_4 hk_4 hS => ?_)
      obtain ⟨rfl, rfl⟩ := po_4
      have hP : va_P D vCl [(hm, mdO th mm ap vp hg ri pl to te kd vi us ex (pagC kd) 0 false), (mm, arO dA M)] H := hP
      have hD : va_D A [(hm, mdO th mm ap vp hg ri pl to te kd vi us ex (pagC kd) 0 false), (mm, arO dA M)] := hD.re rfl
      refine lv_goto (tgt := 57) hx hb dX2_stageFault_42 (by decide) ?_
      exact grl ((pagC kd, 0, false)) (⟨rfl, by rw [sf, if_pos (fa_of_nle c_2)]; rfl⟩) hP hS hx hb hr hlocks dX2_stageFault_57
  · skip
    refine lv_if_ne (tgt := 12) hx hb dX2_stageFault_4 (by decide) (fun c_5 => ?_) (fun c_5 => ?_)
    · skip
      refine lv_aload_n hx hb dX2_stageFault_12 rfl (lv_at hl 0 rfl) ?_
      refine va_get (D := D) (ci := 2) (v := .int kd) (C := RX2) (T := TX2) (N := 16) hx hb hts in_X2 hown hK hP 0 rfl rfl 9 (by decide) (hts _ q255) (fun _ h9 => h9) rfl dX2_stageFault_13 ?_
      refine lv_iconst (v := 1) hx hb dX2_stageFault_16 (by decide) ?_
      refine lv_icmp_ne (tgt := 25) hx hb dX2_stageFault_17 (by decide) (fun c_6 => ?_) (fun c_6 => ?_)
      · skip
        refine lv_bipush (v := 15) hx hb dX2_stageFault_25 (by decide) ?_
        exact K_1 _ (by simp [pagC, c_5, c_6])
      · skip
        refine lv_bipush (v := 13) hx hb dX2_stageFault_20 (by decide) ?_
        refine lv_goto (tgt := 27) hx hb dX2_stageFault_22 (by decide) ?_
        exact K_1 _ (by simp [pagC, c_5, c_6])
    · skip
      refine lv_bipush (v := 12) hx hb dX2_stageFault_7 (by decide) ?_
      refine lv_goto (tgt := 27) hx hb dX2_stageFault_9 (by decide) ?_
      exact K_1 _ (by simp [pagC, c_5])
set_option maxHeartbeats 4000000 in
/-- inMemory -/
theorem m_inMemory (l : Launch) (D : va_G) (hm mm : Nat) (dA : ClassId) (M : Nat → Int32) (th ap vp hg ri pl to : Int32) (te : Bool) (kd : Int32) (vi us ex : Bool) (A : Nat → Prop) (ca : Int32) (fa : Int64) (oe : Bool) (a : Nat) (ha : a < 1099511627776) : Met l yX2_inMemory (ws_ yX2_inMemory cX2_inMemory 3 (some .long)) (rmX 1 24) (va_Pc [.ref hm, .long (lN a)] (Gm D vCl [(dA, .int)] A (mW hm mm dA M th ap vp hg ri pl to te kd vi us ex (ca, fa, oe)))) (GQl D vCl A (mW hm mm dA M th ap vp hg ri pl to te kd vi us ex) (poM (inm kd (.inr a)))) 0 0 A := by
  refine mst (by decide) (Nat.le_of_ble_eq_true rfl) ?_
  intro p ee s m below meth c hx hb hr hlocks hml hown hts hin hB ls hl
  have hl : lv_has ls 3 [(0, .ref hm), (1, .long (lN a))] := hl
  obtain ⟨hP, hK, hD⟩ := hB
  have hP : va_P D vCl [(hm, mdO th mm ap vp hg ri pl to te kd vi us ex ca fa oe), (mm, arO dA M)] s.heap := hP
  have hD : va_D A [(hm, mdO th mm ap vp hg ri pl to te kd vi us ex ca fa oe), (mm, arO dA M)] := hD
  have hS : va_S A s.heap s.heap [] := va_S.rf
  refine lv_lload_n hx hb dX2_inMemory_0 rfl (lv_at hl 1 rfl) ?_
  refine lv_ldc2 hx hb hown (hts _ q346) dX2_inMemory_1 ?_
  refine W.lcmp hx hb dX2_inMemory_4 ?_
  refine lv_if_ge (tgt := 12) hx hb dX2_inMemory_5 (by decide) (fun c_1 => ?_) (fun c_1 => ?_)
  · skip
    have c_1 := (pk_lLE (a := 262144) (by decide) (by omega)).mp ((lg_cmp_ge _ _).mp c_1)
    refine lv_aload_n hx hb dX2_inMemory_12 rfl (lv_at hl 0 rfl) ?_
    refine lv_aload_n hx hb dX2_inMemory_13 rfl (lv_at hl 0 rfl) ?_
    refine va_get (D := D) (ci := 2) (v := .int kd) (C := RX2) (T := TX2) (N := 16) hx hb hts in_X2 hown hK hP 0 rfl rfl 9 (by decide) (hts _ q255) (fun _ h9 => h9) rfl dX2_inMemory_14 ?_
    refine jn (X := Int32) (fun x_ => F0 m 38 ls [.int x_, .ref hm]) (fun x_ => x_ = outC kd) ?_ (fun K_2 => ?_)
    · intro x_ ex_
      have ex_ := ex_.symm
      subst ex_
      refine lv_lconst (v := 0) hx hb dX2_inMemory_38 (by decide) ?_
      refine lv_iconst (v := 0) hx hb dX2_inMemory_39 (by decide) ?_
      refine gcl (va_runV (As := [.int (outC kd), .long 0, .int 0]) (rest := []) ⟨hx, hb, hml, hown, hts⟩ (m_fails l D hm mm dA M th ap vp hg ri pl to te kd vi us ex A ca fa oe (outC kd) 0 false) (cwV 3 hts (lw_V q347 q349 qs13 q21 q350) rfl rfl rfl (by decide +kernel) ⟨Nat.le_of_ble_eq_true rfl, Nat.le_of_ble_eq_true rfl⟩) (pM_V hK hP hD 0 rfl rfl) rfl rfl hl.1 rfl (lv_room (Nat.le_of_ble_eq_true rfl)) dX2_inMemory_40 ⟨Nat.le_refl _, Nat.le_refl _⟩) hS (fun _ h => h) (fun r_3 u_3 H locs po_3 hP hz_3 hk_3 hS => ?_)
      obtain ⟨rfl, rfl⟩ := po_3
      have hP : va_P D vCl [(hm, mdO th mm ap vp hg ri pl to te kd vi us ex (outC kd) 0 false), (mm, arO dA M)] H := hP
      have hD : va_D A [(hm, mdO th mm ap vp hg ri pl to te kd vi us ex (outC kd) 0 false), (mm, arO dA M)] := hD.re rfl
      exact grl ((outC kd, 0, false)) (by rw [inm_n (by omega)]; exact poM_l rfl rfl) hP hS hx hb hr hlocks dX2_inMemory_43
    · skip
      refine lv_if_ne (tgt := 24) hx hb dX2_inMemory_17 (by decide) (fun c_4 => ?_) (fun c_4 => ?_)
      · skip
        refine lv_aload_n hx hb dX2_inMemory_24 rfl (lv_at hl 0 rfl) ?_
        refine va_get (D := D) (ci := 2) (v := .int kd) (C := RX2) (T := TX2) (N := 16) hx hb hts in_X2 hown hK hP 0 rfl rfl 9 (by decide) (hts _ q255) (fun _ h9 => h9) rfl dX2_inMemory_25 ?_
        refine lv_iconst (v := 1) hx hb dX2_inMemory_28 (by decide) ?_
        refine lv_icmp_ne (tgt := 36) hx hb dX2_inMemory_29 (by decide) (fun c_5 => ?_) (fun c_5 => ?_)
        · skip
          refine lv_bipush (v := 7) hx hb dX2_inMemory_36 (by decide) ?_
          exact K_2 _ (by simp [outC, c_4, c_5])
        · skip
          refine lv_iconst (v := 5) hx hb dX2_inMemory_32 (by decide) ?_
          refine lv_goto (tgt := 38) hx hb dX2_inMemory_33 (by decide) ?_
          exact K_2 _ (by simp [outC, c_4, c_5])
      · skip
        refine lv_iconst (v := 1) hx hb dX2_inMemory_20 (by decide) ?_
        refine lv_goto (tgt := 38) hx hb dX2_inMemory_21 (by decide) ?_
        exact K_2 _ (by simp [outC, c_4])
  · skip
    have c_1 : ¬ 262144 ≤ a := fun z => c_1 ((lg_cmp_ge _ _).mpr ((pk_lLE (a := 262144) (by decide) (by omega)).mpr z))
    refine lv_lload_n hx hb dX2_inMemory_8 rfl (lv_at hl 1 rfl) ?_
    refine lv_goto (tgt := 43) hx hb dX2_inMemory_9 (by decide) ?_
    exact grl ((ca, fa, oe)) (by rw [inm_y (by omega)]; exact poM_r rfl) hP hS hx hb hr hlocks dX2_inMemory_43
theorem okA_n {st k ri : Int32} {us ex en : Bool} {x : Int32} (h : (lef x && eb x 6) = false) : okA st k ri us ex en x = false := by unfold okA; rw [h]; rfl
theorem okA_y {st k ri : Int32} {us ex en : Bool} {x : Int32} (h : (lef x && eb x 6) = true) : okA st k ri us ex en x = ((if st = 2 ∨ us = true then eb x 4 else (!eb x 4 || (decide (¬ k = 0) && eb ri (if st = 1 then 2 else 0)))) &&
    (if en = true then eb x 1 else if k = 0 ∨ ex = true then eb x 3 else if k = 2 then (eb x 2 && eb x 7) else (eb x 1 || (eb x 3 && (eb ri 1 || (decide (st = 1) && eb ri 3)))))) := by unfold okA; rw [h]; rfl
set_option maxHeartbeats 4000000 in
/-- isAllowed -/
theorem m_isAllowed (l : Launch) (D : va_G) (hm mm : Nat) (dA : ClassId) (M : Nat → Int32) (th ap vp hg ri pl to : Int32) (te : Bool) (kd : Int32) (vi us ex : Bool) (ca : Int32) (fa : Int64) (oe : Bool) (st x : Int32) (en : Bool) : Met l yX2_isAllowed (ws_ yX2_isAllowed cX2_isAllowed 5 (some .boolean)) (rmX 1 21) (va_Pc [.ref hm, .int st, .int x, .int (bI en)] (Gr D vCl [(dA, .int)] (mW hm mm dA M th ap vp hg ri pl to te kd vi us ex (ca, fa, oe)))) (QP (.int (bI (okA st kd ri us ex en x)))) 0 0 NoA := by
  refine mst (by decide) (Nat.le_of_ble_eq_true rfl) ?_
  intro p ee s m below meth c hx hb hr hlocks hml hown hts hin hB ls hl
  have hl : lv_has ls 5 [(0, .ref hm), (1, .int st), (2, .int x), (3, .int (bI en))] := hl
  obtain ⟨hP, hK⟩ := hB
  have hP : va_P D vCl [(hm, mdO th mm ap vp hg ri pl to te kd vi us ex ca fa oe), (mm, arO dA M)] s.heap := hP
  refine lv_iload_n hx hb dX2_isAllowed_0 rfl (lv_at hl 2 rfl) ?_
  refine lv_iconst (v := 1) hx hb dX2_isAllowed_1 (by decide) ?_
  refine pcall (va_runS (As := [.int x, .int 1]) (rest := []) ⟨hx, hb, hml, hown, hts⟩ (m_isSet l x 1 1 rfl (by decide)) (va_cwS 2 hts (lw_S q368 q369 q21 q370) rfl rfl rfl (by decide +kernel) ⟨Nat.le_of_ble_eq_true rfl, Nat.le_of_ble_eq_true rfl⟩) pT_S rfl rfl hl.1 rfl (lv_room (Nat.le_of_ble_eq_true rfl)) dX2_isAllowed_2 ⟨Nat.le_refl _, Nat.le_refl _⟩) ?_
  refine jn (X := Int32) (fun x_ => F0 m 29 ls [.int x_]) (fun x_ => x_ = bI (knd x)) ?_ (fun K_1 => ?_)
  · intro x_ ex_
    have ex_ := ex_.symm
    subst ex_
    refine lv_istore (lv' := [(4, .int (bI (knd x))), (0, .ref hm), (1, .int st), (2, .int x), (3, .int (bI en))]) hx hb dX2_isAllowed_29 hl (by decide) rfl (fun ls hl => ?_)
    refine lv_iload_n hx hb dX2_isAllowed_31 rfl (lv_at hl 3 rfl) ?_
    refine lv_iconst (v := 0) hx hb dX2_isAllowed_32 (by decide) ?_
    refine pcall (va_runS (As := [.int x, .int 0]) (rest := []) ⟨hx, hb, hml, hown, hts⟩ (m_isSet l x 0 0 rfl (by decide)) (va_cwS 2 hts (lw_S q368 q369 q21 q370) rfl rfl rfl (by decide +kernel) ⟨Nat.le_of_ble_eq_true rfl, Nat.le_of_ble_eq_true rfl⟩) pT_S rfl rfl hl.1 rfl (lv_room (Nat.le_of_ble_eq_true rfl)) dX2_isAllowed_33 ⟨Nat.le_refl _, Nat.le_refl _⟩) ?_
    refine lv_if_eq (tgt := 69) hx hb dX2_isAllowed_36 (by decide) (fun c_2 => ?_) (fun c_2 => ?_)
    · skip
      have c_2 := (bI_z _).mp c_2
      refine lv_iconst (v := 0) hx hb dX2_isAllowed_69 (by decide) ?_
      exact prz (by rw [okA_n (by simp [lef, okS, wnr, c_2])]; rfl) hx hb hr hlocks dX2_isAllowed_70
    · skip
      have c_2 := (bI_n _).mp c_2
      refine lv_iload hx hb dX2_isAllowed_39 (lv_at hl 0 rfl) ?_
      refine lv_if_eq (tgt := 69) hx hb dX2_isAllowed_41 (by decide) (fun c_3 => ?_) (fun c_3 => ?_)
      · skip
        have c_3 := (bI_z _).mp c_3
        refine lv_iconst (v := 0) hx hb dX2_isAllowed_69 (by decide) ?_
        exact prz (by rw [okA_n (by simp [lef, okS, wnr, c_2, c_3])]; rfl) hx hb hr hlocks dX2_isAllowed_70
      · skip
        have c_3 := (bI_n _).mp c_3
        refine lv_iload_n hx hb dX2_isAllowed_44 rfl (lv_at hl 3 rfl) ?_
        refine lv_iconst (v := 2) hx hb dX2_isAllowed_45 (by decide) ?_
        refine pcall (va_runS (As := [.int x, .int 2]) (rest := []) ⟨hx, hb, hml, hown, hts⟩ (m_isSet l x 2 2 rfl (by decide)) (va_cwS 2 hts (lw_S q368 q369 q21 q370) rfl rfl rfl (by decide +kernel) ⟨Nat.le_of_ble_eq_true rfl, Nat.le_of_ble_eq_true rfl⟩) pT_S rfl rfl hl.1 rfl (lv_room (Nat.le_of_ble_eq_true rfl)) dX2_isAllowed_46 ⟨Nat.le_refl _, Nat.le_refl _⟩) ?_
        refine lv_if_eq (tgt := 60) hx hb dX2_isAllowed_49 (by decide) (fun c_4 => ?_) (fun c_4 => ?_)
        · skip
          have c_4 := (bI_z _).mp c_4
          refine lv_iload_n hx hb dX2_isAllowed_60 rfl (lv_at hl 3 rfl) ?_
          refine lv_bipush (v := 6) hx hb dX2_isAllowed_61 (by decide) ?_
          refine pcall (va_runS (As := [.int x, .int 6]) (rest := []) ⟨hx, hb, hml, hown, hts⟩ (m_isSet l x 6 6 rfl (by decide)) (va_cwS 2 hts (lw_S q368 q369 q21 q370) rfl rfl rfl (by decide +kernel) ⟨Nat.le_of_ble_eq_true rfl, Nat.le_of_ble_eq_true rfl⟩) pT_S rfl rfl hl.1 rfl (lv_room (Nat.le_of_ble_eq_true rfl)) dX2_isAllowed_63 ⟨Nat.le_refl _, Nat.le_refl _⟩) ?_
          refine lv_if_ne (tgt := 71) hx hb dX2_isAllowed_66 (by decide) (fun c_5 => ?_) (fun c_5 => ?_)
          · skip
            have c_5 := (bI_n _).mp c_5
            have h_6 : (lef x && eb x 6) = true := by simp [lef, okS, wnr, c_2, c_3, c_4, c_5]
            refine lv_iload_n hx hb dX2_isAllowed_71 rfl (lv_at hl 2 rfl) ?_
            refine lv_iconst (v := 2) hx hb dX2_isAllowed_72 (by decide) ?_
            refine lv_icmp_eq (tgt := 83) hx hb dX2_isAllowed_73 (by decide) (fun c_7 => ?_) (fun c_7 => ?_)
            · skip
              refine lv_iload_n hx hb dX2_isAllowed_83 rfl (lv_at hl 3 rfl) ?_
              refine lv_iconst (v := 4) hx hb dX2_isAllowed_84 (by decide) ?_
              refine pcall (va_runS (As := [.int x, .int 4]) (rest := []) ⟨hx, hb, hml, hown, hts⟩ (m_isSet l x 4 4 rfl (by decide)) (va_cwS 2 hts (lw_S q368 q369 q21 q370) rfl rfl rfl (by decide +kernel) ⟨Nat.le_of_ble_eq_true rfl, Nat.le_of_ble_eq_true rfl⟩) pT_S rfl rfl hl.1 rfl (lv_room (Nat.le_of_ble_eq_true rfl)) dX2_isAllowed_85 ⟨Nat.le_refl _, Nat.le_refl _⟩) ?_
              refine lv_if_ne (tgt := 127) hx hb dX2_isAllowed_88 (by decide) (fun c_8 => ?_) (fun c_8 => ?_)
              · skip
                have c_8 := (bI_n _).mp c_8
                refine lv_iload_n hx hb dX2_isAllowed_127 rfl (lv_at hl 4 rfl) ?_
                refine lv_if_eq (tgt := 137) hx hb dX2_isAllowed_128 (by decide) (fun c_9 => ?_) (fun c_9 => ?_)
                · skip
                  have c_9 := (bI_z _).mp c_9
                  refine lv_aload_n hx hb dX2_isAllowed_137 rfl (lv_at hl 1 rfl) ?_
                  refine va_get (D := D) (ci := 2) (v := .int kd) (C := RX2) (T := TX2) (N := 16) hx hb hts in_X2 hown hK hP 0 rfl rfl 9 (by decide) (hts _ q255) (fun _ h9 => h9) rfl dX2_isAllowed_138 ?_
                  refine lv_if_eq (tgt := 151) hx hb dX2_isAllowed_141 (by decide) (fun c_10 => ?_) (fun c_10 => ?_)
                  · skip
                    refine lv_iload_n hx hb dX2_isAllowed_151 rfl (lv_at hl 3 rfl) ?_
                    refine lv_iconst (v := 3) hx hb dX2_isAllowed_152 (by decide) ?_
                    refine pcall (va_runS (As := [.int x, .int 3]) (rest := []) ⟨hx, hb, hml, hown, hts⟩ (m_isSet l x 3 3 rfl (by decide)) (va_cwS 2 hts (lw_S q368 q369 q21 q370) rfl rfl rfl (by decide +kernel) ⟨Nat.le_of_ble_eq_true rfl, Nat.le_of_ble_eq_true rfl⟩) pT_S rfl rfl hl.1 rfl (lv_room (Nat.le_of_ble_eq_true rfl)) dX2_isAllowed_153 ⟨Nat.le_refl _, Nat.le_refl _⟩) ?_
                    exact prz (by rw [okA_y h_6]; simp [bI, c_7, c_8, c_9, c_10]) hx hb hr hlocks dX2_isAllowed_156
                  · skip
                    refine lv_aload_n hx hb dX2_isAllowed_144 rfl (lv_at hl 1 rfl) ?_
                    refine va_get (D := D) (ci := 2) (v := .int (bI ex)) (C := RX2) (T := TX2) (N := 16) hx hb hts in_X2 hown hK hP 0 rfl rfl 12 (by decide) (hts _ q258) (fun _ h9 => h9) rfl dX2_isAllowed_145 ?_
                    refine lv_if_eq (tgt := 157) hx hb dX2_isAllowed_148 (by decide) (fun c_11 => ?_) (fun c_11 => ?_)
                    · skip
                      have c_11 := (bI_z _).mp c_11
                      refine lv_aload_n hx hb dX2_isAllowed_157 rfl (lv_at hl 1 rfl) ?_
                      refine va_get (D := D) (ci := 2) (v := .int kd) (C := RX2) (T := TX2) (N := 16) hx hb hts in_X2 hown hK hP 0 rfl rfl 9 (by decide) (hts _ q255) (fun _ h9 => h9) rfl dX2_isAllowed_158 ?_
                      refine lv_iconst (v := 2) hx hb dX2_isAllowed_161 (by decide) ?_
                      refine lv_icmp_ne (tgt := 188) hx hb dX2_isAllowed_162 (by decide) (fun c_12 => ?_) (fun c_12 => ?_)
                      · skip
                        refine lv_iload_n hx hb dX2_isAllowed_188 rfl (lv_at hl 3 rfl) ?_
                        refine lv_iconst (v := 1) hx hb dX2_isAllowed_189 (by decide) ?_
                        refine pcall (va_runS (As := [.int x, .int 1]) (rest := []) ⟨hx, hb, hml, hown, hts⟩ (m_isSet l x 1 1 rfl (by decide)) (va_cwS 2 hts (lw_S q368 q369 q21 q370) rfl rfl rfl (by decide +kernel) ⟨Nat.le_of_ble_eq_true rfl, Nat.le_of_ble_eq_true rfl⟩) pT_S rfl rfl hl.1 rfl (lv_room (Nat.le_of_ble_eq_true rfl)) dX2_isAllowed_190 ⟨Nat.le_refl _, Nat.le_refl _⟩) ?_
                        refine lv_if_ne (tgt := 225) hx hb dX2_isAllowed_193 (by decide) (fun c_13 => ?_) (fun c_13 => ?_)
                        · skip
                          have c_13 := (bI_n _).mp c_13
                          refine lv_iconst (v := 1) hx hb dX2_isAllowed_225 (by decide) ?_
                          refine lv_goto (tgt := 230) hx hb dX2_isAllowed_226 (by decide) ?_
                          exact prz (by rw [okA_y h_6]; simp [bI, c_7, c_8, c_9, c_10, c_11, c_12, c_13]) hx hb hr hlocks dX2_isAllowed_230
                        · skip
                          have c_13 := (bI_z _).mp c_13
                          refine lv_iload_n hx hb dX2_isAllowed_196 rfl (lv_at hl 3 rfl) ?_
                          refine lv_iconst (v := 3) hx hb dX2_isAllowed_197 (by decide) ?_
                          refine pcall (va_runS (As := [.int x, .int 3]) (rest := []) ⟨hx, hb, hml, hown, hts⟩ (m_isSet l x 3 3 rfl (by decide)) (va_cwS 2 hts (lw_S q368 q369 q21 q370) rfl rfl rfl (by decide +kernel) ⟨Nat.le_of_ble_eq_true rfl, Nat.le_of_ble_eq_true rfl⟩) pT_S rfl rfl hl.1 rfl (lv_room (Nat.le_of_ble_eq_true rfl)) dX2_isAllowed_198 ⟨Nat.le_refl _, Nat.le_refl _⟩) ?_
                          refine lv_if_eq (tgt := 229) hx hb dX2_isAllowed_201 (by decide) (fun c_14 => ?_) (fun c_14 => ?_)
                          · skip
                            have c_14 := (bI_z _).mp c_14
                            refine lv_iconst (v := 0) hx hb dX2_isAllowed_229 (by decide) ?_
                            exact prz (by rw [okA_y h_6]; simp [bI, c_7, c_8, c_9, c_10, c_11, c_12, c_13, c_14]) hx hb hr hlocks dX2_isAllowed_230
                          · skip
                            have c_14 := (bI_n _).mp c_14
                            refine lv_aload_n hx hb dX2_isAllowed_204 rfl (lv_at hl 1 rfl) ?_
                            refine lv_iconst (v := 1) hx hb dX2_isAllowed_205 (by decide) ?_
                            refine pcall (va_runV (As := [.int 1]) (rest := []) ⟨hx, hb, hml, hown, hts⟩ (m_has l D hm mm dA M th ap vp hg ri pl to te kd vi us ex ca fa oe 1 1 rfl (by decide)) (cwV 1 hts (lw_V q371 q373 qs17 q21 q374) rfl rfl rfl (by decide +kernel) ⟨Nat.le_of_ble_eq_true rfl, Nat.le_of_ble_eq_true rfl⟩) (pR_V hK hP 0 rfl rfl) rfl rfl hl.1 rfl (lv_room (Nat.le_of_ble_eq_true rfl)) dX2_isAllowed_206 ⟨Nat.le_refl _, Nat.le_refl _⟩) ?_
                            refine lv_if_ne (tgt := 225) hx hb dX2_isAllowed_209 (by decide) (fun c_15 => ?_) (fun c_15 => ?_)
                            · skip
                              have c_15 := (bI_n _).mp c_15
                              refine lv_iconst (v := 1) hx hb dX2_isAllowed_225 (by decide) ?_
                              refine lv_goto (tgt := 230) hx hb dX2_isAllowed_226 (by decide) ?_
                              exact prz (by rw [okA_y h_6]; simp [bI, c_7, c_8, c_9, c_10, c_11, c_12, c_13, c_14, c_15]) hx hb hr hlocks dX2_isAllowed_230
                            · skip
                              have c_15 := (bI_z _).mp c_15
                              refine lv_iload_n hx hb dX2_isAllowed_212 rfl (lv_at hl 2 rfl) ?_
                              refine lv_iconst (v := 1) hx hb dX2_isAllowed_213 (by decide) ?_
                              refine lv_icmp_ne (tgt := 229) hx hb dX2_isAllowed_214 (by decide) (fun c_16 => ?_) (fun c_16 => absurd (c_7.symm.trans c_16) (by decide))
                              refine lv_iconst (v := 0) hx hb dX2_isAllowed_229 (by decide) ?_
                              exact prz (by rw [okA_y h_6]; simp [bI, c_7, c_8, c_9, c_10, c_11, c_12, c_13, c_14, c_15]) hx hb hr hlocks dX2_isAllowed_230
                      · skip
                        refine lv_iload_n hx hb dX2_isAllowed_165 rfl (lv_at hl 3 rfl) ?_
                        refine lv_iconst (v := 2) hx hb dX2_isAllowed_166 (by decide) ?_
                        refine pcall (va_runS (As := [.int x, .int 2]) (rest := []) ⟨hx, hb, hml, hown, hts⟩ (m_isSet l x 2 2 rfl (by decide)) (va_cwS 2 hts (lw_S q368 q369 q21 q370) rfl rfl rfl (by decide +kernel) ⟨Nat.le_of_ble_eq_true rfl, Nat.le_of_ble_eq_true rfl⟩) pT_S rfl rfl hl.1 rfl (lv_room (Nat.le_of_ble_eq_true rfl)) dX2_isAllowed_167 ⟨Nat.le_refl _, Nat.le_refl _⟩) ?_
                        refine lv_if_eq (tgt := 186) hx hb dX2_isAllowed_170 (by decide) (fun c_17 => ?_) (fun c_17 => absurd (bI_zf c_4) c_17)
                        refine lv_iconst (v := 0) hx hb dX2_isAllowed_186 (by decide) ?_
                        exact prz (by rw [okA_y h_6]; simp [bI, c_7, c_8, c_9, c_10, c_11, c_12, c_4]) hx hb hr hlocks dX2_isAllowed_187
                    · skip
                      have c_11 := (bI_n _).mp c_11
                      refine lv_iload_n hx hb dX2_isAllowed_151 rfl (lv_at hl 3 rfl) ?_
                      refine lv_iconst (v := 3) hx hb dX2_isAllowed_152 (by decide) ?_
                      refine pcall (va_runS (As := [.int x, .int 3]) (rest := []) ⟨hx, hb, hml, hown, hts⟩ (m_isSet l x 3 3 rfl (by decide)) (va_cwS 2 hts (lw_S q368 q369 q21 q370) rfl rfl rfl (by decide +kernel) ⟨Nat.le_of_ble_eq_true rfl, Nat.le_of_ble_eq_true rfl⟩) pT_S rfl rfl hl.1 rfl (lv_room (Nat.le_of_ble_eq_true rfl)) dX2_isAllowed_153 ⟨Nat.le_refl _, Nat.le_refl _⟩) ?_
                      exact prz (by rw [okA_y h_6]; simp [bI, c_7, c_8, c_9, c_10, c_11]) hx hb hr hlocks dX2_isAllowed_156
                · skip
                  have c_9 := (bI_n _).mp c_9
                  refine lv_iload_n hx hb dX2_isAllowed_131 rfl (lv_at hl 3 rfl) ?_
                  refine lv_iconst (v := 1) hx hb dX2_isAllowed_132 (by decide) ?_
                  refine pcall (va_runS (As := [.int x, .int 1]) (rest := []) ⟨hx, hb, hml, hown, hts⟩ (m_isSet l x 1 1 rfl (by decide)) (va_cwS 2 hts (lw_S q368 q369 q21 q370) rfl rfl rfl (by decide +kernel) ⟨Nat.le_of_ble_eq_true rfl, Nat.le_of_ble_eq_true rfl⟩) pT_S rfl rfl hl.1 rfl (lv_room (Nat.le_of_ble_eq_true rfl)) dX2_isAllowed_133 ⟨Nat.le_refl _, Nat.le_refl _⟩) ?_
                  exact prz (by rw [okA_y h_6]; simp [bI, c_7, c_8, c_9]) hx hb hr hlocks dX2_isAllowed_136
              · skip
                have c_8 := (bI_z _).mp c_8
                refine lv_iconst (v := 0) hx hb dX2_isAllowed_91 (by decide) ?_
                exact prz (by rw [okA_y h_6]; simp [bI, c_7, c_8]) hx hb hr hlocks dX2_isAllowed_92
            · skip
              refine lv_aload_n hx hb dX2_isAllowed_76 rfl (lv_at hl 1 rfl) ?_
              refine va_get (D := D) (ci := 2) (v := .int (bI us)) (C := RX2) (T := TX2) (N := 16) hx hb hts in_X2 hown hK hP 0 rfl rfl 11 (by decide) (hts _ q257) (fun _ h9 => h9) rfl dX2_isAllowed_77 ?_
              refine lv_if_eq (tgt := 93) hx hb dX2_isAllowed_80 (by decide) (fun c_18 => ?_) (fun c_18 => ?_)
              · skip
                have c_18 := (bI_z _).mp c_18
                refine lv_iload_n hx hb dX2_isAllowed_93 rfl (lv_at hl 3 rfl) ?_
                refine lv_iconst (v := 4) hx hb dX2_isAllowed_94 (by decide) ?_
                refine pcall (va_runS (As := [.int x, .int 4]) (rest := []) ⟨hx, hb, hml, hown, hts⟩ (m_isSet l x 4 4 rfl (by decide)) (va_cwS 2 hts (lw_S q368 q369 q21 q370) rfl rfl rfl (by decide +kernel) ⟨Nat.le_of_ble_eq_true rfl, Nat.le_of_ble_eq_true rfl⟩) pT_S rfl rfl hl.1 rfl (lv_room (Nat.le_of_ble_eq_true rfl)) dX2_isAllowed_95 ⟨Nat.le_refl _, Nat.le_refl _⟩) ?_
                refine lv_if_eq (tgt := 127) hx hb dX2_isAllowed_98 (by decide) (fun c_19 => ?_) (fun c_19 => ?_)
                · skip
                  have c_19 := (bI_z _).mp c_19
                  refine lv_iload_n hx hb dX2_isAllowed_127 rfl (lv_at hl 4 rfl) ?_
                  refine lv_if_eq (tgt := 137) hx hb dX2_isAllowed_128 (by decide) (fun c_20 => ?_) (fun c_20 => ?_)
                  · skip
                    have c_20 := (bI_z _).mp c_20
                    refine lv_aload_n hx hb dX2_isAllowed_137 rfl (lv_at hl 1 rfl) ?_
                    refine va_get (D := D) (ci := 2) (v := .int kd) (C := RX2) (T := TX2) (N := 16) hx hb hts in_X2 hown hK hP 0 rfl rfl 9 (by decide) (hts _ q255) (fun _ h9 => h9) rfl dX2_isAllowed_138 ?_
                    refine lv_if_eq (tgt := 151) hx hb dX2_isAllowed_141 (by decide) (fun c_21 => ?_) (fun c_21 => ?_)
                    · skip
                      refine lv_iload_n hx hb dX2_isAllowed_151 rfl (lv_at hl 3 rfl) ?_
                      refine lv_iconst (v := 3) hx hb dX2_isAllowed_152 (by decide) ?_
                      refine pcall (va_runS (As := [.int x, .int 3]) (rest := []) ⟨hx, hb, hml, hown, hts⟩ (m_isSet l x 3 3 rfl (by decide)) (va_cwS 2 hts (lw_S q368 q369 q21 q370) rfl rfl rfl (by decide +kernel) ⟨Nat.le_of_ble_eq_true rfl, Nat.le_of_ble_eq_true rfl⟩) pT_S rfl rfl hl.1 rfl (lv_room (Nat.le_of_ble_eq_true rfl)) dX2_isAllowed_153 ⟨Nat.le_refl _, Nat.le_refl _⟩) ?_
                      exact prz (by rw [okA_y h_6]; simp [bI, c_7, c_18, c_19, c_20, c_21]) hx hb hr hlocks dX2_isAllowed_156
                    · skip
                      refine lv_aload_n hx hb dX2_isAllowed_144 rfl (lv_at hl 1 rfl) ?_
                      refine va_get (D := D) (ci := 2) (v := .int (bI ex)) (C := RX2) (T := TX2) (N := 16) hx hb hts in_X2 hown hK hP 0 rfl rfl 12 (by decide) (hts _ q258) (fun _ h9 => h9) rfl dX2_isAllowed_145 ?_
                      refine lv_if_eq (tgt := 157) hx hb dX2_isAllowed_148 (by decide) (fun c_22 => ?_) (fun c_22 => ?_)
                      · skip
                        have c_22 := (bI_z _).mp c_22
                        refine lv_aload_n hx hb dX2_isAllowed_157 rfl (lv_at hl 1 rfl) ?_
                        refine va_get (D := D) (ci := 2) (v := .int kd) (C := RX2) (T := TX2) (N := 16) hx hb hts in_X2 hown hK hP 0 rfl rfl 9 (by decide) (hts _ q255) (fun _ h9 => h9) rfl dX2_isAllowed_158 ?_
                        refine lv_iconst (v := 2) hx hb dX2_isAllowed_161 (by decide) ?_
                        refine lv_icmp_ne (tgt := 188) hx hb dX2_isAllowed_162 (by decide) (fun c_23 => ?_) (fun c_23 => ?_)
                        · skip
                          refine lv_iload_n hx hb dX2_isAllowed_188 rfl (lv_at hl 3 rfl) ?_
                          refine lv_iconst (v := 1) hx hb dX2_isAllowed_189 (by decide) ?_
                          refine pcall (va_runS (As := [.int x, .int 1]) (rest := []) ⟨hx, hb, hml, hown, hts⟩ (m_isSet l x 1 1 rfl (by decide)) (va_cwS 2 hts (lw_S q368 q369 q21 q370) rfl rfl rfl (by decide +kernel) ⟨Nat.le_of_ble_eq_true rfl, Nat.le_of_ble_eq_true rfl⟩) pT_S rfl rfl hl.1 rfl (lv_room (Nat.le_of_ble_eq_true rfl)) dX2_isAllowed_190 ⟨Nat.le_refl _, Nat.le_refl _⟩) ?_
                          refine lv_if_ne (tgt := 225) hx hb dX2_isAllowed_193 (by decide) (fun c_24 => ?_) (fun c_24 => ?_)
                          · skip
                            have c_24 := (bI_n _).mp c_24
                            refine lv_iconst (v := 1) hx hb dX2_isAllowed_225 (by decide) ?_
                            refine lv_goto (tgt := 230) hx hb dX2_isAllowed_226 (by decide) ?_
                            exact prz (by rw [okA_y h_6]; simp [bI, c_7, c_18, c_19, c_20, c_21, c_22, c_23, c_24]) hx hb hr hlocks dX2_isAllowed_230
                          · skip
                            have c_24 := (bI_z _).mp c_24
                            refine lv_iload_n hx hb dX2_isAllowed_196 rfl (lv_at hl 3 rfl) ?_
                            refine lv_iconst (v := 3) hx hb dX2_isAllowed_197 (by decide) ?_
                            refine pcall (va_runS (As := [.int x, .int 3]) (rest := []) ⟨hx, hb, hml, hown, hts⟩ (m_isSet l x 3 3 rfl (by decide)) (va_cwS 2 hts (lw_S q368 q369 q21 q370) rfl rfl rfl (by decide +kernel) ⟨Nat.le_of_ble_eq_true rfl, Nat.le_of_ble_eq_true rfl⟩) pT_S rfl rfl hl.1 rfl (lv_room (Nat.le_of_ble_eq_true rfl)) dX2_isAllowed_198 ⟨Nat.le_refl _, Nat.le_refl _⟩) ?_
                            refine lv_if_eq (tgt := 229) hx hb dX2_isAllowed_201 (by decide) (fun c_25 => ?_) (fun c_25 => ?_)
                            · skip
                              have c_25 := (bI_z _).mp c_25
                              refine lv_iconst (v := 0) hx hb dX2_isAllowed_229 (by decide) ?_
                              exact prz (by rw [okA_y h_6]; simp [bI, c_7, c_18, c_19, c_20, c_21, c_22, c_23, c_24, c_25]) hx hb hr hlocks dX2_isAllowed_230
                            · skip
                              have c_25 := (bI_n _).mp c_25
                              refine lv_aload_n hx hb dX2_isAllowed_204 rfl (lv_at hl 1 rfl) ?_
                              refine lv_iconst (v := 1) hx hb dX2_isAllowed_205 (by decide) ?_
                              refine pcall (va_runV (As := [.int 1]) (rest := []) ⟨hx, hb, hml, hown, hts⟩ (m_has l D hm mm dA M th ap vp hg ri pl to te kd vi us ex ca fa oe 1 1 rfl (by decide)) (cwV 1 hts (lw_V q371 q373 qs17 q21 q374) rfl rfl rfl (by decide +kernel) ⟨Nat.le_of_ble_eq_true rfl, Nat.le_of_ble_eq_true rfl⟩) (pR_V hK hP 0 rfl rfl) rfl rfl hl.1 rfl (lv_room (Nat.le_of_ble_eq_true rfl)) dX2_isAllowed_206 ⟨Nat.le_refl _, Nat.le_refl _⟩) ?_
                              refine lv_if_ne (tgt := 225) hx hb dX2_isAllowed_209 (by decide) (fun c_26 => ?_) (fun c_26 => ?_)
                              · skip
                                have c_26 := (bI_n _).mp c_26
                                refine lv_iconst (v := 1) hx hb dX2_isAllowed_225 (by decide) ?_
                                refine lv_goto (tgt := 230) hx hb dX2_isAllowed_226 (by decide) ?_
                                exact prz (by rw [okA_y h_6]; simp [bI, c_7, c_18, c_19, c_20, c_21, c_22, c_23, c_24, c_25, c_26]) hx hb hr hlocks dX2_isAllowed_230
                              · skip
                                have c_26 := (bI_z _).mp c_26
                                refine lv_iload_n hx hb dX2_isAllowed_212 rfl (lv_at hl 2 rfl) ?_
                                refine lv_iconst (v := 1) hx hb dX2_isAllowed_213 (by decide) ?_
                                refine lv_icmp_ne (tgt := 229) hx hb dX2_isAllowed_214 (by decide) (fun c_27 => ?_) (fun c_27 => ?_)
                                · skip
                                  refine lv_iconst (v := 0) hx hb dX2_isAllowed_229 (by decide) ?_
                                  exact prz (by rw [okA_y h_6]; simp [bI, c_7, c_18, c_19, c_20, c_21, c_22, c_23, c_24, c_25, c_26, c_27]) hx hb hr hlocks dX2_isAllowed_230
                                · skip
                                  refine lv_aload_n hx hb dX2_isAllowed_217 rfl (lv_at hl 1 rfl) ?_
                                  refine lv_iconst (v := 3) hx hb dX2_isAllowed_218 (by decide) ?_
                                  refine pcall (va_runV (As := [.int 3]) (rest := []) ⟨hx, hb, hml, hown, hts⟩ (m_has l D hm mm dA M th ap vp hg ri pl to te kd vi us ex ca fa oe 3 3 rfl (by decide)) (cwV 1 hts (lw_V q371 q373 qs17 q21 q374) rfl rfl rfl (by decide +kernel) ⟨Nat.le_of_ble_eq_true rfl, Nat.le_of_ble_eq_true rfl⟩) (pR_V hK hP 0 rfl rfl) rfl rfl hl.1 rfl (lv_room (Nat.le_of_ble_eq_true rfl)) dX2_isAllowed_219 ⟨Nat.le_refl _, Nat.le_refl _⟩) ?_
                                  refine lv_if_eq (tgt := 229) hx hb dX2_isAllowed_222 (by decide) (fun c_28 => ?_) (fun c_28 => ?_)
                                  · skip
                                    have c_28 := (bI_z _).mp c_28
                                    refine lv_iconst (v := 0) hx hb dX2_isAllowed_229 (by decide) ?_
                                    exact prz (by rw [okA_y h_6]; simp [bI, c_7, c_18, c_19, c_20, c_21, c_22, c_23, c_24, c_25, c_26, c_27, c_28]) hx hb hr hlocks dX2_isAllowed_230
                                  · skip
                                    have c_28 := (bI_n _).mp c_28
                                    refine lv_iconst (v := 1) hx hb dX2_isAllowed_225 (by decide) ?_
                                    refine lv_goto (tgt := 230) hx hb dX2_isAllowed_226 (by decide) ?_
                                    exact prz (by rw [okA_y h_6]; simp [bI, c_7, c_18, c_19, c_20, c_21, c_22, c_23, c_24, c_25, c_26, c_27, c_28]) hx hb hr hlocks dX2_isAllowed_230
                        · skip
                          refine lv_iload_n hx hb dX2_isAllowed_165 rfl (lv_at hl 3 rfl) ?_
                          refine lv_iconst (v := 2) hx hb dX2_isAllowed_166 (by decide) ?_
                          refine pcall (va_runS (As := [.int x, .int 2]) (rest := []) ⟨hx, hb, hml, hown, hts⟩ (m_isSet l x 2 2 rfl (by decide)) (va_cwS 2 hts (lw_S q368 q369 q21 q370) rfl rfl rfl (by decide +kernel) ⟨Nat.le_of_ble_eq_true rfl, Nat.le_of_ble_eq_true rfl⟩) pT_S rfl rfl hl.1 rfl (lv_room (Nat.le_of_ble_eq_true rfl)) dX2_isAllowed_167 ⟨Nat.le_refl _, Nat.le_refl _⟩) ?_
                          refine lv_if_eq (tgt := 186) hx hb dX2_isAllowed_170 (by decide) (fun c_29 => ?_) (fun c_29 => absurd (bI_zf c_4) c_29)
                          refine lv_iconst (v := 0) hx hb dX2_isAllowed_186 (by decide) ?_
                          exact prz (by rw [okA_y h_6]; simp [bI, c_7, c_18, c_19, c_20, c_21, c_22, c_23, c_4]) hx hb hr hlocks dX2_isAllowed_187
                      · skip
                        have c_22 := (bI_n _).mp c_22
                        refine lv_iload_n hx hb dX2_isAllowed_151 rfl (lv_at hl 3 rfl) ?_
                        refine lv_iconst (v := 3) hx hb dX2_isAllowed_152 (by decide) ?_
                        refine pcall (va_runS (As := [.int x, .int 3]) (rest := []) ⟨hx, hb, hml, hown, hts⟩ (m_isSet l x 3 3 rfl (by decide)) (va_cwS 2 hts (lw_S q368 q369 q21 q370) rfl rfl rfl (by decide +kernel) ⟨Nat.le_of_ble_eq_true rfl, Nat.le_of_ble_eq_true rfl⟩) pT_S rfl rfl hl.1 rfl (lv_room (Nat.le_of_ble_eq_true rfl)) dX2_isAllowed_153 ⟨Nat.le_refl _, Nat.le_refl _⟩) ?_
                        exact prz (by rw [okA_y h_6]; simp [bI, c_7, c_18, c_19, c_20, c_21, c_22]) hx hb hr hlocks dX2_isAllowed_156
                  · skip
                    have c_20 := (bI_n _).mp c_20
                    refine lv_iload_n hx hb dX2_isAllowed_131 rfl (lv_at hl 3 rfl) ?_
                    refine lv_iconst (v := 1) hx hb dX2_isAllowed_132 (by decide) ?_
                    refine pcall (va_runS (As := [.int x, .int 1]) (rest := []) ⟨hx, hb, hml, hown, hts⟩ (m_isSet l x 1 1 rfl (by decide)) (va_cwS 2 hts (lw_S q368 q369 q21 q370) rfl rfl rfl (by decide +kernel) ⟨Nat.le_of_ble_eq_true rfl, Nat.le_of_ble_eq_true rfl⟩) pT_S rfl rfl hl.1 rfl (lv_room (Nat.le_of_ble_eq_true rfl)) dX2_isAllowed_133 ⟨Nat.le_refl _, Nat.le_refl _⟩) ?_
                    exact prz (by rw [okA_y h_6]; simp [bI, c_7, c_18, c_19, c_20]) hx hb hr hlocks dX2_isAllowed_136
                · skip
                  have c_19 := (bI_n _).mp c_19
                  refine lv_aload_n hx hb dX2_isAllowed_101 rfl (lv_at hl 1 rfl) ?_
                  refine va_get (D := D) (ci := 2) (v := .int kd) (C := RX2) (T := TX2) (N := 16) hx hb hts in_X2 hown hK hP 0 rfl rfl 9 (by decide) (hts _ q255) (fun _ h9 => h9) rfl dX2_isAllowed_102 ?_
                  refine lv_if_eq (tgt := 125) hx hb dX2_isAllowed_105 (by decide) (fun c_30 => ?_) (fun c_30 => ?_)
                  · skip
                    refine lv_iconst (v := 0) hx hb dX2_isAllowed_125 (by decide) ?_
                    exact prz (by rw [okA_y h_6]; simp [bI, c_7, c_18, c_19, c_30]) hx hb hr hlocks dX2_isAllowed_126
                  · skip
                    refine lv_aload_n hx hb dX2_isAllowed_108 rfl (lv_at hl 1 rfl) ?_
                    refine lv_iload_n hx hb dX2_isAllowed_109 rfl (lv_at hl 2 rfl) ?_
                    refine lv_iconst (v := 1) hx hb dX2_isAllowed_110 (by decide) ?_
                    refine lv_icmp_ne (tgt := 118) hx hb dX2_isAllowed_111 (by decide) (fun c_31 => ?_) (fun c_31 => ?_)
                    · skip
                      refine lv_iconst (v := 0) hx hb dX2_isAllowed_118 (by decide) ?_
                      refine pcall (va_runV (As := [.int 0]) (rest := []) ⟨hx, hb, hml, hown, hts⟩ (m_has l D hm mm dA M th ap vp hg ri pl to te kd vi us ex ca fa oe 0 0 rfl (by decide)) (cwV 1 hts (lw_V q371 q373 qs17 q21 q374) rfl rfl rfl (by decide +kernel) ⟨Nat.le_of_ble_eq_true rfl, Nat.le_of_ble_eq_true rfl⟩) (pR_V hK hP 0 rfl rfl) rfl rfl hl.1 rfl (lv_room (Nat.le_of_ble_eq_true rfl)) dX2_isAllowed_119 ⟨Nat.le_refl _, Nat.le_refl _⟩) ?_
                      refine lv_if_ne (tgt := 127) hx hb dX2_isAllowed_122 (by decide) (fun c_32 => ?_) (fun c_32 => ?_)
                      · skip
                        have c_32 := (bI_n _).mp c_32
                        refine lv_iload_n hx hb dX2_isAllowed_127 rfl (lv_at hl 4 rfl) ?_
                        refine lv_if_eq (tgt := 137) hx hb dX2_isAllowed_128 (by decide) (fun c_33 => ?_) (fun c_33 => ?_)
                        · skip
                          have c_33 := (bI_z _).mp c_33
                          refine lv_aload_n hx hb dX2_isAllowed_137 rfl (lv_at hl 1 rfl) ?_
                          refine va_get (D := D) (ci := 2) (v := .int kd) (C := RX2) (T := TX2) (N := 16) hx hb hts in_X2 hown hK hP 0 rfl rfl 9 (by decide) (hts _ q255) (fun _ h9 => h9) rfl dX2_isAllowed_138 ?_
                          refine lv_if_eq (tgt := 151) hx hb dX2_isAllowed_141 (by decide) (fun c_34 => absurd c_34 c_30) (fun c_34 => ?_)
                          refine lv_aload_n hx hb dX2_isAllowed_144 rfl (lv_at hl 1 rfl) ?_
                          refine va_get (D := D) (ci := 2) (v := .int (bI ex)) (C := RX2) (T := TX2) (N := 16) hx hb hts in_X2 hown hK hP 0 rfl rfl 12 (by decide) (hts _ q258) (fun _ h9 => h9) rfl dX2_isAllowed_145 ?_
                          refine lv_if_eq (tgt := 157) hx hb dX2_isAllowed_148 (by decide) (fun c_35 => ?_) (fun c_35 => ?_)
                          · skip
                            have c_35 := (bI_z _).mp c_35
                            refine lv_aload_n hx hb dX2_isAllowed_157 rfl (lv_at hl 1 rfl) ?_
                            refine va_get (D := D) (ci := 2) (v := .int kd) (C := RX2) (T := TX2) (N := 16) hx hb hts in_X2 hown hK hP 0 rfl rfl 9 (by decide) (hts _ q255) (fun _ h9 => h9) rfl dX2_isAllowed_158 ?_
                            refine lv_iconst (v := 2) hx hb dX2_isAllowed_161 (by decide) ?_
                            refine lv_icmp_ne (tgt := 188) hx hb dX2_isAllowed_162 (by decide) (fun c_36 => ?_) (fun c_36 => ?_)
                            · skip
                              refine lv_iload_n hx hb dX2_isAllowed_188 rfl (lv_at hl 3 rfl) ?_
                              refine lv_iconst (v := 1) hx hb dX2_isAllowed_189 (by decide) ?_
                              refine pcall (va_runS (As := [.int x, .int 1]) (rest := []) ⟨hx, hb, hml, hown, hts⟩ (m_isSet l x 1 1 rfl (by decide)) (va_cwS 2 hts (lw_S q368 q369 q21 q370) rfl rfl rfl (by decide +kernel) ⟨Nat.le_of_ble_eq_true rfl, Nat.le_of_ble_eq_true rfl⟩) pT_S rfl rfl hl.1 rfl (lv_room (Nat.le_of_ble_eq_true rfl)) dX2_isAllowed_190 ⟨Nat.le_refl _, Nat.le_refl _⟩) ?_
                              refine lv_if_ne (tgt := 225) hx hb dX2_isAllowed_193 (by decide) (fun c_37 => ?_) (fun c_37 => ?_)
                              · skip
                                have c_37 := (bI_n _).mp c_37
                                refine lv_iconst (v := 1) hx hb dX2_isAllowed_225 (by decide) ?_
                                refine lv_goto (tgt := 230) hx hb dX2_isAllowed_226 (by decide) ?_
                                exact prz (by rw [okA_y h_6]; simp [bI, c_7, c_18, c_19, c_30, c_31, c_32, c_33, c_35, c_36, c_37]) hx hb hr hlocks dX2_isAllowed_230
                              · skip
                                have c_37 := (bI_z _).mp c_37
                                refine lv_iload_n hx hb dX2_isAllowed_196 rfl (lv_at hl 3 rfl) ?_
                                refine lv_iconst (v := 3) hx hb dX2_isAllowed_197 (by decide) ?_
                                refine pcall (va_runS (As := [.int x, .int 3]) (rest := []) ⟨hx, hb, hml, hown, hts⟩ (m_isSet l x 3 3 rfl (by decide)) (va_cwS 2 hts (lw_S q368 q369 q21 q370) rfl rfl rfl (by decide +kernel) ⟨Nat.le_of_ble_eq_true rfl, Nat.le_of_ble_eq_true rfl⟩) pT_S rfl rfl hl.1 rfl (lv_room (Nat.le_of_ble_eq_true rfl)) dX2_isAllowed_198 ⟨Nat.le_refl _, Nat.le_refl _⟩) ?_
                                refine lv_if_eq (tgt := 229) hx hb dX2_isAllowed_201 (by decide) (fun c_38 => ?_) (fun c_38 => ?_)
                                · skip
                                  have c_38 := (bI_z _).mp c_38
                                  refine lv_iconst (v := 0) hx hb dX2_isAllowed_229 (by decide) ?_
                                  exact prz (by rw [okA_y h_6]; simp [bI, c_7, c_18, c_19, c_30, c_31, c_32, c_33, c_35, c_36, c_37, c_38]) hx hb hr hlocks dX2_isAllowed_230
                                · skip
                                  have c_38 := (bI_n _).mp c_38
                                  refine lv_aload_n hx hb dX2_isAllowed_204 rfl (lv_at hl 1 rfl) ?_
                                  refine lv_iconst (v := 1) hx hb dX2_isAllowed_205 (by decide) ?_
                                  refine pcall (va_runV (As := [.int 1]) (rest := []) ⟨hx, hb, hml, hown, hts⟩ (m_has l D hm mm dA M th ap vp hg ri pl to te kd vi us ex ca fa oe 1 1 rfl (by decide)) (cwV 1 hts (lw_V q371 q373 qs17 q21 q374) rfl rfl rfl (by decide +kernel) ⟨Nat.le_of_ble_eq_true rfl, Nat.le_of_ble_eq_true rfl⟩) (pR_V hK hP 0 rfl rfl) rfl rfl hl.1 rfl (lv_room (Nat.le_of_ble_eq_true rfl)) dX2_isAllowed_206 ⟨Nat.le_refl _, Nat.le_refl _⟩) ?_
                                  refine lv_if_ne (tgt := 225) hx hb dX2_isAllowed_209 (by decide) (fun c_39 => ?_) (fun c_39 => ?_)
                                  · skip
                                    have c_39 := (bI_n _).mp c_39
                                    refine lv_iconst (v := 1) hx hb dX2_isAllowed_225 (by decide) ?_
                                    refine lv_goto (tgt := 230) hx hb dX2_isAllowed_226 (by decide) ?_
                                    exact prz (by rw [okA_y h_6]; simp [bI, c_7, c_18, c_19, c_30, c_31, c_32, c_33, c_35, c_36, c_37, c_38, c_39]) hx hb hr hlocks dX2_isAllowed_230
                                  · skip
                                    have c_39 := (bI_z _).mp c_39
                                    refine lv_iload_n hx hb dX2_isAllowed_212 rfl (lv_at hl 2 rfl) ?_
                                    refine lv_iconst (v := 1) hx hb dX2_isAllowed_213 (by decide) ?_
                                    refine lv_icmp_ne (tgt := 229) hx hb dX2_isAllowed_214 (by decide) (fun c_40 => ?_) (fun c_40 => absurd c_40 c_31)
                                    refine lv_iconst (v := 0) hx hb dX2_isAllowed_229 (by decide) ?_
                                    exact prz (by rw [okA_y h_6]; simp [bI, c_7, c_18, c_19, c_30, c_31, c_32, c_33, c_35, c_36, c_37, c_38, c_39]) hx hb hr hlocks dX2_isAllowed_230
                            · skip
                              refine lv_iload_n hx hb dX2_isAllowed_165 rfl (lv_at hl 3 rfl) ?_
                              refine lv_iconst (v := 2) hx hb dX2_isAllowed_166 (by decide) ?_
                              refine pcall (va_runS (As := [.int x, .int 2]) (rest := []) ⟨hx, hb, hml, hown, hts⟩ (m_isSet l x 2 2 rfl (by decide)) (va_cwS 2 hts (lw_S q368 q369 q21 q370) rfl rfl rfl (by decide +kernel) ⟨Nat.le_of_ble_eq_true rfl, Nat.le_of_ble_eq_true rfl⟩) pT_S rfl rfl hl.1 rfl (lv_room (Nat.le_of_ble_eq_true rfl)) dX2_isAllowed_167 ⟨Nat.le_refl _, Nat.le_refl _⟩) ?_
                              refine lv_if_eq (tgt := 186) hx hb dX2_isAllowed_170 (by decide) (fun c_41 => ?_) (fun c_41 => absurd (bI_zf c_4) c_41)
                              refine lv_iconst (v := 0) hx hb dX2_isAllowed_186 (by decide) ?_
                              exact prz (by rw [okA_y h_6]; simp [bI, c_7, c_18, c_19, c_30, c_31, c_32, c_33, c_35, c_36, c_4]) hx hb hr hlocks dX2_isAllowed_187
                          · skip
                            have c_35 := (bI_n _).mp c_35
                            refine lv_iload_n hx hb dX2_isAllowed_151 rfl (lv_at hl 3 rfl) ?_
                            refine lv_iconst (v := 3) hx hb dX2_isAllowed_152 (by decide) ?_
                            refine pcall (va_runS (As := [.int x, .int 3]) (rest := []) ⟨hx, hb, hml, hown, hts⟩ (m_isSet l x 3 3 rfl (by decide)) (va_cwS 2 hts (lw_S q368 q369 q21 q370) rfl rfl rfl (by decide +kernel) ⟨Nat.le_of_ble_eq_true rfl, Nat.le_of_ble_eq_true rfl⟩) pT_S rfl rfl hl.1 rfl (lv_room (Nat.le_of_ble_eq_true rfl)) dX2_isAllowed_153 ⟨Nat.le_refl _, Nat.le_refl _⟩) ?_
                            exact prz (by rw [okA_y h_6]; simp [bI, c_7, c_18, c_19, c_30, c_31, c_32, c_33, c_35]) hx hb hr hlocks dX2_isAllowed_156
                        · skip
                          have c_33 := (bI_n _).mp c_33
                          refine lv_iload_n hx hb dX2_isAllowed_131 rfl (lv_at hl 3 rfl) ?_
                          refine lv_iconst (v := 1) hx hb dX2_isAllowed_132 (by decide) ?_
                          refine pcall (va_runS (As := [.int x, .int 1]) (rest := []) ⟨hx, hb, hml, hown, hts⟩ (m_isSet l x 1 1 rfl (by decide)) (va_cwS 2 hts (lw_S q368 q369 q21 q370) rfl rfl rfl (by decide +kernel) ⟨Nat.le_of_ble_eq_true rfl, Nat.le_of_ble_eq_true rfl⟩) pT_S rfl rfl hl.1 rfl (lv_room (Nat.le_of_ble_eq_true rfl)) dX2_isAllowed_133 ⟨Nat.le_refl _, Nat.le_refl _⟩) ?_
                          exact prz (by rw [okA_y h_6]; simp [bI, c_7, c_18, c_19, c_30, c_31, c_32, c_33]) hx hb hr hlocks dX2_isAllowed_136
                      · skip
                        have c_32 := (bI_z _).mp c_32
                        refine lv_iconst (v := 0) hx hb dX2_isAllowed_125 (by decide) ?_
                        exact prz (by rw [okA_y h_6]; simp [bI, c_7, c_18, c_19, c_30, c_31, c_32]) hx hb hr hlocks dX2_isAllowed_126
                    · skip
                      refine lv_iconst (v := 2) hx hb dX2_isAllowed_114 (by decide) ?_
                      refine lv_goto (tgt := 119) hx hb dX2_isAllowed_115 (by decide) ?_
                      refine pcall (va_runV (As := [.int 2]) (rest := []) ⟨hx, hb, hml, hown, hts⟩ (m_has l D hm mm dA M th ap vp hg ri pl to te kd vi us ex ca fa oe 2 2 rfl (by decide)) (cwV 1 hts (lw_V q371 q373 qs17 q21 q374) rfl rfl rfl (by decide +kernel) ⟨Nat.le_of_ble_eq_true rfl, Nat.le_of_ble_eq_true rfl⟩) (pR_V hK hP 0 rfl rfl) rfl rfl hl.1 rfl (lv_room (Nat.le_of_ble_eq_true rfl)) dX2_isAllowed_119 ⟨Nat.le_refl _, Nat.le_refl _⟩) ?_
                      refine lv_if_ne (tgt := 127) hx hb dX2_isAllowed_122 (by decide) (fun c_42 => ?_) (fun c_42 => ?_)
                      · skip
                        have c_42 := (bI_n _).mp c_42
                        refine lv_iload_n hx hb dX2_isAllowed_127 rfl (lv_at hl 4 rfl) ?_
                        refine lv_if_eq (tgt := 137) hx hb dX2_isAllowed_128 (by decide) (fun c_43 => ?_) (fun c_43 => ?_)
                        · skip
                          have c_43 := (bI_z _).mp c_43
                          refine lv_aload_n hx hb dX2_isAllowed_137 rfl (lv_at hl 1 rfl) ?_
                          refine va_get (D := D) (ci := 2) (v := .int kd) (C := RX2) (T := TX2) (N := 16) hx hb hts in_X2 hown hK hP 0 rfl rfl 9 (by decide) (hts _ q255) (fun _ h9 => h9) rfl dX2_isAllowed_138 ?_
                          refine lv_if_eq (tgt := 151) hx hb dX2_isAllowed_141 (by decide) (fun c_44 => absurd c_44 c_30) (fun c_44 => ?_)
                          refine lv_aload_n hx hb dX2_isAllowed_144 rfl (lv_at hl 1 rfl) ?_
                          refine va_get (D := D) (ci := 2) (v := .int (bI ex)) (C := RX2) (T := TX2) (N := 16) hx hb hts in_X2 hown hK hP 0 rfl rfl 12 (by decide) (hts _ q258) (fun _ h9 => h9) rfl dX2_isAllowed_145 ?_
                          refine lv_if_eq (tgt := 157) hx hb dX2_isAllowed_148 (by decide) (fun c_45 => ?_) (fun c_45 => ?_)
                          · skip
                            have c_45 := (bI_z _).mp c_45
                            refine lv_aload_n hx hb dX2_isAllowed_157 rfl (lv_at hl 1 rfl) ?_
                            refine va_get (D := D) (ci := 2) (v := .int kd) (C := RX2) (T := TX2) (N := 16) hx hb hts in_X2 hown hK hP 0 rfl rfl 9 (by decide) (hts _ q255) (fun _ h9 => h9) rfl dX2_isAllowed_158 ?_
                            refine lv_iconst (v := 2) hx hb dX2_isAllowed_161 (by decide) ?_
                            refine lv_icmp_ne (tgt := 188) hx hb dX2_isAllowed_162 (by decide) (fun c_46 => ?_) (fun c_46 => ?_)
                            · skip
                              refine lv_iload_n hx hb dX2_isAllowed_188 rfl (lv_at hl 3 rfl) ?_
                              refine lv_iconst (v := 1) hx hb dX2_isAllowed_189 (by decide) ?_
                              refine pcall (va_runS (As := [.int x, .int 1]) (rest := []) ⟨hx, hb, hml, hown, hts⟩ (m_isSet l x 1 1 rfl (by decide)) (va_cwS 2 hts (lw_S q368 q369 q21 q370) rfl rfl rfl (by decide +kernel) ⟨Nat.le_of_ble_eq_true rfl, Nat.le_of_ble_eq_true rfl⟩) pT_S rfl rfl hl.1 rfl (lv_room (Nat.le_of_ble_eq_true rfl)) dX2_isAllowed_190 ⟨Nat.le_refl _, Nat.le_refl _⟩) ?_
                              refine lv_if_ne (tgt := 225) hx hb dX2_isAllowed_193 (by decide) (fun c_47 => ?_) (fun c_47 => ?_)
                              · skip
                                have c_47 := (bI_n _).mp c_47
                                refine lv_iconst (v := 1) hx hb dX2_isAllowed_225 (by decide) ?_
                                refine lv_goto (tgt := 230) hx hb dX2_isAllowed_226 (by decide) ?_
                                exact prz (by rw [okA_y h_6]; simp [bI, c_7, c_18, c_19, c_30, c_31, c_42, c_43, c_45, c_46, c_47]) hx hb hr hlocks dX2_isAllowed_230
                              · skip
                                have c_47 := (bI_z _).mp c_47
                                refine lv_iload_n hx hb dX2_isAllowed_196 rfl (lv_at hl 3 rfl) ?_
                                refine lv_iconst (v := 3) hx hb dX2_isAllowed_197 (by decide) ?_
                                refine pcall (va_runS (As := [.int x, .int 3]) (rest := []) ⟨hx, hb, hml, hown, hts⟩ (m_isSet l x 3 3 rfl (by decide)) (va_cwS 2 hts (lw_S q368 q369 q21 q370) rfl rfl rfl (by decide +kernel) ⟨Nat.le_of_ble_eq_true rfl, Nat.le_of_ble_eq_true rfl⟩) pT_S rfl rfl hl.1 rfl (lv_room (Nat.le_of_ble_eq_true rfl)) dX2_isAllowed_198 ⟨Nat.le_refl _, Nat.le_refl _⟩) ?_
                                refine lv_if_eq (tgt := 229) hx hb dX2_isAllowed_201 (by decide) (fun c_48 => ?_) (fun c_48 => ?_)
                                · skip
                                  have c_48 := (bI_z _).mp c_48
                                  refine lv_iconst (v := 0) hx hb dX2_isAllowed_229 (by decide) ?_
                                  exact prz (by rw [okA_y h_6]; simp [bI, c_7, c_18, c_19, c_30, c_31, c_42, c_43, c_45, c_46, c_47, c_48]) hx hb hr hlocks dX2_isAllowed_230
                                · skip
                                  have c_48 := (bI_n _).mp c_48
                                  refine lv_aload_n hx hb dX2_isAllowed_204 rfl (lv_at hl 1 rfl) ?_
                                  refine lv_iconst (v := 1) hx hb dX2_isAllowed_205 (by decide) ?_
                                  refine pcall (va_runV (As := [.int 1]) (rest := []) ⟨hx, hb, hml, hown, hts⟩ (m_has l D hm mm dA M th ap vp hg ri pl to te kd vi us ex ca fa oe 1 1 rfl (by decide)) (cwV 1 hts (lw_V q371 q373 qs17 q21 q374) rfl rfl rfl (by decide +kernel) ⟨Nat.le_of_ble_eq_true rfl, Nat.le_of_ble_eq_true rfl⟩) (pR_V hK hP 0 rfl rfl) rfl rfl hl.1 rfl (lv_room (Nat.le_of_ble_eq_true rfl)) dX2_isAllowed_206 ⟨Nat.le_refl _, Nat.le_refl _⟩) ?_
                                  refine lv_if_ne (tgt := 225) hx hb dX2_isAllowed_209 (by decide) (fun c_49 => ?_) (fun c_49 => ?_)
                                  · skip
                                    have c_49 := (bI_n _).mp c_49
                                    refine lv_iconst (v := 1) hx hb dX2_isAllowed_225 (by decide) ?_
                                    refine lv_goto (tgt := 230) hx hb dX2_isAllowed_226 (by decide) ?_
                                    exact prz (by rw [okA_y h_6]; simp [bI, c_7, c_18, c_19, c_30, c_31, c_42, c_43, c_45, c_46, c_47, c_48, c_49]) hx hb hr hlocks dX2_isAllowed_230
                                  · skip
                                    have c_49 := (bI_z _).mp c_49
                                    refine lv_iload_n hx hb dX2_isAllowed_212 rfl (lv_at hl 2 rfl) ?_
                                    refine lv_iconst (v := 1) hx hb dX2_isAllowed_213 (by decide) ?_
                                    refine lv_icmp_ne (tgt := 229) hx hb dX2_isAllowed_214 (by decide) (fun c_50 => absurd c_31 c_50) (fun c_50 => ?_)
                                    refine lv_aload_n hx hb dX2_isAllowed_217 rfl (lv_at hl 1 rfl) ?_
                                    refine lv_iconst (v := 3) hx hb dX2_isAllowed_218 (by decide) ?_
                                    refine pcall (va_runV (As := [.int 3]) (rest := []) ⟨hx, hb, hml, hown, hts⟩ (m_has l D hm mm dA M th ap vp hg ri pl to te kd vi us ex ca fa oe 3 3 rfl (by decide)) (cwV 1 hts (lw_V q371 q373 qs17 q21 q374) rfl rfl rfl (by decide +kernel) ⟨Nat.le_of_ble_eq_true rfl, Nat.le_of_ble_eq_true rfl⟩) (pR_V hK hP 0 rfl rfl) rfl rfl hl.1 rfl (lv_room (Nat.le_of_ble_eq_true rfl)) dX2_isAllowed_219 ⟨Nat.le_refl _, Nat.le_refl _⟩) ?_
                                    refine lv_if_eq (tgt := 229) hx hb dX2_isAllowed_222 (by decide) (fun c_51 => ?_) (fun c_51 => ?_)
                                    · skip
                                      have c_51 := (bI_z _).mp c_51
                                      refine lv_iconst (v := 0) hx hb dX2_isAllowed_229 (by decide) ?_
                                      exact prz (by rw [okA_y h_6]; simp [bI, c_7, c_18, c_19, c_30, c_31, c_42, c_43, c_45, c_46, c_47, c_48, c_49, c_51]) hx hb hr hlocks dX2_isAllowed_230
                                    · skip
                                      have c_51 := (bI_n _).mp c_51
                                      refine lv_iconst (v := 1) hx hb dX2_isAllowed_225 (by decide) ?_
                                      refine lv_goto (tgt := 230) hx hb dX2_isAllowed_226 (by decide) ?_
                                      exact prz (by rw [okA_y h_6]; simp [bI, c_7, c_18, c_19, c_30, c_31, c_42, c_43, c_45, c_46, c_47, c_48, c_49, c_51]) hx hb hr hlocks dX2_isAllowed_230
                            · skip
                              refine lv_iload_n hx hb dX2_isAllowed_165 rfl (lv_at hl 3 rfl) ?_
                              refine lv_iconst (v := 2) hx hb dX2_isAllowed_166 (by decide) ?_
                              refine pcall (va_runS (As := [.int x, .int 2]) (rest := []) ⟨hx, hb, hml, hown, hts⟩ (m_isSet l x 2 2 rfl (by decide)) (va_cwS 2 hts (lw_S q368 q369 q21 q370) rfl rfl rfl (by decide +kernel) ⟨Nat.le_of_ble_eq_true rfl, Nat.le_of_ble_eq_true rfl⟩) pT_S rfl rfl hl.1 rfl (lv_room (Nat.le_of_ble_eq_true rfl)) dX2_isAllowed_167 ⟨Nat.le_refl _, Nat.le_refl _⟩) ?_
                              refine lv_if_eq (tgt := 186) hx hb dX2_isAllowed_170 (by decide) (fun c_52 => ?_) (fun c_52 => absurd (bI_zf c_4) c_52)
                              refine lv_iconst (v := 0) hx hb dX2_isAllowed_186 (by decide) ?_
                              exact prz (by rw [okA_y h_6]; simp [bI, c_7, c_18, c_19, c_30, c_31, c_42, c_43, c_45, c_46, c_4]) hx hb hr hlocks dX2_isAllowed_187
                          · skip
                            have c_45 := (bI_n _).mp c_45
                            refine lv_iload_n hx hb dX2_isAllowed_151 rfl (lv_at hl 3 rfl) ?_
                            refine lv_iconst (v := 3) hx hb dX2_isAllowed_152 (by decide) ?_
                            refine pcall (va_runS (As := [.int x, .int 3]) (rest := []) ⟨hx, hb, hml, hown, hts⟩ (m_isSet l x 3 3 rfl (by decide)) (va_cwS 2 hts (lw_S q368 q369 q21 q370) rfl rfl rfl (by decide +kernel) ⟨Nat.le_of_ble_eq_true rfl, Nat.le_of_ble_eq_true rfl⟩) pT_S rfl rfl hl.1 rfl (lv_room (Nat.le_of_ble_eq_true rfl)) dX2_isAllowed_153 ⟨Nat.le_refl _, Nat.le_refl _⟩) ?_
                            exact prz (by rw [okA_y h_6]; simp [bI, c_7, c_18, c_19, c_30, c_31, c_42, c_43, c_45]) hx hb hr hlocks dX2_isAllowed_156
                        · skip
                          have c_43 := (bI_n _).mp c_43
                          refine lv_iload_n hx hb dX2_isAllowed_131 rfl (lv_at hl 3 rfl) ?_
                          refine lv_iconst (v := 1) hx hb dX2_isAllowed_132 (by decide) ?_
                          refine pcall (va_runS (As := [.int x, .int 1]) (rest := []) ⟨hx, hb, hml, hown, hts⟩ (m_isSet l x 1 1 rfl (by decide)) (va_cwS 2 hts (lw_S q368 q369 q21 q370) rfl rfl rfl (by decide +kernel) ⟨Nat.le_of_ble_eq_true rfl, Nat.le_of_ble_eq_true rfl⟩) pT_S rfl rfl hl.1 rfl (lv_room (Nat.le_of_ble_eq_true rfl)) dX2_isAllowed_133 ⟨Nat.le_refl _, Nat.le_refl _⟩) ?_
                          exact prz (by rw [okA_y h_6]; simp [bI, c_7, c_18, c_19, c_30, c_31, c_42, c_43]) hx hb hr hlocks dX2_isAllowed_136
                      · skip
                        have c_42 := (bI_z _).mp c_42
                        refine lv_iconst (v := 0) hx hb dX2_isAllowed_125 (by decide) ?_
                        exact prz (by rw [okA_y h_6]; simp [bI, c_7, c_18, c_19, c_30, c_31, c_42]) hx hb hr hlocks dX2_isAllowed_126
              · skip
                have c_18 := (bI_n _).mp c_18
                refine lv_iload_n hx hb dX2_isAllowed_83 rfl (lv_at hl 3 rfl) ?_
                refine lv_iconst (v := 4) hx hb dX2_isAllowed_84 (by decide) ?_
                refine pcall (va_runS (As := [.int x, .int 4]) (rest := []) ⟨hx, hb, hml, hown, hts⟩ (m_isSet l x 4 4 rfl (by decide)) (va_cwS 2 hts (lw_S q368 q369 q21 q370) rfl rfl rfl (by decide +kernel) ⟨Nat.le_of_ble_eq_true rfl, Nat.le_of_ble_eq_true rfl⟩) pT_S rfl rfl hl.1 rfl (lv_room (Nat.le_of_ble_eq_true rfl)) dX2_isAllowed_85 ⟨Nat.le_refl _, Nat.le_refl _⟩) ?_
                refine lv_if_ne (tgt := 127) hx hb dX2_isAllowed_88 (by decide) (fun c_53 => ?_) (fun c_53 => ?_)
                · skip
                  have c_53 := (bI_n _).mp c_53
                  refine lv_iload_n hx hb dX2_isAllowed_127 rfl (lv_at hl 4 rfl) ?_
                  refine lv_if_eq (tgt := 137) hx hb dX2_isAllowed_128 (by decide) (fun c_54 => ?_) (fun c_54 => ?_)
                  · skip
                    have c_54 := (bI_z _).mp c_54
                    refine lv_aload_n hx hb dX2_isAllowed_137 rfl (lv_at hl 1 rfl) ?_
                    refine va_get (D := D) (ci := 2) (v := .int kd) (C := RX2) (T := TX2) (N := 16) hx hb hts in_X2 hown hK hP 0 rfl rfl 9 (by decide) (hts _ q255) (fun _ h9 => h9) rfl dX2_isAllowed_138 ?_
                    refine lv_if_eq (tgt := 151) hx hb dX2_isAllowed_141 (by decide) (fun c_55 => ?_) (fun c_55 => ?_)
                    · skip
                      refine lv_iload_n hx hb dX2_isAllowed_151 rfl (lv_at hl 3 rfl) ?_
                      refine lv_iconst (v := 3) hx hb dX2_isAllowed_152 (by decide) ?_
                      refine pcall (va_runS (As := [.int x, .int 3]) (rest := []) ⟨hx, hb, hml, hown, hts⟩ (m_isSet l x 3 3 rfl (by decide)) (va_cwS 2 hts (lw_S q368 q369 q21 q370) rfl rfl rfl (by decide +kernel) ⟨Nat.le_of_ble_eq_true rfl, Nat.le_of_ble_eq_true rfl⟩) pT_S rfl rfl hl.1 rfl (lv_room (Nat.le_of_ble_eq_true rfl)) dX2_isAllowed_153 ⟨Nat.le_refl _, Nat.le_refl _⟩) ?_
                      exact prz (by rw [okA_y h_6]; simp [bI, c_7, c_18, c_53, c_54, c_55]) hx hb hr hlocks dX2_isAllowed_156
                    · skip
                      refine lv_aload_n hx hb dX2_isAllowed_144 rfl (lv_at hl 1 rfl) ?_
                      refine va_get (D := D) (ci := 2) (v := .int (bI ex)) (C := RX2) (T := TX2) (N := 16) hx hb hts in_X2 hown hK hP 0 rfl rfl 12 (by decide) (hts _ q258) (fun _ h9 => h9) rfl dX2_isAllowed_145 ?_
                      refine lv_if_eq (tgt := 157) hx hb dX2_isAllowed_148 (by decide) (fun c_56 => ?_) (fun c_56 => ?_)
                      · skip
                        have c_56 := (bI_z _).mp c_56
                        refine lv_aload_n hx hb dX2_isAllowed_157 rfl (lv_at hl 1 rfl) ?_
                        refine va_get (D := D) (ci := 2) (v := .int kd) (C := RX2) (T := TX2) (N := 16) hx hb hts in_X2 hown hK hP 0 rfl rfl 9 (by decide) (hts _ q255) (fun _ h9 => h9) rfl dX2_isAllowed_158 ?_
                        refine lv_iconst (v := 2) hx hb dX2_isAllowed_161 (by decide) ?_
                        refine lv_icmp_ne (tgt := 188) hx hb dX2_isAllowed_162 (by decide) (fun c_57 => ?_) (fun c_57 => ?_)
                        · skip
                          refine lv_iload_n hx hb dX2_isAllowed_188 rfl (lv_at hl 3 rfl) ?_
                          refine lv_iconst (v := 1) hx hb dX2_isAllowed_189 (by decide) ?_
                          refine pcall (va_runS (As := [.int x, .int 1]) (rest := []) ⟨hx, hb, hml, hown, hts⟩ (m_isSet l x 1 1 rfl (by decide)) (va_cwS 2 hts (lw_S q368 q369 q21 q370) rfl rfl rfl (by decide +kernel) ⟨Nat.le_of_ble_eq_true rfl, Nat.le_of_ble_eq_true rfl⟩) pT_S rfl rfl hl.1 rfl (lv_room (Nat.le_of_ble_eq_true rfl)) dX2_isAllowed_190 ⟨Nat.le_refl _, Nat.le_refl _⟩) ?_
                          refine lv_if_ne (tgt := 225) hx hb dX2_isAllowed_193 (by decide) (fun c_58 => ?_) (fun c_58 => ?_)
                          · skip
                            have c_58 := (bI_n _).mp c_58
                            refine lv_iconst (v := 1) hx hb dX2_isAllowed_225 (by decide) ?_
                            refine lv_goto (tgt := 230) hx hb dX2_isAllowed_226 (by decide) ?_
                            exact prz (by rw [okA_y h_6]; simp [bI, c_7, c_18, c_53, c_54, c_55, c_56, c_57, c_58]) hx hb hr hlocks dX2_isAllowed_230
                          · skip
                            have c_58 := (bI_z _).mp c_58
                            refine lv_iload_n hx hb dX2_isAllowed_196 rfl (lv_at hl 3 rfl) ?_
                            refine lv_iconst (v := 3) hx hb dX2_isAllowed_197 (by decide) ?_
                            refine pcall (va_runS (As := [.int x, .int 3]) (rest := []) ⟨hx, hb, hml, hown, hts⟩ (m_isSet l x 3 3 rfl (by decide)) (va_cwS 2 hts (lw_S q368 q369 q21 q370) rfl rfl rfl (by decide +kernel) ⟨Nat.le_of_ble_eq_true rfl, Nat.le_of_ble_eq_true rfl⟩) pT_S rfl rfl hl.1 rfl (lv_room (Nat.le_of_ble_eq_true rfl)) dX2_isAllowed_198 ⟨Nat.le_refl _, Nat.le_refl _⟩) ?_
                            refine lv_if_eq (tgt := 229) hx hb dX2_isAllowed_201 (by decide) (fun c_59 => ?_) (fun c_59 => ?_)
                            · skip
                              have c_59 := (bI_z _).mp c_59
                              refine lv_iconst (v := 0) hx hb dX2_isAllowed_229 (by decide) ?_
                              exact prz (by rw [okA_y h_6]; simp [bI, c_7, c_18, c_53, c_54, c_55, c_56, c_57, c_58, c_59]) hx hb hr hlocks dX2_isAllowed_230
                            · skip
                              have c_59 := (bI_n _).mp c_59
                              refine lv_aload_n hx hb dX2_isAllowed_204 rfl (lv_at hl 1 rfl) ?_
                              refine lv_iconst (v := 1) hx hb dX2_isAllowed_205 (by decide) ?_
                              refine pcall (va_runV (As := [.int 1]) (rest := []) ⟨hx, hb, hml, hown, hts⟩ (m_has l D hm mm dA M th ap vp hg ri pl to te kd vi us ex ca fa oe 1 1 rfl (by decide)) (cwV 1 hts (lw_V q371 q373 qs17 q21 q374) rfl rfl rfl (by decide +kernel) ⟨Nat.le_of_ble_eq_true rfl, Nat.le_of_ble_eq_true rfl⟩) (pR_V hK hP 0 rfl rfl) rfl rfl hl.1 rfl (lv_room (Nat.le_of_ble_eq_true rfl)) dX2_isAllowed_206 ⟨Nat.le_refl _, Nat.le_refl _⟩) ?_
                              refine lv_if_ne (tgt := 225) hx hb dX2_isAllowed_209 (by decide) (fun c_60 => ?_) (fun c_60 => ?_)
                              · skip
                                have c_60 := (bI_n _).mp c_60
                                refine lv_iconst (v := 1) hx hb dX2_isAllowed_225 (by decide) ?_
                                refine lv_goto (tgt := 230) hx hb dX2_isAllowed_226 (by decide) ?_
                                exact prz (by rw [okA_y h_6]; simp [bI, c_7, c_18, c_53, c_54, c_55, c_56, c_57, c_58, c_59, c_60]) hx hb hr hlocks dX2_isAllowed_230
                              · skip
                                have c_60 := (bI_z _).mp c_60
                                refine lv_iload_n hx hb dX2_isAllowed_212 rfl (lv_at hl 2 rfl) ?_
                                refine lv_iconst (v := 1) hx hb dX2_isAllowed_213 (by decide) ?_
                                refine lv_icmp_ne (tgt := 229) hx hb dX2_isAllowed_214 (by decide) (fun c_61 => ?_) (fun c_61 => ?_)
                                · skip
                                  refine lv_iconst (v := 0) hx hb dX2_isAllowed_229 (by decide) ?_
                                  exact prz (by rw [okA_y h_6]; simp [bI, c_7, c_18, c_53, c_54, c_55, c_56, c_57, c_58, c_59, c_60, c_61]) hx hb hr hlocks dX2_isAllowed_230
                                · skip
                                  refine lv_aload_n hx hb dX2_isAllowed_217 rfl (lv_at hl 1 rfl) ?_
                                  refine lv_iconst (v := 3) hx hb dX2_isAllowed_218 (by decide) ?_
                                  refine pcall (va_runV (As := [.int 3]) (rest := []) ⟨hx, hb, hml, hown, hts⟩ (m_has l D hm mm dA M th ap vp hg ri pl to te kd vi us ex ca fa oe 3 3 rfl (by decide)) (cwV 1 hts (lw_V q371 q373 qs17 q21 q374) rfl rfl rfl (by decide +kernel) ⟨Nat.le_of_ble_eq_true rfl, Nat.le_of_ble_eq_true rfl⟩) (pR_V hK hP 0 rfl rfl) rfl rfl hl.1 rfl (lv_room (Nat.le_of_ble_eq_true rfl)) dX2_isAllowed_219 ⟨Nat.le_refl _, Nat.le_refl _⟩) ?_
                                  refine lv_if_eq (tgt := 229) hx hb dX2_isAllowed_222 (by decide) (fun c_62 => ?_) (fun c_62 => ?_)
                                  · skip
                                    have c_62 := (bI_z _).mp c_62
                                    refine lv_iconst (v := 0) hx hb dX2_isAllowed_229 (by decide) ?_
                                    exact prz (by rw [okA_y h_6]; simp [bI, c_7, c_18, c_53, c_54, c_55, c_56, c_57, c_58, c_59, c_60, c_61, c_62]) hx hb hr hlocks dX2_isAllowed_230
                                  · skip
                                    have c_62 := (bI_n _).mp c_62
                                    refine lv_iconst (v := 1) hx hb dX2_isAllowed_225 (by decide) ?_
                                    refine lv_goto (tgt := 230) hx hb dX2_isAllowed_226 (by decide) ?_
                                    exact prz (by rw [okA_y h_6]; simp [bI, c_7, c_18, c_53, c_54, c_55, c_56, c_57, c_58, c_59, c_60, c_61, c_62]) hx hb hr hlocks dX2_isAllowed_230
                        · skip
                          refine lv_iload_n hx hb dX2_isAllowed_165 rfl (lv_at hl 3 rfl) ?_
                          refine lv_iconst (v := 2) hx hb dX2_isAllowed_166 (by decide) ?_
                          refine pcall (va_runS (As := [.int x, .int 2]) (rest := []) ⟨hx, hb, hml, hown, hts⟩ (m_isSet l x 2 2 rfl (by decide)) (va_cwS 2 hts (lw_S q368 q369 q21 q370) rfl rfl rfl (by decide +kernel) ⟨Nat.le_of_ble_eq_true rfl, Nat.le_of_ble_eq_true rfl⟩) pT_S rfl rfl hl.1 rfl (lv_room (Nat.le_of_ble_eq_true rfl)) dX2_isAllowed_167 ⟨Nat.le_refl _, Nat.le_refl _⟩) ?_
                          refine lv_if_eq (tgt := 186) hx hb dX2_isAllowed_170 (by decide) (fun c_63 => ?_) (fun c_63 => absurd (bI_zf c_4) c_63)
                          refine lv_iconst (v := 0) hx hb dX2_isAllowed_186 (by decide) ?_
                          exact prz (by rw [okA_y h_6]; simp [bI, c_7, c_18, c_53, c_54, c_55, c_56, c_57, c_4]) hx hb hr hlocks dX2_isAllowed_187
                      · skip
                        have c_56 := (bI_n _).mp c_56
                        refine lv_iload_n hx hb dX2_isAllowed_151 rfl (lv_at hl 3 rfl) ?_
                        refine lv_iconst (v := 3) hx hb dX2_isAllowed_152 (by decide) ?_
                        refine pcall (va_runS (As := [.int x, .int 3]) (rest := []) ⟨hx, hb, hml, hown, hts⟩ (m_isSet l x 3 3 rfl (by decide)) (va_cwS 2 hts (lw_S q368 q369 q21 q370) rfl rfl rfl (by decide +kernel) ⟨Nat.le_of_ble_eq_true rfl, Nat.le_of_ble_eq_true rfl⟩) pT_S rfl rfl hl.1 rfl (lv_room (Nat.le_of_ble_eq_true rfl)) dX2_isAllowed_153 ⟨Nat.le_refl _, Nat.le_refl _⟩) ?_
                        exact prz (by rw [okA_y h_6]; simp [bI, c_7, c_18, c_53, c_54, c_55, c_56]) hx hb hr hlocks dX2_isAllowed_156
                  · skip
                    have c_54 := (bI_n _).mp c_54
                    refine lv_iload_n hx hb dX2_isAllowed_131 rfl (lv_at hl 3 rfl) ?_
                    refine lv_iconst (v := 1) hx hb dX2_isAllowed_132 (by decide) ?_
                    refine pcall (va_runS (As := [.int x, .int 1]) (rest := []) ⟨hx, hb, hml, hown, hts⟩ (m_isSet l x 1 1 rfl (by decide)) (va_cwS 2 hts (lw_S q368 q369 q21 q370) rfl rfl rfl (by decide +kernel) ⟨Nat.le_of_ble_eq_true rfl, Nat.le_of_ble_eq_true rfl⟩) pT_S rfl rfl hl.1 rfl (lv_room (Nat.le_of_ble_eq_true rfl)) dX2_isAllowed_133 ⟨Nat.le_refl _, Nat.le_refl _⟩) ?_
                    exact prz (by rw [okA_y h_6]; simp [bI, c_7, c_18, c_53, c_54]) hx hb hr hlocks dX2_isAllowed_136
                · skip
                  have c_53 := (bI_z _).mp c_53
                  refine lv_iconst (v := 0) hx hb dX2_isAllowed_91 (by decide) ?_
                  exact prz (by rw [okA_y h_6]; simp [bI, c_7, c_18, c_53]) hx hb hr hlocks dX2_isAllowed_92
          · skip
            have c_5 := (bI_z _).mp c_5
            refine lv_iconst (v := 0) hx hb dX2_isAllowed_69 (by decide) ?_
            exact prz (by rw [okA_n (by simp [lef, okS, wnr, c_2, c_3, c_4, c_5])]; rfl) hx hb hr hlocks dX2_isAllowed_70
        · skip
          have c_4 := (bI_n _).mp c_4
          refine lv_iload_n hx hb dX2_isAllowed_52 rfl (lv_at hl 3 rfl) ?_
          refine lv_iconst (v := 1) hx hb dX2_isAllowed_53 (by decide) ?_
          refine pcall (va_runS (As := [.int x, .int 1]) (rest := []) ⟨hx, hb, hml, hown, hts⟩ (m_isSet l x 1 1 rfl (by decide)) (va_cwS 2 hts (lw_S q368 q369 q21 q370) rfl rfl rfl (by decide +kernel) ⟨Nat.le_of_ble_eq_true rfl, Nat.le_of_ble_eq_true rfl⟩) pT_S rfl rfl hl.1 rfl (lv_room (Nat.le_of_ble_eq_true rfl)) dX2_isAllowed_54 ⟨Nat.le_refl _, Nat.le_refl _⟩) ?_
          refine lv_if_eq (tgt := 69) hx hb dX2_isAllowed_57 (by decide) (fun c_64 => ?_) (fun c_64 => ?_)
          · skip
            have c_64 := (bI_z _).mp c_64
            refine lv_iconst (v := 0) hx hb dX2_isAllowed_69 (by decide) ?_
            exact prz (by rw [okA_n (by simp [lef, okS, wnr, c_2, c_3, c_4, c_64])]; rfl) hx hb hr hlocks dX2_isAllowed_70
          · skip
            have c_64 := (bI_n _).mp c_64
            refine lv_iload_n hx hb dX2_isAllowed_60 rfl (lv_at hl 3 rfl) ?_
            refine lv_bipush (v := 6) hx hb dX2_isAllowed_61 (by decide) ?_
            refine pcall (va_runS (As := [.int x, .int 6]) (rest := []) ⟨hx, hb, hml, hown, hts⟩ (m_isSet l x 6 6 rfl (by decide)) (va_cwS 2 hts (lw_S q368 q369 q21 q370) rfl rfl rfl (by decide +kernel) ⟨Nat.le_of_ble_eq_true rfl, Nat.le_of_ble_eq_true rfl⟩) pT_S rfl rfl hl.1 rfl (lv_room (Nat.le_of_ble_eq_true rfl)) dX2_isAllowed_63 ⟨Nat.le_refl _, Nat.le_refl _⟩) ?_
            refine lv_if_ne (tgt := 71) hx hb dX2_isAllowed_66 (by decide) (fun c_65 => ?_) (fun c_65 => ?_)
            · skip
              have c_65 := (bI_n _).mp c_65
              have h_66 : (lef x && eb x 6) = true := by simp [lef, okS, wnr, c_2, c_3, c_4, c_64, c_65]
              refine lv_iload_n hx hb dX2_isAllowed_71 rfl (lv_at hl 2 rfl) ?_
              refine lv_iconst (v := 2) hx hb dX2_isAllowed_72 (by decide) ?_
              refine lv_icmp_eq (tgt := 83) hx hb dX2_isAllowed_73 (by decide) (fun c_67 => ?_) (fun c_67 => ?_)
              · skip
                refine lv_iload_n hx hb dX2_isAllowed_83 rfl (lv_at hl 3 rfl) ?_
                refine lv_iconst (v := 4) hx hb dX2_isAllowed_84 (by decide) ?_
                refine pcall (va_runS (As := [.int x, .int 4]) (rest := []) ⟨hx, hb, hml, hown, hts⟩ (m_isSet l x 4 4 rfl (by decide)) (va_cwS 2 hts (lw_S q368 q369 q21 q370) rfl rfl rfl (by decide +kernel) ⟨Nat.le_of_ble_eq_true rfl, Nat.le_of_ble_eq_true rfl⟩) pT_S rfl rfl hl.1 rfl (lv_room (Nat.le_of_ble_eq_true rfl)) dX2_isAllowed_85 ⟨Nat.le_refl _, Nat.le_refl _⟩) ?_
                refine lv_if_ne (tgt := 127) hx hb dX2_isAllowed_88 (by decide) (fun c_68 => ?_) (fun c_68 => ?_)
                · skip
                  have c_68 := (bI_n _).mp c_68
                  refine lv_iload_n hx hb dX2_isAllowed_127 rfl (lv_at hl 4 rfl) ?_
                  refine lv_if_eq (tgt := 137) hx hb dX2_isAllowed_128 (by decide) (fun c_69 => ?_) (fun c_69 => ?_)
                  · skip
                    have c_69 := (bI_z _).mp c_69
                    refine lv_aload_n hx hb dX2_isAllowed_137 rfl (lv_at hl 1 rfl) ?_
                    refine va_get (D := D) (ci := 2) (v := .int kd) (C := RX2) (T := TX2) (N := 16) hx hb hts in_X2 hown hK hP 0 rfl rfl 9 (by decide) (hts _ q255) (fun _ h9 => h9) rfl dX2_isAllowed_138 ?_
                    refine lv_if_eq (tgt := 151) hx hb dX2_isAllowed_141 (by decide) (fun c_70 => ?_) (fun c_70 => ?_)
                    · skip
                      refine lv_iload_n hx hb dX2_isAllowed_151 rfl (lv_at hl 3 rfl) ?_
                      refine lv_iconst (v := 3) hx hb dX2_isAllowed_152 (by decide) ?_
                      refine pcall (va_runS (As := [.int x, .int 3]) (rest := []) ⟨hx, hb, hml, hown, hts⟩ (m_isSet l x 3 3 rfl (by decide)) (va_cwS 2 hts (lw_S q368 q369 q21 q370) rfl rfl rfl (by decide +kernel) ⟨Nat.le_of_ble_eq_true rfl, Nat.le_of_ble_eq_true rfl⟩) pT_S rfl rfl hl.1 rfl (lv_room (Nat.le_of_ble_eq_true rfl)) dX2_isAllowed_153 ⟨Nat.le_refl _, Nat.le_refl _⟩) ?_
                      exact prz (by rw [okA_y h_66]; simp [bI, c_67, c_68, c_69, c_70]) hx hb hr hlocks dX2_isAllowed_156
                    · skip
                      refine lv_aload_n hx hb dX2_isAllowed_144 rfl (lv_at hl 1 rfl) ?_
                      refine va_get (D := D) (ci := 2) (v := .int (bI ex)) (C := RX2) (T := TX2) (N := 16) hx hb hts in_X2 hown hK hP 0 rfl rfl 12 (by decide) (hts _ q258) (fun _ h9 => h9) rfl dX2_isAllowed_145 ?_
                      refine lv_if_eq (tgt := 157) hx hb dX2_isAllowed_148 (by decide) (fun c_71 => ?_) (fun c_71 => ?_)
                      · skip
                        have c_71 := (bI_z _).mp c_71
                        refine lv_aload_n hx hb dX2_isAllowed_157 rfl (lv_at hl 1 rfl) ?_
                        refine va_get (D := D) (ci := 2) (v := .int kd) (C := RX2) (T := TX2) (N := 16) hx hb hts in_X2 hown hK hP 0 rfl rfl 9 (by decide) (hts _ q255) (fun _ h9 => h9) rfl dX2_isAllowed_158 ?_
                        refine lv_iconst (v := 2) hx hb dX2_isAllowed_161 (by decide) ?_
                        refine lv_icmp_ne (tgt := 188) hx hb dX2_isAllowed_162 (by decide) (fun c_72 => ?_) (fun c_72 => ?_)
                        · skip
                          refine lv_iload_n hx hb dX2_isAllowed_188 rfl (lv_at hl 3 rfl) ?_
                          refine lv_iconst (v := 1) hx hb dX2_isAllowed_189 (by decide) ?_
                          refine pcall (va_runS (As := [.int x, .int 1]) (rest := []) ⟨hx, hb, hml, hown, hts⟩ (m_isSet l x 1 1 rfl (by decide)) (va_cwS 2 hts (lw_S q368 q369 q21 q370) rfl rfl rfl (by decide +kernel) ⟨Nat.le_of_ble_eq_true rfl, Nat.le_of_ble_eq_true rfl⟩) pT_S rfl rfl hl.1 rfl (lv_room (Nat.le_of_ble_eq_true rfl)) dX2_isAllowed_190 ⟨Nat.le_refl _, Nat.le_refl _⟩) ?_
                          refine lv_if_ne (tgt := 225) hx hb dX2_isAllowed_193 (by decide) (fun c_73 => ?_) (fun c_73 => absurd c_73 (bI_zt c_64))
                          refine lv_iconst (v := 1) hx hb dX2_isAllowed_225 (by decide) ?_
                          refine lv_goto (tgt := 230) hx hb dX2_isAllowed_226 (by decide) ?_
                          exact prz (by rw [okA_y h_66]; simp [bI, c_67, c_68, c_69, c_70, c_71, c_72, c_64]) hx hb hr hlocks dX2_isAllowed_230
                        · skip
                          refine lv_iload_n hx hb dX2_isAllowed_165 rfl (lv_at hl 3 rfl) ?_
                          refine lv_iconst (v := 2) hx hb dX2_isAllowed_166 (by decide) ?_
                          refine pcall (va_runS (As := [.int x, .int 2]) (rest := []) ⟨hx, hb, hml, hown, hts⟩ (m_isSet l x 2 2 rfl (by decide)) (va_cwS 2 hts (lw_S q368 q369 q21 q370) rfl rfl rfl (by decide +kernel) ⟨Nat.le_of_ble_eq_true rfl, Nat.le_of_ble_eq_true rfl⟩) pT_S rfl rfl hl.1 rfl (lv_room (Nat.le_of_ble_eq_true rfl)) dX2_isAllowed_167 ⟨Nat.le_refl _, Nat.le_refl _⟩) ?_
                          refine lv_if_eq (tgt := 186) hx hb dX2_isAllowed_170 (by decide) (fun c_74 => absurd c_74 (bI_zt c_4)) (fun c_74 => ?_)
                          refine lv_iload_n hx hb dX2_isAllowed_173 rfl (lv_at hl 3 rfl) ?_
                          refine lv_bipush (v := 7) hx hb dX2_isAllowed_174 (by decide) ?_
                          refine pcall (va_runS (As := [.int x, .int 7]) (rest := []) ⟨hx, hb, hml, hown, hts⟩ (m_isSet l x 7 7 rfl (by decide)) (va_cwS 2 hts (lw_S q368 q369 q21 q370) rfl rfl rfl (by decide +kernel) ⟨Nat.le_of_ble_eq_true rfl, Nat.le_of_ble_eq_true rfl⟩) pT_S rfl rfl hl.1 rfl (lv_room (Nat.le_of_ble_eq_true rfl)) dX2_isAllowed_176 ⟨Nat.le_refl _, Nat.le_refl _⟩) ?_
                          refine lv_if_eq (tgt := 186) hx hb dX2_isAllowed_179 (by decide) (fun c_75 => ?_) (fun c_75 => ?_)
                          · skip
                            have c_75 := (bI_z _).mp c_75
                            refine lv_iconst (v := 0) hx hb dX2_isAllowed_186 (by decide) ?_
                            exact prz (by rw [okA_y h_66]; simp [bI, c_67, c_68, c_69, c_70, c_71, c_72, c_4, c_75]) hx hb hr hlocks dX2_isAllowed_187
                          · skip
                            have c_75 := (bI_n _).mp c_75
                            refine lv_iconst (v := 1) hx hb dX2_isAllowed_182 (by decide) ?_
                            refine lv_goto (tgt := 187) hx hb dX2_isAllowed_183 (by decide) ?_
                            exact prz (by rw [okA_y h_66]; simp [bI, c_67, c_68, c_69, c_70, c_71, c_72, c_4, c_75]) hx hb hr hlocks dX2_isAllowed_187
                      · skip
                        have c_71 := (bI_n _).mp c_71
                        refine lv_iload_n hx hb dX2_isAllowed_151 rfl (lv_at hl 3 rfl) ?_
                        refine lv_iconst (v := 3) hx hb dX2_isAllowed_152 (by decide) ?_
                        refine pcall (va_runS (As := [.int x, .int 3]) (rest := []) ⟨hx, hb, hml, hown, hts⟩ (m_isSet l x 3 3 rfl (by decide)) (va_cwS 2 hts (lw_S q368 q369 q21 q370) rfl rfl rfl (by decide +kernel) ⟨Nat.le_of_ble_eq_true rfl, Nat.le_of_ble_eq_true rfl⟩) pT_S rfl rfl hl.1 rfl (lv_room (Nat.le_of_ble_eq_true rfl)) dX2_isAllowed_153 ⟨Nat.le_refl _, Nat.le_refl _⟩) ?_
                        exact prz (by rw [okA_y h_66]; simp [bI, c_67, c_68, c_69, c_70, c_71]) hx hb hr hlocks dX2_isAllowed_156
                  · skip
                    have c_69 := (bI_n _).mp c_69
                    refine lv_iload_n hx hb dX2_isAllowed_131 rfl (lv_at hl 3 rfl) ?_
                    refine lv_iconst (v := 1) hx hb dX2_isAllowed_132 (by decide) ?_
                    refine pcall (va_runS (As := [.int x, .int 1]) (rest := []) ⟨hx, hb, hml, hown, hts⟩ (m_isSet l x 1 1 rfl (by decide)) (va_cwS 2 hts (lw_S q368 q369 q21 q370) rfl rfl rfl (by decide +kernel) ⟨Nat.le_of_ble_eq_true rfl, Nat.le_of_ble_eq_true rfl⟩) pT_S rfl rfl hl.1 rfl (lv_room (Nat.le_of_ble_eq_true rfl)) dX2_isAllowed_133 ⟨Nat.le_refl _, Nat.le_refl _⟩) ?_
                    exact prz (by rw [okA_y h_66]; simp [bI, c_67, c_68, c_69]) hx hb hr hlocks dX2_isAllowed_136
                · skip
                  have c_68 := (bI_z _).mp c_68
                  refine lv_iconst (v := 0) hx hb dX2_isAllowed_91 (by decide) ?_
                  exact prz (by rw [okA_y h_66]; simp [bI, c_67, c_68]) hx hb hr hlocks dX2_isAllowed_92
              · skip
                refine lv_aload_n hx hb dX2_isAllowed_76 rfl (lv_at hl 1 rfl) ?_
                refine va_get (D := D) (ci := 2) (v := .int (bI us)) (C := RX2) (T := TX2) (N := 16) hx hb hts in_X2 hown hK hP 0 rfl rfl 11 (by decide) (hts _ q257) (fun _ h9 => h9) rfl dX2_isAllowed_77 ?_
                refine lv_if_eq (tgt := 93) hx hb dX2_isAllowed_80 (by decide) (fun c_76 => ?_) (fun c_76 => ?_)
                · skip
                  have c_76 := (bI_z _).mp c_76
                  refine lv_iload_n hx hb dX2_isAllowed_93 rfl (lv_at hl 3 rfl) ?_
                  refine lv_iconst (v := 4) hx hb dX2_isAllowed_94 (by decide) ?_
                  refine pcall (va_runS (As := [.int x, .int 4]) (rest := []) ⟨hx, hb, hml, hown, hts⟩ (m_isSet l x 4 4 rfl (by decide)) (va_cwS 2 hts (lw_S q368 q369 q21 q370) rfl rfl rfl (by decide +kernel) ⟨Nat.le_of_ble_eq_true rfl, Nat.le_of_ble_eq_true rfl⟩) pT_S rfl rfl hl.1 rfl (lv_room (Nat.le_of_ble_eq_true rfl)) dX2_isAllowed_95 ⟨Nat.le_refl _, Nat.le_refl _⟩) ?_
                  refine lv_if_eq (tgt := 127) hx hb dX2_isAllowed_98 (by decide) (fun c_77 => ?_) (fun c_77 => ?_)
                  · skip
                    have c_77 := (bI_z _).mp c_77
                    refine lv_iload_n hx hb dX2_isAllowed_127 rfl (lv_at hl 4 rfl) ?_
                    refine lv_if_eq (tgt := 137) hx hb dX2_isAllowed_128 (by decide) (fun c_78 => ?_) (fun c_78 => ?_)
                    · skip
                      have c_78 := (bI_z _).mp c_78
                      refine lv_aload_n hx hb dX2_isAllowed_137 rfl (lv_at hl 1 rfl) ?_
                      refine va_get (D := D) (ci := 2) (v := .int kd) (C := RX2) (T := TX2) (N := 16) hx hb hts in_X2 hown hK hP 0 rfl rfl 9 (by decide) (hts _ q255) (fun _ h9 => h9) rfl dX2_isAllowed_138 ?_
                      refine lv_if_eq (tgt := 151) hx hb dX2_isAllowed_141 (by decide) (fun c_79 => ?_) (fun c_79 => ?_)
                      · skip
                        refine lv_iload_n hx hb dX2_isAllowed_151 rfl (lv_at hl 3 rfl) ?_
                        refine lv_iconst (v := 3) hx hb dX2_isAllowed_152 (by decide) ?_
                        refine pcall (va_runS (As := [.int x, .int 3]) (rest := []) ⟨hx, hb, hml, hown, hts⟩ (m_isSet l x 3 3 rfl (by decide)) (va_cwS 2 hts (lw_S q368 q369 q21 q370) rfl rfl rfl (by decide +kernel) ⟨Nat.le_of_ble_eq_true rfl, Nat.le_of_ble_eq_true rfl⟩) pT_S rfl rfl hl.1 rfl (lv_room (Nat.le_of_ble_eq_true rfl)) dX2_isAllowed_153 ⟨Nat.le_refl _, Nat.le_refl _⟩) ?_
                        exact prz (by rw [okA_y h_66]; simp [bI, c_67, c_76, c_77, c_78, c_79]) hx hb hr hlocks dX2_isAllowed_156
                      · skip
                        refine lv_aload_n hx hb dX2_isAllowed_144 rfl (lv_at hl 1 rfl) ?_
                        refine va_get (D := D) (ci := 2) (v := .int (bI ex)) (C := RX2) (T := TX2) (N := 16) hx hb hts in_X2 hown hK hP 0 rfl rfl 12 (by decide) (hts _ q258) (fun _ h9 => h9) rfl dX2_isAllowed_145 ?_
                        refine lv_if_eq (tgt := 157) hx hb dX2_isAllowed_148 (by decide) (fun c_80 => ?_) (fun c_80 => ?_)
                        · skip
                          have c_80 := (bI_z _).mp c_80
                          refine lv_aload_n hx hb dX2_isAllowed_157 rfl (lv_at hl 1 rfl) ?_
                          refine va_get (D := D) (ci := 2) (v := .int kd) (C := RX2) (T := TX2) (N := 16) hx hb hts in_X2 hown hK hP 0 rfl rfl 9 (by decide) (hts _ q255) (fun _ h9 => h9) rfl dX2_isAllowed_158 ?_
                          refine lv_iconst (v := 2) hx hb dX2_isAllowed_161 (by decide) ?_
                          refine lv_icmp_ne (tgt := 188) hx hb dX2_isAllowed_162 (by decide) (fun c_81 => ?_) (fun c_81 => ?_)
                          · skip
                            refine lv_iload_n hx hb dX2_isAllowed_188 rfl (lv_at hl 3 rfl) ?_
                            refine lv_iconst (v := 1) hx hb dX2_isAllowed_189 (by decide) ?_
                            refine pcall (va_runS (As := [.int x, .int 1]) (rest := []) ⟨hx, hb, hml, hown, hts⟩ (m_isSet l x 1 1 rfl (by decide)) (va_cwS 2 hts (lw_S q368 q369 q21 q370) rfl rfl rfl (by decide +kernel) ⟨Nat.le_of_ble_eq_true rfl, Nat.le_of_ble_eq_true rfl⟩) pT_S rfl rfl hl.1 rfl (lv_room (Nat.le_of_ble_eq_true rfl)) dX2_isAllowed_190 ⟨Nat.le_refl _, Nat.le_refl _⟩) ?_
                            refine lv_if_ne (tgt := 225) hx hb dX2_isAllowed_193 (by decide) (fun c_82 => ?_) (fun c_82 => absurd c_82 (bI_zt c_64))
                            refine lv_iconst (v := 1) hx hb dX2_isAllowed_225 (by decide) ?_
                            refine lv_goto (tgt := 230) hx hb dX2_isAllowed_226 (by decide) ?_
                            exact prz (by rw [okA_y h_66]; simp [bI, c_67, c_76, c_77, c_78, c_79, c_80, c_81, c_64]) hx hb hr hlocks dX2_isAllowed_230
                          · skip
                            refine lv_iload_n hx hb dX2_isAllowed_165 rfl (lv_at hl 3 rfl) ?_
                            refine lv_iconst (v := 2) hx hb dX2_isAllowed_166 (by decide) ?_
                            refine pcall (va_runS (As := [.int x, .int 2]) (rest := []) ⟨hx, hb, hml, hown, hts⟩ (m_isSet l x 2 2 rfl (by decide)) (va_cwS 2 hts (lw_S q368 q369 q21 q370) rfl rfl rfl (by decide +kernel) ⟨Nat.le_of_ble_eq_true rfl, Nat.le_of_ble_eq_true rfl⟩) pT_S rfl rfl hl.1 rfl (lv_room (Nat.le_of_ble_eq_true rfl)) dX2_isAllowed_167 ⟨Nat.le_refl _, Nat.le_refl _⟩) ?_
                            refine lv_if_eq (tgt := 186) hx hb dX2_isAllowed_170 (by decide) (fun c_83 => absurd c_83 (bI_zt c_4)) (fun c_83 => ?_)
                            refine lv_iload_n hx hb dX2_isAllowed_173 rfl (lv_at hl 3 rfl) ?_
                            refine lv_bipush (v := 7) hx hb dX2_isAllowed_174 (by decide) ?_
                            refine pcall (va_runS (As := [.int x, .int 7]) (rest := []) ⟨hx, hb, hml, hown, hts⟩ (m_isSet l x 7 7 rfl (by decide)) (va_cwS 2 hts (lw_S q368 q369 q21 q370) rfl rfl rfl (by decide +kernel) ⟨Nat.le_of_ble_eq_true rfl, Nat.le_of_ble_eq_true rfl⟩) pT_S rfl rfl hl.1 rfl (lv_room (Nat.le_of_ble_eq_true rfl)) dX2_isAllowed_176 ⟨Nat.le_refl _, Nat.le_refl _⟩) ?_
                            refine lv_if_eq (tgt := 186) hx hb dX2_isAllowed_179 (by decide) (fun c_84 => ?_) (fun c_84 => ?_)
                            · skip
                              have c_84 := (bI_z _).mp c_84
                              refine lv_iconst (v := 0) hx hb dX2_isAllowed_186 (by decide) ?_
                              exact prz (by rw [okA_y h_66]; simp [bI, c_67, c_76, c_77, c_78, c_79, c_80, c_81, c_4, c_84]) hx hb hr hlocks dX2_isAllowed_187
                            · skip
                              have c_84 := (bI_n _).mp c_84
                              refine lv_iconst (v := 1) hx hb dX2_isAllowed_182 (by decide) ?_
                              refine lv_goto (tgt := 187) hx hb dX2_isAllowed_183 (by decide) ?_
                              exact prz (by rw [okA_y h_66]; simp [bI, c_67, c_76, c_77, c_78, c_79, c_80, c_81, c_4, c_84]) hx hb hr hlocks dX2_isAllowed_187
                        · skip
                          have c_80 := (bI_n _).mp c_80
                          refine lv_iload_n hx hb dX2_isAllowed_151 rfl (lv_at hl 3 rfl) ?_
                          refine lv_iconst (v := 3) hx hb dX2_isAllowed_152 (by decide) ?_
                          refine pcall (va_runS (As := [.int x, .int 3]) (rest := []) ⟨hx, hb, hml, hown, hts⟩ (m_isSet l x 3 3 rfl (by decide)) (va_cwS 2 hts (lw_S q368 q369 q21 q370) rfl rfl rfl (by decide +kernel) ⟨Nat.le_of_ble_eq_true rfl, Nat.le_of_ble_eq_true rfl⟩) pT_S rfl rfl hl.1 rfl (lv_room (Nat.le_of_ble_eq_true rfl)) dX2_isAllowed_153 ⟨Nat.le_refl _, Nat.le_refl _⟩) ?_
                          exact prz (by rw [okA_y h_66]; simp [bI, c_67, c_76, c_77, c_78, c_79, c_80]) hx hb hr hlocks dX2_isAllowed_156
                    · skip
                      have c_78 := (bI_n _).mp c_78
                      refine lv_iload_n hx hb dX2_isAllowed_131 rfl (lv_at hl 3 rfl) ?_
                      refine lv_iconst (v := 1) hx hb dX2_isAllowed_132 (by decide) ?_
                      refine pcall (va_runS (As := [.int x, .int 1]) (rest := []) ⟨hx, hb, hml, hown, hts⟩ (m_isSet l x 1 1 rfl (by decide)) (va_cwS 2 hts (lw_S q368 q369 q21 q370) rfl rfl rfl (by decide +kernel) ⟨Nat.le_of_ble_eq_true rfl, Nat.le_of_ble_eq_true rfl⟩) pT_S rfl rfl hl.1 rfl (lv_room (Nat.le_of_ble_eq_true rfl)) dX2_isAllowed_133 ⟨Nat.le_refl _, Nat.le_refl _⟩) ?_
                      exact prz (by rw [okA_y h_66]; simp [bI, c_67, c_76, c_77, c_78]) hx hb hr hlocks dX2_isAllowed_136
                  · skip
                    have c_77 := (bI_n _).mp c_77
                    refine lv_aload_n hx hb dX2_isAllowed_101 rfl (lv_at hl 1 rfl) ?_
                    refine va_get (D := D) (ci := 2) (v := .int kd) (C := RX2) (T := TX2) (N := 16) hx hb hts in_X2 hown hK hP 0 rfl rfl 9 (by decide) (hts _ q255) (fun _ h9 => h9) rfl dX2_isAllowed_102 ?_
                    refine lv_if_eq (tgt := 125) hx hb dX2_isAllowed_105 (by decide) (fun c_85 => ?_) (fun c_85 => ?_)
                    · skip
                      refine lv_iconst (v := 0) hx hb dX2_isAllowed_125 (by decide) ?_
                      exact prz (by rw [okA_y h_66]; simp [bI, c_67, c_76, c_77, c_85]) hx hb hr hlocks dX2_isAllowed_126
                    · skip
                      refine lv_aload_n hx hb dX2_isAllowed_108 rfl (lv_at hl 1 rfl) ?_
                      refine lv_iload_n hx hb dX2_isAllowed_109 rfl (lv_at hl 2 rfl) ?_
                      refine lv_iconst (v := 1) hx hb dX2_isAllowed_110 (by decide) ?_
                      refine lv_icmp_ne (tgt := 118) hx hb dX2_isAllowed_111 (by decide) (fun c_86 => ?_) (fun c_86 => ?_)
                      · skip
                        refine lv_iconst (v := 0) hx hb dX2_isAllowed_118 (by decide) ?_
                        refine pcall (va_runV (As := [.int 0]) (rest := []) ⟨hx, hb, hml, hown, hts⟩ (m_has l D hm mm dA M th ap vp hg ri pl to te kd vi us ex ca fa oe 0 0 rfl (by decide)) (cwV 1 hts (lw_V q371 q373 qs17 q21 q374) rfl rfl rfl (by decide +kernel) ⟨Nat.le_of_ble_eq_true rfl, Nat.le_of_ble_eq_true rfl⟩) (pR_V hK hP 0 rfl rfl) rfl rfl hl.1 rfl (lv_room (Nat.le_of_ble_eq_true rfl)) dX2_isAllowed_119 ⟨Nat.le_refl _, Nat.le_refl _⟩) ?_
                        refine lv_if_ne (tgt := 127) hx hb dX2_isAllowed_122 (by decide) (fun c_87 => ?_) (fun c_87 => ?_)
                        · skip
                          have c_87 := (bI_n _).mp c_87
                          refine lv_iload_n hx hb dX2_isAllowed_127 rfl (lv_at hl 4 rfl) ?_
                          refine lv_if_eq (tgt := 137) hx hb dX2_isAllowed_128 (by decide) (fun c_88 => ?_) (fun c_88 => ?_)
                          · skip
                            have c_88 := (bI_z _).mp c_88
                            refine lv_aload_n hx hb dX2_isAllowed_137 rfl (lv_at hl 1 rfl) ?_
                            refine va_get (D := D) (ci := 2) (v := .int kd) (C := RX2) (T := TX2) (N := 16) hx hb hts in_X2 hown hK hP 0 rfl rfl 9 (by decide) (hts _ q255) (fun _ h9 => h9) rfl dX2_isAllowed_138 ?_
                            refine lv_if_eq (tgt := 151) hx hb dX2_isAllowed_141 (by decide) (fun c_89 => absurd c_89 c_85) (fun c_89 => ?_)
                            refine lv_aload_n hx hb dX2_isAllowed_144 rfl (lv_at hl 1 rfl) ?_
                            refine va_get (D := D) (ci := 2) (v := .int (bI ex)) (C := RX2) (T := TX2) (N := 16) hx hb hts in_X2 hown hK hP 0 rfl rfl 12 (by decide) (hts _ q258) (fun _ h9 => h9) rfl dX2_isAllowed_145 ?_
                            refine lv_if_eq (tgt := 157) hx hb dX2_isAllowed_148 (by decide) (fun c_90 => ?_) (fun c_90 => ?_)
                            · skip
                              have c_90 := (bI_z _).mp c_90
                              refine lv_aload_n hx hb dX2_isAllowed_157 rfl (lv_at hl 1 rfl) ?_
                              refine va_get (D := D) (ci := 2) (v := .int kd) (C := RX2) (T := TX2) (N := 16) hx hb hts in_X2 hown hK hP 0 rfl rfl 9 (by decide) (hts _ q255) (fun _ h9 => h9) rfl dX2_isAllowed_158 ?_
                              refine lv_iconst (v := 2) hx hb dX2_isAllowed_161 (by decide) ?_
                              refine lv_icmp_ne (tgt := 188) hx hb dX2_isAllowed_162 (by decide) (fun c_91 => ?_) (fun c_91 => ?_)
                              · skip
                                refine lv_iload_n hx hb dX2_isAllowed_188 rfl (lv_at hl 3 rfl) ?_
                                refine lv_iconst (v := 1) hx hb dX2_isAllowed_189 (by decide) ?_
                                refine pcall (va_runS (As := [.int x, .int 1]) (rest := []) ⟨hx, hb, hml, hown, hts⟩ (m_isSet l x 1 1 rfl (by decide)) (va_cwS 2 hts (lw_S q368 q369 q21 q370) rfl rfl rfl (by decide +kernel) ⟨Nat.le_of_ble_eq_true rfl, Nat.le_of_ble_eq_true rfl⟩) pT_S rfl rfl hl.1 rfl (lv_room (Nat.le_of_ble_eq_true rfl)) dX2_isAllowed_190 ⟨Nat.le_refl _, Nat.le_refl _⟩) ?_
                                refine lv_if_ne (tgt := 225) hx hb dX2_isAllowed_193 (by decide) (fun c_92 => ?_) (fun c_92 => absurd c_92 (bI_zt c_64))
                                refine lv_iconst (v := 1) hx hb dX2_isAllowed_225 (by decide) ?_
                                refine lv_goto (tgt := 230) hx hb dX2_isAllowed_226 (by decide) ?_
                                exact prz (by rw [okA_y h_66]; simp [bI, c_67, c_76, c_77, c_85, c_86, c_87, c_88, c_90, c_91, c_64]) hx hb hr hlocks dX2_isAllowed_230
                              · skip
                                refine lv_iload_n hx hb dX2_isAllowed_165 rfl (lv_at hl 3 rfl) ?_
                                refine lv_iconst (v := 2) hx hb dX2_isAllowed_166 (by decide) ?_
                                refine pcall (va_runS (As := [.int x, .int 2]) (rest := []) ⟨hx, hb, hml, hown, hts⟩ (m_isSet l x 2 2 rfl (by decide)) (va_cwS 2 hts (lw_S q368 q369 q21 q370) rfl rfl rfl (by decide +kernel) ⟨Nat.le_of_ble_eq_true rfl, Nat.le_of_ble_eq_true rfl⟩) pT_S rfl rfl hl.1 rfl (lv_room (Nat.le_of_ble_eq_true rfl)) dX2_isAllowed_167 ⟨Nat.le_refl _, Nat.le_refl _⟩) ?_
                                refine lv_if_eq (tgt := 186) hx hb dX2_isAllowed_170 (by decide) (fun c_93 => absurd c_93 (bI_zt c_4)) (fun c_93 => ?_)
                                refine lv_iload_n hx hb dX2_isAllowed_173 rfl (lv_at hl 3 rfl) ?_
                                refine lv_bipush (v := 7) hx hb dX2_isAllowed_174 (by decide) ?_
                                refine pcall (va_runS (As := [.int x, .int 7]) (rest := []) ⟨hx, hb, hml, hown, hts⟩ (m_isSet l x 7 7 rfl (by decide)) (va_cwS 2 hts (lw_S q368 q369 q21 q370) rfl rfl rfl (by decide +kernel) ⟨Nat.le_of_ble_eq_true rfl, Nat.le_of_ble_eq_true rfl⟩) pT_S rfl rfl hl.1 rfl (lv_room (Nat.le_of_ble_eq_true rfl)) dX2_isAllowed_176 ⟨Nat.le_refl _, Nat.le_refl _⟩) ?_
                                refine lv_if_eq (tgt := 186) hx hb dX2_isAllowed_179 (by decide) (fun c_94 => ?_) (fun c_94 => ?_)
                                · skip
                                  have c_94 := (bI_z _).mp c_94
                                  refine lv_iconst (v := 0) hx hb dX2_isAllowed_186 (by decide) ?_
                                  exact prz (by rw [okA_y h_66]; simp [bI, c_67, c_76, c_77, c_85, c_86, c_87, c_88, c_90, c_91, c_4, c_94]) hx hb hr hlocks dX2_isAllowed_187
                                · skip
                                  have c_94 := (bI_n _).mp c_94
                                  refine lv_iconst (v := 1) hx hb dX2_isAllowed_182 (by decide) ?_
                                  refine lv_goto (tgt := 187) hx hb dX2_isAllowed_183 (by decide) ?_
                                  exact prz (by rw [okA_y h_66]; simp [bI, c_67, c_76, c_77, c_85, c_86, c_87, c_88, c_90, c_91, c_4, c_94]) hx hb hr hlocks dX2_isAllowed_187
                            · skip
                              have c_90 := (bI_n _).mp c_90
                              refine lv_iload_n hx hb dX2_isAllowed_151 rfl (lv_at hl 3 rfl) ?_
                              refine lv_iconst (v := 3) hx hb dX2_isAllowed_152 (by decide) ?_
                              refine pcall (va_runS (As := [.int x, .int 3]) (rest := []) ⟨hx, hb, hml, hown, hts⟩ (m_isSet l x 3 3 rfl (by decide)) (va_cwS 2 hts (lw_S q368 q369 q21 q370) rfl rfl rfl (by decide +kernel) ⟨Nat.le_of_ble_eq_true rfl, Nat.le_of_ble_eq_true rfl⟩) pT_S rfl rfl hl.1 rfl (lv_room (Nat.le_of_ble_eq_true rfl)) dX2_isAllowed_153 ⟨Nat.le_refl _, Nat.le_refl _⟩) ?_
                              exact prz (by rw [okA_y h_66]; simp [bI, c_67, c_76, c_77, c_85, c_86, c_87, c_88, c_90]) hx hb hr hlocks dX2_isAllowed_156
                          · skip
                            have c_88 := (bI_n _).mp c_88
                            refine lv_iload_n hx hb dX2_isAllowed_131 rfl (lv_at hl 3 rfl) ?_
                            refine lv_iconst (v := 1) hx hb dX2_isAllowed_132 (by decide) ?_
                            refine pcall (va_runS (As := [.int x, .int 1]) (rest := []) ⟨hx, hb, hml, hown, hts⟩ (m_isSet l x 1 1 rfl (by decide)) (va_cwS 2 hts (lw_S q368 q369 q21 q370) rfl rfl rfl (by decide +kernel) ⟨Nat.le_of_ble_eq_true rfl, Nat.le_of_ble_eq_true rfl⟩) pT_S rfl rfl hl.1 rfl (lv_room (Nat.le_of_ble_eq_true rfl)) dX2_isAllowed_133 ⟨Nat.le_refl _, Nat.le_refl _⟩) ?_
                            exact prz (by rw [okA_y h_66]; simp [bI, c_67, c_76, c_77, c_85, c_86, c_87, c_88]) hx hb hr hlocks dX2_isAllowed_136
                        · skip
                          have c_87 := (bI_z _).mp c_87
                          refine lv_iconst (v := 0) hx hb dX2_isAllowed_125 (by decide) ?_
                          exact prz (by rw [okA_y h_66]; simp [bI, c_67, c_76, c_77, c_85, c_86, c_87]) hx hb hr hlocks dX2_isAllowed_126
                      · skip
                        refine lv_iconst (v := 2) hx hb dX2_isAllowed_114 (by decide) ?_
                        refine lv_goto (tgt := 119) hx hb dX2_isAllowed_115 (by decide) ?_
                        refine pcall (va_runV (As := [.int 2]) (rest := []) ⟨hx, hb, hml, hown, hts⟩ (m_has l D hm mm dA M th ap vp hg ri pl to te kd vi us ex ca fa oe 2 2 rfl (by decide)) (cwV 1 hts (lw_V q371 q373 qs17 q21 q374) rfl rfl rfl (by decide +kernel) ⟨Nat.le_of_ble_eq_true rfl, Nat.le_of_ble_eq_true rfl⟩) (pR_V hK hP 0 rfl rfl) rfl rfl hl.1 rfl (lv_room (Nat.le_of_ble_eq_true rfl)) dX2_isAllowed_119 ⟨Nat.le_refl _, Nat.le_refl _⟩) ?_
                        refine lv_if_ne (tgt := 127) hx hb dX2_isAllowed_122 (by decide) (fun c_95 => ?_) (fun c_95 => ?_)
                        · skip
                          have c_95 := (bI_n _).mp c_95
                          refine lv_iload_n hx hb dX2_isAllowed_127 rfl (lv_at hl 4 rfl) ?_
                          refine lv_if_eq (tgt := 137) hx hb dX2_isAllowed_128 (by decide) (fun c_96 => ?_) (fun c_96 => ?_)
                          · skip
                            have c_96 := (bI_z _).mp c_96
                            refine lv_aload_n hx hb dX2_isAllowed_137 rfl (lv_at hl 1 rfl) ?_
                            refine va_get (D := D) (ci := 2) (v := .int kd) (C := RX2) (T := TX2) (N := 16) hx hb hts in_X2 hown hK hP 0 rfl rfl 9 (by decide) (hts _ q255) (fun _ h9 => h9) rfl dX2_isAllowed_138 ?_
                            refine lv_if_eq (tgt := 151) hx hb dX2_isAllowed_141 (by decide) (fun c_97 => absurd c_97 c_85) (fun c_97 => ?_)
                            refine lv_aload_n hx hb dX2_isAllowed_144 rfl (lv_at hl 1 rfl) ?_
                            refine va_get (D := D) (ci := 2) (v := .int (bI ex)) (C := RX2) (T := TX2) (N := 16) hx hb hts in_X2 hown hK hP 0 rfl rfl 12 (by decide) (hts _ q258) (fun _ h9 => h9) rfl dX2_isAllowed_145 ?_
                            refine lv_if_eq (tgt := 157) hx hb dX2_isAllowed_148 (by decide) (fun c_98 => ?_) (fun c_98 => ?_)
                            · skip
                              have c_98 := (bI_z _).mp c_98
                              refine lv_aload_n hx hb dX2_isAllowed_157 rfl (lv_at hl 1 rfl) ?_
                              refine va_get (D := D) (ci := 2) (v := .int kd) (C := RX2) (T := TX2) (N := 16) hx hb hts in_X2 hown hK hP 0 rfl rfl 9 (by decide) (hts _ q255) (fun _ h9 => h9) rfl dX2_isAllowed_158 ?_
                              refine lv_iconst (v := 2) hx hb dX2_isAllowed_161 (by decide) ?_
                              refine lv_icmp_ne (tgt := 188) hx hb dX2_isAllowed_162 (by decide) (fun c_99 => ?_) (fun c_99 => ?_)
                              · skip
                                refine lv_iload_n hx hb dX2_isAllowed_188 rfl (lv_at hl 3 rfl) ?_
                                refine lv_iconst (v := 1) hx hb dX2_isAllowed_189 (by decide) ?_
                                refine pcall (va_runS (As := [.int x, .int 1]) (rest := []) ⟨hx, hb, hml, hown, hts⟩ (m_isSet l x 1 1 rfl (by decide)) (va_cwS 2 hts (lw_S q368 q369 q21 q370) rfl rfl rfl (by decide +kernel) ⟨Nat.le_of_ble_eq_true rfl, Nat.le_of_ble_eq_true rfl⟩) pT_S rfl rfl hl.1 rfl (lv_room (Nat.le_of_ble_eq_true rfl)) dX2_isAllowed_190 ⟨Nat.le_refl _, Nat.le_refl _⟩) ?_
                                refine lv_if_ne (tgt := 225) hx hb dX2_isAllowed_193 (by decide) (fun c_100 => ?_) (fun c_100 => absurd c_100 (bI_zt c_64))
                                refine lv_iconst (v := 1) hx hb dX2_isAllowed_225 (by decide) ?_
                                refine lv_goto (tgt := 230) hx hb dX2_isAllowed_226 (by decide) ?_
                                exact prz (by rw [okA_y h_66]; simp [bI, c_67, c_76, c_77, c_85, c_86, c_95, c_96, c_98, c_99, c_64]) hx hb hr hlocks dX2_isAllowed_230
                              · skip
                                refine lv_iload_n hx hb dX2_isAllowed_165 rfl (lv_at hl 3 rfl) ?_
                                refine lv_iconst (v := 2) hx hb dX2_isAllowed_166 (by decide) ?_
                                refine pcall (va_runS (As := [.int x, .int 2]) (rest := []) ⟨hx, hb, hml, hown, hts⟩ (m_isSet l x 2 2 rfl (by decide)) (va_cwS 2 hts (lw_S q368 q369 q21 q370) rfl rfl rfl (by decide +kernel) ⟨Nat.le_of_ble_eq_true rfl, Nat.le_of_ble_eq_true rfl⟩) pT_S rfl rfl hl.1 rfl (lv_room (Nat.le_of_ble_eq_true rfl)) dX2_isAllowed_167 ⟨Nat.le_refl _, Nat.le_refl _⟩) ?_
                                refine lv_if_eq (tgt := 186) hx hb dX2_isAllowed_170 (by decide) (fun c_101 => absurd c_101 (bI_zt c_4)) (fun c_101 => ?_)
                                refine lv_iload_n hx hb dX2_isAllowed_173 rfl (lv_at hl 3 rfl) ?_
                                refine lv_bipush (v := 7) hx hb dX2_isAllowed_174 (by decide) ?_
                                refine pcall (va_runS (As := [.int x, .int 7]) (rest := []) ⟨hx, hb, hml, hown, hts⟩ (m_isSet l x 7 7 rfl (by decide)) (va_cwS 2 hts (lw_S q368 q369 q21 q370) rfl rfl rfl (by decide +kernel) ⟨Nat.le_of_ble_eq_true rfl, Nat.le_of_ble_eq_true rfl⟩) pT_S rfl rfl hl.1 rfl (lv_room (Nat.le_of_ble_eq_true rfl)) dX2_isAllowed_176 ⟨Nat.le_refl _, Nat.le_refl _⟩) ?_
                                refine lv_if_eq (tgt := 186) hx hb dX2_isAllowed_179 (by decide) (fun c_102 => ?_) (fun c_102 => ?_)
                                · skip
                                  have c_102 := (bI_z _).mp c_102
                                  refine lv_iconst (v := 0) hx hb dX2_isAllowed_186 (by decide) ?_
                                  exact prz (by rw [okA_y h_66]; simp [bI, c_67, c_76, c_77, c_85, c_86, c_95, c_96, c_98, c_99, c_4, c_102]) hx hb hr hlocks dX2_isAllowed_187
                                · skip
                                  have c_102 := (bI_n _).mp c_102
                                  refine lv_iconst (v := 1) hx hb dX2_isAllowed_182 (by decide) ?_
                                  refine lv_goto (tgt := 187) hx hb dX2_isAllowed_183 (by decide) ?_
                                  exact prz (by rw [okA_y h_66]; simp [bI, c_67, c_76, c_77, c_85, c_86, c_95, c_96, c_98, c_99, c_4, c_102]) hx hb hr hlocks dX2_isAllowed_187
                            · skip
                              have c_98 := (bI_n _).mp c_98
                              refine lv_iload_n hx hb dX2_isAllowed_151 rfl (lv_at hl 3 rfl) ?_
                              refine lv_iconst (v := 3) hx hb dX2_isAllowed_152 (by decide) ?_
                              refine pcall (va_runS (As := [.int x, .int 3]) (rest := []) ⟨hx, hb, hml, hown, hts⟩ (m_isSet l x 3 3 rfl (by decide)) (va_cwS 2 hts (lw_S q368 q369 q21 q370) rfl rfl rfl (by decide +kernel) ⟨Nat.le_of_ble_eq_true rfl, Nat.le_of_ble_eq_true rfl⟩) pT_S rfl rfl hl.1 rfl (lv_room (Nat.le_of_ble_eq_true rfl)) dX2_isAllowed_153 ⟨Nat.le_refl _, Nat.le_refl _⟩) ?_
                              exact prz (by rw [okA_y h_66]; simp [bI, c_67, c_76, c_77, c_85, c_86, c_95, c_96, c_98]) hx hb hr hlocks dX2_isAllowed_156
                          · skip
                            have c_96 := (bI_n _).mp c_96
                            refine lv_iload_n hx hb dX2_isAllowed_131 rfl (lv_at hl 3 rfl) ?_
                            refine lv_iconst (v := 1) hx hb dX2_isAllowed_132 (by decide) ?_
                            refine pcall (va_runS (As := [.int x, .int 1]) (rest := []) ⟨hx, hb, hml, hown, hts⟩ (m_isSet l x 1 1 rfl (by decide)) (va_cwS 2 hts (lw_S q368 q369 q21 q370) rfl rfl rfl (by decide +kernel) ⟨Nat.le_of_ble_eq_true rfl, Nat.le_of_ble_eq_true rfl⟩) pT_S rfl rfl hl.1 rfl (lv_room (Nat.le_of_ble_eq_true rfl)) dX2_isAllowed_133 ⟨Nat.le_refl _, Nat.le_refl _⟩) ?_
                            exact prz (by rw [okA_y h_66]; simp [bI, c_67, c_76, c_77, c_85, c_86, c_95, c_96]) hx hb hr hlocks dX2_isAllowed_136
                        · skip
                          have c_95 := (bI_z _).mp c_95
                          refine lv_iconst (v := 0) hx hb dX2_isAllowed_125 (by decide) ?_
                          exact prz (by rw [okA_y h_66]; simp [bI, c_67, c_76, c_77, c_85, c_86, c_95]) hx hb hr hlocks dX2_isAllowed_126
                · skip
                  have c_76 := (bI_n _).mp c_76
                  refine lv_iload_n hx hb dX2_isAllowed_83 rfl (lv_at hl 3 rfl) ?_
                  refine lv_iconst (v := 4) hx hb dX2_isAllowed_84 (by decide) ?_
                  refine pcall (va_runS (As := [.int x, .int 4]) (rest := []) ⟨hx, hb, hml, hown, hts⟩ (m_isSet l x 4 4 rfl (by decide)) (va_cwS 2 hts (lw_S q368 q369 q21 q370) rfl rfl rfl (by decide +kernel) ⟨Nat.le_of_ble_eq_true rfl, Nat.le_of_ble_eq_true rfl⟩) pT_S rfl rfl hl.1 rfl (lv_room (Nat.le_of_ble_eq_true rfl)) dX2_isAllowed_85 ⟨Nat.le_refl _, Nat.le_refl _⟩) ?_
                  refine lv_if_ne (tgt := 127) hx hb dX2_isAllowed_88 (by decide) (fun c_103 => ?_) (fun c_103 => ?_)
                  · skip
                    have c_103 := (bI_n _).mp c_103
                    refine lv_iload_n hx hb dX2_isAllowed_127 rfl (lv_at hl 4 rfl) ?_
                    refine lv_if_eq (tgt := 137) hx hb dX2_isAllowed_128 (by decide) (fun c_104 => ?_) (fun c_104 => ?_)
                    · skip
                      have c_104 := (bI_z _).mp c_104
                      refine lv_aload_n hx hb dX2_isAllowed_137 rfl (lv_at hl 1 rfl) ?_
                      refine va_get (D := D) (ci := 2) (v := .int kd) (C := RX2) (T := TX2) (N := 16) hx hb hts in_X2 hown hK hP 0 rfl rfl 9 (by decide) (hts _ q255) (fun _ h9 => h9) rfl dX2_isAllowed_138 ?_
                      refine lv_if_eq (tgt := 151) hx hb dX2_isAllowed_141 (by decide) (fun c_105 => ?_) (fun c_105 => ?_)
                      · skip
                        refine lv_iload_n hx hb dX2_isAllowed_151 rfl (lv_at hl 3 rfl) ?_
                        refine lv_iconst (v := 3) hx hb dX2_isAllowed_152 (by decide) ?_
                        refine pcall (va_runS (As := [.int x, .int 3]) (rest := []) ⟨hx, hb, hml, hown, hts⟩ (m_isSet l x 3 3 rfl (by decide)) (va_cwS 2 hts (lw_S q368 q369 q21 q370) rfl rfl rfl (by decide +kernel) ⟨Nat.le_of_ble_eq_true rfl, Nat.le_of_ble_eq_true rfl⟩) pT_S rfl rfl hl.1 rfl (lv_room (Nat.le_of_ble_eq_true rfl)) dX2_isAllowed_153 ⟨Nat.le_refl _, Nat.le_refl _⟩) ?_
                        exact prz (by rw [okA_y h_66]; simp [bI, c_67, c_76, c_103, c_104, c_105]) hx hb hr hlocks dX2_isAllowed_156
                      · skip
                        refine lv_aload_n hx hb dX2_isAllowed_144 rfl (lv_at hl 1 rfl) ?_
                        refine va_get (D := D) (ci := 2) (v := .int (bI ex)) (C := RX2) (T := TX2) (N := 16) hx hb hts in_X2 hown hK hP 0 rfl rfl 12 (by decide) (hts _ q258) (fun _ h9 => h9) rfl dX2_isAllowed_145 ?_
                        refine lv_if_eq (tgt := 157) hx hb dX2_isAllowed_148 (by decide) (fun c_106 => ?_) (fun c_106 => ?_)
                        · skip
                          have c_106 := (bI_z _).mp c_106
                          refine lv_aload_n hx hb dX2_isAllowed_157 rfl (lv_at hl 1 rfl) ?_
                          refine va_get (D := D) (ci := 2) (v := .int kd) (C := RX2) (T := TX2) (N := 16) hx hb hts in_X2 hown hK hP 0 rfl rfl 9 (by decide) (hts _ q255) (fun _ h9 => h9) rfl dX2_isAllowed_158 ?_
                          refine lv_iconst (v := 2) hx hb dX2_isAllowed_161 (by decide) ?_
                          refine lv_icmp_ne (tgt := 188) hx hb dX2_isAllowed_162 (by decide) (fun c_107 => ?_) (fun c_107 => ?_)
                          · skip
                            refine lv_iload_n hx hb dX2_isAllowed_188 rfl (lv_at hl 3 rfl) ?_
                            refine lv_iconst (v := 1) hx hb dX2_isAllowed_189 (by decide) ?_
                            refine pcall (va_runS (As := [.int x, .int 1]) (rest := []) ⟨hx, hb, hml, hown, hts⟩ (m_isSet l x 1 1 rfl (by decide)) (va_cwS 2 hts (lw_S q368 q369 q21 q370) rfl rfl rfl (by decide +kernel) ⟨Nat.le_of_ble_eq_true rfl, Nat.le_of_ble_eq_true rfl⟩) pT_S rfl rfl hl.1 rfl (lv_room (Nat.le_of_ble_eq_true rfl)) dX2_isAllowed_190 ⟨Nat.le_refl _, Nat.le_refl _⟩) ?_
                            refine lv_if_ne (tgt := 225) hx hb dX2_isAllowed_193 (by decide) (fun c_108 => ?_) (fun c_108 => absurd c_108 (bI_zt c_64))
                            refine lv_iconst (v := 1) hx hb dX2_isAllowed_225 (by decide) ?_
                            refine lv_goto (tgt := 230) hx hb dX2_isAllowed_226 (by decide) ?_
                            exact prz (by rw [okA_y h_66]; simp [bI, c_67, c_76, c_103, c_104, c_105, c_106, c_107, c_64]) hx hb hr hlocks dX2_isAllowed_230
                          · skip
                            refine lv_iload_n hx hb dX2_isAllowed_165 rfl (lv_at hl 3 rfl) ?_
                            refine lv_iconst (v := 2) hx hb dX2_isAllowed_166 (by decide) ?_
                            refine pcall (va_runS (As := [.int x, .int 2]) (rest := []) ⟨hx, hb, hml, hown, hts⟩ (m_isSet l x 2 2 rfl (by decide)) (va_cwS 2 hts (lw_S q368 q369 q21 q370) rfl rfl rfl (by decide +kernel) ⟨Nat.le_of_ble_eq_true rfl, Nat.le_of_ble_eq_true rfl⟩) pT_S rfl rfl hl.1 rfl (lv_room (Nat.le_of_ble_eq_true rfl)) dX2_isAllowed_167 ⟨Nat.le_refl _, Nat.le_refl _⟩) ?_
                            refine lv_if_eq (tgt := 186) hx hb dX2_isAllowed_170 (by decide) (fun c_109 => absurd c_109 (bI_zt c_4)) (fun c_109 => ?_)
                            refine lv_iload_n hx hb dX2_isAllowed_173 rfl (lv_at hl 3 rfl) ?_
                            refine lv_bipush (v := 7) hx hb dX2_isAllowed_174 (by decide) ?_
                            refine pcall (va_runS (As := [.int x, .int 7]) (rest := []) ⟨hx, hb, hml, hown, hts⟩ (m_isSet l x 7 7 rfl (by decide)) (va_cwS 2 hts (lw_S q368 q369 q21 q370) rfl rfl rfl (by decide +kernel) ⟨Nat.le_of_ble_eq_true rfl, Nat.le_of_ble_eq_true rfl⟩) pT_S rfl rfl hl.1 rfl (lv_room (Nat.le_of_ble_eq_true rfl)) dX2_isAllowed_176 ⟨Nat.le_refl _, Nat.le_refl _⟩) ?_
                            refine lv_if_eq (tgt := 186) hx hb dX2_isAllowed_179 (by decide) (fun c_110 => ?_) (fun c_110 => ?_)
                            · skip
                              have c_110 := (bI_z _).mp c_110
                              refine lv_iconst (v := 0) hx hb dX2_isAllowed_186 (by decide) ?_
                              exact prz (by rw [okA_y h_66]; simp [bI, c_67, c_76, c_103, c_104, c_105, c_106, c_107, c_4, c_110]) hx hb hr hlocks dX2_isAllowed_187
                            · skip
                              have c_110 := (bI_n _).mp c_110
                              refine lv_iconst (v := 1) hx hb dX2_isAllowed_182 (by decide) ?_
                              refine lv_goto (tgt := 187) hx hb dX2_isAllowed_183 (by decide) ?_
                              exact prz (by rw [okA_y h_66]; simp [bI, c_67, c_76, c_103, c_104, c_105, c_106, c_107, c_4, c_110]) hx hb hr hlocks dX2_isAllowed_187
                        · skip
                          have c_106 := (bI_n _).mp c_106
                          refine lv_iload_n hx hb dX2_isAllowed_151 rfl (lv_at hl 3 rfl) ?_
                          refine lv_iconst (v := 3) hx hb dX2_isAllowed_152 (by decide) ?_
                          refine pcall (va_runS (As := [.int x, .int 3]) (rest := []) ⟨hx, hb, hml, hown, hts⟩ (m_isSet l x 3 3 rfl (by decide)) (va_cwS 2 hts (lw_S q368 q369 q21 q370) rfl rfl rfl (by decide +kernel) ⟨Nat.le_of_ble_eq_true rfl, Nat.le_of_ble_eq_true rfl⟩) pT_S rfl rfl hl.1 rfl (lv_room (Nat.le_of_ble_eq_true rfl)) dX2_isAllowed_153 ⟨Nat.le_refl _, Nat.le_refl _⟩) ?_
                          exact prz (by rw [okA_y h_66]; simp [bI, c_67, c_76, c_103, c_104, c_105, c_106]) hx hb hr hlocks dX2_isAllowed_156
                    · skip
                      have c_104 := (bI_n _).mp c_104
                      refine lv_iload_n hx hb dX2_isAllowed_131 rfl (lv_at hl 3 rfl) ?_
                      refine lv_iconst (v := 1) hx hb dX2_isAllowed_132 (by decide) ?_
                      refine pcall (va_runS (As := [.int x, .int 1]) (rest := []) ⟨hx, hb, hml, hown, hts⟩ (m_isSet l x 1 1 rfl (by decide)) (va_cwS 2 hts (lw_S q368 q369 q21 q370) rfl rfl rfl (by decide +kernel) ⟨Nat.le_of_ble_eq_true rfl, Nat.le_of_ble_eq_true rfl⟩) pT_S rfl rfl hl.1 rfl (lv_room (Nat.le_of_ble_eq_true rfl)) dX2_isAllowed_133 ⟨Nat.le_refl _, Nat.le_refl _⟩) ?_
                      exact prz (by rw [okA_y h_66]; simp [bI, c_67, c_76, c_103, c_104]) hx hb hr hlocks dX2_isAllowed_136
                  · skip
                    have c_103 := (bI_z _).mp c_103
                    refine lv_iconst (v := 0) hx hb dX2_isAllowed_91 (by decide) ?_
                    exact prz (by rw [okA_y h_66]; simp [bI, c_67, c_76, c_103]) hx hb hr hlocks dX2_isAllowed_92
            · skip
              have c_65 := (bI_z _).mp c_65
              refine lv_iconst (v := 0) hx hb dX2_isAllowed_69 (by decide) ?_
              exact prz (by rw [okA_n (by simp [lef, okS, wnr, c_2, c_3, c_4, c_64, c_65])]; rfl) hx hb hr hlocks dX2_isAllowed_70
  · skip
    refine lv_if_ne (tgt := 24) hx hb dX2_isAllowed_5 (by decide) (fun c_111 => ?_) (fun c_111 => ?_)
    · skip
      have c_111 := (bI_n _).mp c_111
      refine lv_iconst (v := 1) hx hb dX2_isAllowed_24 (by decide) ?_
      refine lv_goto (tgt := 29) hx hb dX2_isAllowed_25 (by decide) ?_
      exact K_1 _ (by simp [bI, knd, c_111])
    · skip
      have c_111 := (bI_z _).mp c_111
      refine lv_iload_n hx hb dX2_isAllowed_8 rfl (lv_at hl 2 rfl) ?_
      refine lv_iconst (v := 2) hx hb dX2_isAllowed_9 (by decide) ?_
      refine pcall (va_runS (As := [.int x, .int 2]) (rest := []) ⟨hx, hb, hml, hown, hts⟩ (m_isSet l x 2 2 rfl (by decide)) (va_cwS 2 hts (lw_S q368 q369 q21 q370) rfl rfl rfl (by decide +kernel) ⟨Nat.le_of_ble_eq_true rfl, Nat.le_of_ble_eq_true rfl⟩) pT_S rfl rfl hl.1 rfl (lv_room (Nat.le_of_ble_eq_true rfl)) dX2_isAllowed_10 ⟨Nat.le_refl _, Nat.le_refl _⟩) ?_
      refine lv_if_ne (tgt := 24) hx hb dX2_isAllowed_13 (by decide) (fun c_112 => ?_) (fun c_112 => ?_)
      · skip
        have c_112 := (bI_n _).mp c_112
        refine lv_iconst (v := 1) hx hb dX2_isAllowed_24 (by decide) ?_
        refine lv_goto (tgt := 29) hx hb dX2_isAllowed_25 (by decide) ?_
        exact K_1 _ (by simp [bI, knd, c_111, c_112])
      · skip
        have c_112 := (bI_z _).mp c_112
        refine lv_iload_n hx hb dX2_isAllowed_16 rfl (lv_at hl 2 rfl) ?_
        refine lv_iconst (v := 3) hx hb dX2_isAllowed_17 (by decide) ?_
        refine pcall (va_runS (As := [.int x, .int 3]) (rest := []) ⟨hx, hb, hml, hown, hts⟩ (m_isSet l x 3 3 rfl (by decide)) (va_cwS 2 hts (lw_S q368 q369 q21 q370) rfl rfl rfl (by decide +kernel) ⟨Nat.le_of_ble_eq_true rfl, Nat.le_of_ble_eq_true rfl⟩) pT_S rfl rfl hl.1 rfl (lv_room (Nat.le_of_ble_eq_true rfl)) dX2_isAllowed_18 ⟨Nat.le_refl _, Nat.le_refl _⟩) ?_
        refine lv_if_eq (tgt := 28) hx hb dX2_isAllowed_21 (by decide) (fun c_113 => ?_) (fun c_113 => ?_)
        · skip
          have c_113 := (bI_z _).mp c_113
          refine lv_iconst (v := 0) hx hb dX2_isAllowed_28 (by decide) ?_
          exact K_1 _ (by simp [bI, knd, c_111, c_112, c_113])
        · skip
          have c_113 := (bI_n _).mp c_113
          refine lv_iconst (v := 1) hx hb dX2_isAllowed_24 (by decide) ?_
          refine lv_goto (tgt := 29) hx hb dX2_isAllowed_25 (by decide) ?_
          exact K_1 _ (by simp [bI, knd, c_111, c_112, c_113])
end
section
/-! StageWalkerModel: walks -/
set_option maxRecDepth 100000
theorem adm1 {r n : Nat} : lN r + 4 * lN n = lN (r + 4 * n) := by
  show lN r + lN 4 * lN n = _
  rw [lN_mul, lN_add]
theorem zl (x : Int32) (m : Nat) (hm : m < 2147483648) : (lN (tn x) &&& lN m = 0) ↔ (x &&& nI m = 0) := by
  have hb : tn x &&& m ≤ m := and_lt
  have h1 : x &&& nI m = nI (tn x &&& m) := by rw [← fa_and, nI_tn]
  rw [h1, fb_andL]
  show (lN _ = lN 0) ↔ (nI _ = nI 0)
  rw [fb_lN_inj (by omega) (by decide), nI_eq (by omega) (by decide)]
theorem zl_14 (x : Int32) : (lN (tn x) &&& 14 = 0) ↔ knd x = false := (zl x 14 (by decide)).trans (z_14 x)
theorem zl_208 (x : Int32) : (lN (tn x) &&& 208 = 0) ↔ tbb x = false := (zl x 208 (by decide)).trans (z_208 x)
theorem zl_1 (x : Int32) : (lN (tn x) &&& 1 = 0) ↔ eb x 0 = false := (zl x 1 (by decide)).trans (z_1 x)
theorem bnot {b : Bool} : (¬ b = false) ↔ b = true := by cases b <;> simp
theorem bnot' {b : Bool} : (¬ b = true) ↔ b = false := by cases b <;> simp
theorem lowl (x : Int32) : ((lN (tn x) >>> ((10 : Int32).toInt64 &&& 63)) &&& 1023 = 0) ↔ lowz x = true := by
  have hlt := tn_lt x
  rw [sh10 (by omega)]
  have e : lN (tn x / 1024) &&& 1023 = lN (tn x / 1024 % 1024) := fb_maskL (tn x / 1024) 10
  rw [e]
  show (lN _ = lN 0) ↔ _
  rw [fb_lN_inj (by omega) (by decide)]
  unfold lowz ppn
  rw [decide_eq_true_iff]
theorem adm2 {x : Int32} {fr : Nat} (h : fr < 17179869184) : lN (tn x) / 1024 * 4096 + 4 * ((lN fr >>> ((12 : Int32).toInt64 &&& 63)) &&& 1023) = lN (tgt x + 4 * (fr / 4096 % 1024)) := by
  have hlt := tn_lt x
  have e1 : lN (tn x) / 1024 = lN (ppn x) := pk_lDiv (b := 1024) (by omega) (by decide) (by decide)
  have e2 : lN (ppn x) * 4096 = lN (tgt x) := lN_mul (ppn x) 4096
  rw [e1, e2]
  exact ad12 h
theorem ppn_v (x : Int32) : lN (tn x) / 1024 = lN (ppn x) := by
  have hlt := tn_lt x
  exact pk_lDiv (b := 1024) (by omega) (by decide) (by decide)
theorem to_s {x : Int32} {fr : Nat} : lN (ppn x) * 4096 + (lN fr &&& 4095) = lN (tgt x + fr % 4096) := by
  have e2 : lN (ppn x) * 4096 = lN (tgt x) := lN_mul (ppn x) 4096
  have e3 : lN fr &&& 4095 = lN (fr % 4096) := fb_maskL fr 12
  rw [e2, e3, lN_add]
theorem to_l {x : Int32} {fr : Nat} (h : lowz x = true) : ((lN (ppn x) / 1024) <<< ((22 : Int32).toInt64 &&& 63)) + (lN fr &&& 4194303) = lN (tgt x + fr % 4194304) := by
  have hlt := ppn_lt x
  have e1 : lN (ppn x) / 1024 = lN (ppn x / 1024) := pk_lDiv (b := 1024) (by omega) (by decide) (by decide)
  have e2 : lN (ppn x / 1024) <<< ((22 : Int32).toInt64 &&& 63) = lN (ppn x / 1024 * 4194304) := wb_shl (ppn x / 1024) (k := 22) (by decide)
  have e3 : lN fr &&& 4194303 = lN (fr % 4194304) := fb_maskL fr 22
  have e4 : ppn x / 1024 * 4194304 = tgt x := by
    have h := of_decide_eq_true h
    unfold tgt; omega
  rw [e1, e2, e3, e4, lN_add]
theorem tab_y {x : Int32} (h1 : knd x = false) (h2 : eb x 0 = true) (h3 : tbb x = false) : tab x = true := by
  have h4 : eb x 2 = false := by unfold knd at h1; cases h : eb x 2 <;> simp_all
  simp [tab, okS, wnr, h1, h2, h3, h4]
theorem tab_k {x : Int32} (h : knd x = true) : tab x = false := by simp [tab, h]
theorem tab_0 {x : Int32} (h : eb x 0 = false) : tab x = false := by simp [tab, okS, h]
theorem tab_b {x : Int32} (h : tbb x = true) : tab x = false := by simp [tab, h]
theorem okA_k {st k ri : Int32} {us ex en : Bool} {x : Int32} (h : knd x = false) : okA st k ri us ex en x = false := okA_n (by simp [lef, h])
/-- the model's leaves and the component's -/
theorem okA_2e {k ri : Int32} {us ex : Bool} : okA 2 k ri us ex true = ok2 false false 1 := by
  funext x
  simp only [okA, ok2, acc, true_or, if_true]
  cases lef x <;> cases eb x 6 <;> cases eb x 4 <;> cases eb x 1 <;> rfl
theorem okA_2 {k ri : Int32} {us ex : Bool} : okA 2 k ri us ex false = ok2 ex (eb ri 1) k := by
  funext x
  simp only [okA, ok2, acc, true_or, if_true]
  by_cases h0 : k = 0 ∨ ex = true
  · simp only [h0, if_true]
    cases lef x <;> cases eb x 6 <;> cases eb x 4 <;> cases eb x 3 <;> rfl
  · simp only [h0, if_false]
    by_cases h2 : k = 2
    · simp only [h2, if_true]
      cases lef x <;> cases eb x 6 <;> cases eb x 4 <;> cases eb x 2 <;> cases eb x 7 <;> rfl
    · simp only [h2, if_false]
      cases lef x <;> cases eb x 6 <;> cases eb x 4 <;> cases eb x 1 <;> cases eb x 3 <;> cases eb ri 1 <;> rfl
theorem okA_0 {k ri : Int32} {us ex : Bool} : okA 0 k ri us ex false = ok1 us (eb ri 0) ex (eb ri 1) k := by
  funext x
  have e1 : (if (0 : Int32) = 2 ∨ us = true then eb x 4 else (!eb x 4 || (decide (¬ k = 0) && eb ri (if (0 : Int32) = 1 then 2 else 0)))) = usr us (eb ri 0) k x := by
    unfold usr; cases us <;> rfl
  unfold okA ok1
  rw [e1]
  unfold acc
  by_cases h0 : k = 0 ∨ ex = true
  · simp only [h0, if_true]
    cases lef x <;> cases eb x 6 <;> cases eb x 3 <;> cases usr us (eb ri 0) k x <;> rfl
  · simp only [h0, if_false]
    by_cases h2 : k = 2
    · simp only [h2, if_true]
      cases lef x <;> cases eb x 6 <;> cases eb x 2 <;> cases eb x 7 <;> cases usr us (eb ri 0) 2 x <;> rfl
    · simp only [h2, if_false]
      cases lef x <;> cases eb x 6 <;> cases eb x 1 <;> cases eb x 3 <;> cases eb ri 1 <;> cases usr us (eb ri 0) k x <;> rfl
theorem okA_1 {k ri : Int32} {us ex : Bool} : okA 1 k ri us ex false = ok1 us (eb ri 2) ex (eb ri 1 || eb ri 3) k := by
  funext x
  have e1 : (if (1 : Int32) = 2 ∨ us = true then eb x 4 else (!eb x 4 || (decide (¬ k = 0) && eb ri (if (1 : Int32) = 1 then 2 else 0)))) = usr us (eb ri 2) k x := by
    unfold usr; cases us <;> rfl
  unfold okA ok1
  rw [e1]
  unfold acc
  by_cases h0 : k = 0 ∨ ex = true
  · simp only [h0, if_true]
    cases lef x <;> cases eb x 6 <;> cases eb x 3 <;> cases usr us (eb ri 2) k x <;> rfl
  · simp only [h0, if_false]
    by_cases h2 : k = 2
    · simp only [h2, if_true]
      cases lef x <;> cases eb x 6 <;> cases eb x 2 <;> cases eb x 7 <;> cases usr us (eb ri 2) 2 x <;> rfl
    · simp only [h2, if_false]
      cases lef x <;> cases eb x 6 <;> cases eb x 1 <;> cases eb x 3 <;> cases eb ri 1 <;> cases eb ri 3 <;> cases usr us (eb ri 2) k x <;> rfl
set_option maxHeartbeats 4000000 in
/-- entryAt, in memory itself -/
theorem m_entryAt0 (l : Launch) (D : va_G) (hm mm : Nat) (dA : ClassId) (M : Nat → Int32) (th ap vp hg ri pl to : Int32) (te : Bool) (kd : Int32) (vi us ex : Bool) (A : Nat → Prop) (ca : Int32) (fa : Int64) (oe : Bool) (st : Int32) (a : Nat) (hst : ¬ st = 1) (ha : a < 17179869184) : Met l yX2_entryAt (ws_ yX2_entryAt cX2_entryAt 6 (some .long)) (rmX 2 46) (va_Pc [.ref hm, .int st, .long (lN a)] (Gm D vCl [(dA, .int)] A (mW hm mm dA M th ap vp hg ri pl to te kd vi us ex (ca, fa, oe)))) (GQl D vCl A (mW hm mm dA M th ap vp hg ri pl to te kd vi us ex) (poE (ldm M kd a))) 0 0 A := by
  refine mst (by decide) (Nat.le_of_ble_eq_true rfl) ?_
  intro p ee s m below meth c hx hb hr hlocks hml hown hts hin hB ls hl
  have hl : lv_has ls 6 [(0, .ref hm), (1, .int st), (2, .long (lN a))] := hl
  obtain ⟨hP, hK, hD⟩ := hB
  have hP : va_P D vCl [(hm, mdO th mm ap vp hg ri pl to te kd vi us ex ca fa oe), (mm, arO dA M)] s.heap := hP
  have hD : va_D A [(hm, mdO th mm ap vp hg ri pl to te kd vi us ex ca fa oe), (mm, arO dA M)] := hD
  have hS : va_S A s.heap s.heap [] := va_S.rf
  refine lv_iload_n hx hb dX2_entryAt_0 rfl (lv_at hl 1 rfl) ?_
  refine lv_iconst (v := 1) hx hb dX2_entryAt_1 (by decide) ?_
  refine lv_icmp_ne (tgt := 14) hx hb dX2_entryAt_2 (by decide) (fun c_1 => ?_) (fun c_1 => absurd c_1 hst)
  refine lv_aload_n hx hb dX2_entryAt_14 rfl (lv_at hl 0 rfl) ?_
  refine lv_lload_n hx hb dX2_entryAt_15 rfl (lv_at hl 2 rfl) ?_
  refine gcl (va_runV (As := [.long (lN a)]) (rest := []) ⟨hx, hb, hml, hown, hts⟩ (m_inMemory l D hm mm dA M th ap vp hg ri pl to te kd vi us ex A ca fa oe a (by omega)) (cwV 1 hts (lw_V q342 q344 qs12 q21 q345) rfl rfl rfl (by decide +kernel) ⟨Nat.le_of_ble_eq_true rfl, Nat.le_of_ble_eq_true rfl⟩) (pM_V hK hP hD 0 rfl rfl) rfl rfl hl.1 rfl (lv_room (Nat.le_of_ble_eq_true rfl)) dX2_entryAt_16 ⟨Nat.le_refl _, Nat.le_refl _⟩) hS (fun _ h => h) (fun r_2 u_2 H locs po_2 hP hz_2 hk_2 hS => ?_)
  rcases Nat.lt_or_ge a 262144 with h | h
  · skip
    rw [inm_y h] at po_2
    have po_2 : r_2 = lN a := po_2
    subst po_2
    obtain ⟨ca_2, fa_2, oe_2⟩ := u_2
    have hP : va_P D vCl [(hm, mdO th mm ap vp hg ri pl to te kd vi us ex ca_2 fa_2 oe_2), (mm, arO dA M)] H := hP
    have hD : va_D A [(hm, mdO th mm ap vp hg ri pl to te kd vi us ex ca_2 fa_2 oe_2), (mm, arO dA M)] := hD.re rfl
    refine lv_lstore (lv' := [(4, .long (lN a)), (0, .ref hm), (1, .int st), (2, .long (lN a))]) hx hb dX2_entryAt_19 hl (by decide) rfl (fun ls hl => ?_)
    refine lv_lload hx hb dX2_entryAt_21 (lv_at hl 0 rfl) ?_
    refine lv_lconst (v := 0) hx hb dX2_entryAt_23 (by decide) ?_
    refine W.lcmp hx hb dX2_entryAt_24 ?_
    refine lv_if_ge (tgt := 34) hx hb dX2_entryAt_25 (by decide) (fun c_3 => ?_) (fun c_3 => absurd (lg_nn (by omega)) c_3)
    refine lv_aload_n hx hb dX2_entryAt_34 rfl (lv_at hl 1 rfl) ?_
    refine lv_lload hx hb dX2_entryAt_35 (lv_at hl 0 rfl) ?_
    refine pcall (va_runV (As := [.long (lN a)]) (rest := []) ⟨hx, hb, hml, hown, hts⟩ (m_wordAt l D hm mm dA M th ap vp hg ri pl to te kd vi us ex ca_2 fa_2 oe_2 a (by omega)) (cwV 1 hts (lw_V q352 q354 qs14 q21 q355) rfl rfl rfl (by decide +kernel) ⟨Nat.le_of_ble_eq_true rfl, Nat.le_of_ble_eq_true rfl⟩) (pR_V hK hP 0 rfl rfl) rfl rfl hl.1 rfl (lv_room (Nat.le_of_ble_eq_true rfl)) dX2_entryAt_37 ⟨Nat.le_refl _, Nat.le_refl _⟩) ?_
    refine lv_i2l hx hb dX2_entryAt_40 rfl ?_
    refine lv_ldc2 hx hb hown (hts _ q325) dX2_entryAt_41 ?_
    refine lv_land hx hb dX2_entryAt_44 ?_
    exact grl ((ca_2, fa_2, oe_2)) (by rw [ldm_y h]; exact poE_r (i2l_low _)) hP hS hx hb hr hlocks dX2_entryAt_45
  · skip
    rw [inm_n (by omega)] at po_2
    obtain ⟨rfl, rfl⟩ := po_2
    have hP : va_P D vCl [(hm, mdO th mm ap vp hg ri pl to te kd vi us ex (outC kd) (lN 0) false), (mm, arO dA M)] H := hP
    have hD : va_D A [(hm, mdO th mm ap vp hg ri pl to te kd vi us ex (outC kd) (lN 0) false), (mm, arO dA M)] := hD.re rfl
    refine lv_lstore (lv' := [(4, .long (-1)), (0, .ref hm), (1, .int st), (2, .long (lN a))]) hx hb dX2_entryAt_19 hl (by decide) rfl (fun ls hl => ?_)
    refine lv_lload hx hb dX2_entryAt_21 (lv_at hl 0 rfl) ?_
    refine lv_lconst (v := 0) hx hb dX2_entryAt_23 (by decide) ?_
    refine W.lcmp hx hb dX2_entryAt_24 ?_
    refine lv_if_ge (tgt := 34) hx hb dX2_entryAt_25 (by decide) (fun c_4 => absurd c_4 (by decide)) (fun c_4 => ?_)
    refine lv_ldc2 hx hb hown (hts _ q351) dX2_entryAt_28 ?_
    refine lv_goto (tgt := 45) hx hb dX2_entryAt_31 (by decide) ?_
    exact grl ((outC kd, lN 0, false)) (by rw [ldm_n (by omega)]; exact poE_l rfl rfl) hP hS hx hb hr hlocks dX2_entryAt_45
set_option maxHeartbeats 4000000 in
/-- walk, of a stage whose entries lie in memory -/
theorem m_walkA (l : Launch) (D : va_G) (hm mm : Nat) (dA : ClassId) (M : Nat → Int32) (th ap vp hg ri pl to : Int32) (te : Bool) (kd : Int32) (vi us ex : Bool) (A : Nat → Prop) (ca : Int32) (fa : Int64) (oe : Bool) (st : Int32) (rt fr : Nat) (en : Bool) (hst : ¬ st = 1) (hrt : rt ≤ 17179852800 ∨ (rt ≤ 17179865088 ∧ fr < 4294967296)) (hfr : fr < 17179869184) : Met l yX2_walk (ws_ yX2_walk cX2_walk 16 (some .long)) (rmX 3 71) (va_Pc [.ref hm, .int st, .long (lN rt), .long (lN fr), .int (bI en)] (Gm D vCl [(dA, .int)] A (mW hm mm dA M th ap vp hg ri pl to te kd vi us ex (ca, fa, oe)))) (GQl D vCl A (mW hm mm dA M th ap vp hg ri pl to te kd vi us ex) (poM (inm kd (wk (ldm M kd) rt fr (okA st kd ri us ex en) (sf st kd fr en))))) 0 0 A := by
  refine mst (by decide) (Nat.le_of_ble_eq_true rfl) ?_
  intro p ee s m below meth c hx hb hr hlocks hml hown hts hin hB ls hl
  have hl : lv_has ls 16 [(0, .ref hm), (1, .int st), (2, .long (lN rt)), (4, .long (lN fr)), (6, .int (bI en))] := hl
  obtain ⟨hP, hK, hD⟩ := hB
  have hP : va_P D vCl [(hm, mdO th mm ap vp hg ri pl to te kd vi us ex ca fa oe), (mm, arO dA M)] s.heap := hP
  have hD : va_D A [(hm, mdO th mm ap vp hg ri pl to te kd vi us ex ca fa oe), (mm, arO dA M)] := hD
  have hS : va_S A s.heap s.heap [] := va_S.rf
  refine lv_lload hx hb dX2_walk_0 (lv_at hl 3 rfl) ?_
  refine lv_bipush (v := 22) hx hb dX2_walk_2 (by decide) ?_
  refine lv_lshr hx hb dX2_walk_4 rfl ?_
  refine tpl (y := lN (fr / 4194304)) (sh22 (by omega)) ?_
  refine lv_lstore (lv' := [(7, .long (lN (fr / 4194304))), (0, .ref hm), (1, .int st), (2, .long (lN rt)), (4, .long (lN fr)), (6, .int (bI en))]) hx hb dX2_walk_5 hl (by decide) rfl (fun ls hl => ?_)
  refine lv_aload_n hx hb dX2_walk_7 rfl (lv_at hl 1 rfl) ?_
  refine lv_iload_n hx hb dX2_walk_8 rfl (lv_at hl 2 rfl) ?_
  refine lv_lload_n hx hb dX2_walk_9 rfl (lv_at hl 3 rfl) ?_
  refine lv_ldc2 hx hb hown (hts _ q332) dX2_walk_10 ?_
  refine lv_lload hx hb dX2_walk_13 (lv_at hl 0 rfl) ?_
  refine lv_lmul hx hb dX2_walk_15 ?_
  refine lv_ladd hx hb dX2_walk_16 ?_
  refine tpl (y := lN (rt + 4 * (fr / 4194304))) (adm1) ?_
  refine gcl (va_runV (As := [.int st, .long (lN (rt + 4 * (fr / 4194304)))]) (rest := []) ⟨hx, hb, hml, hown, hts⟩ (m_entryAt0 l D hm mm dA M th ap vp hg ri pl to te kd vi us ex A ca fa oe st (rt + 4 * (fr / 4194304)) hst (by omega)) (cwV 2 hts (lw_V q333 q335 qs10 q21 q336) rfl rfl rfl (by decide +kernel) ⟨Nat.le_of_ble_eq_true rfl, Nat.le_of_ble_eq_true rfl⟩) (pM_V hK hP hD 0 rfl rfl) rfl rfl hl.1 rfl (lv_room (Nat.le_of_ble_eq_true rfl)) dX2_walk_17 ⟨Nat.le_refl _, Nat.le_refl _⟩) hS (fun _ h => h) (fun r_1 u_1 H locs po_1 hP hz_1 hk_1 hS => ?_)
  rcases hs_1 : ldm M kd (rt + 4 * (fr / 4194304)) with f_1 | x_1
  · skip
    rw [hs_1] at po_1
    obtain ⟨rfl, rfl⟩ := po_1
    have hP : va_P D vCl [(hm, mdO th mm ap vp hg ri pl to te kd vi us ex f_1.1 (lN f_1.2.1) f_1.2.2), (mm, arO dA M)] H := hP
    have hD : va_D A [(hm, mdO th mm ap vp hg ri pl to te kd vi us ex f_1.1 (lN f_1.2.1) f_1.2.2), (mm, arO dA M)] := hD.re rfl
    refine lv_lstore (lv' := [(9, .long (-1)), (7, .long (lN (fr / 4194304))), (0, .ref hm), (1, .int st), (2, .long (lN rt)), (4, .long (lN fr)), (6, .int (bI en))]) hx hb dX2_walk_20 hl (by decide) rfl (fun ls hl => ?_)
    refine lv_lload hx hb dX2_walk_22 (lv_at hl 0 rfl) ?_
    refine lv_lconst (v := 0) hx hb dX2_walk_24 (by decide) ?_
    refine W.lcmp hx hb dX2_walk_25 ?_
    refine lv_if_ge (tgt := 33) hx hb dX2_walk_26 (by decide) (fun c_2 => absurd c_2 (by decide)) (fun c_2 => ?_)
    refine lv_ldc2 hx hb hown (hts _ q351) dX2_walk_29 ?_
    exact grl ((f_1.1, lN f_1.2.1, f_1.2.2)) (by rw [wk_no hs_1, inm_l]; exact poM_l rfl rfl) hP hS hx hb hr hlocks dX2_walk_32
  · skip
    rw [hs_1] at po_1
    have po_1 : r_1 = lN (tn x_1) := po_1
    subst po_1
    obtain ⟨ca_1, fa_1, oe_1⟩ := u_1
    have hx_1 := tn_lt x_1
    have htg_1 := tgt_lt x_1
    have hP : va_P D vCl [(hm, mdO th mm ap vp hg ri pl to te kd vi us ex ca_1 fa_1 oe_1), (mm, arO dA M)] H := hP
    have hD : va_D A [(hm, mdO th mm ap vp hg ri pl to te kd vi us ex ca_1 fa_1 oe_1), (mm, arO dA M)] := hD.re rfl
    refine lv_lstore (lv' := [(9, .long (lN (tn x_1))), (7, .long (lN (fr / 4194304))), (0, .ref hm), (1, .int st), (2, .long (lN rt)), (4, .long (lN fr)), (6, .int (bI en))]) hx hb dX2_walk_20 hl (by decide) rfl (fun ls hl => ?_)
    refine lv_lload hx hb dX2_walk_22 (lv_at hl 0 rfl) ?_
    refine lv_lconst (v := 0) hx hb dX2_walk_24 (by decide) ?_
    refine W.lcmp hx hb dX2_walk_25 ?_
    refine lv_if_ge (tgt := 33) hx hb dX2_walk_26 (by decide) (fun c_3 => ?_) (fun c_3 => absurd (lg_nn (by omega)) c_3)
    refine lv_lload hx hb dX2_walk_33 (lv_at hl 0 rfl) ?_
    refine lv_ldc2 hx hb hown (hts _ q356) dX2_walk_35 ?_
    refine lv_land hx hb dX2_walk_38 ?_
    refine lv_lconst (v := 0) hx hb dX2_walk_39 (by decide) ?_
    refine W.lcmp hx hb dX2_walk_40 ?_
    refine jn (X := Int32) (fun x_ => F0 m 49 ls [.int x_]) (fun x_ => x_ = bI (knd x_1)) ?_ (fun K_4 => ?_)
    · intro x_ ex_
      have ex_ := ex_.symm
      subst ex_
      refine lv_istore (lv' := [(11, .int (bI (knd x_1))), (9, .long (lN (tn x_1))), (7, .long (lN (fr / 4194304))), (0, .ref hm), (1, .int st), (2, .long (lN rt)), (4, .long (lN fr)), (6, .int (bI en))]) hx hb dX2_walk_49 hl (by decide) rfl (fun ls hl => ?_)
      refine lv_iload hx hb dX2_walk_51 (lv_at hl 0 rfl) ?_
      refine lv_if_ne (tgt := 128) hx hb dX2_walk_53 (by decide) (fun c_5 => ?_) (fun c_5 => ?_)
      · skip
        have c_5 := (bI_n _).mp c_5
        refine lv_aload_n hx hb dX2_walk_128 rfl (lv_at hl 3 rfl) ?_
        refine lv_iload_n hx hb dX2_walk_129 rfl (lv_at hl 4 rfl) ?_
        refine lv_lload hx hb dX2_walk_130 (lv_at hl 1 rfl) ?_
        refine lv_l2i hx hb dX2_walk_132 rfl ?_
        refine tpi (y := x_1) ((lN_i _).trans (nI_tn _)) ?_
        refine lv_iload hx hb dX2_walk_133 (lv_at hl 7 rfl) ?_
        refine pcall (va_runV (As := [.int st, .int x_1, .int (bI en)]) (rest := []) ⟨hx, hb, hml, hown, hts⟩ (m_isAllowed l D hm mm dA M th ap vp hg ri pl to te kd vi us ex ca_1 fa_1 oe_1 st x_1 en) (cwV 3 hts (lw_V q364 q366 qs16 q21 q367) rfl rfl rfl (by decide +kernel) ⟨Nat.le_of_ble_eq_true rfl, Nat.le_of_ble_eq_true rfl⟩) (pR_V hK hP 0 rfl rfl) rfl rfl hl.1 rfl (lv_room (Nat.le_of_ble_eq_true rfl)) dX2_walk_135 ⟨Nat.le_refl _, Nat.le_refl _⟩) ?_
        refine lv_if_eq (tgt := 160) hx hb dX2_walk_138 (by decide) (fun c_6 => ?_) (fun c_6 => ?_)
        · skip
          have c_6 := (bI_z _).mp c_6
          refine lv_aload_n hx hb dX2_walk_160 rfl (lv_at hl 3 rfl) ?_
          refine lv_iload_n hx hb dX2_walk_161 rfl (lv_at hl 4 rfl) ?_
          refine lv_lload hx hb dX2_walk_162 (lv_at hl 6 rfl) ?_
          refine lv_iload hx hb dX2_walk_164 (lv_at hl 7 rfl) ?_
          refine gcl (va_runV (As := [.int st, .long (lN fr), .int (bI en)]) (rest := []) ⟨hx, hb, hml, hown, hts⟩ (m_stageFault l D hm mm dA M th ap vp hg ri pl to te kd vi us ex A ca_1 fa_1 oe_1 st fr en) (cwV 3 hts (lw_V q358 q360 qs15 q21 q361) rfl rfl rfl (by decide +kernel) ⟨Nat.le_of_ble_eq_true rfl, Nat.le_of_ble_eq_true rfl⟩) (pM_V hK hP hD 0 rfl rfl) rfl rfl hl.1 rfl (lv_room (Nat.le_of_ble_eq_true rfl)) dX2_walk_166 ⟨Nat.le_refl _, Nat.le_refl _⟩) hS (fun _ h => h) (fun r_7 u_7 H locs po_7 hP hz_7 hk_7 hS => ?_)
          obtain ⟨rfl, rfl⟩ := po_7
          have hP : va_P D vCl [(hm, mdO th mm ap vp hg ri pl to te kd vi us ex ((sf st kd fr en).1) (lN (sf st kd fr en).2.1) ((sf st kd fr en).2.2)), (mm, arO dA M)] H := hP
          have hD : va_D A [(hm, mdO th mm ap vp hg ri pl to te kd vi us ex ((sf st kd fr en).1) (lN (sf st kd fr en).2.1) ((sf st kd fr en).2.2)), (mm, arO dA M)] := hD.re rfl
          exact grl (((sf st kd fr en).1, lN (sf st kd fr en).2.1, (sf st kd fr en).2.2)) (by rw [wk_l hs_1 (tab_k c_5), if_neg (by simp [c_6]), inm_l]; exact poM_l rfl rfl) hP hS hx hb hr hlocks dX2_walk_169
        · skip
          have c_6 := (bI_n _).mp c_6
          refine lv_iload hx hb dX2_walk_141 (lv_at hl 0 rfl) ?_
          refine lv_if_eq (tgt := 170) hx hb dX2_walk_143 (by decide) (fun c_8 => absurd c_8 (bI_zt c_5)) (fun c_8 => ?_)
          refine lv_lload hx hb dX2_walk_146 (lv_at hl 1 rfl) ?_
          refine lv_bipush (v := 10) hx hb dX2_walk_148 (by decide) ?_
          refine lv_lshr hx hb dX2_walk_150 rfl ?_
          refine lv_ldc2 hx hb hown (hts _ q363) dX2_walk_151 ?_
          refine lv_land hx hb dX2_walk_154 ?_
          refine lv_lconst (v := 0) hx hb dX2_walk_155 (by decide) ?_
          refine W.lcmp hx hb dX2_walk_156 ?_
          refine lv_if_eq (tgt := 170) hx hb dX2_walk_157 (by decide) (fun c_9 => ?_) (fun c_9 => ?_)
          · skip
            have c_9 := (lowl _).mp ((lg_cmp_eq _ _).mp c_9)
            refine lv_lload hx hb dX2_walk_170 (lv_at hl 1 rfl) ?_
            refine lv_ldc2 hx hb hown (hts _ q362) dX2_walk_172 ?_
            refine lv_ldiv hx hb dX2_walk_175 (by decide) ?_
            refine tpl (y := lN (ppn x_1)) (ppn_v x_1) ?_
            refine lv_lstore (lv' := [(12, .long (lN (ppn x_1))), (11, .int (bI (knd x_1))), (9, .long (lN (tn x_1))), (7, .long (lN (fr / 4194304))), (0, .ref hm), (1, .int st), (2, .long (lN rt)), (4, .long (lN fr)), (6, .int (bI en))]) hx hb dX2_walk_176 hl (by decide) rfl (fun ls hl => ?_)
            refine lv_iload hx hb dX2_walk_178 (lv_at hl 1 rfl) ?_
            refine lv_if_eq (tgt := 202) hx hb dX2_walk_180 (by decide) (fun c_10 => absurd c_10 (bI_zt c_5)) (fun c_10 => ?_)
            refine lv_lload hx hb dX2_walk_183 (lv_at hl 0 rfl) ?_
            refine lv_ldc2 hx hb hown (hts _ q362) dX2_walk_185 ?_
            refine lv_ldiv hx hb dX2_walk_188 (by decide) ?_
            refine lv_bipush (v := 22) hx hb dX2_walk_189 (by decide) ?_
            refine lv_lshl hx hb dX2_walk_191 rfl ?_
            refine lv_lload hx hb dX2_walk_192 (lv_at hl 7 rfl) ?_
            refine lv_ldc2 hx hb hown (hts _ q326) dX2_walk_194 ?_
            refine lv_land hx hb dX2_walk_197 ?_
            refine lv_ladd hx hb dX2_walk_198 ?_
            refine tpl (y := lN (tgt x_1 + fr % 4194304)) (to_l c_9) ?_
            refine lv_goto (tgt := 215) hx hb dX2_walk_199 (by decide) ?_
            refine lv_lstore (lv' := [(14, .long (lN (tgt x_1 + fr % 4194304))), (12, .long (lN (ppn x_1))), (11, .int (bI (knd x_1))), (9, .long (lN (tn x_1))), (7, .long (lN (fr / 4194304))), (0, .ref hm), (1, .int st), (2, .long (lN rt)), (4, .long (lN fr)), (6, .int (bI en))]) hx hb dX2_walk_215 hl (by decide) rfl (fun ls hl => ?_)
            refine lv_iload_n hx hb dX2_walk_217 rfl (lv_at hl 6 rfl) ?_
            refine lv_iconst (v := 1) hx hb dX2_walk_218 (by decide) ?_
            refine lv_icmp_ne (tgt := 227) hx hb dX2_walk_219 (by decide) (fun c_11 => ?_) (fun c_11 => absurd c_11 hst)
            refine lv_aload_n hx hb dX2_walk_227 rfl (lv_at hl 5 rfl) ?_
            refine lv_lload hx hb dX2_walk_228 (lv_at hl 0 rfl) ?_
            refine gcl (va_runV (As := [.long (lN (tgt x_1 + fr % 4194304))]) (rest := []) ⟨hx, hb, hml, hown, hts⟩ (m_inMemory l D hm mm dA M th ap vp hg ri pl to te kd vi us ex A ca_1 fa_1 oe_1 (tgt x_1 + fr % 4194304) (by omega)) (cwV 1 hts (lw_V q342 q344 qs12 q21 q345) rfl rfl rfl (by decide +kernel) ⟨Nat.le_of_ble_eq_true rfl, Nat.le_of_ble_eq_true rfl⟩) (pM_V hK hP hD 0 rfl rfl) rfl rfl hl.1 rfl (lv_room (Nat.le_of_ble_eq_true rfl)) dX2_walk_230 ⟨Nat.le_refl _, Nat.le_refl _⟩) hS (fun _ h => h) (fun r_12 u_12 H locs po_12 hP hz_12 hk_12 hS => ?_)
            obtain ⟨ca_12, fa_12, oe_12⟩ := u_12
            have hP : va_P D vCl [(hm, mdO th mm ap vp hg ri pl to te kd vi us ex ca_12 fa_12 oe_12), (mm, arO dA M)] H := hP
            have hD : va_D A [(hm, mdO th mm ap vp hg ri pl to te kd vi us ex ca_12 fa_12 oe_12), (mm, arO dA M)] := hD.re rfl
            exact grl ((ca_12, fa_12, oe_12)) (by rw [wk_l hs_1 (tab_k c_5), if_pos (by simp [c_6, c_9])]; exact po_12) hP hS hx hb hr hlocks dX2_walk_233
          · skip
            have c_9 := bnot'.mp ((not_congr (lowl _)).mp (fun z => c_9 ((lg_cmp_eq _ _).mpr z)))
            refine lv_aload_n hx hb dX2_walk_160 rfl (lv_at hl 3 rfl) ?_
            refine lv_iload_n hx hb dX2_walk_161 rfl (lv_at hl 4 rfl) ?_
            refine lv_lload hx hb dX2_walk_162 (lv_at hl 6 rfl) ?_
            refine lv_iload hx hb dX2_walk_164 (lv_at hl 7 rfl) ?_
            refine gcl (va_runV (As := [.int st, .long (lN fr), .int (bI en)]) (rest := []) ⟨hx, hb, hml, hown, hts⟩ (m_stageFault l D hm mm dA M th ap vp hg ri pl to te kd vi us ex A ca_1 fa_1 oe_1 st fr en) (cwV 3 hts (lw_V q358 q360 qs15 q21 q361) rfl rfl rfl (by decide +kernel) ⟨Nat.le_of_ble_eq_true rfl, Nat.le_of_ble_eq_true rfl⟩) (pM_V hK hP hD 0 rfl rfl) rfl rfl hl.1 rfl (lv_room (Nat.le_of_ble_eq_true rfl)) dX2_walk_166 ⟨Nat.le_refl _, Nat.le_refl _⟩) hS (fun _ h => h) (fun r_13 u_13 H locs po_13 hP hz_13 hk_13 hS => ?_)
            obtain ⟨rfl, rfl⟩ := po_13
            have hP : va_P D vCl [(hm, mdO th mm ap vp hg ri pl to te kd vi us ex ((sf st kd fr en).1) (lN (sf st kd fr en).2.1) ((sf st kd fr en).2.2)), (mm, arO dA M)] H := hP
            have hD : va_D A [(hm, mdO th mm ap vp hg ri pl to te kd vi us ex ((sf st kd fr en).1) (lN (sf st kd fr en).2.1) ((sf st kd fr en).2.2)), (mm, arO dA M)] := hD.re rfl
            exact grl (((sf st kd fr en).1, lN (sf st kd fr en).2.1, (sf st kd fr en).2.2)) (by rw [wk_l hs_1 (tab_k c_5), if_neg (by simp [c_6, c_9]), inm_l]; exact poM_l rfl rfl) hP hS hx hb hr hlocks dX2_walk_169
      · skip
        have c_5 := (bI_z _).mp c_5
        refine lv_lload hx hb dX2_walk_56 (lv_at hl 1 rfl) ?_
        refine lv_lconst (v := 1) hx hb dX2_walk_58 (by decide) ?_
        refine lv_land hx hb dX2_walk_59 ?_
        refine lv_lconst (v := 0) hx hb dX2_walk_60 (by decide) ?_
        refine W.lcmp hx hb dX2_walk_61 ?_
        refine lv_if_eq (tgt := 76) hx hb dX2_walk_62 (by decide) (fun c_14 => ?_) (fun c_14 => ?_)
        · skip
          have c_14 := (zl_1 _).mp ((lg_cmp_eq _ _).mp c_14)
          refine lv_aload_n hx hb dX2_walk_76 rfl (lv_at hl 3 rfl) ?_
          refine lv_iload_n hx hb dX2_walk_77 rfl (lv_at hl 4 rfl) ?_
          refine lv_lload hx hb dX2_walk_78 (lv_at hl 6 rfl) ?_
          refine lv_iload hx hb dX2_walk_80 (lv_at hl 7 rfl) ?_
          refine gcl (va_runV (As := [.int st, .long (lN fr), .int (bI en)]) (rest := []) ⟨hx, hb, hml, hown, hts⟩ (m_stageFault l D hm mm dA M th ap vp hg ri pl to te kd vi us ex A ca_1 fa_1 oe_1 st fr en) (cwV 3 hts (lw_V q358 q360 qs15 q21 q361) rfl rfl rfl (by decide +kernel) ⟨Nat.le_of_ble_eq_true rfl, Nat.le_of_ble_eq_true rfl⟩) (pM_V hK hP hD 0 rfl rfl) rfl rfl hl.1 rfl (lv_room (Nat.le_of_ble_eq_true rfl)) dX2_walk_82 ⟨Nat.le_refl _, Nat.le_refl _⟩) hS (fun _ h => h) (fun r_15 u_15 H locs po_15 hP hz_15 hk_15 hS => ?_)
          obtain ⟨rfl, rfl⟩ := po_15
          have hP : va_P D vCl [(hm, mdO th mm ap vp hg ri pl to te kd vi us ex ((sf st kd fr en).1) (lN (sf st kd fr en).2.1) ((sf st kd fr en).2.2)), (mm, arO dA M)] H := hP
          have hD : va_D A [(hm, mdO th mm ap vp hg ri pl to te kd vi us ex ((sf st kd fr en).1) (lN (sf st kd fr en).2.1) ((sf st kd fr en).2.2)), (mm, arO dA M)] := hD.re rfl
          exact grl (((sf st kd fr en).1, lN (sf st kd fr en).2.1, (sf st kd fr en).2.2)) (by rw [wk_l hs_1 (tab_0 c_14), if_neg (by rw [okA_k c_5]; simp), inm_l]; exact poM_l rfl rfl) hP hS hx hb hr hlocks dX2_walk_85
        · skip
          have c_14 := bnot.mp ((not_congr (zl_1 _)).mp (fun z => c_14 ((lg_cmp_eq _ _).mpr z)))
          refine lv_lload hx hb dX2_walk_65 (lv_at hl 1 rfl) ?_
          refine lv_ldc2 hx hb hown (hts _ q357) dX2_walk_67 ?_
          refine lv_land hx hb dX2_walk_70 ?_
          refine lv_lconst (v := 0) hx hb dX2_walk_71 (by decide) ?_
          refine W.lcmp hx hb dX2_walk_72 ?_
          refine lv_if_eq (tgt := 86) hx hb dX2_walk_73 (by decide) (fun c_16 => ?_) (fun c_16 => ?_)
          · skip
            have c_16 := (zl_208 _).mp ((lg_cmp_eq _ _).mp c_16)
            refine lv_aload_n hx hb dX2_walk_86 rfl (lv_at hl 3 rfl) ?_
            refine lv_iload_n hx hb dX2_walk_87 rfl (lv_at hl 4 rfl) ?_
            refine lv_lload hx hb dX2_walk_88 (lv_at hl 1 rfl) ?_
            refine lv_ldc2 hx hb hown (hts _ q362) dX2_walk_90 ?_
            refine lv_ldiv hx hb dX2_walk_93 (by decide) ?_
            refine lv_ldc2 hx hb hown (hts _ q327) dX2_walk_94 ?_
            refine lv_lmul hx hb dX2_walk_97 ?_
            refine lv_ldc2 hx hb hown (hts _ q332) dX2_walk_98 ?_
            refine lv_lload hx hb dX2_walk_101 (lv_at hl 6 rfl) ?_
            refine lv_bipush (v := 12) hx hb dX2_walk_103 (by decide) ?_
            refine lv_lshr hx hb dX2_walk_105 rfl ?_
            refine lv_ldc2 hx hb hown (hts _ q363) dX2_walk_106 ?_
            refine lv_land hx hb dX2_walk_109 ?_
            refine lv_lmul hx hb dX2_walk_110 ?_
            refine lv_ladd hx hb dX2_walk_111 ?_
            refine tpl (y := lN (tgt x_1 + 4 * (fr / 4096 % 1024))) (adm2 (by omega)) ?_
            refine gcl (va_runV (As := [.int st, .long (lN (tgt x_1 + 4 * (fr / 4096 % 1024)))]) (rest := []) ⟨hx, hb, hml, hown, hts⟩ (m_entryAt0 l D hm mm dA M th ap vp hg ri pl to te kd vi us ex A ca_1 fa_1 oe_1 st (tgt x_1 + 4 * (fr / 4096 % 1024)) hst (by omega)) (cwV 2 hts (lw_V q333 q335 qs10 q21 q336) rfl rfl rfl (by decide +kernel) ⟨Nat.le_of_ble_eq_true rfl, Nat.le_of_ble_eq_true rfl⟩) (pM_V hK hP hD 0 rfl rfl) rfl rfl hl.1 rfl (lv_room (Nat.le_of_ble_eq_true rfl)) dX2_walk_112 ⟨Nat.le_refl _, Nat.le_refl _⟩) hS (fun _ h => h) (fun r_17 u_17 H locs po_17 hP hz_17 hk_17 hS => ?_)
            rcases hs_17 : ldm M kd (tgt x_1 + 4 * (fr / 4096 % 1024)) with f_17 | x_17
            · skip
              rw [hs_17] at po_17
              obtain ⟨rfl, rfl⟩ := po_17
              have hP : va_P D vCl [(hm, mdO th mm ap vp hg ri pl to te kd vi us ex f_17.1 (lN f_17.2.1) f_17.2.2), (mm, arO dA M)] H := hP
              have hD : va_D A [(hm, mdO th mm ap vp hg ri pl to te kd vi us ex f_17.1 (lN f_17.2.1) f_17.2.2), (mm, arO dA M)] := hD.re rfl
              refine lv_lstore (lv' := [(9, .long (-1)), (11, .int (bI (knd x_1))), (7, .long (lN (fr / 4194304))), (0, .ref hm), (1, .int st), (2, .long (lN rt)), (4, .long (lN fr)), (6, .int (bI en))]) hx hb dX2_walk_115 hl (by decide) rfl (fun ls hl => ?_)
              refine lv_lload hx hb dX2_walk_117 (lv_at hl 0 rfl) ?_
              refine lv_lconst (v := 0) hx hb dX2_walk_119 (by decide) ?_
              refine W.lcmp hx hb dX2_walk_120 ?_
              refine lv_if_ge (tgt := 128) hx hb dX2_walk_121 (by decide) (fun c_18 => absurd c_18 (by decide)) (fun c_18 => ?_)
              refine lv_ldc2 hx hb hown (hts _ q351) dX2_walk_124 ?_
              exact grl ((f_17.1, lN f_17.2.1, f_17.2.2)) (by rw [wk_tn hs_1 (tab_y c_5 c_14 c_16) hs_17, inm_l]; exact poM_l rfl rfl) hP hS hx hb hr hlocks dX2_walk_127
            · skip
              rw [hs_17] at po_17
              have po_17 : r_17 = lN (tn x_17) := po_17
              subst po_17
              obtain ⟨ca_17, fa_17, oe_17⟩ := u_17
              have hx_17 := tn_lt x_17
              have htg_17 := tgt_lt x_17
              have hP : va_P D vCl [(hm, mdO th mm ap vp hg ri pl to te kd vi us ex ca_17 fa_17 oe_17), (mm, arO dA M)] H := hP
              have hD : va_D A [(hm, mdO th mm ap vp hg ri pl to te kd vi us ex ca_17 fa_17 oe_17), (mm, arO dA M)] := hD.re rfl
              refine lv_lstore (lv' := [(9, .long (lN (tn x_17))), (11, .int (bI (knd x_1))), (7, .long (lN (fr / 4194304))), (0, .ref hm), (1, .int st), (2, .long (lN rt)), (4, .long (lN fr)), (6, .int (bI en))]) hx hb dX2_walk_115 hl (by decide) rfl (fun ls hl => ?_)
              refine lv_lload hx hb dX2_walk_117 (lv_at hl 0 rfl) ?_
              refine lv_lconst (v := 0) hx hb dX2_walk_119 (by decide) ?_
              refine W.lcmp hx hb dX2_walk_120 ?_
              refine lv_if_ge (tgt := 128) hx hb dX2_walk_121 (by decide) (fun c_19 => ?_) (fun c_19 => absurd (lg_nn (by omega)) c_19)
              refine lv_aload_n hx hb dX2_walk_128 rfl (lv_at hl 3 rfl) ?_
              refine lv_iload_n hx hb dX2_walk_129 rfl (lv_at hl 4 rfl) ?_
              refine lv_lload hx hb dX2_walk_130 (lv_at hl 0 rfl) ?_
              refine lv_l2i hx hb dX2_walk_132 rfl ?_
              refine tpi (y := x_17) ((lN_i _).trans (nI_tn _)) ?_
              refine lv_iload hx hb dX2_walk_133 (lv_at hl 7 rfl) ?_
              refine pcall (va_runV (As := [.int st, .int x_17, .int (bI en)]) (rest := []) ⟨hx, hb, hml, hown, hts⟩ (m_isAllowed l D hm mm dA M th ap vp hg ri pl to te kd vi us ex ca_17 fa_17 oe_17 st x_17 en) (cwV 3 hts (lw_V q364 q366 qs16 q21 q367) rfl rfl rfl (by decide +kernel) ⟨Nat.le_of_ble_eq_true rfl, Nat.le_of_ble_eq_true rfl⟩) (pR_V hK hP 0 rfl rfl) rfl rfl hl.1 rfl (lv_room (Nat.le_of_ble_eq_true rfl)) dX2_walk_135 ⟨Nat.le_refl _, Nat.le_refl _⟩) ?_
              refine lv_if_eq (tgt := 160) hx hb dX2_walk_138 (by decide) (fun c_20 => ?_) (fun c_20 => ?_)
              · skip
                have c_20 := (bI_z _).mp c_20
                refine lv_aload_n hx hb dX2_walk_160 rfl (lv_at hl 3 rfl) ?_
                refine lv_iload_n hx hb dX2_walk_161 rfl (lv_at hl 4 rfl) ?_
                refine lv_lload hx hb dX2_walk_162 (lv_at hl 6 rfl) ?_
                refine lv_iload hx hb dX2_walk_164 (lv_at hl 7 rfl) ?_
                refine gcl (va_runV (As := [.int st, .long (lN fr), .int (bI en)]) (rest := []) ⟨hx, hb, hml, hown, hts⟩ (m_stageFault l D hm mm dA M th ap vp hg ri pl to te kd vi us ex A ca_17 fa_17 oe_17 st fr en) (cwV 3 hts (lw_V q358 q360 qs15 q21 q361) rfl rfl rfl (by decide +kernel) ⟨Nat.le_of_ble_eq_true rfl, Nat.le_of_ble_eq_true rfl⟩) (pM_V hK hP hD 0 rfl rfl) rfl rfl hl.1 rfl (lv_room (Nat.le_of_ble_eq_true rfl)) dX2_walk_166 ⟨Nat.le_refl _, Nat.le_refl _⟩) hS (fun _ h => h) (fun r_21 u_21 H locs po_21 hP hz_21 hk_21 hS => ?_)
                obtain ⟨rfl, rfl⟩ := po_21
                have hP : va_P D vCl [(hm, mdO th mm ap vp hg ri pl to te kd vi us ex ((sf st kd fr en).1) (lN (sf st kd fr en).2.1) ((sf st kd fr en).2.2)), (mm, arO dA M)] H := hP
                have hD : va_D A [(hm, mdO th mm ap vp hg ri pl to te kd vi us ex ((sf st kd fr en).1) (lN (sf st kd fr en).2.1) ((sf st kd fr en).2.2)), (mm, arO dA M)] := hD.re rfl
                exact grl (((sf st kd fr en).1, lN (sf st kd fr en).2.1, (sf st kd fr en).2.2)) (by rw [wk_ty hs_1 (tab_y c_5 c_14 c_16) hs_17, if_neg (by simp [c_20]), inm_l]; exact poM_l rfl rfl) hP hS hx hb hr hlocks dX2_walk_169
              · skip
                have c_20 := (bI_n _).mp c_20
                refine lv_iload hx hb dX2_walk_141 (lv_at hl 1 rfl) ?_
                refine lv_if_eq (tgt := 170) hx hb dX2_walk_143 (by decide) (fun c_22 => ?_) (fun c_22 => absurd (bI_zf c_5) c_22)
                refine lv_lload hx hb dX2_walk_170 (lv_at hl 0 rfl) ?_
                refine lv_ldc2 hx hb hown (hts _ q362) dX2_walk_172 ?_
                refine lv_ldiv hx hb dX2_walk_175 (by decide) ?_
                refine tpl (y := lN (ppn x_17)) (ppn_v x_17) ?_
                refine lv_lstore (lv' := [(12, .long (lN (ppn x_17))), (9, .long (lN (tn x_17))), (11, .int (bI (knd x_1))), (7, .long (lN (fr / 4194304))), (0, .ref hm), (1, .int st), (2, .long (lN rt)), (4, .long (lN fr)), (6, .int (bI en))]) hx hb dX2_walk_176 hl (by decide) rfl (fun ls hl => ?_)
                refine lv_iload hx hb dX2_walk_178 (lv_at hl 2 rfl) ?_
                refine lv_if_eq (tgt := 202) hx hb dX2_walk_180 (by decide) (fun c_23 => ?_) (fun c_23 => absurd (bI_zf c_5) c_23)
                refine lv_lload hx hb dX2_walk_202 (lv_at hl 0 rfl) ?_
                refine lv_ldc2 hx hb hown (hts _ q327) dX2_walk_204 ?_
                refine lv_lmul hx hb dX2_walk_207 ?_
                refine lv_lload hx hb dX2_walk_208 (lv_at hl 7 rfl) ?_
                refine lv_ldc2 hx hb hown (hts _ q375) dX2_walk_210 ?_
                refine lv_land hx hb dX2_walk_213 ?_
                refine lv_ladd hx hb dX2_walk_214 ?_
                refine tpl (y := lN (tgt x_17 + fr % 4096)) (to_s) ?_
                refine lv_lstore (lv' := [(14, .long (lN (tgt x_17 + fr % 4096))), (12, .long (lN (ppn x_17))), (9, .long (lN (tn x_17))), (11, .int (bI (knd x_1))), (7, .long (lN (fr / 4194304))), (0, .ref hm), (1, .int st), (2, .long (lN rt)), (4, .long (lN fr)), (6, .int (bI en))]) hx hb dX2_walk_215 hl (by decide) rfl (fun ls hl => ?_)
                refine lv_iload_n hx hb dX2_walk_217 rfl (lv_at hl 6 rfl) ?_
                refine lv_iconst (v := 1) hx hb dX2_walk_218 (by decide) ?_
                refine lv_icmp_ne (tgt := 227) hx hb dX2_walk_219 (by decide) (fun c_24 => ?_) (fun c_24 => absurd c_24 hst)
                refine lv_aload_n hx hb dX2_walk_227 rfl (lv_at hl 5 rfl) ?_
                refine lv_lload hx hb dX2_walk_228 (lv_at hl 0 rfl) ?_
                refine gcl (va_runV (As := [.long (lN (tgt x_17 + fr % 4096))]) (rest := []) ⟨hx, hb, hml, hown, hts⟩ (m_inMemory l D hm mm dA M th ap vp hg ri pl to te kd vi us ex A ca_17 fa_17 oe_17 (tgt x_17 + fr % 4096) (by omega)) (cwV 1 hts (lw_V q342 q344 qs12 q21 q345) rfl rfl rfl (by decide +kernel) ⟨Nat.le_of_ble_eq_true rfl, Nat.le_of_ble_eq_true rfl⟩) (pM_V hK hP hD 0 rfl rfl) rfl rfl hl.1 rfl (lv_room (Nat.le_of_ble_eq_true rfl)) dX2_walk_230 ⟨Nat.le_refl _, Nat.le_refl _⟩) hS (fun _ h => h) (fun r_25 u_25 H locs po_25 hP hz_25 hk_25 hS => ?_)
                obtain ⟨ca_25, fa_25, oe_25⟩ := u_25
                have hP : va_P D vCl [(hm, mdO th mm ap vp hg ri pl to te kd vi us ex ca_25 fa_25 oe_25), (mm, arO dA M)] H := hP
                have hD : va_D A [(hm, mdO th mm ap vp hg ri pl to te kd vi us ex ca_25 fa_25 oe_25), (mm, arO dA M)] := hD.re rfl
                exact grl ((ca_25, fa_25, oe_25)) (by rw [wk_ty hs_1 (tab_y c_5 c_14 c_16) hs_17, if_pos (by simp [c_20])]; exact po_25) hP hS hx hb hr hlocks dX2_walk_233
          · skip
            have c_16 := bnot.mp ((not_congr (zl_208 _)).mp (fun z => c_16 ((lg_cmp_eq _ _).mpr z)))
            refine lv_aload_n hx hb dX2_walk_76 rfl (lv_at hl 3 rfl) ?_
            refine lv_iload_n hx hb dX2_walk_77 rfl (lv_at hl 4 rfl) ?_
            refine lv_lload hx hb dX2_walk_78 (lv_at hl 6 rfl) ?_
            refine lv_iload hx hb dX2_walk_80 (lv_at hl 7 rfl) ?_
            refine gcl (va_runV (As := [.int st, .long (lN fr), .int (bI en)]) (rest := []) ⟨hx, hb, hml, hown, hts⟩ (m_stageFault l D hm mm dA M th ap vp hg ri pl to te kd vi us ex A ca_1 fa_1 oe_1 st fr en) (cwV 3 hts (lw_V q358 q360 qs15 q21 q361) rfl rfl rfl (by decide +kernel) ⟨Nat.le_of_ble_eq_true rfl, Nat.le_of_ble_eq_true rfl⟩) (pM_V hK hP hD 0 rfl rfl) rfl rfl hl.1 rfl (lv_room (Nat.le_of_ble_eq_true rfl)) dX2_walk_82 ⟨Nat.le_refl _, Nat.le_refl _⟩) hS (fun _ h => h) (fun r_26 u_26 H locs po_26 hP hz_26 hk_26 hS => ?_)
            obtain ⟨rfl, rfl⟩ := po_26
            have hP : va_P D vCl [(hm, mdO th mm ap vp hg ri pl to te kd vi us ex ((sf st kd fr en).1) (lN (sf st kd fr en).2.1) ((sf st kd fr en).2.2)), (mm, arO dA M)] H := hP
            have hD : va_D A [(hm, mdO th mm ap vp hg ri pl to te kd vi us ex ((sf st kd fr en).1) (lN (sf st kd fr en).2.1) ((sf st kd fr en).2.2)), (mm, arO dA M)] := hD.re rfl
            exact grl (((sf st kd fr en).1, lN (sf st kd fr en).2.1, (sf st kd fr en).2.2)) (by rw [wk_l hs_1 (tab_b c_16), if_neg (by rw [okA_k c_5]; simp), inm_l]; exact poM_l rfl rfl) hP hS hx hb hr hlocks dX2_walk_85
    · skip
      refine lv_if_eq (tgt := 48) hx hb dX2_walk_41 (by decide) (fun c_27 => ?_) (fun c_27 => ?_)
      · skip
        have c_27 := (zl_14 _).mp ((lg_cmp_eq _ _).mp c_27)
        refine lv_iconst (v := 0) hx hb dX2_walk_48 (by decide) ?_
        exact K_4 _ (by rw [c_27]; rfl)
      · skip
        have c_27 := bnot.mp ((not_congr (zl_14 _)).mp (fun z => c_27 ((lg_cmp_eq _ _).mpr z)))
        refine lv_iconst (v := 1) hx hb dX2_walk_44 (by decide) ?_
        refine lv_goto (tgt := 49) hx hb dX2_walk_45 (by decide) ?_
        exact K_4 _ (by rw [c_27]; rfl)
theorem rt2_l (hg : Int32) : (hg.toInt64 &&& 4194300) * 4096 = lN (rt2 hg) := by
  have h := i2l_and hg 4194300 (by decide)
  have h2 : hg.toInt64 &&& 4194300 = lN (tn hg &&& 4194300) := h
  rw [h2]
  exact lN_mul (tn hg &&& 4194300) 4096
theorem rt1_l (r : Int32) : (r.toInt64 &&& 4194303) * 4096 = lN (rt1 r) := by
  have h := i2l_and r 4194303 (by decide)
  have h2 : r.toInt64 &&& 4194303 = lN (tn r &&& 4194303) := h
  have h3 : tn r &&& 4194303 = tn r % 4194304 := Nat.and_two_pow_sub_one_eq_mod (tn r) 22
  rw [h2, h3]
  exact lN_mul (tn r % 4194304) 4096
theorem okA_2s {k ri : Int32} {us ex en : Bool} : okA 2 k ri us ex en = if en = true then ok2 false false 1 else ok2 ex (eb ri 1) k := by
  cases en
  · exact okA_2
  · exact okA_2e
set_option maxHeartbeats 4000000 in
/-- second -/
theorem m_second (l : Launch) (D : va_G) (hm mm : Nat) (dA : ClassId) (M : Nat → Int32) (th ap vp hg ri pl to : Int32) (te : Bool) (kd : Int32) (vi us ex : Bool) (A : Nat → Prop) (ca : Int32) (fa : Int64) (oe : Bool) (fr : Nat) (en : Bool) (hfr : fr < 17179869184) : Met l yX2_second (ws_ yX2_second cX2_second 4 (some .long)) (rmX 4 106) (va_Pc [.ref hm, .long (lN fr), .int (bI en)] (Gm D vCl [(dA, .int)] A (mW hm mm dA M th ap vp hg ri pl to te kd vi us ex (ca, fa, oe)))) (GQl D vCl A (mW hm mm dA M th ap vp hg ri pl to te kd vi us ex) (poM (inm kd (s2 M hg kd fr (if en = true then ok2 false false 1 else ok2 ex (eb ri 1) kd) en)))) 0 0 A := by
  refine mst (by decide) (Nat.le_of_ble_eq_true rfl) ?_
  intro p ee s m below meth c hx hb hr hlocks hml hown hts hin hB ls hl
  have hl : lv_has ls 4 [(0, .ref hm), (1, .long (lN fr)), (3, .int (bI en))] := hl
  obtain ⟨hP, hK, hD⟩ := hB
  have hP : va_P D vCl [(hm, mdO th mm ap vp hg ri pl to te kd vi us ex ca fa oe), (mm, arO dA M)] s.heap := hP
  have hD : va_D A [(hm, mdO th mm ap vp hg ri pl to te kd vi us ex ca fa oe), (mm, arO dA M)] := hD
  have hS : va_S A s.heap s.heap [] := va_S.rf
  refine lv_aload_n hx hb dX2_second_0 rfl (lv_at hl 0 rfl) ?_
  refine va_get (D := D) (ci := 2) (v := .int hg) (C := RX2) (T := TX2) (N := 16) hx hb hts in_X2 hown hK hP 0 rfl rfl 4 (by decide) (hts _ q250) (fun _ h9 => h9) rfl dX2_second_1 ?_
  refine lv_if_ge (tgt := 30) hx hb dX2_second_4 (by decide) (fun c_1 => ?_) (fun c_1 => ?_)
  · skip
    have hs2 : ∀ ok, s2 M hg kd fr ok en = .inr fr := fun ok => if_neg (fa_of_nlt' c_1)
    refine lv_aload_n hx hb dX2_second_30 rfl (lv_at hl 0 rfl) ?_
    refine lv_lload_n hx hb dX2_second_31 rfl (lv_at hl 1 rfl) ?_
    refine gcl (va_runV (As := [.long (lN fr)]) (rest := []) ⟨hx, hb, hml, hown, hts⟩ (m_inMemory l D hm mm dA M th ap vp hg ri pl to te kd vi us ex A ca fa oe fr (by omega)) (cwV 1 hts (lw_V q342 q344 qs12 q21 q345) rfl rfl rfl (by decide +kernel) ⟨Nat.le_of_ble_eq_true rfl, Nat.le_of_ble_eq_true rfl⟩) (pM_V hK hP hD 0 rfl rfl) rfl rfl hl.1 rfl (lv_room (Nat.le_of_ble_eq_true rfl)) dX2_second_32 ⟨Nat.le_refl _, Nat.le_refl _⟩) hS (fun _ h => h) (fun r_2 u_2 H locs po_2 hP hz_2 hk_2 hS => ?_)
    obtain ⟨ca_2, fa_2, oe_2⟩ := u_2
    have hP : va_P D vCl [(hm, mdO th mm ap vp hg ri pl to te kd vi us ex ca_2 fa_2 oe_2), (mm, arO dA M)] H := hP
    have hD : va_D A [(hm, mdO th mm ap vp hg ri pl to te kd vi us ex ca_2 fa_2 oe_2), (mm, arO dA M)] := hD.re rfl
    exact grl ((ca_2, fa_2, oe_2)) (by rw [hs2]; exact po_2) hP hS hx hb hr hlocks dX2_second_35
  · skip
    have hs2 : ∀ ok, s2 M hg kd fr ok en = wk (ldm M kd) (rt2 hg) fr ok (gueC kd, fr, en) := fun ok => if_pos (fa_of_nle' c_1)
    have hrt := rt2_lt hg
    refine lv_aload_n hx hb dX2_second_7 rfl (lv_at hl 0 rfl) ?_
    refine lv_iconst (v := 2) hx hb dX2_second_8 (by decide) ?_
    refine lv_aload_n hx hb dX2_second_9 rfl (lv_at hl 0 rfl) ?_
    refine va_get (D := D) (ci := 2) (v := .int hg) (C := RX2) (T := TX2) (N := 16) hx hb hts in_X2 hown hK hP 0 rfl rfl 4 (by decide) (hts _ q250) (fun _ h9 => h9) rfl dX2_second_10 ?_
    refine lv_i2l hx hb dX2_second_13 rfl ?_
    refine lv_ldc2 hx hb hown (hts _ q341) dX2_second_14 ?_
    refine lv_land hx hb dX2_second_17 ?_
    refine lv_ldc2 hx hb hown (hts _ q327) dX2_second_18 ?_
    refine lv_lmul hx hb dX2_second_21 ?_
    refine tpl (y := lN (rt2 hg)) (rt2_l hg) ?_
    refine lv_lload_n hx hb dX2_second_22 rfl (lv_at hl 1 rfl) ?_
    refine lv_iload_n hx hb dX2_second_23 rfl (lv_at hl 2 rfl) ?_
    refine gcl (va_runV (As := [.int 2, .long (lN (rt2 hg)), .long (lN fr), .int (bI en)]) (rest := []) ⟨hx, hb, hml, hown, hts⟩ (m_walkA l D hm mm dA M th ap vp hg ri pl to te kd vi us ex A ca fa oe 2 (rt2 hg) fr en (by decide) (Or.inl hrt) hfr) (cwV 4 hts (lw_V q328 q330 qs9 q21 q331) rfl rfl rfl (by decide +kernel) ⟨Nat.le_of_ble_eq_true rfl, Nat.le_of_ble_eq_true rfl⟩) (pM_V hK hP hD 0 rfl rfl) rfl rfl hl.1 rfl (lv_room (Nat.le_of_ble_eq_true rfl)) dX2_second_24 ⟨Nat.le_refl _, Nat.le_refl _⟩) hS (fun _ h => h) (fun r_3 u_3 H locs po_3 hP hz_3 hk_3 hS => ?_)
    obtain ⟨ca_3, fa_3, oe_3⟩ := u_3
    have hP : va_P D vCl [(hm, mdO th mm ap vp hg ri pl to te kd vi us ex ca_3 fa_3 oe_3), (mm, arO dA M)] H := hP
    have hD : va_D A [(hm, mdO th mm ap vp hg ri pl to te kd vi us ex ca_3 fa_3 oe_3), (mm, arO dA M)] := hD.re rfl
    refine lv_goto (tgt := 35) hx hb dX2_second_27 (by decide) ?_
    exact grl ((ca_3, fa_3, oe_3)) (by rw [hs2]; rw [okA_2s] at po_3; exact po_3) hP hS hx hb hr hlocks dX2_second_35
set_option maxHeartbeats 4000000 in
/-- entryAt, behind the second stage -/
theorem m_entryAt1 (l : Launch) (D : va_G) (hm mm : Nat) (dA : ClassId) (M : Nat → Int32) (th ap vp hg ri pl to : Int32) (te : Bool) (kd : Int32) (vi us ex : Bool) (A : Nat → Prop) (ca : Int32) (fa : Int64) (oe : Bool) (a : Nat) (ha : a < 17179869184) : Met l yX2_entryAt (ws_ yX2_entryAt cX2_entryAt 6 (some .long)) (rmX 5 129) (va_Pc [.ref hm, .int 1, .long (lN a)] (Gm D vCl [(dA, .int)] A (mW hm mm dA M th ap vp hg ri pl to te kd vi us ex (ca, fa, oe)))) (GQl D vCl A (mW hm mm dA M th ap vp hg ri pl to te kd vi us ex) (poE (rd1 M hg kd a))) 0 0 A := by
  refine mst (by decide) (Nat.le_of_ble_eq_true rfl) ?_
  intro p ee s m below meth c hx hb hr hlocks hml hown hts hin hB ls hl
  have hl : lv_has ls 6 [(0, .ref hm), (1, .int 1), (2, .long (lN a))] := hl
  obtain ⟨hP, hK, hD⟩ := hB
  have hP : va_P D vCl [(hm, mdO th mm ap vp hg ri pl to te kd vi us ex ca fa oe), (mm, arO dA M)] s.heap := hP
  have hD : va_D A [(hm, mdO th mm ap vp hg ri pl to te kd vi us ex ca fa oe), (mm, arO dA M)] := hD
  have hS : va_S A s.heap s.heap [] := va_S.rf
  refine lv_iload_n hx hb dX2_entryAt_0 rfl (lv_at hl 1 rfl) ?_
  refine lv_iconst (v := 1) hx hb dX2_entryAt_1 (by decide) ?_
  refine lv_icmp_ne (tgt := 14) hx hb dX2_entryAt_2 (by decide) (fun c_1 => absurd c_1 (by decide)) (fun c_1 => ?_)
  refine lv_aload_n hx hb dX2_entryAt_5 rfl (lv_at hl 0 rfl) ?_
  refine lv_lload_n hx hb dX2_entryAt_6 rfl (lv_at hl 2 rfl) ?_
  refine lv_iconst (v := 1) hx hb dX2_entryAt_7 (by decide) ?_
  refine gcl (va_runV (As := [.long (lN a), .int 1]) (rest := []) ⟨hx, hb, hml, hown, hts⟩ (m_second l D hm mm dA M th ap vp hg ri pl to te kd vi us ex A ca fa oe a true (by omega)) (cwV 2 hts (lw_V q337 q339 qs11 q21 q340) rfl rfl rfl (by decide +kernel) ⟨Nat.le_of_ble_eq_true rfl, Nat.le_of_ble_eq_true rfl⟩) (pM_V hK hP hD 0 rfl rfl) rfl rfl hl.1 rfl (lv_room (Nat.le_of_ble_eq_true rfl)) dX2_entryAt_8 ⟨Nat.le_refl _, Nat.le_refl _⟩) hS (fun _ h => h) (fun r_2 u_2 H locs po_2 hP hz_2 hk_2 hS => ?_)
  rw [if_pos rfl] at po_2
  rcases hs_2 : s2 M hg kd a (ok2 false false 1) true with f_2 | q_2
  · skip
    rw [hs_2, inm_l] at po_2
    obtain ⟨rfl, rfl⟩ := po_2
    have hP : va_P D vCl [(hm, mdO th mm ap vp hg ri pl to te kd vi us ex f_2.1 (lN f_2.2.1) f_2.2.2), (mm, arO dA M)] H := hP
    have hD : va_D A [(hm, mdO th mm ap vp hg ri pl to te kd vi us ex f_2.1 (lN f_2.2.1) f_2.2.2), (mm, arO dA M)] := hD.re rfl
    refine lv_goto (tgt := 19) hx hb dX2_entryAt_11 (by decide) ?_
    refine lv_lstore (lv' := [(4, .long (-1)), (0, .ref hm), (1, .int 1), (2, .long (lN a))]) hx hb dX2_entryAt_19 hl (by decide) rfl (fun ls hl => ?_)
    refine lv_lload hx hb dX2_entryAt_21 (lv_at hl 0 rfl) ?_
    refine lv_lconst (v := 0) hx hb dX2_entryAt_23 (by decide) ?_
    refine W.lcmp hx hb dX2_entryAt_24 ?_
    refine lv_if_ge (tgt := 34) hx hb dX2_entryAt_25 (by decide) (fun c_3 => absurd c_3 (by decide)) (fun c_3 => ?_)
    refine lv_ldc2 hx hb hown (hts _ q351) dX2_entryAt_28 ?_
    refine lv_goto (tgt := 45) hx hb dX2_entryAt_31 (by decide) ?_
    exact grl ((f_2.1, lN f_2.2.1, f_2.2.2)) (by rw [rd1_l hs_2]; exact poE_l rfl rfl) hP hS hx hb hr hlocks dX2_entryAt_45
  · skip
    rw [hs_2] at po_2
    have hq_2 := s2_lt ha hs_2
    rcases Nat.lt_or_ge q_2 262144 with h | h
    · skip
      rw [inm_y h] at po_2
      have po_2 : r_2 = lN q_2 := po_2
      subst po_2
      obtain ⟨ca_2, fa_2, oe_2⟩ := u_2
      have hP : va_P D vCl [(hm, mdO th mm ap vp hg ri pl to te kd vi us ex ca_2 fa_2 oe_2), (mm, arO dA M)] H := hP
      have hD : va_D A [(hm, mdO th mm ap vp hg ri pl to te kd vi us ex ca_2 fa_2 oe_2), (mm, arO dA M)] := hD.re rfl
      refine lv_goto (tgt := 19) hx hb dX2_entryAt_11 (by decide) ?_
      refine lv_lstore (lv' := [(4, .long (lN q_2)), (0, .ref hm), (1, .int 1), (2, .long (lN a))]) hx hb dX2_entryAt_19 hl (by decide) rfl (fun ls hl => ?_)
      refine lv_lload hx hb dX2_entryAt_21 (lv_at hl 0 rfl) ?_
      refine lv_lconst (v := 0) hx hb dX2_entryAt_23 (by decide) ?_
      refine W.lcmp hx hb dX2_entryAt_24 ?_
      refine lv_if_ge (tgt := 34) hx hb dX2_entryAt_25 (by decide) (fun c_4 => ?_) (fun c_4 => absurd (lg_nn (by omega)) c_4)
      refine lv_aload_n hx hb dX2_entryAt_34 rfl (lv_at hl 1 rfl) ?_
      refine lv_lload hx hb dX2_entryAt_35 (lv_at hl 0 rfl) ?_
      refine pcall (va_runV (As := [.long (lN q_2)]) (rest := []) ⟨hx, hb, hml, hown, hts⟩ (m_wordAt l D hm mm dA M th ap vp hg ri pl to te kd vi us ex ca_2 fa_2 oe_2 q_2 (by omega)) (cwV 1 hts (lw_V q352 q354 qs14 q21 q355) rfl rfl rfl (by decide +kernel) ⟨Nat.le_of_ble_eq_true rfl, Nat.le_of_ble_eq_true rfl⟩) (pR_V hK hP 0 rfl rfl) rfl rfl hl.1 rfl (lv_room (Nat.le_of_ble_eq_true rfl)) dX2_entryAt_37 ⟨Nat.le_refl _, Nat.le_refl _⟩) ?_
      refine lv_i2l hx hb dX2_entryAt_40 rfl ?_
      refine lv_ldc2 hx hb hown (hts _ q325) dX2_entryAt_41 ?_
      refine lv_land hx hb dX2_entryAt_44 ?_
      exact grl ((ca_2, fa_2, oe_2)) (by rw [rd1_r hs_2, ldm_y h]; exact poE_r (i2l_low _)) hP hS hx hb hr hlocks dX2_entryAt_45
    · skip
      rw [inm_n (by omega)] at po_2
      obtain ⟨rfl, rfl⟩ := po_2
      have hP : va_P D vCl [(hm, mdO th mm ap vp hg ri pl to te kd vi us ex (outC kd) (lN 0) false), (mm, arO dA M)] H := hP
      have hD : va_D A [(hm, mdO th mm ap vp hg ri pl to te kd vi us ex (outC kd) (lN 0) false), (mm, arO dA M)] := hD.re rfl
      refine lv_goto (tgt := 19) hx hb dX2_entryAt_11 (by decide) ?_
      refine lv_lstore (lv' := [(4, .long (-1)), (0, .ref hm), (1, .int 1), (2, .long (lN a))]) hx hb dX2_entryAt_19 hl (by decide) rfl (fun ls hl => ?_)
      refine lv_lload hx hb dX2_entryAt_21 (lv_at hl 0 rfl) ?_
      refine lv_lconst (v := 0) hx hb dX2_entryAt_23 (by decide) ?_
      refine W.lcmp hx hb dX2_entryAt_24 ?_
      refine lv_if_ge (tgt := 34) hx hb dX2_entryAt_25 (by decide) (fun c_5 => absurd c_5 (by decide)) (fun c_5 => ?_)
      refine lv_ldc2 hx hb hown (hts _ q351) dX2_entryAt_28 ?_
      refine lv_goto (tgt := 45) hx hb dX2_entryAt_31 (by decide) ?_
      exact grl ((outC kd, lN 0, false)) (by rw [rd1_r hs_2, ldm_n (by omega)]; exact poE_l rfl rfl) hP hS hx hb hr hlocks dX2_entryAt_45
set_option maxHeartbeats 4000000 in
/-- walk, of the first stage over the second -/
theorem m_walkB (l : Launch) (D : va_G) (hm mm : Nat) (dA : ClassId) (M : Nat → Int32) (th ap vp hg ri pl to : Int32) (te : Bool) (kd : Int32) (vi us ex : Bool) (A : Nat → Prop) (ca : Int32) (fa : Int64) (oe : Bool) (rt fr : Nat) (en : Bool) (hrt : rt ≤ 17179865088) (hfr : fr < 4294967296) : Met l yX2_walk (ws_ yX2_walk cX2_walk 16 (some .long)) (rmX 6 154) (va_Pc [.ref hm, .int 1, .long (lN rt), .long (lN fr), .int (bI en)] (Gm D vCl [(dA, .int)] A (mW hm mm dA M th ap vp hg ri pl to te kd vi us ex (ca, fa, oe)))) (GQl D vCl A (mW hm mm dA M th ap vp hg ri pl to te kd vi us ex) (poM (wk (rd1 M hg kd) rt fr (okA 1 kd ri us ex en) (sf 1 kd fr en)))) 0 0 A := by
  refine mst (by decide) (Nat.le_of_ble_eq_true rfl) ?_
  intro p ee s m below meth c hx hb hr hlocks hml hown hts hin hB ls hl
  have hl : lv_has ls 16 [(0, .ref hm), (1, .int 1), (2, .long (lN rt)), (4, .long (lN fr)), (6, .int (bI en))] := hl
  obtain ⟨hP, hK, hD⟩ := hB
  have hP : va_P D vCl [(hm, mdO th mm ap vp hg ri pl to te kd vi us ex ca fa oe), (mm, arO dA M)] s.heap := hP
  have hD : va_D A [(hm, mdO th mm ap vp hg ri pl to te kd vi us ex ca fa oe), (mm, arO dA M)] := hD
  have hS : va_S A s.heap s.heap [] := va_S.rf
  refine lv_lload hx hb dX2_walk_0 (lv_at hl 3 rfl) ?_
  refine lv_bipush (v := 22) hx hb dX2_walk_2 (by decide) ?_
  refine lv_lshr hx hb dX2_walk_4 rfl ?_
  refine tpl (y := lN (fr / 4194304)) (sh22 (by omega)) ?_
  refine lv_lstore (lv' := [(7, .long (lN (fr / 4194304))), (0, .ref hm), (1, .int 1), (2, .long (lN rt)), (4, .long (lN fr)), (6, .int (bI en))]) hx hb dX2_walk_5 hl (by decide) rfl (fun ls hl => ?_)
  refine lv_aload_n hx hb dX2_walk_7 rfl (lv_at hl 1 rfl) ?_
  refine lv_iload_n hx hb dX2_walk_8 rfl (lv_at hl 2 rfl) ?_
  refine lv_lload_n hx hb dX2_walk_9 rfl (lv_at hl 3 rfl) ?_
  refine lv_ldc2 hx hb hown (hts _ q332) dX2_walk_10 ?_
  refine lv_lload hx hb dX2_walk_13 (lv_at hl 0 rfl) ?_
  refine lv_lmul hx hb dX2_walk_15 ?_
  refine lv_ladd hx hb dX2_walk_16 ?_
  refine tpl (y := lN (rt + 4 * (fr / 4194304))) (adm1) ?_
  refine gcl (va_runV (As := [.int 1, .long (lN (rt + 4 * (fr / 4194304)))]) (rest := []) ⟨hx, hb, hml, hown, hts⟩ (m_entryAt1 l D hm mm dA M th ap vp hg ri pl to te kd vi us ex A ca fa oe (rt + 4 * (fr / 4194304)) (by omega)) (cwV 2 hts (lw_V q333 q335 qs10 q21 q336) rfl rfl rfl (by decide +kernel) ⟨Nat.le_of_ble_eq_true rfl, Nat.le_of_ble_eq_true rfl⟩) (pM_V hK hP hD 0 rfl rfl) rfl rfl hl.1 rfl (lv_room (Nat.le_of_ble_eq_true rfl)) dX2_walk_17 ⟨Nat.le_refl _, Nat.le_refl _⟩) hS (fun _ h => h) (fun r_1 u_1 H locs po_1 hP hz_1 hk_1 hS => ?_)
  rcases hs_1 : rd1 M hg kd (rt + 4 * (fr / 4194304)) with f_1 | x_1
  · skip
    rw [hs_1] at po_1
    obtain ⟨rfl, rfl⟩ := po_1
    have hP : va_P D vCl [(hm, mdO th mm ap vp hg ri pl to te kd vi us ex f_1.1 (lN f_1.2.1) f_1.2.2), (mm, arO dA M)] H := hP
    have hD : va_D A [(hm, mdO th mm ap vp hg ri pl to te kd vi us ex f_1.1 (lN f_1.2.1) f_1.2.2), (mm, arO dA M)] := hD.re rfl
    refine lv_lstore (lv' := [(9, .long (-1)), (7, .long (lN (fr / 4194304))), (0, .ref hm), (1, .int 1), (2, .long (lN rt)), (4, .long (lN fr)), (6, .int (bI en))]) hx hb dX2_walk_20 hl (by decide) rfl (fun ls hl => ?_)
    refine lv_lload hx hb dX2_walk_22 (lv_at hl 0 rfl) ?_
    refine lv_lconst (v := 0) hx hb dX2_walk_24 (by decide) ?_
    refine W.lcmp hx hb dX2_walk_25 ?_
    refine lv_if_ge (tgt := 33) hx hb dX2_walk_26 (by decide) (fun c_2 => absurd c_2 (by decide)) (fun c_2 => ?_)
    refine lv_ldc2 hx hb hown (hts _ q351) dX2_walk_29 ?_
    exact grl ((f_1.1, lN f_1.2.1, f_1.2.2)) (by rw [wk_no hs_1]; exact poM_l rfl rfl) hP hS hx hb hr hlocks dX2_walk_32
  · skip
    rw [hs_1] at po_1
    have po_1 : r_1 = lN (tn x_1) := po_1
    subst po_1
    obtain ⟨ca_1, fa_1, oe_1⟩ := u_1
    have hx_1 := tn_lt x_1
    have htg_1 := tgt_lt x_1
    have hP : va_P D vCl [(hm, mdO th mm ap vp hg ri pl to te kd vi us ex ca_1 fa_1 oe_1), (mm, arO dA M)] H := hP
    have hD : va_D A [(hm, mdO th mm ap vp hg ri pl to te kd vi us ex ca_1 fa_1 oe_1), (mm, arO dA M)] := hD.re rfl
    refine lv_lstore (lv' := [(9, .long (lN (tn x_1))), (7, .long (lN (fr / 4194304))), (0, .ref hm), (1, .int 1), (2, .long (lN rt)), (4, .long (lN fr)), (6, .int (bI en))]) hx hb dX2_walk_20 hl (by decide) rfl (fun ls hl => ?_)
    refine lv_lload hx hb dX2_walk_22 (lv_at hl 0 rfl) ?_
    refine lv_lconst (v := 0) hx hb dX2_walk_24 (by decide) ?_
    refine W.lcmp hx hb dX2_walk_25 ?_
    refine lv_if_ge (tgt := 33) hx hb dX2_walk_26 (by decide) (fun c_3 => ?_) (fun c_3 => absurd (lg_nn (by omega)) c_3)
    refine lv_lload hx hb dX2_walk_33 (lv_at hl 0 rfl) ?_
    refine lv_ldc2 hx hb hown (hts _ q356) dX2_walk_35 ?_
    refine lv_land hx hb dX2_walk_38 ?_
    refine lv_lconst (v := 0) hx hb dX2_walk_39 (by decide) ?_
    refine W.lcmp hx hb dX2_walk_40 ?_
    refine jn (X := Int32) (fun x_ => F0 m 49 ls [.int x_]) (fun x_ => x_ = bI (knd x_1)) ?_ (fun K_4 => ?_)
    · intro x_ ex_
      have ex_ := ex_.symm
      subst ex_
      refine lv_istore (lv' := [(11, .int (bI (knd x_1))), (9, .long (lN (tn x_1))), (7, .long (lN (fr / 4194304))), (0, .ref hm), (1, .int 1), (2, .long (lN rt)), (4, .long (lN fr)), (6, .int (bI en))]) hx hb dX2_walk_49 hl (by decide) rfl (fun ls hl => ?_)
      refine lv_iload hx hb dX2_walk_51 (lv_at hl 0 rfl) ?_
      refine lv_if_ne (tgt := 128) hx hb dX2_walk_53 (by decide) (fun c_5 => ?_) (fun c_5 => ?_)
      · skip
        have c_5 := (bI_n _).mp c_5
        refine lv_aload_n hx hb dX2_walk_128 rfl (lv_at hl 3 rfl) ?_
        refine lv_iload_n hx hb dX2_walk_129 rfl (lv_at hl 4 rfl) ?_
        refine lv_lload hx hb dX2_walk_130 (lv_at hl 1 rfl) ?_
        refine lv_l2i hx hb dX2_walk_132 rfl ?_
        refine tpi (y := x_1) ((lN_i _).trans (nI_tn _)) ?_
        refine lv_iload hx hb dX2_walk_133 (lv_at hl 7 rfl) ?_
        refine pcall (va_runV (As := [.int 1, .int x_1, .int (bI en)]) (rest := []) ⟨hx, hb, hml, hown, hts⟩ (m_isAllowed l D hm mm dA M th ap vp hg ri pl to te kd vi us ex ca_1 fa_1 oe_1 1 x_1 en) (cwV 3 hts (lw_V q364 q366 qs16 q21 q367) rfl rfl rfl (by decide +kernel) ⟨Nat.le_of_ble_eq_true rfl, Nat.le_of_ble_eq_true rfl⟩) (pR_V hK hP 0 rfl rfl) rfl rfl hl.1 rfl (lv_room (Nat.le_of_ble_eq_true rfl)) dX2_walk_135 ⟨Nat.le_refl _, Nat.le_refl _⟩) ?_
        refine lv_if_eq (tgt := 160) hx hb dX2_walk_138 (by decide) (fun c_6 => ?_) (fun c_6 => ?_)
        · skip
          have c_6 := (bI_z _).mp c_6
          refine lv_aload_n hx hb dX2_walk_160 rfl (lv_at hl 3 rfl) ?_
          refine lv_iload_n hx hb dX2_walk_161 rfl (lv_at hl 4 rfl) ?_
          refine lv_lload hx hb dX2_walk_162 (lv_at hl 6 rfl) ?_
          refine lv_iload hx hb dX2_walk_164 (lv_at hl 7 rfl) ?_
          refine gcl (va_runV (As := [.int 1, .long (lN fr), .int (bI en)]) (rest := []) ⟨hx, hb, hml, hown, hts⟩ (m_stageFault l D hm mm dA M th ap vp hg ri pl to te kd vi us ex A ca_1 fa_1 oe_1 1 fr en) (cwV 3 hts (lw_V q358 q360 qs15 q21 q361) rfl rfl rfl (by decide +kernel) ⟨Nat.le_of_ble_eq_true rfl, Nat.le_of_ble_eq_true rfl⟩) (pM_V hK hP hD 0 rfl rfl) rfl rfl hl.1 rfl (lv_room (Nat.le_of_ble_eq_true rfl)) dX2_walk_166 ⟨Nat.le_refl _, Nat.le_refl _⟩) hS (fun _ h => h) (fun r_7 u_7 H locs po_7 hP hz_7 hk_7 hS => ?_)
          obtain ⟨rfl, rfl⟩ := po_7
          have hP : va_P D vCl [(hm, mdO th mm ap vp hg ri pl to te kd vi us ex ((sf 1 kd fr en).1) (lN (sf 1 kd fr en).2.1) ((sf 1 kd fr en).2.2)), (mm, arO dA M)] H := hP
          have hD : va_D A [(hm, mdO th mm ap vp hg ri pl to te kd vi us ex ((sf 1 kd fr en).1) (lN (sf 1 kd fr en).2.1) ((sf 1 kd fr en).2.2)), (mm, arO dA M)] := hD.re rfl
          exact grl (((sf 1 kd fr en).1, lN (sf 1 kd fr en).2.1, (sf 1 kd fr en).2.2)) (by rw [wk_l hs_1 (tab_k c_5), if_neg (by simp [c_6])]; exact poM_l rfl rfl) hP hS hx hb hr hlocks dX2_walk_169
        · skip
          have c_6 := (bI_n _).mp c_6
          refine lv_iload hx hb dX2_walk_141 (lv_at hl 0 rfl) ?_
          refine lv_if_eq (tgt := 170) hx hb dX2_walk_143 (by decide) (fun c_8 => absurd c_8 (bI_zt c_5)) (fun c_8 => ?_)
          refine lv_lload hx hb dX2_walk_146 (lv_at hl 1 rfl) ?_
          refine lv_bipush (v := 10) hx hb dX2_walk_148 (by decide) ?_
          refine lv_lshr hx hb dX2_walk_150 rfl ?_
          refine lv_ldc2 hx hb hown (hts _ q363) dX2_walk_151 ?_
          refine lv_land hx hb dX2_walk_154 ?_
          refine lv_lconst (v := 0) hx hb dX2_walk_155 (by decide) ?_
          refine W.lcmp hx hb dX2_walk_156 ?_
          refine lv_if_eq (tgt := 170) hx hb dX2_walk_157 (by decide) (fun c_9 => ?_) (fun c_9 => ?_)
          · skip
            have c_9 := (lowl _).mp ((lg_cmp_eq _ _).mp c_9)
            refine lv_lload hx hb dX2_walk_170 (lv_at hl 1 rfl) ?_
            refine lv_ldc2 hx hb hown (hts _ q362) dX2_walk_172 ?_
            refine lv_ldiv hx hb dX2_walk_175 (by decide) ?_
            refine tpl (y := lN (ppn x_1)) (ppn_v x_1) ?_
            refine lv_lstore (lv' := [(12, .long (lN (ppn x_1))), (11, .int (bI (knd x_1))), (9, .long (lN (tn x_1))), (7, .long (lN (fr / 4194304))), (0, .ref hm), (1, .int 1), (2, .long (lN rt)), (4, .long (lN fr)), (6, .int (bI en))]) hx hb dX2_walk_176 hl (by decide) rfl (fun ls hl => ?_)
            refine lv_iload hx hb dX2_walk_178 (lv_at hl 1 rfl) ?_
            refine lv_if_eq (tgt := 202) hx hb dX2_walk_180 (by decide) (fun c_10 => absurd c_10 (bI_zt c_5)) (fun c_10 => ?_)
            refine lv_lload hx hb dX2_walk_183 (lv_at hl 0 rfl) ?_
            refine lv_ldc2 hx hb hown (hts _ q362) dX2_walk_185 ?_
            refine lv_ldiv hx hb dX2_walk_188 (by decide) ?_
            refine lv_bipush (v := 22) hx hb dX2_walk_189 (by decide) ?_
            refine lv_lshl hx hb dX2_walk_191 rfl ?_
            refine lv_lload hx hb dX2_walk_192 (lv_at hl 7 rfl) ?_
            refine lv_ldc2 hx hb hown (hts _ q326) dX2_walk_194 ?_
            refine lv_land hx hb dX2_walk_197 ?_
            refine lv_ladd hx hb dX2_walk_198 ?_
            refine tpl (y := lN (tgt x_1 + fr % 4194304)) (to_l c_9) ?_
            refine lv_goto (tgt := 215) hx hb dX2_walk_199 (by decide) ?_
            refine lv_lstore (lv' := [(14, .long (lN (tgt x_1 + fr % 4194304))), (12, .long (lN (ppn x_1))), (11, .int (bI (knd x_1))), (9, .long (lN (tn x_1))), (7, .long (lN (fr / 4194304))), (0, .ref hm), (1, .int 1), (2, .long (lN rt)), (4, .long (lN fr)), (6, .int (bI en))]) hx hb dX2_walk_215 hl (by decide) rfl (fun ls hl => ?_)
            refine lv_iload_n hx hb dX2_walk_217 rfl (lv_at hl 6 rfl) ?_
            refine lv_iconst (v := 1) hx hb dX2_walk_218 (by decide) ?_
            refine lv_icmp_ne (tgt := 227) hx hb dX2_walk_219 (by decide) (fun c_11 => absurd c_11 (by decide)) (fun c_11 => ?_)
            refine lv_lload hx hb dX2_walk_222 (lv_at hl 0 rfl) ?_
            refine lv_goto (tgt := 233) hx hb dX2_walk_224 (by decide) ?_
            exact grl ((ca_1, fa_1, oe_1)) (by rw [wk_l hs_1 (tab_k c_5), if_pos (by simp [c_6, c_9])]; exact poM_r rfl) hP hS hx hb hr hlocks dX2_walk_233
          · skip
            have c_9 := bnot'.mp ((not_congr (lowl _)).mp (fun z => c_9 ((lg_cmp_eq _ _).mpr z)))
            refine lv_aload_n hx hb dX2_walk_160 rfl (lv_at hl 3 rfl) ?_
            refine lv_iload_n hx hb dX2_walk_161 rfl (lv_at hl 4 rfl) ?_
            refine lv_lload hx hb dX2_walk_162 (lv_at hl 6 rfl) ?_
            refine lv_iload hx hb dX2_walk_164 (lv_at hl 7 rfl) ?_
            refine gcl (va_runV (As := [.int 1, .long (lN fr), .int (bI en)]) (rest := []) ⟨hx, hb, hml, hown, hts⟩ (m_stageFault l D hm mm dA M th ap vp hg ri pl to te kd vi us ex A ca_1 fa_1 oe_1 1 fr en) (cwV 3 hts (lw_V q358 q360 qs15 q21 q361) rfl rfl rfl (by decide +kernel) ⟨Nat.le_of_ble_eq_true rfl, Nat.le_of_ble_eq_true rfl⟩) (pM_V hK hP hD 0 rfl rfl) rfl rfl hl.1 rfl (lv_room (Nat.le_of_ble_eq_true rfl)) dX2_walk_166 ⟨Nat.le_refl _, Nat.le_refl _⟩) hS (fun _ h => h) (fun r_12 u_12 H locs po_12 hP hz_12 hk_12 hS => ?_)
            obtain ⟨rfl, rfl⟩ := po_12
            have hP : va_P D vCl [(hm, mdO th mm ap vp hg ri pl to te kd vi us ex ((sf 1 kd fr en).1) (lN (sf 1 kd fr en).2.1) ((sf 1 kd fr en).2.2)), (mm, arO dA M)] H := hP
            have hD : va_D A [(hm, mdO th mm ap vp hg ri pl to te kd vi us ex ((sf 1 kd fr en).1) (lN (sf 1 kd fr en).2.1) ((sf 1 kd fr en).2.2)), (mm, arO dA M)] := hD.re rfl
            exact grl (((sf 1 kd fr en).1, lN (sf 1 kd fr en).2.1, (sf 1 kd fr en).2.2)) (by rw [wk_l hs_1 (tab_k c_5), if_neg (by simp [c_6, c_9])]; exact poM_l rfl rfl) hP hS hx hb hr hlocks dX2_walk_169
      · skip
        have c_5 := (bI_z _).mp c_5
        refine lv_lload hx hb dX2_walk_56 (lv_at hl 1 rfl) ?_
        refine lv_lconst (v := 1) hx hb dX2_walk_58 (by decide) ?_
        refine lv_land hx hb dX2_walk_59 ?_
        refine lv_lconst (v := 0) hx hb dX2_walk_60 (by decide) ?_
        refine W.lcmp hx hb dX2_walk_61 ?_
        refine lv_if_eq (tgt := 76) hx hb dX2_walk_62 (by decide) (fun c_13 => ?_) (fun c_13 => ?_)
        · skip
          have c_13 := (zl_1 _).mp ((lg_cmp_eq _ _).mp c_13)
          refine lv_aload_n hx hb dX2_walk_76 rfl (lv_at hl 3 rfl) ?_
          refine lv_iload_n hx hb dX2_walk_77 rfl (lv_at hl 4 rfl) ?_
          refine lv_lload hx hb dX2_walk_78 (lv_at hl 6 rfl) ?_
          refine lv_iload hx hb dX2_walk_80 (lv_at hl 7 rfl) ?_
          refine gcl (va_runV (As := [.int 1, .long (lN fr), .int (bI en)]) (rest := []) ⟨hx, hb, hml, hown, hts⟩ (m_stageFault l D hm mm dA M th ap vp hg ri pl to te kd vi us ex A ca_1 fa_1 oe_1 1 fr en) (cwV 3 hts (lw_V q358 q360 qs15 q21 q361) rfl rfl rfl (by decide +kernel) ⟨Nat.le_of_ble_eq_true rfl, Nat.le_of_ble_eq_true rfl⟩) (pM_V hK hP hD 0 rfl rfl) rfl rfl hl.1 rfl (lv_room (Nat.le_of_ble_eq_true rfl)) dX2_walk_82 ⟨Nat.le_refl _, Nat.le_refl _⟩) hS (fun _ h => h) (fun r_14 u_14 H locs po_14 hP hz_14 hk_14 hS => ?_)
          obtain ⟨rfl, rfl⟩ := po_14
          have hP : va_P D vCl [(hm, mdO th mm ap vp hg ri pl to te kd vi us ex ((sf 1 kd fr en).1) (lN (sf 1 kd fr en).2.1) ((sf 1 kd fr en).2.2)), (mm, arO dA M)] H := hP
          have hD : va_D A [(hm, mdO th mm ap vp hg ri pl to te kd vi us ex ((sf 1 kd fr en).1) (lN (sf 1 kd fr en).2.1) ((sf 1 kd fr en).2.2)), (mm, arO dA M)] := hD.re rfl
          exact grl (((sf 1 kd fr en).1, lN (sf 1 kd fr en).2.1, (sf 1 kd fr en).2.2)) (by rw [wk_l hs_1 (tab_0 c_13), if_neg (by rw [okA_k c_5]; simp)]; exact poM_l rfl rfl) hP hS hx hb hr hlocks dX2_walk_85
        · skip
          have c_13 := bnot.mp ((not_congr (zl_1 _)).mp (fun z => c_13 ((lg_cmp_eq _ _).mpr z)))
          refine lv_lload hx hb dX2_walk_65 (lv_at hl 1 rfl) ?_
          refine lv_ldc2 hx hb hown (hts _ q357) dX2_walk_67 ?_
          refine lv_land hx hb dX2_walk_70 ?_
          refine lv_lconst (v := 0) hx hb dX2_walk_71 (by decide) ?_
          refine W.lcmp hx hb dX2_walk_72 ?_
          refine lv_if_eq (tgt := 86) hx hb dX2_walk_73 (by decide) (fun c_15 => ?_) (fun c_15 => ?_)
          · skip
            have c_15 := (zl_208 _).mp ((lg_cmp_eq _ _).mp c_15)
            refine lv_aload_n hx hb dX2_walk_86 rfl (lv_at hl 3 rfl) ?_
            refine lv_iload_n hx hb dX2_walk_87 rfl (lv_at hl 4 rfl) ?_
            refine lv_lload hx hb dX2_walk_88 (lv_at hl 1 rfl) ?_
            refine lv_ldc2 hx hb hown (hts _ q362) dX2_walk_90 ?_
            refine lv_ldiv hx hb dX2_walk_93 (by decide) ?_
            refine lv_ldc2 hx hb hown (hts _ q327) dX2_walk_94 ?_
            refine lv_lmul hx hb dX2_walk_97 ?_
            refine lv_ldc2 hx hb hown (hts _ q332) dX2_walk_98 ?_
            refine lv_lload hx hb dX2_walk_101 (lv_at hl 6 rfl) ?_
            refine lv_bipush (v := 12) hx hb dX2_walk_103 (by decide) ?_
            refine lv_lshr hx hb dX2_walk_105 rfl ?_
            refine lv_ldc2 hx hb hown (hts _ q363) dX2_walk_106 ?_
            refine lv_land hx hb dX2_walk_109 ?_
            refine lv_lmul hx hb dX2_walk_110 ?_
            refine lv_ladd hx hb dX2_walk_111 ?_
            refine tpl (y := lN (tgt x_1 + 4 * (fr / 4096 % 1024))) (adm2 (by omega)) ?_
            refine gcl (va_runV (As := [.int 1, .long (lN (tgt x_1 + 4 * (fr / 4096 % 1024)))]) (rest := []) ⟨hx, hb, hml, hown, hts⟩ (m_entryAt1 l D hm mm dA M th ap vp hg ri pl to te kd vi us ex A ca_1 fa_1 oe_1 (tgt x_1 + 4 * (fr / 4096 % 1024)) (by omega)) (cwV 2 hts (lw_V q333 q335 qs10 q21 q336) rfl rfl rfl (by decide +kernel) ⟨Nat.le_of_ble_eq_true rfl, Nat.le_of_ble_eq_true rfl⟩) (pM_V hK hP hD 0 rfl rfl) rfl rfl hl.1 rfl (lv_room (Nat.le_of_ble_eq_true rfl)) dX2_walk_112 ⟨Nat.le_refl _, Nat.le_refl _⟩) hS (fun _ h => h) (fun r_16 u_16 H locs po_16 hP hz_16 hk_16 hS => ?_)
            rcases hs_16 : rd1 M hg kd (tgt x_1 + 4 * (fr / 4096 % 1024)) with f_16 | x_16
            · skip
              rw [hs_16] at po_16
              obtain ⟨rfl, rfl⟩ := po_16
              have hP : va_P D vCl [(hm, mdO th mm ap vp hg ri pl to te kd vi us ex f_16.1 (lN f_16.2.1) f_16.2.2), (mm, arO dA M)] H := hP
              have hD : va_D A [(hm, mdO th mm ap vp hg ri pl to te kd vi us ex f_16.1 (lN f_16.2.1) f_16.2.2), (mm, arO dA M)] := hD.re rfl
              refine lv_lstore (lv' := [(9, .long (-1)), (11, .int (bI (knd x_1))), (7, .long (lN (fr / 4194304))), (0, .ref hm), (1, .int 1), (2, .long (lN rt)), (4, .long (lN fr)), (6, .int (bI en))]) hx hb dX2_walk_115 hl (by decide) rfl (fun ls hl => ?_)
              refine lv_lload hx hb dX2_walk_117 (lv_at hl 0 rfl) ?_
              refine lv_lconst (v := 0) hx hb dX2_walk_119 (by decide) ?_
              refine W.lcmp hx hb dX2_walk_120 ?_
              refine lv_if_ge (tgt := 128) hx hb dX2_walk_121 (by decide) (fun c_17 => absurd c_17 (by decide)) (fun c_17 => ?_)
              refine lv_ldc2 hx hb hown (hts _ q351) dX2_walk_124 ?_
              exact grl ((f_16.1, lN f_16.2.1, f_16.2.2)) (by rw [wk_tn hs_1 (tab_y c_5 c_13 c_15) hs_16]; exact poM_l rfl rfl) hP hS hx hb hr hlocks dX2_walk_127
            · skip
              rw [hs_16] at po_16
              have po_16 : r_16 = lN (tn x_16) := po_16
              subst po_16
              obtain ⟨ca_16, fa_16, oe_16⟩ := u_16
              have hx_16 := tn_lt x_16
              have htg_16 := tgt_lt x_16
              have hP : va_P D vCl [(hm, mdO th mm ap vp hg ri pl to te kd vi us ex ca_16 fa_16 oe_16), (mm, arO dA M)] H := hP
              have hD : va_D A [(hm, mdO th mm ap vp hg ri pl to te kd vi us ex ca_16 fa_16 oe_16), (mm, arO dA M)] := hD.re rfl
              refine lv_lstore (lv' := [(9, .long (lN (tn x_16))), (11, .int (bI (knd x_1))), (7, .long (lN (fr / 4194304))), (0, .ref hm), (1, .int 1), (2, .long (lN rt)), (4, .long (lN fr)), (6, .int (bI en))]) hx hb dX2_walk_115 hl (by decide) rfl (fun ls hl => ?_)
              refine lv_lload hx hb dX2_walk_117 (lv_at hl 0 rfl) ?_
              refine lv_lconst (v := 0) hx hb dX2_walk_119 (by decide) ?_
              refine W.lcmp hx hb dX2_walk_120 ?_
              refine lv_if_ge (tgt := 128) hx hb dX2_walk_121 (by decide) (fun c_18 => ?_) (fun c_18 => absurd (lg_nn (by omega)) c_18)
              refine lv_aload_n hx hb dX2_walk_128 rfl (lv_at hl 3 rfl) ?_
              refine lv_iload_n hx hb dX2_walk_129 rfl (lv_at hl 4 rfl) ?_
              refine lv_lload hx hb dX2_walk_130 (lv_at hl 0 rfl) ?_
              refine lv_l2i hx hb dX2_walk_132 rfl ?_
              refine tpi (y := x_16) ((lN_i _).trans (nI_tn _)) ?_
              refine lv_iload hx hb dX2_walk_133 (lv_at hl 7 rfl) ?_
              refine pcall (va_runV (As := [.int 1, .int x_16, .int (bI en)]) (rest := []) ⟨hx, hb, hml, hown, hts⟩ (m_isAllowed l D hm mm dA M th ap vp hg ri pl to te kd vi us ex ca_16 fa_16 oe_16 1 x_16 en) (cwV 3 hts (lw_V q364 q366 qs16 q21 q367) rfl rfl rfl (by decide +kernel) ⟨Nat.le_of_ble_eq_true rfl, Nat.le_of_ble_eq_true rfl⟩) (pR_V hK hP 0 rfl rfl) rfl rfl hl.1 rfl (lv_room (Nat.le_of_ble_eq_true rfl)) dX2_walk_135 ⟨Nat.le_refl _, Nat.le_refl _⟩) ?_
              refine lv_if_eq (tgt := 160) hx hb dX2_walk_138 (by decide) (fun c_19 => ?_) (fun c_19 => ?_)
              · skip
                have c_19 := (bI_z _).mp c_19
                refine lv_aload_n hx hb dX2_walk_160 rfl (lv_at hl 3 rfl) ?_
                refine lv_iload_n hx hb dX2_walk_161 rfl (lv_at hl 4 rfl) ?_
                refine lv_lload hx hb dX2_walk_162 (lv_at hl 6 rfl) ?_
                refine lv_iload hx hb dX2_walk_164 (lv_at hl 7 rfl) ?_
                refine gcl (va_runV (As := [.int 1, .long (lN fr), .int (bI en)]) (rest := []) ⟨hx, hb, hml, hown, hts⟩ (m_stageFault l D hm mm dA M th ap vp hg ri pl to te kd vi us ex A ca_16 fa_16 oe_16 1 fr en) (cwV 3 hts (lw_V q358 q360 qs15 q21 q361) rfl rfl rfl (by decide +kernel) ⟨Nat.le_of_ble_eq_true rfl, Nat.le_of_ble_eq_true rfl⟩) (pM_V hK hP hD 0 rfl rfl) rfl rfl hl.1 rfl (lv_room (Nat.le_of_ble_eq_true rfl)) dX2_walk_166 ⟨Nat.le_refl _, Nat.le_refl _⟩) hS (fun _ h => h) (fun r_20 u_20 H locs po_20 hP hz_20 hk_20 hS => ?_)
                obtain ⟨rfl, rfl⟩ := po_20
                have hP : va_P D vCl [(hm, mdO th mm ap vp hg ri pl to te kd vi us ex ((sf 1 kd fr en).1) (lN (sf 1 kd fr en).2.1) ((sf 1 kd fr en).2.2)), (mm, arO dA M)] H := hP
                have hD : va_D A [(hm, mdO th mm ap vp hg ri pl to te kd vi us ex ((sf 1 kd fr en).1) (lN (sf 1 kd fr en).2.1) ((sf 1 kd fr en).2.2)), (mm, arO dA M)] := hD.re rfl
                exact grl (((sf 1 kd fr en).1, lN (sf 1 kd fr en).2.1, (sf 1 kd fr en).2.2)) (by rw [wk_ty hs_1 (tab_y c_5 c_13 c_15) hs_16, if_neg (by simp [c_19])]; exact poM_l rfl rfl) hP hS hx hb hr hlocks dX2_walk_169
              · skip
                have c_19 := (bI_n _).mp c_19
                refine lv_iload hx hb dX2_walk_141 (lv_at hl 1 rfl) ?_
                refine lv_if_eq (tgt := 170) hx hb dX2_walk_143 (by decide) (fun c_21 => ?_) (fun c_21 => absurd (bI_zf c_5) c_21)
                refine lv_lload hx hb dX2_walk_170 (lv_at hl 0 rfl) ?_
                refine lv_ldc2 hx hb hown (hts _ q362) dX2_walk_172 ?_
                refine lv_ldiv hx hb dX2_walk_175 (by decide) ?_
                refine tpl (y := lN (ppn x_16)) (ppn_v x_16) ?_
                refine lv_lstore (lv' := [(12, .long (lN (ppn x_16))), (9, .long (lN (tn x_16))), (11, .int (bI (knd x_1))), (7, .long (lN (fr / 4194304))), (0, .ref hm), (1, .int 1), (2, .long (lN rt)), (4, .long (lN fr)), (6, .int (bI en))]) hx hb dX2_walk_176 hl (by decide) rfl (fun ls hl => ?_)
                refine lv_iload hx hb dX2_walk_178 (lv_at hl 2 rfl) ?_
                refine lv_if_eq (tgt := 202) hx hb dX2_walk_180 (by decide) (fun c_22 => ?_) (fun c_22 => absurd (bI_zf c_5) c_22)
                refine lv_lload hx hb dX2_walk_202 (lv_at hl 0 rfl) ?_
                refine lv_ldc2 hx hb hown (hts _ q327) dX2_walk_204 ?_
                refine lv_lmul hx hb dX2_walk_207 ?_
                refine lv_lload hx hb dX2_walk_208 (lv_at hl 7 rfl) ?_
                refine lv_ldc2 hx hb hown (hts _ q375) dX2_walk_210 ?_
                refine lv_land hx hb dX2_walk_213 ?_
                refine lv_ladd hx hb dX2_walk_214 ?_
                refine tpl (y := lN (tgt x_16 + fr % 4096)) (to_s) ?_
                refine lv_lstore (lv' := [(14, .long (lN (tgt x_16 + fr % 4096))), (12, .long (lN (ppn x_16))), (9, .long (lN (tn x_16))), (11, .int (bI (knd x_1))), (7, .long (lN (fr / 4194304))), (0, .ref hm), (1, .int 1), (2, .long (lN rt)), (4, .long (lN fr)), (6, .int (bI en))]) hx hb dX2_walk_215 hl (by decide) rfl (fun ls hl => ?_)
                refine lv_iload_n hx hb dX2_walk_217 rfl (lv_at hl 6 rfl) ?_
                refine lv_iconst (v := 1) hx hb dX2_walk_218 (by decide) ?_
                refine lv_icmp_ne (tgt := 227) hx hb dX2_walk_219 (by decide) (fun c_23 => absurd c_23 (by decide)) (fun c_23 => ?_)
                refine lv_lload hx hb dX2_walk_222 (lv_at hl 0 rfl) ?_
                refine lv_goto (tgt := 233) hx hb dX2_walk_224 (by decide) ?_
                exact grl ((ca_16, fa_16, oe_16)) (by rw [wk_ty hs_1 (tab_y c_5 c_13 c_15) hs_16, if_pos (by simp [c_19])]; exact poM_r rfl) hP hS hx hb hr hlocks dX2_walk_233
          · skip
            have c_15 := bnot.mp ((not_congr (zl_208 _)).mp (fun z => c_15 ((lg_cmp_eq _ _).mpr z)))
            refine lv_aload_n hx hb dX2_walk_76 rfl (lv_at hl 3 rfl) ?_
            refine lv_iload_n hx hb dX2_walk_77 rfl (lv_at hl 4 rfl) ?_
            refine lv_lload hx hb dX2_walk_78 (lv_at hl 6 rfl) ?_
            refine lv_iload hx hb dX2_walk_80 (lv_at hl 7 rfl) ?_
            refine gcl (va_runV (As := [.int 1, .long (lN fr), .int (bI en)]) (rest := []) ⟨hx, hb, hml, hown, hts⟩ (m_stageFault l D hm mm dA M th ap vp hg ri pl to te kd vi us ex A ca_1 fa_1 oe_1 1 fr en) (cwV 3 hts (lw_V q358 q360 qs15 q21 q361) rfl rfl rfl (by decide +kernel) ⟨Nat.le_of_ble_eq_true rfl, Nat.le_of_ble_eq_true rfl⟩) (pM_V hK hP hD 0 rfl rfl) rfl rfl hl.1 rfl (lv_room (Nat.le_of_ble_eq_true rfl)) dX2_walk_82 ⟨Nat.le_refl _, Nat.le_refl _⟩) hS (fun _ h => h) (fun r_24 u_24 H locs po_24 hP hz_24 hk_24 hS => ?_)
            obtain ⟨rfl, rfl⟩ := po_24
            have hP : va_P D vCl [(hm, mdO th mm ap vp hg ri pl to te kd vi us ex ((sf 1 kd fr en).1) (lN (sf 1 kd fr en).2.1) ((sf 1 kd fr en).2.2)), (mm, arO dA M)] H := hP
            have hD : va_D A [(hm, mdO th mm ap vp hg ri pl to te kd vi us ex ((sf 1 kd fr en).1) (lN (sf 1 kd fr en).2.1) ((sf 1 kd fr en).2.2)), (mm, arO dA M)] := hD.re rfl
            exact grl (((sf 1 kd fr en).1, lN (sf 1 kd fr en).2.1, (sf 1 kd fr en).2.2)) (by rw [wk_l hs_1 (tab_b c_15), if_neg (by rw [okA_k c_5]; simp)]; exact poM_l rfl rfl) hP hS hx hb hr hlocks dX2_walk_85
    · skip
      refine lv_if_eq (tgt := 48) hx hb dX2_walk_41 (by decide) (fun c_25 => ?_) (fun c_25 => ?_)
      · skip
        have c_25 := (zl_14 _).mp ((lg_cmp_eq _ _).mp c_25)
        refine lv_iconst (v := 0) hx hb dX2_walk_48 (by decide) ?_
        exact K_4 _ (by rw [c_25]; rfl)
      · skip
        have c_25 := bnot.mp ((not_congr (zl_14 _)).mp (fun z => c_25 ((lg_cmp_eq _ _).mpr z)))
        refine lv_iconst (v := 1) hx hb dX2_walk_44 (by decide) ?_
        refine lv_goto (tgt := 49) hx hb dX2_walk_45 (by decide) ?_
        exact K_4 _ (by rw [c_25]; rfl)
end
section
/-! StageWalkerModel: isNone, lead -/
set_option maxRecDepth 100000
def kok (mo k : Int32) : Bool := decide (0 ≤ mo.toInt ∧ mo.toInt ≤ 3 ∧ 0 ≤ k.toInt ∧ (k.toInt ≤ 2 ∨ (k.toInt = 3 ∧ 2 ≤ mo.toInt)))
def kdF (k : Int32) : Int32 := if k = 3 then 1 else k
def exF (k : Int32) : Bool := decide (k = 3)
def viF (mo : Int32) : Bool := !decide (mo ≤ 1)
def usF (mo : Int32) : Bool := decide (mo = 0) || decide (mo = 2)
theorem ti0 : (0 : Int32).toInt = 0 := by decide
theorem ti1 : (1 : Int32).toInt = 1 := by decide
theorem ti2 : (2 : Int32).toInt = 2 := by decide
theorem ti3 : (3 : Int32).toInt = 3 := by decide
theorem k3_kd {mo k : Int32} (h : kok mo k = true) : k3 (kdF k) := by
  have h := of_decide_eq_true h
  unfold kdF k3
  by_cases h3 : k = 3
  · rw [if_pos h3]; exact Or.inr (Or.inl rfl)
  · rw [if_neg h3]
    rw [fa_eq, ti3] at h3
    rw [fa_eq, fa_eq, fa_eq, ti0, ti1, ti2]
    omega
def trL (M : Nat → Int32) (ap vp hg ri mo k : Int32) (ad : Nat) : Flt ⊕ Nat := tr M hg (kdF k) (if viF mo = true then vp else ap) (viF mo) (usF mo) (if viF mo = true then eb ri 2 else eb ri 0) (exF k) (eb ri 1 || (viF mo && eb ri 3)) (eb ri 1) ad
section
variable {M : Nat → Int32} {hg k root : Int32} {us fx tx mx sm : Bool} {ad a : Nat} {f : Flt}
theorem trA (h : root < 0) : tr M hg k root false us sm fx tx mx ad = inm k (wk (ldm M k) (rt1 root) ad (ok1 us sm fx tx k) (pagC k, 0, false)) := by
  have e : st1 M hg k root false us sm fx tx ad = wk (ldm M k) (rt1 root) ad (ok1 us sm fx tx k) (pagC k, 0, false) := if_pos h
  unfold tr; rw [e]
  cases wk (ldm M k) (rt1 root) ad (ok1 us sm fx tx k) (pagC k, 0, false) <;> rfl
theorem trA' (h : ¬ root < 0) : tr M hg k root false us sm fx tx mx ad = inm k (.inr ad) := by
  have e : st1 M hg k root false us sm fx tx ad = .inr ad := if_neg h
  unfold tr; rw [e]; rfl
theorem stB (h : root < 0) : st1 M hg k root true us sm fx tx ad = wk (rd1 M hg k) (rt1 root) ad (ok1 us sm fx tx k) (pagC k, 0, false) := if_pos h
theorem stB' (h : ¬ root < 0) : st1 M hg k root true us sm fx tx ad = .inr ad := if_neg h
end
set_option maxHeartbeats 4000000 in
/-- isNone -/
theorem m_isNone (l : Launch) (mo k : Int32) : Met l yX2_isNone (ws_ yX2_isNone cX2_isNone 2 (some .boolean)) (rmX 0 0) (va_Pc [.int mo, .int k] (Tt)) (QP (.int (bI (!kok mo k)))) 0 0 NoA := by
  refine mst (by decide) (Nat.le_of_ble_eq_true rfl) ?_
  intro p ee s m below meth c hx hb hr hlocks hml hown hts hin hB ls hl
  have hl : lv_has ls 2 [(0, .int mo), (1, .int k)] := hl
  refine lv_iload_n hx hb dX2_isNone_0 rfl (lv_at hl 0 rfl) ?_
  refine lv_if_lt (tgt := 27) hx hb dX2_isNone_1 (by decide) (fun c_1 => ?_) (fun c_1 => ?_)
  · skip
    refine lv_iconst (v := 1) hx hb dX2_isNone_27 (by decide) ?_
    refine lv_goto (tgt := 32) hx hb dX2_isNone_28 (by decide) ?_
    simp only [fa_lt, fa_le, fa_eq, ti0, ti1, ti2, ti3] at c_1
    exact prz (by rw [kok, decide_eq_false (by omega)]; rfl) hx hb hr hlocks dX2_isNone_32
  · skip
    refine lv_iload_n hx hb dX2_isNone_4 rfl (lv_at hl 0 rfl) ?_
    refine lv_iconst (v := 3) hx hb dX2_isNone_5 (by decide) ?_
    refine lv_icmp_gt (tgt := 27) hx hb dX2_isNone_6 (by decide) (fun c_2 => ?_) (fun c_2 => ?_)
    · skip
      refine lv_iconst (v := 1) hx hb dX2_isNone_27 (by decide) ?_
      refine lv_goto (tgt := 32) hx hb dX2_isNone_28 (by decide) ?_
      simp only [fa_lt, fa_le, fa_eq, ti0, ti1, ti2, ti3] at c_1 c_2
      exact prz (by rw [kok, decide_eq_false (by omega)]; rfl) hx hb hr hlocks dX2_isNone_32
    · skip
      refine lv_iload_n hx hb dX2_isNone_9 rfl (lv_at hl 1 rfl) ?_
      refine lv_if_lt (tgt := 27) hx hb dX2_isNone_10 (by decide) (fun c_3 => ?_) (fun c_3 => ?_)
      · skip
        refine lv_iconst (v := 1) hx hb dX2_isNone_27 (by decide) ?_
        refine lv_goto (tgt := 32) hx hb dX2_isNone_28 (by decide) ?_
        simp only [fa_lt, fa_le, fa_eq, ti0, ti1, ti2, ti3] at c_1 c_2 c_3
        exact prz (by rw [kok, decide_eq_false (by omega)]; rfl) hx hb hr hlocks dX2_isNone_32
      · skip
        refine lv_iload_n hx hb dX2_isNone_13 rfl (lv_at hl 1 rfl) ?_
        refine lv_iload_n hx hb dX2_isNone_14 rfl (lv_at hl 0 rfl) ?_
        refine lv_iconst (v := 1) hx hb dX2_isNone_15 (by decide) ?_
        refine lv_icmp_le (tgt := 23) hx hb dX2_isNone_16 (by decide) (fun c_4 => ?_) (fun c_4 => ?_)
        · skip
          refine lv_iconst (v := 2) hx hb dX2_isNone_23 (by decide) ?_
          refine lv_icmp_le (tgt := 31) hx hb dX2_isNone_24 (by decide) (fun c_5 => ?_) (fun c_5 => ?_)
          · skip
            refine lv_iconst (v := 0) hx hb dX2_isNone_31 (by decide) ?_
            simp only [fa_lt, fa_le, fa_eq, ti0, ti1, ti2, ti3] at c_1 c_2 c_3 c_4 c_5
            exact prz (by rw [kok, decide_eq_true (by omega)]; rfl) hx hb hr hlocks dX2_isNone_32
          · skip
            refine lv_iconst (v := 1) hx hb dX2_isNone_27 (by decide) ?_
            refine lv_goto (tgt := 32) hx hb dX2_isNone_28 (by decide) ?_
            simp only [fa_lt, fa_le, fa_eq, ti0, ti1, ti2, ti3] at c_1 c_2 c_3 c_4 c_5
            exact prz (by rw [kok, decide_eq_false (by omega)]; rfl) hx hb hr hlocks dX2_isNone_32
        · skip
          refine lv_iconst (v := 3) hx hb dX2_isNone_19 (by decide) ?_
          refine lv_goto (tgt := 24) hx hb dX2_isNone_20 (by decide) ?_
          refine lv_icmp_le (tgt := 31) hx hb dX2_isNone_24 (by decide) (fun c_6 => ?_) (fun c_6 => ?_)
          · skip
            refine lv_iconst (v := 0) hx hb dX2_isNone_31 (by decide) ?_
            simp only [fa_lt, fa_le, fa_eq, ti0, ti1, ti2, ti3] at c_1 c_2 c_3 c_4 c_6
            exact prz (by rw [kok, decide_eq_true (by omega)]; rfl) hx hb hr hlocks dX2_isNone_32
          · skip
            refine lv_iconst (v := 1) hx hb dX2_isNone_27 (by decide) ?_
            refine lv_goto (tgt := 32) hx hb dX2_isNone_28 (by decide) ?_
            simp only [fa_lt, fa_le, fa_eq, ti0, ti1, ti2, ti3] at c_1 c_2 c_3 c_4 c_6
            exact prz (by rw [kok, decide_eq_false (by omega)]; rfl) hx hb hr hlocks dX2_isNone_32
set_option maxHeartbeats 4000000 in
/-- isKind -/
theorem m_isKind (l : Launch) (mo k : Int32) : Met l yX0_isKind (ws_ yX0_isKind cX0_isKind 2 (some .boolean)) (rmX 0 0) (va_Pc [.int mo, .int k] (Tt)) (QP (.int (bI (kok mo k)))) 0 0 NoA := by
  refine mst (by decide) (Nat.le_of_ble_eq_true rfl) ?_
  intro p ee s m below meth c hx hb hr hlocks hml hown hts hin hB ls hl
  have hl : lv_has ls 2 [(0, .int mo), (1, .int k)] := hl
  refine lv_iload_n hx hb dX0_isKind_0 rfl (lv_at hl 0 rfl) ?_
  refine lv_if_lt (tgt := 32) hx hb dX0_isKind_1 (by decide) (fun c_1 => ?_) (fun c_1 => ?_)
  · skip
    refine lv_iconst (v := 0) hx hb dX0_isKind_32 (by decide) ?_
    simp only [fa_lt, fa_le, fa_eq, ti0, ti1, ti2, ti3] at c_1
    exact prz (by rw [kok, decide_eq_false (by omega)]; rfl) hx hb hr hlocks dX0_isKind_33
  · skip
    refine lv_iload_n hx hb dX0_isKind_4 rfl (lv_at hl 0 rfl) ?_
    refine lv_iconst (v := 3) hx hb dX0_isKind_5 (by decide) ?_
    refine lv_icmp_gt (tgt := 32) hx hb dX0_isKind_6 (by decide) (fun c_2 => ?_) (fun c_2 => ?_)
    · skip
      refine lv_iconst (v := 0) hx hb dX0_isKind_32 (by decide) ?_
      simp only [fa_lt, fa_le, fa_eq, ti0, ti1, ti2, ti3] at c_1 c_2
      exact prz (by rw [kok, decide_eq_false (by omega)]; rfl) hx hb hr hlocks dX0_isKind_33
    · skip
      refine lv_iload_n hx hb dX0_isKind_9 rfl (lv_at hl 1 rfl) ?_
      refine lv_if_lt (tgt := 32) hx hb dX0_isKind_10 (by decide) (fun c_3 => ?_) (fun c_3 => ?_)
      · skip
        refine lv_iconst (v := 0) hx hb dX0_isKind_32 (by decide) ?_
        simp only [fa_lt, fa_le, fa_eq, ti0, ti1, ti2, ti3] at c_1 c_2 c_3
        exact prz (by rw [kok, decide_eq_false (by omega)]; rfl) hx hb hr hlocks dX0_isKind_33
      · skip
        refine lv_iload_n hx hb dX0_isKind_13 rfl (lv_at hl 1 rfl) ?_
        refine lv_iconst (v := 2) hx hb dX0_isKind_14 (by decide) ?_
        refine lv_icmp_le (tgt := 28) hx hb dX0_isKind_15 (by decide) (fun c_4 => ?_) (fun c_4 => ?_)
        · skip
          refine lv_iconst (v := 1) hx hb dX0_isKind_28 (by decide) ?_
          refine lv_goto (tgt := 33) hx hb dX0_isKind_29 (by decide) ?_
          simp only [fa_lt, fa_le, fa_eq, ti0, ti1, ti2, ti3] at c_1 c_2 c_3 c_4
          exact prz (by rw [kok, decide_eq_true (by omega)]; rfl) hx hb hr hlocks dX0_isKind_33
        · skip
          refine lv_iload_n hx hb dX0_isKind_18 rfl (lv_at hl 1 rfl) ?_
          refine lv_iconst (v := 3) hx hb dX0_isKind_19 (by decide) ?_
          refine lv_icmp_ne (tgt := 32) hx hb dX0_isKind_20 (by decide) (fun c_5 => ?_) (fun c_5 => ?_)
          · skip
            refine lv_iconst (v := 0) hx hb dX0_isKind_32 (by decide) ?_
            simp only [fa_lt, fa_le, fa_eq, ti0, ti1, ti2, ti3] at c_1 c_2 c_3 c_4 c_5
            exact prz (by rw [kok, decide_eq_false (by omega)]; rfl) hx hb hr hlocks dX0_isKind_33
          · skip
            refine lv_iload_n hx hb dX0_isKind_23 rfl (lv_at hl 0 rfl) ?_
            refine lv_iconst (v := 2) hx hb dX0_isKind_24 (by decide) ?_
            refine lv_icmp_lt (tgt := 32) hx hb dX0_isKind_25 (by decide) (fun c_6 => ?_) (fun c_6 => ?_)
            · skip
              refine lv_iconst (v := 0) hx hb dX0_isKind_32 (by decide) ?_
              simp only [fa_lt, fa_le, fa_eq, ti0, ti1, ti2, ti3] at c_1 c_2 c_3 c_4 c_5 c_6
              exact prz (by rw [kok, decide_eq_false (by omega)]; rfl) hx hb hr hlocks dX0_isKind_33
            · skip
              refine lv_iconst (v := 1) hx hb dX0_isKind_28 (by decide) ?_
              refine lv_goto (tgt := 33) hx hb dX0_isKind_29 (by decide) ?_
              simp only [fa_lt, fa_le, fa_eq, ti0, ti1, ti2, ti3] at c_1 c_2 c_3 c_4 c_5 c_6
              exact prz (by rw [kok, decide_eq_true (by omega)]; rfl) hx hb hr hlocks dX0_isKind_33
set_option maxHeartbeats 4000000 in
/-- lead -/
theorem m_lead (l : Launch) (D : va_G) (hm mm : Nat) (dA : ClassId) (M : Nat → Int32) (th ap vp hg ri pl to : Int32) (te : Bool) (kd : Int32) (vi us ex : Bool) (A : Nat → Prop) (kd0 : Int32) (vi0 us0 ex0 : Bool) (ca : Int32) (fa : Int64) (oe : Bool) (mo wh ad root : Int32) (hkd : kd = kdF wh) (hvi : vi = viF mo) (hus : us = usF mo) (hex : ex = exF wh) (hro : root = if vi = true then vp else ap) : Met l yX2_lead (ws_ yX2_lead cX2_lead 9 (some .long)) (rmX 7 189) (va_Pc [.ref hm, .int mo, .int wh, .int ad] (Gm D vCl [(dA, .int)] A (mW hm mm dA M th ap vp hg ri pl to te kd0 vi0 us0 ex0 (ca, fa, oe)))) (GQl D vCl A (mW hm mm dA M th ap vp hg ri pl to te kd vi us ex) (poM (tr M hg kd root vi us (if vi = true then eb ri 2 else eb ri 0) ex (eb ri 1 || (vi && eb ri 3)) (eb ri 1) (tn ad)))) 0 0 A := by
  refine mst (by decide) (Nat.le_of_ble_eq_true rfl) ?_
  intro p ee s m below meth c hx hb hr hlocks hml hown hts hin hB ls hl
  have hl : lv_has ls 9 [(0, .ref hm), (1, .int mo), (2, .int wh), (3, .int ad)] := hl
  unfold viF at hvi
  unfold usF at hus
  unfold exF at hex
  obtain ⟨hP, hK, hD⟩ := hB
  have hP : va_P D vCl [(hm, mdO th mm ap vp hg ri pl to te kd0 vi0 us0 ex0 ca fa oe), (mm, arO dA M)] s.heap := hP
  have hD : va_D A [(hm, mdO th mm ap vp hg ri pl to te kd0 vi0 us0 ex0 ca fa oe), (mm, arO dA M)] := hD
  have hS : va_S A s.heap s.heap [] := va_S.rf
  have had := tn_lt ad
  have hrt := rt1_lt root
  refine lv_aload_n hx hb dX2_lead_0 rfl (lv_at hl 0 rfl) ?_
  refine lv_iload_n hx hb dX2_lead_1 rfl (lv_at hl 2 rfl) ?_
  refine lv_iconst (v := 3) hx hb dX2_lead_2 (by decide) ?_
  refine jn (X := Int32) (fun x_ => F0 m 11 ls [.int x_, .ref hm]) (fun x_ => x_ = kd) ?_ (fun K_1 => ?_)
  · intro x_ ex_
    have ex_ := ex_.symm
    subst ex_
    refine va_put (D := D) (ci := 2) (v := .int kd) (ty := .int) (C := RX2) (T := TX2) (N := 16) hx hb hts in_X2 tyX2 tyX2_ok nmX2 hown hK hP hD hS 0 rfl rfl 9 (by decide) (hts _ q255) (fun _ h9 => h9) rfl (by decide +kernel) rfl rfl (Nat.le_of_ble_eq_true rfl) dX2_lead_11 (fun H locs hP hD hS => ?_)
    have hP : va_P D vCl [(hm, mdO th mm ap vp hg ri pl to te kd vi0 us0 ex0 ca fa oe), (mm, arO dA M)] H := hP
    have hD : va_D A [(hm, mdO th mm ap vp hg ri pl to te kd vi0 us0 ex0 ca fa oe), (mm, arO dA M)] := hD
    refine lv_aload_n hx hb dX2_lead_14 rfl (lv_at hl 0 rfl) ?_
    refine lv_iload_n hx hb dX2_lead_15 rfl (lv_at hl 2 rfl) ?_
    refine lv_iconst (v := 3) hx hb dX2_lead_16 (by decide) ?_
    refine jn (X := Int32) (fun x_ => F0 m 25 ls [.int x_, .ref hm]) (fun x_ => x_ = bI ex) ?_ (fun K_2 => ?_)
    · intro x_ ex_
      have ex_ := ex_.symm
      subst ex_
      refine va_put (D := D) (ci := 2) (v := .int (bI ex)) (ty := .boolean) (C := RX2) (T := TX2) (N := 16) hx hb hts in_X2 tyX2 tyX2_ok nmX2 hown hK hP hD hS 0 rfl rfl 12 (by decide) (hts _ q258) (fun _ h9 => h9) rfl (by decide +kernel) (nar_bI _) (fit_bI _) (Nat.le_of_ble_eq_true rfl) dX2_lead_25 (fun H locs hP hD hS => ?_)
      have hP : va_P D vCl [(hm, mdO th mm ap vp hg ri pl to te kd vi0 us0 ex ca fa oe), (mm, arO dA M)] H := hP
      have hD : va_D A [(hm, mdO th mm ap vp hg ri pl to te kd vi0 us0 ex ca fa oe), (mm, arO dA M)] := hD
      refine lv_aload_n hx hb dX2_lead_28 rfl (lv_at hl 0 rfl) ?_
      refine lv_iload_n hx hb dX2_lead_29 rfl (lv_at hl 1 rfl) ?_
      refine lv_iconst (v := 1) hx hb dX2_lead_30 (by decide) ?_
      refine jn (X := Int32) (fun x_ => F0 m 39 ls [.int x_, .ref hm]) (fun x_ => x_ = bI vi) ?_ (fun K_3 => ?_)
      · intro x_ ex_
        have ex_ := ex_.symm
        subst ex_
        refine va_put (D := D) (ci := 2) (v := .int (bI vi)) (ty := .boolean) (C := RX2) (T := TX2) (N := 16) hx hb hts in_X2 tyX2 tyX2_ok nmX2 hown hK hP hD hS 0 rfl rfl 10 (by decide) (hts _ q256) (fun _ h9 => h9) rfl (by decide +kernel) (nar_bI _) (fit_bI _) (Nat.le_of_ble_eq_true rfl) dX2_lead_39 (fun H locs hP hD hS => ?_)
        have hP : va_P D vCl [(hm, mdO th mm ap vp hg ri pl to te kd vi us0 ex ca fa oe), (mm, arO dA M)] H := hP
        have hD : va_D A [(hm, mdO th mm ap vp hg ri pl to te kd vi us0 ex ca fa oe), (mm, arO dA M)] := hD
        refine lv_aload_n hx hb dX2_lead_42 rfl (lv_at hl 0 rfl) ?_
        refine lv_iload_n hx hb dX2_lead_43 rfl (lv_at hl 1 rfl) ?_
        refine jn (X := Int32) (fun x_ => F0 m 57 ls [.int x_, .ref hm]) (fun x_ => x_ = bI us) ?_ (fun K_4 => ?_)
        · intro x_ ex_
          have ex_ := ex_.symm
          subst ex_
          refine va_put (D := D) (ci := 2) (v := .int (bI us)) (ty := .boolean) (C := RX2) (T := TX2) (N := 16) hx hb hts in_X2 tyX2 tyX2_ok nmX2 hown hK hP hD hS 0 rfl rfl 11 (by decide) (hts _ q257) (fun _ h9 => h9) rfl (by decide +kernel) (nar_bI _) (fit_bI _) (Nat.le_of_ble_eq_true rfl) dX2_lead_57 (fun H locs hP hD hS => ?_)
          have hP : va_P D vCl [(hm, mdO th mm ap vp hg ri pl to te kd vi us ex ca fa oe), (mm, arO dA M)] H := hP
          have hD : va_D A [(hm, mdO th mm ap vp hg ri pl to te kd vi us ex ca fa oe), (mm, arO dA M)] := hD
          refine lv_iload_n hx hb dX2_lead_60 rfl (lv_at hl 3 rfl) ?_
          refine lv_i2l hx hb dX2_lead_61 rfl ?_
          refine lv_ldc2 hx hb hown (hts _ q325) dX2_lead_62 ?_
          refine lv_land hx hb dX2_lead_65 ?_
          refine tpl (y := lN (tn ad)) (i2l_low ad) ?_
          refine lv_lstore (lv' := [(4, .long (lN (tn ad))), (0, .ref hm), (1, .int mo), (2, .int wh), (3, .int ad)]) hx hb dX2_lead_66 hl (by decide) rfl (fun ls hl => ?_)
          refine lv_aload_n hx hb dX2_lead_68 rfl (lv_at hl 1 rfl) ?_
          refine va_get (D := D) (ci := 2) (v := .int (bI vi)) (C := RX2) (T := TX2) (N := 16) hx hb hts in_X2 hown hK hP 0 rfl rfl 10 (by decide) (hts _ q256) (fun _ h9 => h9) rfl dX2_lead_69 ?_
          refine jn (X := Int32) (fun x_ => F0 m 86 ls [.int x_]) (fun x_ => x_ = root) ?_ (fun K_5 => ?_)
          · intro x_ ex_
            have ex_ := ex_.symm
            subst ex_
            refine lv_istore (lv' := [(6, .int root), (4, .long (lN (tn ad))), (0, .ref hm), (1, .int mo), (2, .int wh), (3, .int ad)]) hx hb dX2_lead_86 hl (by decide) rfl (fun ls hl => ?_)
            refine lv_iload hx hb dX2_lead_88 (lv_at hl 0 rfl) ?_
            refine lv_if_ge (tgt := 126) hx hb dX2_lead_90 (by decide) (fun c_6 => ?_) (fun c_6 => ?_)
            · skip
              refine lv_aload_n hx hb dX2_lead_126 rfl (lv_at hl 2 rfl) ?_
              refine va_get (D := D) (ci := 2) (v := .int (bI vi)) (C := RX2) (T := TX2) (N := 16) hx hb hts in_X2 hown hK hP 0 rfl rfl 10 (by decide) (hts _ q256) (fun _ h9 => h9) rfl dX2_lead_127 ?_
              refine lv_if_eq (tgt := 138) hx hb dX2_lead_130 (by decide) (fun c_7 => ?_) (fun c_7 => ?_)
              · skip
                have c_7 := (bI_z _).mp c_7
                refine lv_aload_n hx hb dX2_lead_138 rfl (lv_at hl 2 rfl) ?_
                refine lv_lload hx hb dX2_lead_139 (lv_at hl 1 rfl) ?_
                refine gcl (va_runV (As := [.long (lN (tn ad))]) (rest := []) ⟨hx, hb, hml, hown, hts⟩ (m_inMemory l D hm mm dA M th ap vp hg ri pl to te kd vi us ex A ca fa oe (tn ad) (by omega)) (cwV 1 hts (lw_V q342 q344 qs12 q21 q345) rfl rfl rfl (by decide +kernel) ⟨Nat.le_of_ble_eq_true rfl, Nat.le_of_ble_eq_true rfl⟩) (pM_V hK hP hD 0 rfl rfl) rfl rfl hl.1 rfl (lv_room (Nat.le_of_ble_eq_true rfl)) dX2_lead_141 ⟨Nat.le_refl _, Nat.le_refl _⟩) hS (fun _ h => h) (fun r_8 u_8 H locs po_8 hP hz_8 hk_8 hS => ?_)
                obtain ⟨ca_8, fa_8, oe_8⟩ := u_8
                have hP : va_P D vCl [(hm, mdO th mm ap vp hg ri pl to te kd vi us ex ca_8 fa_8 oe_8), (mm, arO dA M)] H := hP
                have hD : va_D A [(hm, mdO th mm ap vp hg ri pl to te kd vi us ex ca_8 fa_8 oe_8), (mm, arO dA M)] := hD.re rfl
                refine lv_lstore (lv' := [(7, .long r_8), (6, .int root), (4, .long (lN (tn ad))), (0, .ref hm), (1, .int mo), (2, .int wh), (3, .int ad)]) hx hb dX2_lead_144 hl (by decide) rfl (fun ls hl => ?_)
                refine lv_lload hx hb dX2_lead_146 (lv_at hl 0 rfl) ?_
                refine lv_lconst (v := 0) hx hb dX2_lead_148 (by decide) ?_
                refine W.lcmp hx hb dX2_lead_149 ?_
                refine lv_if_lt (tgt := 160) hx hb dX2_lead_150 (by decide) (fun c_9 => ?_) (fun c_9 => ?_)
                · skip
                  refine lv_lload hx hb dX2_lead_160 (lv_at hl 0 rfl) ?_
                  refine lv_goto (tgt := 172) hx hb dX2_lead_162 (by decide) ?_
                  exact grl ((ca_8, fa_8, oe_8)) (by rw [c_7, trA' (fa_of_nlt' c_6)]; exact po_8) hP hS hx hb hr hlocks dX2_lead_172
                · skip
                  refine lv_aload_n hx hb dX2_lead_153 rfl (lv_at hl 3 rfl) ?_
                  refine va_get (D := D) (ci := 2) (v := .int (bI vi)) (C := RX2) (T := TX2) (N := 16) hx hb hts in_X2 hown hK hP 0 rfl rfl 10 (by decide) (hts _ q256) (fun _ h9 => h9) rfl dX2_lead_154 ?_
                  refine lv_if_ne (tgt := 165) hx hb dX2_lead_157 (by decide) (fun c_10 => absurd (bI_zf c_7) c_10) (fun c_10 => ?_)
                  refine lv_lload hx hb dX2_lead_160 (lv_at hl 0 rfl) ?_
                  refine lv_goto (tgt := 172) hx hb dX2_lead_162 (by decide) ?_
                  exact grl ((ca_8, fa_8, oe_8)) (by rw [c_7, trA' (fa_of_nlt' c_6)]; exact po_8) hP hS hx hb hr hlocks dX2_lead_172
              · skip
                have c_7 := (bI_n _).mp c_7
                refine lv_lload hx hb dX2_lead_133 (lv_at hl 1 rfl) ?_
                refine lv_goto (tgt := 144) hx hb dX2_lead_135 (by decide) ?_
                refine lv_lstore (lv' := [(7, .long (lN (tn ad))), (6, .int root), (4, .long (lN (tn ad))), (0, .ref hm), (1, .int mo), (2, .int wh), (3, .int ad)]) hx hb dX2_lead_144 hl (by decide) rfl (fun ls hl => ?_)
                refine lv_lload hx hb dX2_lead_146 (lv_at hl 0 rfl) ?_
                refine lv_lconst (v := 0) hx hb dX2_lead_148 (by decide) ?_
                refine W.lcmp hx hb dX2_lead_149 ?_
                refine lv_if_lt (tgt := 160) hx hb dX2_lead_150 (by decide) (fun c_11 => absurd c_11 (lg_nl (by omega))) (fun c_11 => ?_)
                refine lv_aload_n hx hb dX2_lead_153 rfl (lv_at hl 3 rfl) ?_
                refine va_get (D := D) (ci := 2) (v := .int (bI vi)) (C := RX2) (T := TX2) (N := 16) hx hb hts in_X2 hown hK hP 0 rfl rfl 10 (by decide) (hts _ q256) (fun _ h9 => h9) rfl dX2_lead_154 ?_
                refine lv_if_ne (tgt := 165) hx hb dX2_lead_157 (by decide) (fun c_12 => ?_) (fun c_12 => absurd c_12 (bI_zt c_7))
                refine lv_aload_n hx hb dX2_lead_165 rfl (lv_at hl 3 rfl) ?_
                refine lv_lload hx hb dX2_lead_166 (lv_at hl 0 rfl) ?_
                refine lv_iconst (v := 0) hx hb dX2_lead_168 (by decide) ?_
                refine gcl (va_runV (As := [.long (lN (tn ad)), .int 0]) (rest := []) ⟨hx, hb, hml, hown, hts⟩ (m_second l D hm mm dA M th ap vp hg ri pl to te kd vi us ex A ca fa oe (tn ad) false (by omega)) (cwV 2 hts (lw_V q337 q339 qs11 q21 q340) rfl rfl rfl (by decide +kernel) ⟨Nat.le_of_ble_eq_true rfl, Nat.le_of_ble_eq_true rfl⟩) (pM_V hK hP hD 0 rfl rfl) rfl rfl hl.1 rfl (lv_room (Nat.le_of_ble_eq_true rfl)) dX2_lead_169 ⟨Nat.le_refl _, Nat.le_refl _⟩) hS (fun _ h => h) (fun r_13 u_13 H locs po_13 hP hz_13 hk_13 hS => ?_)
                obtain ⟨ca_13, fa_13, oe_13⟩ := u_13
                have hP : va_P D vCl [(hm, mdO th mm ap vp hg ri pl to te kd vi us ex ca_13 fa_13 oe_13), (mm, arO dA M)] H := hP
                have hD : va_D A [(hm, mdO th mm ap vp hg ri pl to te kd vi us ex ca_13 fa_13 oe_13), (mm, arO dA M)] := hD.re rfl
                have hst : st1 M hg kd root vi us (if vi = true then eb ri 2 else eb ri 0) ex (eb ri 1 || (vi && eb ri 3)) (tn ad) = .inr (tn ad) := by rw [c_7]; exact stB' (fa_of_nlt' c_6)
                exact grl ((ca_13, fa_13, oe_13)) (by rw [tr_y (hst) c_7]; exact po_13) hP hS hx hb hr hlocks dX2_lead_172
            · skip
              refine lv_aload_n hx hb dX2_lead_93 rfl (lv_at hl 2 rfl) ?_
              refine lv_aload_n hx hb dX2_lead_94 rfl (lv_at hl 2 rfl) ?_
              refine va_get (D := D) (ci := 2) (v := .int (bI vi)) (C := RX2) (T := TX2) (N := 16) hx hb hts in_X2 hown hK hP 0 rfl rfl 10 (by decide) (hts _ q256) (fun _ h9 => h9) rfl dX2_lead_95 ?_
              refine lv_if_eq (tgt := 105) hx hb dX2_lead_98 (by decide) (fun c_14 => ?_) (fun c_14 => ?_)
              · skip
                have c_14 := (bI_z _).mp c_14
                refine lv_iconst (v := 0) hx hb dX2_lead_105 (by decide) ?_
                refine lv_iload hx hb dX2_lead_106 (lv_at hl 0 rfl) ?_
                refine lv_i2l hx hb dX2_lead_108 rfl ?_
                refine lv_ldc2 hx hb hown (hts _ q326) dX2_lead_109 ?_
                refine lv_land hx hb dX2_lead_112 ?_
                refine lv_ldc2 hx hb hown (hts _ q327) dX2_lead_113 ?_
                refine lv_lmul hx hb dX2_lead_116 ?_
                refine tpl (y := lN (rt1 root)) (rt1_l root) ?_
                refine lv_lload hx hb dX2_lead_117 (lv_at hl 1 rfl) ?_
                refine lv_iconst (v := 0) hx hb dX2_lead_119 (by decide) ?_
                refine gcl (va_runV (As := [.int 0, .long (lN (rt1 root)), .long (lN (tn ad)), .int 0]) (rest := []) ⟨hx, hb, hml, hown, hts⟩ (m_walkA l D hm mm dA M th ap vp hg ri pl to te kd vi us ex A ca fa oe 0 (rt1 root) (tn ad) false (by decide) (Or.inr ⟨hrt, had⟩) (by omega)) (cwV 4 hts (lw_V q328 q330 qs9 q21 q331) rfl rfl rfl (by decide +kernel) ⟨Nat.le_of_ble_eq_true rfl, Nat.le_of_ble_eq_true rfl⟩) (pM_V hK hP hD 0 rfl rfl) rfl rfl hl.1 rfl (lv_room (Nat.le_of_ble_eq_true rfl)) dX2_lead_120 ⟨Nat.le_refl _, Nat.le_refl _⟩) hS (fun _ h => h) (fun r_15 u_15 H locs po_15 hP hz_15 hk_15 hS => ?_)
                obtain ⟨ca_15, fa_15, oe_15⟩ := u_15
                have hP : va_P D vCl [(hm, mdO th mm ap vp hg ri pl to te kd vi us ex ca_15 fa_15 oe_15), (mm, arO dA M)] H := hP
                have hD : va_D A [(hm, mdO th mm ap vp hg ri pl to te kd vi us ex ca_15 fa_15 oe_15), (mm, arO dA M)] := hD.re rfl
                rw [okA_0] at po_15
                refine lv_goto (tgt := 144) hx hb dX2_lead_123 (by decide) ?_
                refine lv_lstore (lv' := [(7, .long r_15), (6, .int root), (4, .long (lN (tn ad))), (0, .ref hm), (1, .int mo), (2, .int wh), (3, .int ad)]) hx hb dX2_lead_144 hl (by decide) rfl (fun ls hl => ?_)
                refine lv_lload hx hb dX2_lead_146 (lv_at hl 0 rfl) ?_
                refine lv_lconst (v := 0) hx hb dX2_lead_148 (by decide) ?_
                refine W.lcmp hx hb dX2_lead_149 ?_
                refine lv_if_lt (tgt := 160) hx hb dX2_lead_150 (by decide) (fun c_16 => ?_) (fun c_16 => ?_)
                · skip
                  refine lv_lload hx hb dX2_lead_160 (lv_at hl 0 rfl) ?_
                  refine lv_goto (tgt := 172) hx hb dX2_lead_162 (by decide) ?_
                  exact grl ((ca_15, fa_15, oe_15)) (by rw [c_14, trA (fa_of_nle' c_6), if_neg (show ¬ false = true by decide), Bool.false_and, Bool.or_false]; exact po_15) hP hS hx hb hr hlocks dX2_lead_172
                · skip
                  refine lv_aload_n hx hb dX2_lead_153 rfl (lv_at hl 3 rfl) ?_
                  refine va_get (D := D) (ci := 2) (v := .int (bI vi)) (C := RX2) (T := TX2) (N := 16) hx hb hts in_X2 hown hK hP 0 rfl rfl 10 (by decide) (hts _ q256) (fun _ h9 => h9) rfl dX2_lead_154 ?_
                  refine lv_if_ne (tgt := 165) hx hb dX2_lead_157 (by decide) (fun c_17 => absurd (bI_zf c_14) c_17) (fun c_17 => ?_)
                  refine lv_lload hx hb dX2_lead_160 (lv_at hl 0 rfl) ?_
                  refine lv_goto (tgt := 172) hx hb dX2_lead_162 (by decide) ?_
                  exact grl ((ca_15, fa_15, oe_15)) (by rw [c_14, trA (fa_of_nle' c_6), if_neg (show ¬ false = true by decide), Bool.false_and, Bool.or_false]; exact po_15) hP hS hx hb hr hlocks dX2_lead_172
              · skip
                have c_14 := (bI_n _).mp c_14
                refine lv_iconst (v := 1) hx hb dX2_lead_101 (by decide) ?_
                refine lv_goto (tgt := 106) hx hb dX2_lead_102 (by decide) ?_
                refine lv_iload hx hb dX2_lead_106 (lv_at hl 0 rfl) ?_
                refine lv_i2l hx hb dX2_lead_108 rfl ?_
                refine lv_ldc2 hx hb hown (hts _ q326) dX2_lead_109 ?_
                refine lv_land hx hb dX2_lead_112 ?_
                refine lv_ldc2 hx hb hown (hts _ q327) dX2_lead_113 ?_
                refine lv_lmul hx hb dX2_lead_116 ?_
                refine tpl (y := lN (rt1 root)) (rt1_l root) ?_
                refine lv_lload hx hb dX2_lead_117 (lv_at hl 1 rfl) ?_
                refine lv_iconst (v := 0) hx hb dX2_lead_119 (by decide) ?_
                refine gcl (va_runV (As := [.int 1, .long (lN (rt1 root)), .long (lN (tn ad)), .int 0]) (rest := []) ⟨hx, hb, hml, hown, hts⟩ (m_walkB l D hm mm dA M th ap vp hg ri pl to te kd vi us ex A ca fa oe (rt1 root) (tn ad) false hrt had) (cwV 4 hts (lw_V q328 q330 qs9 q21 q331) rfl rfl rfl (by decide +kernel) ⟨Nat.le_of_ble_eq_true rfl, Nat.le_of_ble_eq_true rfl⟩) (pM_V hK hP hD 0 rfl rfl) rfl rfl hl.1 rfl (lv_room (Nat.le_of_ble_eq_true rfl)) dX2_lead_120 ⟨Nat.le_refl _, Nat.le_refl _⟩) hS (fun _ h => h) (fun r_18 u_18 H locs po_18 hP hz_18 hk_18 hS => ?_)
                rw [okA_1] at po_18
                have po_18 : poM (wk (rd1 M hg kd) (rt1 root) (tn ad) (ok1 us (eb ri 2) ex (eb ri 1 || eb ri 3) kd) (pagC kd, 0, false)) r_18 u_18 := po_18
                have hst : st1 M hg kd root vi us (if vi = true then eb ri 2 else eb ri 0) ex (eb ri 1 || (vi && eb ri 3)) (tn ad) = wk (rd1 M hg kd) (rt1 root) (tn ad) (ok1 us (eb ri 2) ex (eb ri 1 || eb ri 3) kd) (pagC kd, 0, false) := by rw [c_14]; exact if_pos (fa_of_nle' c_6)
                rcases hs_18 : wk (rd1 M hg kd) (rt1 root) (tn ad) (ok1 us (eb ri 2) ex (eb ri 1 || eb ri 3) kd) (pagC kd, 0, false) with f_18 | a_18
                · skip
                  rw [hs_18] at po_18
                  obtain ⟨rfl, rfl⟩ := po_18
                  have hP : va_P D vCl [(hm, mdO th mm ap vp hg ri pl to te kd vi us ex f_18.1 (lN f_18.2.1) f_18.2.2), (mm, arO dA M)] H := hP
                  have hD : va_D A [(hm, mdO th mm ap vp hg ri pl to te kd vi us ex f_18.1 (lN f_18.2.1) f_18.2.2), (mm, arO dA M)] := hD.re rfl
                  refine lv_goto (tgt := 144) hx hb dX2_lead_123 (by decide) ?_
                  refine lv_lstore (lv' := [(7, .long (-1)), (6, .int root), (4, .long (lN (tn ad))), (0, .ref hm), (1, .int mo), (2, .int wh), (3, .int ad)]) hx hb dX2_lead_144 hl (by decide) rfl (fun ls hl => ?_)
                  refine lv_lload hx hb dX2_lead_146 (lv_at hl 0 rfl) ?_
                  refine lv_lconst (v := 0) hx hb dX2_lead_148 (by decide) ?_
                  refine W.lcmp hx hb dX2_lead_149 ?_
                  refine lv_if_lt (tgt := 160) hx hb dX2_lead_150 (by decide) (fun c_19 => ?_) (fun c_19 => absurd (show lg_cmp (-1) 0 < 0 by decide) c_19)
                  refine lv_lload hx hb dX2_lead_160 (lv_at hl 0 rfl) ?_
                  refine lv_goto (tgt := 172) hx hb dX2_lead_162 (by decide) ?_
                  exact grl ((f_18.1, lN f_18.2.1, f_18.2.2)) (by rw [tr_l (hst.trans hs_18)]; exact poM_l rfl rfl) hP hS hx hb hr hlocks dX2_lead_172
                · skip
                  rw [hs_18] at po_18
                  have po_18 : r_18 = lN a_18 := po_18
                  subst po_18
                  obtain ⟨ca_18, fa_18, oe_18⟩ := u_18
                  have hq_18 := wk_lt hs_18
                  have hP : va_P D vCl [(hm, mdO th mm ap vp hg ri pl to te kd vi us ex ca_18 fa_18 oe_18), (mm, arO dA M)] H := hP
                  have hD : va_D A [(hm, mdO th mm ap vp hg ri pl to te kd vi us ex ca_18 fa_18 oe_18), (mm, arO dA M)] := hD.re rfl
                  refine lv_goto (tgt := 144) hx hb dX2_lead_123 (by decide) ?_
                  refine lv_lstore (lv' := [(7, .long (lN a_18)), (6, .int root), (4, .long (lN (tn ad))), (0, .ref hm), (1, .int mo), (2, .int wh), (3, .int ad)]) hx hb dX2_lead_144 hl (by decide) rfl (fun ls hl => ?_)
                  refine lv_lload hx hb dX2_lead_146 (lv_at hl 0 rfl) ?_
                  refine lv_lconst (v := 0) hx hb dX2_lead_148 (by decide) ?_
                  refine W.lcmp hx hb dX2_lead_149 ?_
                  refine lv_if_lt (tgt := 160) hx hb dX2_lead_150 (by decide) (fun c_20 => absurd c_20 (lg_nl (by omega))) (fun c_20 => ?_)
                  refine lv_aload_n hx hb dX2_lead_153 rfl (lv_at hl 3 rfl) ?_
                  refine va_get (D := D) (ci := 2) (v := .int (bI vi)) (C := RX2) (T := TX2) (N := 16) hx hb hts in_X2 hown hK hP 0 rfl rfl 10 (by decide) (hts _ q256) (fun _ h9 => h9) rfl dX2_lead_154 ?_
                  refine lv_if_ne (tgt := 165) hx hb dX2_lead_157 (by decide) (fun c_21 => ?_) (fun c_21 => absurd c_21 (bI_zt c_14))
                  refine lv_aload_n hx hb dX2_lead_165 rfl (lv_at hl 3 rfl) ?_
                  refine lv_lload hx hb dX2_lead_166 (lv_at hl 0 rfl) ?_
                  refine lv_iconst (v := 0) hx hb dX2_lead_168 (by decide) ?_
                  refine gcl (va_runV (As := [.long (lN a_18), .int 0]) (rest := []) ⟨hx, hb, hml, hown, hts⟩ (m_second l D hm mm dA M th ap vp hg ri pl to te kd vi us ex A ca_18 fa_18 oe_18 a_18 false (by omega)) (cwV 2 hts (lw_V q337 q339 qs11 q21 q340) rfl rfl rfl (by decide +kernel) ⟨Nat.le_of_ble_eq_true rfl, Nat.le_of_ble_eq_true rfl⟩) (pM_V hK hP hD 0 rfl rfl) rfl rfl hl.1 rfl (lv_room (Nat.le_of_ble_eq_true rfl)) dX2_lead_169 ⟨Nat.le_refl _, Nat.le_refl _⟩) hS (fun _ h => h) (fun r_22 u_22 H locs po_22 hP hz_22 hk_22 hS => ?_)
                  obtain ⟨ca_22, fa_22, oe_22⟩ := u_22
                  have hP : va_P D vCl [(hm, mdO th mm ap vp hg ri pl to te kd vi us ex ca_22 fa_22 oe_22), (mm, arO dA M)] H := hP
                  have hD : va_D A [(hm, mdO th mm ap vp hg ri pl to te kd vi us ex ca_22 fa_22 oe_22), (mm, arO dA M)] := hD.re rfl
                  exact grl ((ca_22, fa_22, oe_22)) (by rw [tr_y (hst.trans hs_18) c_14]; exact po_22) hP hS hx hb hr hlocks dX2_lead_172
          · skip
            refine lv_if_eq (tgt := 82) hx hb dX2_lead_72 (by decide) (fun c_23 => ?_) (fun c_23 => ?_)
            · skip
              have c_23 := (bI_z _).mp c_23
              refine lv_aload_n hx hb dX2_lead_82 rfl (lv_at hl 1 rfl) ?_
              refine va_get (D := D) (ci := 2) (v := .int ap) (C := RX2) (T := TX2) (N := 16) hx hb hts in_X2 hown hK hP 0 rfl rfl 2 (by decide) (hts _ q248) (fun _ h9 => h9) rfl dX2_lead_83 ?_
              exact K_5 _ (by rw [hro]; simp [c_23])
            · skip
              have c_23 := (bI_n _).mp c_23
              refine lv_aload_n hx hb dX2_lead_75 rfl (lv_at hl 1 rfl) ?_
              refine va_get (D := D) (ci := 2) (v := .int vp) (C := RX2) (T := TX2) (N := 16) hx hb hts in_X2 hown hK hP 0 rfl rfl 3 (by decide) (hts _ q249) (fun _ h9 => h9) rfl dX2_lead_76 ?_
              refine lv_goto (tgt := 86) hx hb dX2_lead_79 (by decide) ?_
              exact K_5 _ (by rw [hro]; simp [c_23])
        · skip
          refine lv_if_eq (tgt := 52) hx hb dX2_lead_44 (by decide) (fun c_24 => ?_) (fun c_24 => ?_)
          · skip
            refine lv_iconst (v := 1) hx hb dX2_lead_52 (by decide) ?_
            refine lv_goto (tgt := 57) hx hb dX2_lead_53 (by decide) ?_
            exact K_4 _ (by rw [hus]; simp [bI, c_24])
          · skip
            refine lv_iload_n hx hb dX2_lead_47 rfl (lv_at hl 1 rfl) ?_
            refine lv_iconst (v := 2) hx hb dX2_lead_48 (by decide) ?_
            refine lv_icmp_ne (tgt := 56) hx hb dX2_lead_49 (by decide) (fun c_25 => ?_) (fun c_25 => ?_)
            · skip
              refine lv_iconst (v := 0) hx hb dX2_lead_56 (by decide) ?_
              exact K_4 _ (by rw [hus]; simp [bI, c_24, c_25])
            · skip
              refine lv_iconst (v := 1) hx hb dX2_lead_52 (by decide) ?_
              refine lv_goto (tgt := 57) hx hb dX2_lead_53 (by decide) ?_
              exact K_4 _ (by rw [hus]; simp [bI, c_24, c_25])
      · skip
        refine lv_icmp_le (tgt := 38) hx hb dX2_lead_31 (by decide) (fun c_26 => ?_) (fun c_26 => ?_)
        · skip
          refine lv_iconst (v := 0) hx hb dX2_lead_38 (by decide) ?_
          exact K_3 _ (by rw [hvi, decide_eq_true c_26]; rfl)
        · skip
          refine lv_iconst (v := 1) hx hb dX2_lead_34 (by decide) ?_
          refine lv_goto (tgt := 39) hx hb dX2_lead_35 (by decide) ?_
          exact K_3 _ (by rw [hvi, decide_eq_false c_26]; rfl)
    · skip
      refine lv_icmp_ne (tgt := 24) hx hb dX2_lead_17 (by decide) (fun c_27 => ?_) (fun c_27 => ?_)
      · skip
        refine lv_iconst (v := 0) hx hb dX2_lead_24 (by decide) ?_
        exact K_2 _ (by rw [hex]; simp [bI, c_27])
      · skip
        refine lv_iconst (v := 1) hx hb dX2_lead_20 (by decide) ?_
        refine lv_goto (tgt := 25) hx hb dX2_lead_21 (by decide) ?_
        exact K_2 _ (by rw [hex]; simp [bI, c_27])
  · skip
    refine lv_icmp_ne (tgt := 10) hx hb dX2_lead_3 (by decide) (fun c_28 => ?_) (fun c_28 => ?_)
    · skip
      refine lv_iload_n hx hb dX2_lead_10 rfl (lv_at hl 2 rfl) ?_
      exact K_1 _ (by rw [hkd, kdF]; simp [c_28])
    · skip
      refine lv_iconst (v := 1) hx hb dX2_lead_6 (by decide) ?_
      refine lv_goto (tgt := 11) hx hb dX2_lead_7 (by decide) ?_
      exact K_1 _ (by rw [hkd, kdF]; simp [c_28])
end
section
/-! the answers of both sides, as values -/
set_option maxRecDepth 100000
abbrev tS : Type := Int32 × Int32 × Bool
def tP (sp : Flt ⊕ Nat) : Int32 × tS := match sp with
  | .inl f => (f.1, -1, nI (f.2.1 / 4), f.2.2)
  | .inr a => (0, nI a, 0, false)
def isOk (sp : Flt ⊕ Nat) : Bool := match sp with
  | .inl _ => false
  | .inr _ => true
def tT (M : Nat → Int32) (ap vp hg ri mo k ad : Int32) (t : tS) : Int32 × tS := if kok mo k = true then tP (trL M ap vp hg ri mo k (tn ad)) else (-1, t)
def pgc (g : Nat → Bool) : Nat → Nat → Int32 → Int32
  | 0, _, ac => ac
  | n + 1, fr, ac => if fr < 4294967296 then pgc g n (fr + 4096) (ac + bI (g fr)) else ac
def pn (n : Int32) : Bool := decide (1 ≤ n.toInt ∧ n.toInt ≤ 1024)
def pgs (M : Nat → Int32) (ap vp hg ri mo k ad n : Int32) : Int32 := if (kok mo k && pn n) = true then pgc (fun fr => isOk (trL M ap vp hg ri mo k fr)) n.toInt.toNat (tn ad) 0 else -1
theorem pn_lt {n : Int32} (h : n < 1) : pn n = false := by
  rw [fa_lt, ti1] at h
  exact decide_eq_false (by omega)
theorem ti1024 : (1024 : Int32).toInt = 1024 := by decide
theorem pn_gt {n : Int32} (h : ¬ n ≤ 1024) : pn n = false := by
  rw [fa_le, ti1024] at h
  exact decide_eq_false (by omega)
theorem pn_y {n : Int32} (h1 : ¬ n < 1) (h2 : n ≤ 1024) : pn n = true := by
  rw [fa_lt, ti1] at h1
  rw [fa_le, ti1024] at h2
  exact decide_eq_true (by omega)
theorem pn_N {n : Int32} (h : pn n = true) : ∃ N, 1 ≤ N ∧ N ≤ 1024 ∧ n = nI N ∧ n.toInt.toNat = N := by
  have h := of_decide_eq_true h
  refine ⟨n.toInt.toNat, by omega, by omega, ?_, rfl⟩
  rw [fa_eq, nI_toInt (by omega)]
  omega
/-- words of memory -/
def wd (a : Int32) : Bool := decide (0 ≤ a.toInt ∧ a.toInt % 4 = 0 ∧ a.toInt < 262144)
def pkb (a : Int32) : Bool := decide (0 ≤ a.toInt ∧ a.toInt % 4 = 0 ∧ a.toInt ≤ 262124)
def wdR (M : Nat → Int32) (a : Int32) : Int32 := if wd a = true then M (a.toInt.toNat / 4) else 0
def pkR (a : Int32) : Int32 := if pkb a = true then a + 20 else -1
def pk5 (M : Nat → Int32) (k : Nat) (v1 v2 v3 v4 v5 : Int32) : Nat → Int32 := upd (upd (upd (upd (upd M k v1) (k + 1) v2) (k + 2) v3) (k + 3) v4) (k + 4) v5
def pkM (M : Nat → Int32) (a v1 v2 v3 v4 v5 : Int32) : Nat → Int32 := if pkb a = true then pk5 M (a.toInt.toNat / 4) v1 v2 v3 v4 v5 else M
theorem wd_n {a : Int32} (h : wd a = true) : ∃ n, n < 65536 ∧ a = nI (4 * n) ∧ a.toInt.toNat / 4 = n := by
  have h := of_decide_eq_true h
  refine ⟨a.toInt.toNat / 4, by omega, ?_, rfl⟩
  rw [fa_eq, nI_toInt (by omega)]
  omega
theorem pkb_n {a : Int32} (h : pkb a = true) : ∃ n, n < 65532 ∧ a = nI (4 * n) ∧ a.toInt.toNat / 4 = n := by
  have h := of_decide_eq_true h
  refine ⟨a.toInt.toNat / 4, by omega, ?_, rfl⟩
  rw [fa_eq, nI_toInt (by omega)]
  omega
/-- bounds of what is told -/
theorem tr_in {M : Nat → Int32} {hg k root : Int32} {vi us sm fx tx mx : Bool} {ad a : Nat} (h : tr M hg k root vi us sm fx tx mx ad = .inr a) : a < 262144 := by
  unfold tr inm at h
  split at h
  · cases h
  · split at h
    · cases h; assumption
    · cases h
theorem wk_fg {rd : Nat → Flt ⊕ Int32} {root fr : Nat} {ok : Int32 → Bool} {f g : Flt} (h : wk rd root fr ok f = .inl g) : (∃ a, (a = root + 4 * (fr / 4194304) ∨ a ≤ 17179869180) ∧ rd a = .inl g) ∨ g = f := by
  unfold wk at h
  split at h
  · rename_i hq
    cases h
    exact Or.inl ⟨_, Or.inl rfl, hq⟩
  · split at h
    · split at h
      · rename_i x _ _ _ _ hq
        cases h
        have := tgt_lt x
        exact Or.inl ⟨_, Or.inr (by omega), hq⟩
      · unfold wk2 at h
        split at h
        · cases h
        · cases h; exact Or.inr rfl
    · split at h
      · cases h
      · cases h; exact Or.inr rfl
theorem rdx_fb {M : Nat → Int32} {hg k : Int32} {vi : Bool} {a : Nat} {f : Flt} (h : rdx M hg k vi a = .inl f) : f.2.1 = 0 ∨ f.2.1 = a := by
  cases vi
  · have := ldm_f (show ldm M k a = .inl f from h)
    exact Or.inl (by rw [this])
  · have h : rd1 M hg k a = .inl f := h
    unfold rd1 at h
    split at h
    · rename_i g hq
      cases h
      rcases s2_f hq with rfl | rfl
      · exact Or.inl rfl
      · exact Or.inr rfl
    · exact Or.inl (by rw [ldm_f h])
theorem tr_fb {M : Nat → Int32} {hg k root : Int32} {vi us sm fx tx mx : Bool} {ad : Nat} {f : Flt} (had : ad < 4294967296) (h : tr M hg k root vi us sm fx tx mx ad = .inl f) : f.2.1 < 17179869184 := by
  cases hs : st1 M hg k root vi us sm fx tx ad with
  | inl g =>
    rw [tr_l hs] at h
    cases h
    unfold st1 at hs
    split at hs
    · rcases wk_fg hs with ⟨a, ha, hq⟩ | rfl
      · have hr := rt1_lt root
        rcases rdx_fb hq with h0 | h0 <;> omega
      · exact Nat.zero_lt_succ _
    · cases hs
  | inr a =>
    have ha := st1_lt had hs
    cases vi with
    | false =>
      rw [tr_n hs rfl] at h
      unfold inm at h
      split at h
      · rename_i hq; cases hq
      · split at h
        · cases h
        · cases h; exact Nat.zero_lt_succ _
    | true =>
      rw [tr_y hs rfl] at h
      unfold inm at h
      split at h
      · rename_i g hq
        cases h
        rcases s2_f hq with rfl | rfl
        · exact Nat.zero_lt_succ _
        · exact ha
      · split at h
        · cases h
        · cases h; exact Nat.zero_lt_succ _
/-- the cells of a world -/
def inW (ws : va_W) : Nat → Prop := fun q => ∃ (k : Nat) (e : va_E), ws[k]? = some (q, e)
theorem va_D.own {A : Nat → Prop} {ws : va_W} (h : va_D A ws) : va_D (inW ws) ws := ⟨h.1, fun k q hk => ⟨k, q.2, hk⟩⟩
theorem inW_in {A : Nat → Prop} {ws : va_W} (h : va_D A ws) : ∀ q, inW ws q → A q := fun q ⟨k, e, hk⟩ => h.2 k (q, e) hk
theorem gjoin {A : Nat → Prop} {D : va_G} {cl : List vw_C} {ws wc wr : va_W} {H H1 : Heap} (hP : va_P D cl ws H) (hD : va_D A ws) (isC isR : List Nat) (hC : isC.map (fun i => ws[i]?) = wc.map some) (hR : isR.map (fun i => ws[i]?) = wr.map some) (hdis : ∀ i ∈ isR, i ∉ isC)
    (hk : ∀ q : Nat, q < H.size → ¬ inW wc q → H1[q]? = H[q]?) : va_P D cl wr H1 := by
  have at' : ∀ {is : List Nat} {w : va_W}, is.map (fun i => ws[i]?) = w.map some → ∀ (k : Nat) (q : Nat × va_E), w[k]? = some q → ∃ i, is[k]? = some i ∧ ws[i]? = some q := by
    intro is w hs k q hq
    have h1 : (is.map (fun i => ws[i]?))[k]? = some (some q) := by rw [hs, List.getElem?_map, hq]; rfl
    rw [List.getElem?_map] at h1
    cases hi : is[k]? with
    | none => rw [hi] at h1; cases h1
    | some i => rw [hi] at h1; exact ⟨i, rfl, Option.some.inj h1⟩
  intro k q hq
  obtain ⟨i, h1, h2⟩ := at' hR k q hq
  refine (hP i q h2).kept (hk q.1 (hP i q h2).lt ?_)
  rintro ⟨k2, e, h⟩
  obtain ⟨j, h3, h4⟩ := at' hC k2 (q.1, e) h
  have hij := hD.1 i j q (q.1, e) h2 h4 rfl
  subst hij
  exact hdis i (List.mem_of_getElem? h1) (List.mem_of_getElem? h3)
theorem pX_W {s : State} {H : Heap} {locs : List Loc} {D : va_G} {cl : List vw_C} {A A1 : Nat → Prop} {tys : List (ClassId × FieldType)} {ws : va_W} {As : List Value} {b ci N : Nat} {C : String} {T : u_T} {fs : List Value} (hK : va_K D cl tys s) (hP : va_P D cl ws H) (hD : va_D A1 ws) (hZ : Stt A s) (hS : va_S A s.heap H locs) (hA : ∀ q, A1 q → A q) (q0 : Nat) (he : ws[q0]? = some (b, .inr (ci, fs))) (hc : cl[ci]? = some (C, T, N)) : PreV s H C b (va_Pc (.ref b :: As) (Gx D cl tys A1 ws)) As :=
  ⟨fun a U g mk h => ⟨h.1, h.2.1, va_K.moved (u := U) (U := U.calling g mk a) (Vm.Alike.refl U.vm) h.2.2.1, h.2.2.2.1, h.2.2.2.2.at (U := U.calling g mk a) (va_S.rf (A := A1)) rfl (Vm.Alike.refl U.vm)⟩, va_recv hK hP hc he, fun U hU hW => ⟨rfl, by rw [hU]; exact hP, va_K.moved hW.alike hK, hD, (hZ.at hS hU hW.alike).narrow hA⟩⟩
/-- the worlds of both sides, as the law sees them -/
abbrev mJ : Type := Int32 × Bool × Bool × Bool × mU
abbrev mV (hm mm : Nat) (dA : ClassId) (M : Nat → Int32) (th ap vp hg ri : Int32) (t : tS) (j : mJ) : va_W := [(hm, mdO th mm ap vp hg ri t.1 t.2.1 t.2.2 j.1 j.2.1 j.2.2.1 j.2.2.2.1 j.2.2.2.2.1 j.2.2.2.2.2.1 j.2.2.2.2.2.2), (mm, arO dA M)]
abbrev xJ : Type := Bool × Bool × Bool × wU
abbrev xV (hx mm hw : Nat) (dA : ClassId) (M : Nat → Int32) (ap vp hg ri : Int32) (t : tS) (j : xJ) : va_W := [(hx, swO mm hw ri t.1 t.2.1 t.2.2), (mm, arO dA M), (hw, wkO mm j.1 j.2.1 j.2.2.1 ap vp hg (eb ri 0) (eb ri 1) (eb ri 2) (eb ri 3) j.2.2.2.1 j.2.2.2.2.1 j.2.2.2.2.2.1 j.2.2.2.2.2.2.1 j.2.2.2.2.2.2.2)]
end
section
/-! StageWalkerModel: what the law calls -/
set_option maxRecDepth 100000
set_option maxHeartbeats 4000000 in
/-- place -/
theorem m_mplace (l : Launch) (D : va_G) (hm mm : Nat) (dA : ClassId) (M : Nat → Int32) (th ap vp hg ri : Int32) (pl to : Int32) (te : Bool) (kd : Int32) (vi us ex : Bool) (ca : Int32) (fa : Int64) (oe : Bool) : Met l yX2_place (ws_ yX2_place cX2_place 1 (some .int)) (rmX 0 0) (va_Pc [.ref hm] (Gr D vCl [(dA, .int)] (mV hm mm dA M th ap vp hg ri (pl, to, te) (kd, vi, us, ex, ca, fa, oe)))) (QP (.int pl)) 0 0 NoA := by
  refine mst (by decide) (Nat.le_of_ble_eq_true rfl) ?_
  intro p ee s m below meth c hx hb hr hlocks hml hown hts hin hB ls hl
  have hl : lv_has ls 1 [(0, .ref hm)] := hl
  obtain ⟨hP, hK⟩ := hB
  have hP : va_P D vCl [(hm, mdO th mm ap vp hg ri pl to te kd vi us ex ca fa oe), (mm, arO dA M)] s.heap := hP
  refine lv_aload_n hx hb dX2_place_0 rfl (lv_at hl 0 rfl) ?_
  refine va_get (D := D) (ci := 2) (v := .int pl) (C := RX2) (T := TX2) (N := 16) hx hb hts in_X2 hown hK hP 0 rfl rfl 6 (by decide) (hts _ q252) (fun _ h9 => h9) rfl dX2_place_1 ?_
  exact pri rfl hx hb hr hlocks dX2_place_4
set_option maxHeartbeats 4000000 in
/-- second_2 -/
theorem m_msecond (l : Launch) (D : va_G) (hm mm : Nat) (dA : ClassId) (M : Nat → Int32) (th ap vp hg ri : Int32) (pl to : Int32) (te : Bool) (kd : Int32) (vi us ex : Bool) (ca : Int32) (fa : Int64) (oe : Bool) : Met l yX2_second_2 (ws_ yX2_second_2 cX2_second_2 1 (some .int)) (rmX 0 0) (va_Pc [.ref hm] (Gr D vCl [(dA, .int)] (mV hm mm dA M th ap vp hg ri (pl, to, te) (kd, vi, us, ex, ca, fa, oe)))) (QP (.int to)) 0 0 NoA := by
  refine mst (by decide) (Nat.le_of_ble_eq_true rfl) ?_
  intro p ee s m below meth c hx hb hr hlocks hml hown hts hin hB ls hl
  have hl : lv_has ls 1 [(0, .ref hm)] := hl
  obtain ⟨hP, hK⟩ := hB
  have hP : va_P D vCl [(hm, mdO th mm ap vp hg ri pl to te kd vi us ex ca fa oe), (mm, arO dA M)] s.heap := hP
  refine lv_aload_n hx hb dX2_second_2_0 rfl (lv_at hl 0 rfl) ?_
  refine va_get (D := D) (ci := 2) (v := .int to) (C := RX2) (T := TX2) (N := 16) hx hb hts in_X2 hown hK hP 0 rfl rfl 7 (by decide) (hts _ q253) (fun _ h9 => h9) rfl dX2_second_2_1 ?_
  exact pri rfl hx hb hr hlocks dX2_second_2_4
set_option maxHeartbeats 4000000 in
/-- entry -/
theorem m_mentry (l : Launch) (D : va_G) (hm mm : Nat) (dA : ClassId) (M : Nat → Int32) (th ap vp hg ri : Int32) (pl to : Int32) (te : Bool) (kd : Int32) (vi us ex : Bool) (ca : Int32) (fa : Int64) (oe : Bool) : Met l yX2_entry (ws_ yX2_entry cX2_entry 1 (some .boolean)) (rmX 0 0) (va_Pc [.ref hm] (Gr D vCl [(dA, .int)] (mV hm mm dA M th ap vp hg ri (pl, to, te) (kd, vi, us, ex, ca, fa, oe)))) (QP (.int (bI te))) 0 0 NoA := by
  refine mst (by decide) (Nat.le_of_ble_eq_true rfl) ?_
  intro p ee s m below meth c hx hb hr hlocks hml hown hts hin hB ls hl
  have hl : lv_has ls 1 [(0, .ref hm)] := hl
  obtain ⟨hP, hK⟩ := hB
  have hP : va_P D vCl [(hm, mdO th mm ap vp hg ri pl to te kd vi us ex ca fa oe), (mm, arO dA M)] s.heap := hP
  refine lv_aload_n hx hb dX2_entry_0 rfl (lv_at hl 0 rfl) ?_
  refine va_get (D := D) (ci := 2) (v := .int (bI te)) (C := RX2) (T := TX2) (N := 16) hx hb hts in_X2 hown hK hP 0 rfl rfl 8 (by decide) (hts _ q254) (fun _ h9 => h9) rfl dX2_entry_1 ?_
  exact prz rfl hx hb hr hlocks dX2_entry_4
theorem rem4 {n : Nat} (h : n < 2147483648) : nI n - nI n / 4 * 4 = nI (n % 4) := pk_rem (d := 4) h (by decide) (by decide)
theorem div4 {n : Nat} (h : n < 2147483648) : nI n / 4 = nI (n / 4) := pk_div (d := 4) h (by decide) (by decide)
theorem rem4z {a : Int32} (h0 : ¬ a < 0) : (a - a / 4 * 4 = 0) ↔ a.toInt % 4 = 0 := by
  obtain ⟨n, hn, rfl⟩ := nI_of h0
  rw [rem4 hn, ← nI_0, nI_eq (by omega) (by decide), nI_toInt hn]
  omega
theorem ti262144 : (262144 : Int32).toInt = 262144 := by decide
theorem ti262124 : (262124 : Int32).toInt = 262124 := by decide
theorem wd_1 {a : Int32} (h : a < 0) : wd a = false := by
  rw [fa_lt, ti0] at h; exact decide_eq_false (by omega)
theorem wd_2 {a : Int32} (h : 262144 ≤ a) : wd a = false := by
  rw [fa_le, ti262144] at h; exact decide_eq_false (by omega)
theorem wd_3 {a : Int32} (h0 : ¬ a < 0) (h : ¬ a - a / 4 * 4 = 0) : wd a = false := by
  have h := (not_congr (rem4z h0)).mp h; exact decide_eq_false (by omega)
theorem wd_4 {a : Int32} (h0 : ¬ a < 0) (h1 : ¬ 262144 ≤ a) (h : a - a / 4 * 4 = 0) : wd a = true := by
  have h := (rem4z h0).mp h
  rw [fa_lt, ti0] at h0
  rw [fa_le, ti262144] at h1
  exact decide_eq_true (by omega)
theorem pkb_1 {a : Int32} (h : a < 0) : pkb a = false := by
  rw [fa_lt, ti0] at h; exact decide_eq_false (by omega)
theorem pkb_2 {a : Int32} (h : ¬ a ≤ 262124) : pkb a = false := by
  rw [fa_le, ti262124] at h; exact decide_eq_false (by omega)
theorem pkb_3 {a : Int32} (h0 : ¬ a < 0) (h : ¬ a - a / 4 * 4 = 0) : pkb a = false := by
  have h := (not_congr (rem4z h0)).mp h; exact decide_eq_false (by omega)
theorem pkb_4 {a : Int32} (h0 : ¬ a < 0) (h1 : a ≤ 262124) (h : a - a / 4 * 4 = 0) : pkb a = true := by
  have h := (rem4z h0).mp h
  rw [fa_lt, ti0] at h0
  rw [fa_le, ti262124] at h1
  exact decide_eq_true (by omega)
theorem wdR_n {M : Nat → Int32} {a : Int32} (h : wd a = false) : wdR M a = 0 := if_neg (by rw [h]; decide)
theorem wdR_y {M : Nat → Int32} {a : Int32} (h : wd a = true) : wdR M a = M (a.toInt.toNat / 4) := if_pos h
theorem pkR_n {a : Int32} (h : pkb a = false) : pkR a = -1 := if_neg (by rw [h]; decide)
theorem pkR_y {a : Int32} (h : pkb a = true) : pkR a = a + 20 := if_pos h
theorem pkM_n {M : Nat → Int32} {a v1 v2 v3 v4 v5 : Int32} (h : pkb a = false) : pkM M a v1 v2 v3 v4 v5 = M := if_neg (by rw [h]; decide)
theorem pkM_y {M : Nat → Int32} {a v1 v2 v3 v4 v5 : Int32} (h : pkb a = true) : pkM M a v1 v2 v3 v4 v5 = pk5 M (a.toInt.toNat / 4) v1 v2 v3 v4 v5 := if_pos h
set_option maxHeartbeats 4000000 in
/-- word -/
theorem m_mword (l : Launch) (D : va_G) (hm mm : Nat) (dA : ClassId) (M : Nat → Int32) (th ap vp hg ri : Int32) (pl to : Int32) (te : Bool) (kd : Int32) (vi us ex : Bool) (ca : Int32) (fa : Int64) (oe : Bool) (a : Int32) : Met l yX2_word (ws_ yX2_word cX2_word 2 (some .int)) (rmX 0 0) (va_Pc [.ref hm, .int a] (Gr D vCl [(dA, .int)] (mV hm mm dA M th ap vp hg ri (pl, to, te) (kd, vi, us, ex, ca, fa, oe)))) (QP (.int (wdR M a))) 0 0 NoA := by
  refine mst (by decide) (Nat.le_of_ble_eq_true rfl) ?_
  intro p ee s m below meth c hx hb hr hlocks hml hown hts hin hB ls hl
  have hl : lv_has ls 2 [(0, .ref hm), (1, .int a)] := hl
  obtain ⟨hP, hK⟩ := hB
  have hP : va_P D vCl [(hm, mdO th mm ap vp hg ri pl to te kd vi us ex ca fa oe), (mm, arO dA M)] s.heap := hP
  refine lv_iload_n hx hb dX2_word_0 rfl (lv_at hl 1 rfl) ?_
  refine lv_if_lt (tgt := 16) hx hb dX2_word_1 (by decide) (fun c_1 => ?_) (fun c_1 => ?_)
  · skip
    refine lv_iconst (v := 0) hx hb dX2_word_16 (by decide) ?_
    refine lv_goto (tgt := 28) hx hb dX2_word_17 (by decide) ?_
    exact pri (wdR_n (wd_1 c_1)).symm hx hb hr hlocks dX2_word_28
  · skip
    refine lv_iload_n hx hb dX2_word_4 rfl (lv_at hl 1 rfl) ?_
    refine lv_ldc hx hb hown (hts _ q305) dX2_word_5 ?_
    refine lv_icmp_ge (tgt := 16) hx hb dX2_word_7 (by decide) (fun c_2 => ?_) (fun c_2 => ?_)
    · skip
      refine lv_iconst (v := 0) hx hb dX2_word_16 (by decide) ?_
      refine lv_goto (tgt := 28) hx hb dX2_word_17 (by decide) ?_
      exact pri (wdR_n (wd_2 c_2)).symm hx hb hr hlocks dX2_word_28
    · skip
      refine lv_iload_n hx hb dX2_word_10 rfl (lv_at hl 1 rfl) ?_
      refine lv_iconst (v := 4) hx hb dX2_word_11 (by decide) ?_
      refine lv_irem hx hb dX2_word_12 (by decide) ?_
      refine lv_if_eq (tgt := 20) hx hb dX2_word_13 (by decide) (fun c_3 => ?_) (fun c_3 => ?_)
      · skip
        have hwd := wd_4 c_1 c_2 c_3
        obtain ⟨n, hn, ea, en⟩ := wd_n hwd
        refine lv_aload_n hx hb dX2_word_20 rfl (lv_at hl 0 rfl) ?_
        refine va_get (D := D) (ci := 2) (v := .ref mm) (C := RX2) (T := TX2) (N := 16) hx hb hts in_X2 hown hK hP 0 rfl rfl 1 (by decide) (hts _ q247) (fun _ h9 => h9) rfl dX2_word_21 ?_
        refine lv_iload_n hx hb dX2_word_24 rfl (lv_at hl 1 rfl) ?_
        refine lv_iconst (v := 4) hx hb dX2_word_25 (by decide) ?_
        refine lv_idiv hx hb dX2_word_26 (by decide) ?_
        refine tpi (y := nI n) (by rw [ea, div4 (by omega)]; congr 1; omega) ?_
        refine va_iald hx hb hK hP 1 0 rfl rfl (vp_in_nI hn (by decide)) dX2_word_27 ?_
        exact pri (by rw [wdR_y hwd, en, nI_clamp (by omega)]) hx hb hr hlocks dX2_word_28
      · skip
        refine lv_iconst (v := 0) hx hb dX2_word_16 (by decide) ?_
        refine lv_goto (tgt := 28) hx hb dX2_word_17 (by decide) ?_
        exact pri (wdR_n (wd_3 c_1 c_3)).symm hx hb hr hlocks dX2_word_28
set_option maxHeartbeats 4000000 in
/-- poke -/
theorem m_mpoke (l : Launch) (D : va_G) (hm mm : Nat) (dA : ClassId) (M : Nat → Int32) (th ap vp hg ri : Int32) (A : Nat → Prop) (pl to : Int32) (te : Bool) (kd : Int32) (vi us ex : Bool) (ca : Int32) (fa : Int64) (oe : Bool) (a v1 v2 v3 v4 v5 : Int32) : Met l yX2_poke (ws_ yX2_poke cX2_poke 7 (some .int)) (rmX 0 0) (va_Pc [.ref hm, .int a, .int v1, .int v2, .int v3, .int v4, .int v5] (Gm D vCl [(dA, .int)] A (mV hm mm dA M th ap vp hg ri (pl, to, te) (kd, vi, us, ex, ca, fa, oe)))) (GQi D vCl A (fun _ : Unit => mV hm mm dA (pkM M a v1 v2 v3 v4 v5) th ap vp hg ri (pl, to, te) (kd, vi, us, ex, ca, fa, oe)) (fun r _ => r = pkR a)) 0 0 A := by
  refine mst (by decide) (Nat.le_of_ble_eq_true rfl) ?_
  intro p ee s m below meth c hx hb hr hlocks hml hown hts hin hB ls hl
  have hl : lv_has ls 7 [(0, .ref hm), (1, .int a), (2, .int v1), (3, .int v2), (4, .int v3), (5, .int v4), (6, .int v5)] := hl
  obtain ⟨hP, hK, hD⟩ := hB
  have hP : va_P D vCl [(hm, mdO th mm ap vp hg ri pl to te kd vi us ex ca fa oe), (mm, arO dA M)] s.heap := hP
  have hD : va_D A [(hm, mdO th mm ap vp hg ri pl to te kd vi us ex ca fa oe), (mm, arO dA M)] := hD
  have hS : va_S A s.heap s.heap [] := va_S.rf
  refine lv_iload_n hx hb dX2_poke_0 rfl (lv_at hl 1 rfl) ?_
  refine lv_if_lt (tgt := 16) hx hb dX2_poke_1 (by decide) (fun c_1 => ?_) (fun c_1 => ?_)
  · skip
    refine lv_iconst (v := (-1)) hx hb dX2_poke_16 (by decide) ?_
    have hpk := pkb_1 c_1
    exact gri () (pkR_n hpk).symm (by rw [pkM_n hpk]; exact hP) hS hx hb hr hlocks dX2_poke_17
  · skip
    refine lv_iload_n hx hb dX2_poke_4 rfl (lv_at hl 1 rfl) ?_
    refine lv_iconst (v := 4) hx hb dX2_poke_5 (by decide) ?_
    refine lv_irem hx hb dX2_poke_6 (by decide) ?_
    refine lv_if_ne (tgt := 16) hx hb dX2_poke_7 (by decide) (fun c_2 => ?_) (fun c_2 => ?_)
    · skip
      refine lv_iconst (v := (-1)) hx hb dX2_poke_16 (by decide) ?_
      have hpk := pkb_3 c_1 c_2
      exact gri () (pkR_n hpk).symm (by rw [pkM_n hpk]; exact hP) hS hx hb hr hlocks dX2_poke_17
    · skip
      refine lv_iload_n hx hb dX2_poke_10 rfl (lv_at hl 1 rfl) ?_
      refine lv_ldc hx hb hown (hts _ q300) dX2_poke_11 ?_
      refine lv_icmp_le (tgt := 18) hx hb dX2_poke_13 (by decide) (fun c_3 => ?_) (fun c_3 => ?_)
      · skip
        have hpk := pkb_4 c_1 c_3 c_2
        obtain ⟨n, hn, ea, en⟩ := pkb_n hpk
        have ed : a / 4 = nI n := by rw [ea, div4 (by omega)]; congr 1; omega
        refine lv_aload_n hx hb dX2_poke_18 rfl (lv_at hl 0 rfl) ?_
        refine va_get (D := D) (ci := 2) (v := .ref mm) (C := RX2) (T := TX2) (N := 16) hx hb hts in_X2 hown hK hP 0 rfl rfl 1 (by decide) (hts _ q247) (fun _ h9 => h9) rfl dX2_poke_19 ?_
        refine lv_iload_n hx hb dX2_poke_22 rfl (lv_at hl 1 rfl) ?_
        refine lv_iconst (v := 4) hx hb dX2_poke_23 (by decide) ?_
        refine lv_idiv hx hb dX2_poke_24 (by decide) ?_
        refine tpi (y := nI n) (ed) ?_
        refine lv_iload_n hx hb dX2_poke_25 rfl (lv_at hl 2 rfl) ?_
        refine va_iast hx hb hK hP hD hS 1 0 rfl rfl (vp_in_nI (by omega) (by decide)) dX2_poke_26 (fun H locs hP hD hS => ?_)
        have hP : va_P D vCl [(hm, mdO th mm ap vp hg ri pl to te kd vi us ex ca fa oe), (mm, arO dA (upd M (nI n).toNatClampNeg v1))] H := hP
        have hD : va_D A [(hm, mdO th mm ap vp hg ri pl to te kd vi us ex ca fa oe), (mm, arO dA (upd M (nI n).toNatClampNeg v1))] := hD
        refine lv_aload_n hx hb dX2_poke_27 rfl (lv_at hl 0 rfl) ?_
        refine va_get (D := D) (ci := 2) (v := .ref mm) (C := RX2) (T := TX2) (N := 16) hx hb hts in_X2 hown hK hP 0 rfl rfl 1 (by decide) (hts _ q247) (fun _ h9 => h9) rfl dX2_poke_28 ?_
        refine lv_iload_n hx hb dX2_poke_31 rfl (lv_at hl 1 rfl) ?_
        refine lv_iconst (v := 4) hx hb dX2_poke_32 (by decide) ?_
        refine lv_idiv hx hb dX2_poke_33 (by decide) ?_
        refine lv_iconst (v := 1) hx hb dX2_poke_34 (by decide) ?_
        refine lv_iadd hx hb dX2_poke_35 ?_
        refine tpi (y := nI (n + 1)) (by rw [ed]; exact nI_add n 1) ?_
        refine lv_iload_n hx hb dX2_poke_36 rfl (lv_at hl 3 rfl) ?_
        refine va_iast hx hb hK hP hD hS 1 0 rfl rfl (vp_in_nI (by omega) (by decide)) dX2_poke_37 (fun H locs hP hD hS => ?_)
        have hP : va_P D vCl [(hm, mdO th mm ap vp hg ri pl to te kd vi us ex ca fa oe), (mm, arO dA (upd (upd M (nI n).toNatClampNeg v1) (nI (n + 1)).toNatClampNeg v2))] H := hP
        have hD : va_D A [(hm, mdO th mm ap vp hg ri pl to te kd vi us ex ca fa oe), (mm, arO dA (upd (upd M (nI n).toNatClampNeg v1) (nI (n + 1)).toNatClampNeg v2))] := hD
        refine lv_aload_n hx hb dX2_poke_38 rfl (lv_at hl 0 rfl) ?_
        refine va_get (D := D) (ci := 2) (v := .ref mm) (C := RX2) (T := TX2) (N := 16) hx hb hts in_X2 hown hK hP 0 rfl rfl 1 (by decide) (hts _ q247) (fun _ h9 => h9) rfl dX2_poke_39 ?_
        refine lv_iload_n hx hb dX2_poke_42 rfl (lv_at hl 1 rfl) ?_
        refine lv_iconst (v := 4) hx hb dX2_poke_43 (by decide) ?_
        refine lv_idiv hx hb dX2_poke_44 (by decide) ?_
        refine lv_iconst (v := 2) hx hb dX2_poke_45 (by decide) ?_
        refine lv_iadd hx hb dX2_poke_46 ?_
        refine tpi (y := nI (n + 2)) (by rw [ed]; exact nI_add n 2) ?_
        refine lv_iload hx hb dX2_poke_47 (lv_at hl 4 rfl) ?_
        refine va_iast hx hb hK hP hD hS 1 0 rfl rfl (vp_in_nI (by omega) (by decide)) dX2_poke_49 (fun H locs hP hD hS => ?_)
        have hP : va_P D vCl [(hm, mdO th mm ap vp hg ri pl to te kd vi us ex ca fa oe), (mm, arO dA (upd (upd (upd M (nI n).toNatClampNeg v1) (nI (n + 1)).toNatClampNeg v2) (nI (n + 2)).toNatClampNeg v3))] H := hP
        have hD : va_D A [(hm, mdO th mm ap vp hg ri pl to te kd vi us ex ca fa oe), (mm, arO dA (upd (upd (upd M (nI n).toNatClampNeg v1) (nI (n + 1)).toNatClampNeg v2) (nI (n + 2)).toNatClampNeg v3))] := hD
        refine lv_aload_n hx hb dX2_poke_50 rfl (lv_at hl 0 rfl) ?_
        refine va_get (D := D) (ci := 2) (v := .ref mm) (C := RX2) (T := TX2) (N := 16) hx hb hts in_X2 hown hK hP 0 rfl rfl 1 (by decide) (hts _ q247) (fun _ h9 => h9) rfl dX2_poke_51 ?_
        refine lv_iload_n hx hb dX2_poke_54 rfl (lv_at hl 1 rfl) ?_
        refine lv_iconst (v := 4) hx hb dX2_poke_55 (by decide) ?_
        refine lv_idiv hx hb dX2_poke_56 (by decide) ?_
        refine lv_iconst (v := 3) hx hb dX2_poke_57 (by decide) ?_
        refine lv_iadd hx hb dX2_poke_58 ?_
        refine tpi (y := nI (n + 3)) (by rw [ed]; exact nI_add n 3) ?_
        refine lv_iload hx hb dX2_poke_59 (lv_at hl 5 rfl) ?_
        refine va_iast hx hb hK hP hD hS 1 0 rfl rfl (vp_in_nI (by omega) (by decide)) dX2_poke_61 (fun H locs hP hD hS => ?_)
        have hP : va_P D vCl [(hm, mdO th mm ap vp hg ri pl to te kd vi us ex ca fa oe), (mm, arO dA (upd (upd (upd (upd M (nI n).toNatClampNeg v1) (nI (n + 1)).toNatClampNeg v2) (nI (n + 2)).toNatClampNeg v3) (nI (n + 3)).toNatClampNeg v4))] H := hP
        have hD : va_D A [(hm, mdO th mm ap vp hg ri pl to te kd vi us ex ca fa oe), (mm, arO dA (upd (upd (upd (upd M (nI n).toNatClampNeg v1) (nI (n + 1)).toNatClampNeg v2) (nI (n + 2)).toNatClampNeg v3) (nI (n + 3)).toNatClampNeg v4))] := hD
        refine lv_aload_n hx hb dX2_poke_62 rfl (lv_at hl 0 rfl) ?_
        refine va_get (D := D) (ci := 2) (v := .ref mm) (C := RX2) (T := TX2) (N := 16) hx hb hts in_X2 hown hK hP 0 rfl rfl 1 (by decide) (hts _ q247) (fun _ h9 => h9) rfl dX2_poke_63 ?_
        refine lv_iload_n hx hb dX2_poke_66 rfl (lv_at hl 1 rfl) ?_
        refine lv_iconst (v := 4) hx hb dX2_poke_67 (by decide) ?_
        refine lv_idiv hx hb dX2_poke_68 (by decide) ?_
        refine lv_iconst (v := 4) hx hb dX2_poke_69 (by decide) ?_
        refine lv_iadd hx hb dX2_poke_70 ?_
        refine tpi (y := nI (n + 4)) (by rw [ed]; exact nI_add n 4) ?_
        refine lv_iload hx hb dX2_poke_71 (lv_at hl 6 rfl) ?_
        refine va_iast hx hb hK hP hD hS 1 0 rfl rfl (vp_in_nI (by omega) (by decide)) dX2_poke_73 (fun H locs hP hD hS => ?_)
        have hP : va_P D vCl [(hm, mdO th mm ap vp hg ri pl to te kd vi us ex ca fa oe), (mm, arO dA (upd (upd (upd (upd (upd M (nI n).toNatClampNeg v1) (nI (n + 1)).toNatClampNeg v2) (nI (n + 2)).toNatClampNeg v3) (nI (n + 3)).toNatClampNeg v4) (nI (n + 4)).toNatClampNeg v5))] H := hP
        have hD : va_D A [(hm, mdO th mm ap vp hg ri pl to te kd vi us ex ca fa oe), (mm, arO dA (upd (upd (upd (upd (upd M (nI n).toNatClampNeg v1) (nI (n + 1)).toNatClampNeg v2) (nI (n + 2)).toNatClampNeg v3) (nI (n + 3)).toNatClampNeg v4) (nI (n + 4)).toNatClampNeg v5))] := hD
        refine lv_iload_n hx hb dX2_poke_74 rfl (lv_at hl 1 rfl) ?_
        refine lv_bipush (v := 20) hx hb dX2_poke_75 (by decide) ?_
        refine lv_iadd hx hb dX2_poke_77 ?_
        have eM : pkM M a v1 v2 v3 v4 v5 = upd (upd (upd (upd (upd M (nI n).toNatClampNeg v1) (nI (n + 1)).toNatClampNeg v2) (nI (n + 2)).toNatClampNeg v3) (nI (n + 3)).toNatClampNeg v4) (nI (n + 4)).toNatClampNeg v5 := by rw [pkM_y hpk, en, nI_clamp (by omega), nI_clamp (by omega), nI_clamp (by omega), nI_clamp (by omega), nI_clamp (by omega)]; rfl
        exact gri () (pkR_y hpk).symm (by rw [eM]; exact hP) hS hx hb hr hlocks dX2_poke_78
      · skip
        refine lv_iconst (v := (-1)) hx hb dX2_poke_16 (by decide) ?_
        have hpk := pkb_2 c_3
        exact gri () (pkR_n hpk).symm (by rw [pkM_n hpk]; exact hP) hS hx hb hr hlocks dX2_poke_17
set_option maxHeartbeats 4000000 in
/-- roots -/
theorem m_mroots (l : Launch) (D : va_G) (hm mm : Nat) (dA : ClassId) (M : Nat → Int32) (th ap vp hg ri : Int32) (A : Nat → Prop) (pl to : Int32) (te : Bool) (kd : Int32) (vi us ex : Bool) (ca : Int32) (fa : Int64) (oe : Bool) (a b d : Int32) : Met l yX2_roots (ws_ yX2_roots cX2_roots 4 none) (rmX 0 0) (va_Pc [.ref hm, .int a, .int b, .int d] (Gm D vCl [(dA, .int)] A (mV hm mm dA M th ap vp hg ri (pl, to, te) (kd, vi, us, ex, ca, fa, oe)))) (GQv D vCl A (fun _ : Unit => mV hm mm dA M th a b d ri (pl, to, te) (kd, vi, us, ex, ca, fa, oe)) (fun _ => True)) 0 0 A := by
  refine mst (by decide) (Nat.le_of_ble_eq_true rfl) ?_
  intro p ee s m below meth c hx hb hr hlocks hml hown hts hin hB ls hl
  have hl : lv_has ls 4 [(0, .ref hm), (1, .int a), (2, .int b), (3, .int d)] := hl
  obtain ⟨hP, hK, hD⟩ := hB
  have hP : va_P D vCl [(hm, mdO th mm ap vp hg ri pl to te kd vi us ex ca fa oe), (mm, arO dA M)] s.heap := hP
  have hD : va_D A [(hm, mdO th mm ap vp hg ri pl to te kd vi us ex ca fa oe), (mm, arO dA M)] := hD
  have hS : va_S A s.heap s.heap [] := va_S.rf
  refine lv_aload_n hx hb dX2_roots_0 rfl (lv_at hl 0 rfl) ?_
  refine lv_iload_n hx hb dX2_roots_1 rfl (lv_at hl 1 rfl) ?_
  refine va_put (D := D) (ci := 2) (v := .int a) (ty := .int) (C := RX2) (T := TX2) (N := 16) hx hb hts in_X2 tyX2 tyX2_ok nmX2 hown hK hP hD hS 0 rfl rfl 2 (by decide) (hts _ q248) (fun _ h9 => h9) rfl (by decide +kernel) rfl rfl (Nat.le_of_ble_eq_true rfl) dX2_roots_2 (fun H locs hP hD hS => ?_)
  have hP : va_P D vCl [(hm, mdO th mm a vp hg ri pl to te kd vi us ex ca fa oe), (mm, arO dA M)] H := hP
  have hD : va_D A [(hm, mdO th mm a vp hg ri pl to te kd vi us ex ca fa oe), (mm, arO dA M)] := hD
  refine lv_aload_n hx hb dX2_roots_5 rfl (lv_at hl 0 rfl) ?_
  refine lv_iload_n hx hb dX2_roots_6 rfl (lv_at hl 2 rfl) ?_
  refine va_put (D := D) (ci := 2) (v := .int b) (ty := .int) (C := RX2) (T := TX2) (N := 16) hx hb hts in_X2 tyX2 tyX2_ok nmX2 hown hK hP hD hS 0 rfl rfl 3 (by decide) (hts _ q249) (fun _ h9 => h9) rfl (by decide +kernel) rfl rfl (Nat.le_of_ble_eq_true rfl) dX2_roots_7 (fun H locs hP hD hS => ?_)
  have hP : va_P D vCl [(hm, mdO th mm a b hg ri pl to te kd vi us ex ca fa oe), (mm, arO dA M)] H := hP
  have hD : va_D A [(hm, mdO th mm a b hg ri pl to te kd vi us ex ca fa oe), (mm, arO dA M)] := hD
  refine lv_aload_n hx hb dX2_roots_10 rfl (lv_at hl 0 rfl) ?_
  refine lv_iload_n hx hb dX2_roots_11 rfl (lv_at hl 3 rfl) ?_
  refine va_put (D := D) (ci := 2) (v := .int d) (ty := .int) (C := RX2) (T := TX2) (N := 16) hx hb hts in_X2 tyX2 tyX2_ok nmX2 hown hK hP hD hS 0 rfl rfl 4 (by decide) (hts _ q250) (fun _ h9 => h9) rfl (by decide +kernel) rfl rfl (Nat.le_of_ble_eq_true rfl) dX2_roots_12 (fun H locs hP hD hS => ?_)
  have hP : va_P D vCl [(hm, mdO th mm a b d ri pl to te kd vi us ex ca fa oe), (mm, arO dA M)] H := hP
  have hD : va_D A [(hm, mdO th mm a b d ri pl to te kd vi us ex ca fa oe), (mm, arO dA M)] := hD
  exact grv () trivial hP hS hx hb hr hlocks dX2_roots_15
set_option maxHeartbeats 4000000 in
/-- rights -/
theorem m_mrights (l : Launch) (D : va_G) (hm mm : Nat) (dA : ClassId) (M : Nat → Int32) (th ap vp hg ri : Int32) (A : Nat → Prop) (pl to : Int32) (te : Bool) (kd : Int32) (vi us ex : Bool) (ca : Int32) (fa : Int64) (oe : Bool) (b : Int32) : Met l yX2_rights (ws_ yX2_rights cX2_rights 3 (some .int)) (rmX 0 0) (va_Pc [.ref hm, .int b] (Gm D vCl [(dA, .int)] A (mV hm mm dA M th ap vp hg ri (pl, to, te) (kd, vi, us, ex, ca, fa, oe)))) (GQi D vCl A (fun _ : Unit => mV hm mm dA M th ap vp hg (b &&& 15) (pl, to, te) (kd, vi, us, ex, ca, fa, oe)) (fun r _ => r = ri)) 0 0 A := by
  refine mst (by decide) (Nat.le_of_ble_eq_true rfl) ?_
  intro p ee s m below meth c hx hb hr hlocks hml hown hts hin hB ls hl
  have hl : lv_has ls 3 [(0, .ref hm), (1, .int b)] := hl
  obtain ⟨hP, hK, hD⟩ := hB
  have hP : va_P D vCl [(hm, mdO th mm ap vp hg ri pl to te kd vi us ex ca fa oe), (mm, arO dA M)] s.heap := hP
  have hD : va_D A [(hm, mdO th mm ap vp hg ri pl to te kd vi us ex ca fa oe), (mm, arO dA M)] := hD
  have hS : va_S A s.heap s.heap [] := va_S.rf
  refine lv_aload_n hx hb dX2_rights_0 rfl (lv_at hl 0 rfl) ?_
  refine va_get (D := D) (ci := 2) (v := .int ri) (C := RX2) (T := TX2) (N := 16) hx hb hts in_X2 hown hK hP 0 rfl rfl 5 (by decide) (hts _ q251) (fun _ h9 => h9) rfl dX2_rights_1 ?_
  refine lv_istore_n (lv' := [(2, .int ri), (0, .ref hm), (1, .int b)]) hx hb dX2_rights_4 rfl hl (by decide) rfl (fun ls hl => ?_)
  refine lv_aload_n hx hb dX2_rights_5 rfl (lv_at hl 1 rfl) ?_
  refine lv_iload_n hx hb dX2_rights_6 rfl (lv_at hl 2 rfl) ?_
  refine lv_bipush (v := 15) hx hb dX2_rights_7 (by decide) ?_
  refine lv_iand hx hb dX2_rights_9 ?_
  refine va_put (D := D) (ci := 2) (v := .int (b &&& 15)) (ty := .int) (C := RX2) (T := TX2) (N := 16) hx hb hts in_X2 tyX2 tyX2_ok nmX2 hown hK hP hD hS 0 rfl rfl 5 (by decide) (hts _ q251) (fun _ h9 => h9) rfl (by decide +kernel) rfl rfl (Nat.le_of_ble_eq_true rfl) dX2_rights_10 (fun H locs hP hD hS => ?_)
  have hP : va_P D vCl [(hm, mdO th mm ap vp hg (b &&& 15) pl to te kd vi us ex ca fa oe), (mm, arO dA M)] H := hP
  have hD : va_D A [(hm, mdO th mm ap vp hg (b &&& 15) pl to te kd vi us ex ca fa oe), (mm, arO dA M)] := hD
  refine lv_iload_n hx hb dX2_rights_13 rfl (lv_at hl 0 rfl) ?_
  exact gri (()) (rfl) hP hS hx hb hr hlocks dX2_rights_14
end
section
/-! StageWalkerModel: translate, pages -/
set_option maxRecDepth 100000
set_option maxHeartbeats 4000000 in
/-- translate -/
theorem m_mtranslate (l : Launch) (D : va_G) (hm mm : Nat) (dA : ClassId) (M : Nat → Int32) (th ap vp hg ri : Int32) (A : Nat → Prop) (pl to : Int32) (te : Bool) (kd : Int32) (vi us ex : Bool) (ca : Int32) (fa : Int64) (oe : Bool) (mo wh ad : Int32) : Met l yX2_translate (ws_ yX2_translate cX2_translate 6 (some .int)) (rmX 8 217) (va_Pc [.ref hm, .int mo, .int wh, .int ad] (Gm D vCl [(dA, .int)] A (mV hm mm dA M th ap vp hg ri (pl, to, te) (kd, vi, us, ex, ca, fa, oe)))) (GQi D vCl A (fun u : tS × mJ => mV hm mm dA M th ap vp hg ri u.1 u.2) (fun r u => (r, u.1) = tT M ap vp hg ri mo wh ad (pl, to, te))) 0 0 A := by
  refine mst (by decide) (Nat.le_of_ble_eq_true rfl) ?_
  intro p ee s m below meth c hx hb hr hlocks hml hown hts hin hB ls hl
  have hl : lv_has ls 6 [(0, .ref hm), (1, .int mo), (2, .int wh), (3, .int ad)] := hl
  obtain ⟨hP, hK, hD⟩ := hB
  have hP : va_P D vCl [(hm, mdO th mm ap vp hg ri pl to te kd vi us ex ca fa oe), (mm, arO dA M)] s.heap := hP
  have hD : va_D A [(hm, mdO th mm ap vp hg ri pl to te kd vi us ex ca fa oe), (mm, arO dA M)] := hD
  have hS : va_S A s.heap s.heap [] := va_S.rf
  refine lv_iload_n hx hb dX2_translate_0 rfl (lv_at hl 1 rfl) ?_
  refine lv_iload_n hx hb dX2_translate_1 rfl (lv_at hl 2 rfl) ?_
  refine pcall (va_runS (As := [.int mo, .int wh]) (rest := []) ⟨hx, hb, hml, hown, hts⟩ (m_isNone l mo wh) (va_cwS 2 hts (lw_S q318 q319 q21 q320) rfl rfl rfl (by decide +kernel) ⟨Nat.le_of_ble_eq_true rfl, Nat.le_of_ble_eq_true rfl⟩) pT_S rfl rfl hl.1 rfl (lv_room (Nat.le_of_ble_eq_true rfl)) dX2_translate_2 ⟨Nat.le_refl _, Nat.le_refl _⟩) ?_
  refine lv_if_eq (tgt := 10) hx hb dX2_translate_5 (by decide) (fun c_1 => ?_) (fun c_1 => ?_)
  · skip
    have c_1 := nb_f ((bI_z _).mp c_1)
    refine lv_aload_n hx hb dX2_translate_10 rfl (lv_at hl 0 rfl) ?_
    refine lv_iload_n hx hb dX2_translate_11 rfl (lv_at hl 1 rfl) ?_
    refine lv_iload_n hx hb dX2_translate_12 rfl (lv_at hl 2 rfl) ?_
    refine lv_iload_n hx hb dX2_translate_13 rfl (lv_at hl 3 rfl) ?_
    refine gcl (va_runV (As := [.int mo, .int wh, .int ad]) (rest := []) ⟨hx, hb, hml, hown, hts⟩ (m_lead l D hm mm dA M th ap vp hg ri pl to te (kdF wh) (viF mo) (usF mo) (exF wh) A kd vi us ex ca fa oe mo wh ad (if viF mo = true then vp else ap) rfl rfl rfl rfl rfl) (cwV 3 hts (lw_V q321 q323 qs8 q21 q324) rfl rfl rfl (by decide +kernel) ⟨Nat.le_of_ble_eq_true rfl, Nat.le_of_ble_eq_true rfl⟩) (pM_V hK hP hD 0 rfl rfl) rfl rfl hl.1 rfl (lv_room (Nat.le_of_ble_eq_true rfl)) dX2_translate_14 ⟨Nat.le_refl _, Nat.le_refl _⟩) hS (fun _ h => h) (fun r_2 u_2 H locs po_2 hP hz_2 hk_2 hS => ?_)
    have had := tn_lt ad
    have po_2 : poM (trL M ap vp hg ri mo wh (tn ad)) r_2 u_2 := po_2
    rcases hs : trL M ap vp hg ri mo wh (tn ad) with f | a
    · skip
      rw [hs] at po_2
      obtain ⟨rfl, rfl⟩ := po_2
      have hfb := tr_fb had hs
      have hP : va_P D vCl [(hm, mdO th mm ap vp hg ri pl to te (kdF wh) (viF mo) (usF mo) (exF wh) f.1 (lN f.2.1) f.2.2), (mm, arO dA M)] H := hP
      have hD : va_D A [(hm, mdO th mm ap vp hg ri pl to te (kdF wh) (viF mo) (usF mo) (exF wh) f.1 (lN f.2.1) f.2.2), (mm, arO dA M)] := hD.re rfl
      refine lv_lstore (lv' := [(4, .long (-1)), (0, .ref hm), (1, .int mo), (2, .int wh), (3, .int ad)]) hx hb dX2_translate_17 hl (by decide) rfl (fun ls hl => ?_)
      refine lv_aload_n hx hb dX2_translate_19 rfl (lv_at hl 1 rfl) ?_
      refine lv_lload hx hb dX2_translate_20 (lv_at hl 0 rfl) ?_
      refine lv_l2i hx hb dX2_translate_22 rfl ?_
      refine tpi (y := (-1)) (by decide) ?_
      refine va_put (D := D) (ci := 2) (v := .int (-1)) (ty := .int) (C := RX2) (T := TX2) (N := 16) hx hb hts in_X2 tyX2 tyX2_ok nmX2 hown hK hP hD hS 0 rfl rfl 6 (by decide) (hts _ q252) (fun _ h9 => h9) rfl (by decide +kernel) rfl rfl (Nat.le_of_ble_eq_true rfl) dX2_translate_23 (fun H locs hP hD hS => ?_)
      have hP : va_P D vCl [(hm, mdO th mm ap vp hg ri (-1) to te (kdF wh) (viF mo) (usF mo) (exF wh) f.1 (lN f.2.1) f.2.2), (mm, arO dA M)] H := hP
      have hD : va_D A [(hm, mdO th mm ap vp hg ri (-1) to te (kdF wh) (viF mo) (usF mo) (exF wh) f.1 (lN f.2.1) f.2.2), (mm, arO dA M)] := hD
      refine lv_aload_n hx hb dX2_translate_26 rfl (lv_at hl 1 rfl) ?_
      refine lv_lload hx hb dX2_translate_27 (lv_at hl 0 rfl) ?_
      refine lv_lconst (v := 0) hx hb dX2_translate_29 (by decide) ?_
      refine W.lcmp hx hb dX2_translate_30 ?_
      refine lv_if_ge (tgt := 46) hx hb dX2_translate_31 (by decide) (fun c_3 => absurd c_3 (by decide)) (fun c_3 => ?_)
      refine lv_aload_n hx hb dX2_translate_34 rfl (lv_at hl 1 rfl) ?_
      refine va_get (D := D) (ci := 2) (v := .long (lN f.2.1)) (C := RX2) (T := TX2) (N := 16) hx hb hts in_X2 hown hK hP 0 rfl rfl 14 (by decide) (hts _ q260) (fun _ h9 => h9) rfl dX2_translate_35 ?_
      refine lv_ldc2 hx hb hown (hts _ q332) dX2_translate_38 ?_
      refine lv_ldiv hx hb dX2_translate_41 (by decide) ?_
      refine tpl (y := lN (f.2.1 / 4)) (pk_lDiv (b := 4) (by omega) (by decide) (by decide)) ?_
      refine lv_l2i hx hb dX2_translate_42 rfl ?_
      refine tpi (y := nI (f.2.1 / 4)) (lN_i _) ?_
      refine lv_goto (tgt := 47) hx hb dX2_translate_43 (by decide) ?_
      refine va_put (D := D) (ci := 2) (v := .int (nI (f.2.1 / 4))) (ty := .int) (C := RX2) (T := TX2) (N := 16) hx hb hts in_X2 tyX2 tyX2_ok nmX2 hown hK hP hD hS 0 rfl rfl 7 (by decide) (hts _ q253) (fun _ h9 => h9) rfl (by decide +kernel) rfl rfl (Nat.le_of_ble_eq_true rfl) dX2_translate_47 (fun H locs hP hD hS => ?_)
      have hP : va_P D vCl [(hm, mdO th mm ap vp hg ri (-1) (nI (f.2.1 / 4)) te (kdF wh) (viF mo) (usF mo) (exF wh) f.1 (lN f.2.1) f.2.2), (mm, arO dA M)] H := hP
      have hD : va_D A [(hm, mdO th mm ap vp hg ri (-1) (nI (f.2.1 / 4)) te (kdF wh) (viF mo) (usF mo) (exF wh) f.1 (lN f.2.1) f.2.2), (mm, arO dA M)] := hD
      refine lv_aload_n hx hb dX2_translate_50 rfl (lv_at hl 1 rfl) ?_
      refine lv_lload hx hb dX2_translate_51 (lv_at hl 0 rfl) ?_
      refine lv_lconst (v := 0) hx hb dX2_translate_53 (by decide) ?_
      refine W.lcmp hx hb dX2_translate_54 ?_
      refine lv_if_ge (tgt := 69) hx hb dX2_translate_55 (by decide) (fun c_4 => absurd c_4 (by decide)) (fun c_4 => ?_)
      refine lv_aload_n hx hb dX2_translate_58 rfl (lv_at hl 1 rfl) ?_
      refine va_get (D := D) (ci := 2) (v := .int (bI f.2.2)) (C := RX2) (T := TX2) (N := 16) hx hb hts in_X2 hown hK hP 0 rfl rfl 15 (by decide) (hts _ q261) (fun _ h9 => h9) rfl dX2_translate_59 ?_
      refine jn (X := Int32) (fun x_ => F0 m 70 ls [.int x_, .ref hm]) (fun x_ => x_ = bI f.2.2) ?_ (fun K_5 => ?_)
      · intro x_ ex_
        have ex_ := ex_.symm
        subst ex_
        refine va_put (D := D) (ci := 2) (v := .int (bI f.2.2)) (ty := .boolean) (C := RX2) (T := TX2) (N := 16) hx hb hts in_X2 tyX2 tyX2_ok nmX2 hown hK hP hD hS 0 rfl rfl 8 (by decide) (hts _ q254) (fun _ h9 => h9) rfl (by decide +kernel) (nar_bI _) (fit_bI _) (Nat.le_of_ble_eq_true rfl) dX2_translate_70 (fun H locs hP hD hS => ?_)
        have hP : va_P D vCl [(hm, mdO th mm ap vp hg ri (-1) (nI (f.2.1 / 4)) f.2.2 (kdF wh) (viF mo) (usF mo) (exF wh) f.1 (lN f.2.1) f.2.2), (mm, arO dA M)] H := hP
        have hD : va_D A [(hm, mdO th mm ap vp hg ri (-1) (nI (f.2.1 / 4)) f.2.2 (kdF wh) (viF mo) (usF mo) (exF wh) f.1 (lN f.2.1) f.2.2), (mm, arO dA M)] := hD
        refine lv_lload hx hb dX2_translate_73 (lv_at hl 0 rfl) ?_
        refine lv_lconst (v := 0) hx hb dX2_translate_75 (by decide) ?_
        refine W.lcmp hx hb dX2_translate_76 ?_
        refine lv_if_ge (tgt := 87) hx hb dX2_translate_77 (by decide) (fun c_6 => absurd c_6 (by decide)) (fun c_6 => ?_)
        refine lv_aload_n hx hb dX2_translate_80 rfl (lv_at hl 1 rfl) ?_
        refine va_get (D := D) (ci := 2) (v := .int f.1) (C := RX2) (T := TX2) (N := 16) hx hb hts in_X2 hown hK hP 0 rfl rfl 13 (by decide) (hts _ q259) (fun _ h9 => h9) rfl dX2_translate_81 ?_
        refine lv_goto (tgt := 88) hx hb dX2_translate_84 (by decide) ?_
        exact gri ((((-1), nI (f.2.1 / 4), f.2.2), (kdF wh, viF mo, usF mo, exF wh, f.1, lN f.2.1, f.2.2))) (by rw [tT, if_pos c_1, hs]; rfl) hP hS hx hb hr hlocks dX2_translate_88
      · skip
        refine lv_if_eq (tgt := 69) hx hb dX2_translate_62 (by decide) (fun c_7 => ?_) (fun c_7 => ?_)
        · skip
          have c_7 := (bI_z _).mp c_7
          refine lv_iconst (v := 0) hx hb dX2_translate_69 (by decide) ?_
          exact K_5 _ (by simp [bI, c_7])
        · skip
          have c_7 := (bI_n _).mp c_7
          refine lv_iconst (v := 1) hx hb dX2_translate_65 (by decide) ?_
          refine lv_goto (tgt := 70) hx hb dX2_translate_66 (by decide) ?_
          exact K_5 _ (by simp [bI, c_7])
    · skip
      rw [hs] at po_2
      have po_2 : r_2 = lN a := po_2
      subst po_2
      obtain ⟨ca_1, fa_1, oe_1⟩ := u_2
      have hin_ := tr_in hs
      have hP : va_P D vCl [(hm, mdO th mm ap vp hg ri pl to te (kdF wh) (viF mo) (usF mo) (exF wh) ca_1 fa_1 oe_1), (mm, arO dA M)] H := hP
      have hD : va_D A [(hm, mdO th mm ap vp hg ri pl to te (kdF wh) (viF mo) (usF mo) (exF wh) ca_1 fa_1 oe_1), (mm, arO dA M)] := hD.re rfl
      refine lv_lstore (lv' := [(4, .long (lN a)), (0, .ref hm), (1, .int mo), (2, .int wh), (3, .int ad)]) hx hb dX2_translate_17 hl (by decide) rfl (fun ls hl => ?_)
      refine lv_aload_n hx hb dX2_translate_19 rfl (lv_at hl 1 rfl) ?_
      refine lv_lload hx hb dX2_translate_20 (lv_at hl 0 rfl) ?_
      refine lv_l2i hx hb dX2_translate_22 rfl ?_
      refine tpi (y := nI a) (lN_i _) ?_
      refine va_put (D := D) (ci := 2) (v := .int (nI a)) (ty := .int) (C := RX2) (T := TX2) (N := 16) hx hb hts in_X2 tyX2 tyX2_ok nmX2 hown hK hP hD hS 0 rfl rfl 6 (by decide) (hts _ q252) (fun _ h9 => h9) rfl (by decide +kernel) rfl rfl (Nat.le_of_ble_eq_true rfl) dX2_translate_23 (fun H locs hP hD hS => ?_)
      have hP : va_P D vCl [(hm, mdO th mm ap vp hg ri (nI a) to te (kdF wh) (viF mo) (usF mo) (exF wh) ca_1 fa_1 oe_1), (mm, arO dA M)] H := hP
      have hD : va_D A [(hm, mdO th mm ap vp hg ri (nI a) to te (kdF wh) (viF mo) (usF mo) (exF wh) ca_1 fa_1 oe_1), (mm, arO dA M)] := hD
      refine lv_aload_n hx hb dX2_translate_26 rfl (lv_at hl 1 rfl) ?_
      refine lv_lload hx hb dX2_translate_27 (lv_at hl 0 rfl) ?_
      refine lv_lconst (v := 0) hx hb dX2_translate_29 (by decide) ?_
      refine W.lcmp hx hb dX2_translate_30 ?_
      refine lv_if_ge (tgt := 46) hx hb dX2_translate_31 (by decide) (fun c_8 => ?_) (fun c_8 => absurd (lg_nn (by omega)) c_8)
      refine lv_iconst (v := 0) hx hb dX2_translate_46 (by decide) ?_
      refine va_put (D := D) (ci := 2) (v := .int 0) (ty := .int) (C := RX2) (T := TX2) (N := 16) hx hb hts in_X2 tyX2 tyX2_ok nmX2 hown hK hP hD hS 0 rfl rfl 7 (by decide) (hts _ q253) (fun _ h9 => h9) rfl (by decide +kernel) rfl rfl (Nat.le_of_ble_eq_true rfl) dX2_translate_47 (fun H locs hP hD hS => ?_)
      have hP : va_P D vCl [(hm, mdO th mm ap vp hg ri (nI a) 0 te (kdF wh) (viF mo) (usF mo) (exF wh) ca_1 fa_1 oe_1), (mm, arO dA M)] H := hP
      have hD : va_D A [(hm, mdO th mm ap vp hg ri (nI a) 0 te (kdF wh) (viF mo) (usF mo) (exF wh) ca_1 fa_1 oe_1), (mm, arO dA M)] := hD
      refine lv_aload_n hx hb dX2_translate_50 rfl (lv_at hl 1 rfl) ?_
      refine lv_lload hx hb dX2_translate_51 (lv_at hl 0 rfl) ?_
      refine lv_lconst (v := 0) hx hb dX2_translate_53 (by decide) ?_
      refine W.lcmp hx hb dX2_translate_54 ?_
      refine lv_if_ge (tgt := 69) hx hb dX2_translate_55 (by decide) (fun c_9 => ?_) (fun c_9 => absurd (lg_nn (by omega)) c_9)
      refine lv_iconst (v := 0) hx hb dX2_translate_69 (by decide) ?_
      refine va_put (D := D) (ci := 2) (v := .int 0) (ty := .boolean) (C := RX2) (T := TX2) (N := 16) hx hb hts in_X2 tyX2 tyX2_ok nmX2 hown hK hP hD hS 0 rfl rfl 8 (by decide) (hts _ q254) (fun _ h9 => h9) rfl (by decide +kernel) rfl rfl (Nat.le_of_ble_eq_true rfl) dX2_translate_70 (fun H locs hP hD hS => ?_)
      have hP : va_P D vCl [(hm, mdO th mm ap vp hg ri (nI a) 0 false (kdF wh) (viF mo) (usF mo) (exF wh) ca_1 fa_1 oe_1), (mm, arO dA M)] H := hP
      have hD : va_D A [(hm, mdO th mm ap vp hg ri (nI a) 0 false (kdF wh) (viF mo) (usF mo) (exF wh) ca_1 fa_1 oe_1), (mm, arO dA M)] := hD
      refine lv_lload hx hb dX2_translate_73 (lv_at hl 0 rfl) ?_
      refine lv_lconst (v := 0) hx hb dX2_translate_75 (by decide) ?_
      refine W.lcmp hx hb dX2_translate_76 ?_
      refine lv_if_ge (tgt := 87) hx hb dX2_translate_77 (by decide) (fun c_10 => ?_) (fun c_10 => absurd (lg_nn (by omega)) c_10)
      refine lv_iconst (v := 0) hx hb dX2_translate_87 (by decide) ?_
      exact gri (((nI a, 0, false), (kdF wh, viF mo, usF mo, exF wh, ca_1, fa_1, oe_1))) (by rw [tT, if_pos c_1, hs]; rfl) hP hS hx hb hr hlocks dX2_translate_88
  · skip
    have c_1 := nb_t ((bI_n _).mp c_1)
    refine lv_iconst (v := (-1)) hx hb dX2_translate_8 (by decide) ?_
    exact gri (((pl, to, te), (kd, vi, us, ex, ca, fa, oe))) (by rw [tT, if_neg (by rw [c_1]; decide)]) hP hS hx hb hr hlocks dX2_translate_9
set_option maxHeartbeats 4000000 in
/-- pages -/
theorem m_mpages (l : Launch) (D : va_G) (hm mm : Nat) (dA : ClassId) (M : Nat → Int32) (th ap vp hg ri : Int32) (A : Nat → Prop) (pl to : Int32) (te : Bool) (kd : Int32) (vi us ex : Bool) (ca : Int32) (fa : Int64) (oe : Bool) (mo wh ad n : Int32) : Met l yX2_pages (ws_ yX2_pages cX2_pages 9 (some .int)) (rmX 8 217) (va_Pc [.ref hm, .int mo, .int wh, .int ad, .int n] (Gm D vCl [(dA, .int)] A (mV hm mm dA M th ap vp hg ri (pl, to, te) (kd, vi, us, ex, ca, fa, oe)))) (GQi D vCl A (fun u : tS × mJ => mV hm mm dA M th ap vp hg ri u.1 u.2) (fun r u => (r, u.1) = (pgs M ap vp hg ri mo wh ad n, (pl, to, te)))) 0 0 A := by
  refine mst (by decide) (Nat.le_of_ble_eq_true rfl) ?_
  intro p ee s m below meth c hx hb hr hlocks hml hown hts hin hB ls hl
  have hl : lv_has ls 9 [(0, .ref hm), (1, .int mo), (2, .int wh), (3, .int ad), (4, .int n)] := hl
  obtain ⟨hP, hK, hD⟩ := hB
  have hP : va_P D vCl [(hm, mdO th mm ap vp hg ri pl to te kd vi us ex ca fa oe), (mm, arO dA M)] s.heap := hP
  have hD : va_D A [(hm, mdO th mm ap vp hg ri pl to te kd vi us ex ca fa oe), (mm, arO dA M)] := hD
  have hS : va_S A s.heap s.heap [] := va_S.rf
  refine lv_iload_n hx hb dX2_pages_0 rfl (lv_at hl 1 rfl) ?_
  refine lv_iload_n hx hb dX2_pages_1 rfl (lv_at hl 2 rfl) ?_
  refine pcall (va_runS (As := [.int mo, .int wh]) (rest := []) ⟨hx, hb, hml, hown, hts⟩ (m_isNone l mo wh) (va_cwS 2 hts (lw_S q318 q319 q21 q320) rfl rfl rfl (by decide +kernel) ⟨Nat.le_of_ble_eq_true rfl, Nat.le_of_ble_eq_true rfl⟩) pT_S rfl rfl hl.1 rfl (lv_room (Nat.le_of_ble_eq_true rfl)) dX2_pages_2 ⟨Nat.le_refl _, Nat.le_refl _⟩) ?_
  refine lv_if_ne (tgt := 22) hx hb dX2_pages_5 (by decide) (fun c_1 => ?_) (fun c_1 => ?_)
  · skip
    have c_1 := nb_t ((bI_n _).mp c_1)
    refine lv_iconst (v := (-1)) hx hb dX2_pages_22 (by decide) ?_
    exact gri (((pl, to, te), (kd, vi, us, ex, ca, fa, oe))) (by rw [pgs, if_neg (by rw [c_1]; simp)]) hP hS hx hb hr hlocks dX2_pages_23
  · skip
    have c_1 := nb_f ((bI_z _).mp c_1)
    refine lv_iload hx hb dX2_pages_8 (lv_at hl 4 rfl) ?_
    refine lv_iconst (v := 1) hx hb dX2_pages_10 (by decide) ?_
    refine lv_icmp_lt (tgt := 22) hx hb dX2_pages_11 (by decide) (fun c_2 => ?_) (fun c_2 => ?_)
    · skip
      refine lv_iconst (v := (-1)) hx hb dX2_pages_22 (by decide) ?_
      exact gri (((pl, to, te), (kd, vi, us, ex, ca, fa, oe))) (by rw [pgs, if_neg (by rw [pn_lt c_2]; simp)]) hP hS hx hb hr hlocks dX2_pages_23
    · skip
      refine lv_iload hx hb dX2_pages_14 (lv_at hl 4 rfl) ?_
      refine lv_sipush (v := 1024) hx hb dX2_pages_16 (by decide) ?_
      refine lv_icmp_le (tgt := 24) hx hb dX2_pages_19 (by decide) (fun c_3 => ?_) (fun c_3 => ?_)
      · skip
        have hpn := pn_y c_2 c_3
        obtain ⟨N, hN1, hN2, hnN, hN3⟩ := pn_N hpn
        have had := tn_lt ad
        have hPG : pgs M ap vp hg ri mo wh ad n = pgc (fun fr => isOk (trL M ap vp hg ri mo wh fr)) N (tn ad) 0 := by rw [pgs, if_pos (by rw [c_1, hpn]; rfl), hN3]
        generalize pgs M ap vp hg ri mo wh ad n = PG at hPG ⊢
        refine lv_iconst (v := 0) hx hb dX2_pages_24 (by decide) ?_
        refine lv_istore (lv' := [(5, .int 0), (0, .ref hm), (1, .int mo), (2, .int wh), (3, .int ad), (4, .int n)]) hx hb dX2_pages_25 hl (by decide) rfl (fun ls hl => ?_)
        refine lv_iload_n hx hb dX2_pages_27 rfl (lv_at hl 4 rfl) ?_
        refine lv_i2l hx hb dX2_pages_28 rfl ?_
        refine lv_ldc2 hx hb hown (hts _ q325) dX2_pages_29 ?_
        refine lv_land hx hb dX2_pages_32 ?_
        refine tpl (y := lN (tn ad)) (i2l_low ad) ?_
        refine lv_lstore (lv' := [(6, .long (lN (tn ad))), (5, .int 0), (0, .ref hm), (1, .int mo), (2, .int wh), (3, .int ad), (4, .int n)]) hx hb dX2_pages_33 hl (by decide) rfl (fun ls hl => ?_)
        refine lv_iconst (v := 0) hx hb dX2_pages_35 (by decide) ?_
        refine lv_istore (lv' := [(8, .int 0), (6, .long (lN (tn ad))), (5, .int 0), (0, .ref hm), (1, .int mo), (2, .int wh), (3, .int ad), (4, .int n)]) hx hb dX2_pages_36 hl (by decide) rfl (fun ls hl => ?_)
        refine jg (X := Nat × Nat × Nat × Int32 × mJ) (fun _ ls => F0 m 38 ls []) (fun y_ H locs ls => y_.2.1 + y_.1 = N ∧ y_.2.2.1 < 4294971392 ∧ pgc (fun fr => isOk (trL M ap vp hg ri mo wh fr)) y_.1 y_.2.2.1 y_.2.2.2.1 = PG ∧ va_P D vCl (mV hm mm dA M th ap vp hg ri (pl, to, te) y_.2.2.2.2) H ∧ va_S A s.heap H locs ∧ lv_has ls 9 [(8, .int (nI y_.2.1)), (6, .long (lN y_.2.2.1)), (5, .int y_.2.2.2.1), (0, .ref hm), (1, .int mo), (2, .int wh), (3, .int ad), (4, .int n)]) ?_ (fun K_4 => ?_)
        · intro y_
          obtain ⟨j, k, fr, ac, kd_1, vi_1, us_1, ex_1, ca_1, fa_1, oe_1⟩ := y_
          induction j generalizing k fr ac kd_1 vi_1 us_1 ex_1 ca_1 fa_1 oe_1 with
          | zero =>
            rintro H locs ls ⟨hk, hfr, hpg, hP, hS, hl⟩
            have hk : k + 0 = N := hk
            have hfr : fr < 4294971392 := hfr
            have hP : va_P D vCl [(hm, mdO th mm ap vp hg ri pl to te kd_1 vi_1 us_1 ex_1 ca_1 fa_1 oe_1), (mm, arO dA M)] H := hP
            have hD : va_D A [(hm, mdO th mm ap vp hg ri pl to te kd_1 vi_1 us_1 ex_1 ca_1 fa_1 oe_1), (mm, arO dA M)] := hD.re rfl
            have hl : lv_has ls 9 [(8, .int (nI k)), (6, .long (lN fr)), (5, .int ac), (0, .ref hm), (1, .int mo), (2, .int wh), (3, .int ad), (4, .int n)] := hl
            refine lv_iload hx hb dX2_pages_38 (lv_at hl 0 rfl) ?_
            refine lv_iload hx hb dX2_pages_40 (lv_at hl 7 rfl) ?_
            refine lv_icmp_ge (tgt := 92) hx hb dX2_pages_42 (by decide) (fun c_5 => ?_) (fun c_5 => absurd (by rw [hnN]; exact nI_le (by omega) (by omega)) c_5)
            refine lv_iload hx hb dX2_pages_92 (lv_at hl 2 rfl) ?_
            exact gri (((pl, to, te), (kd_1, vi_1, us_1, ex_1, ca_1, fa_1, oe_1))) (by rw [← hpg]; rfl) hP hS hx hb hr hlocks dX2_pages_94
          | succ j ih =>
            rintro H locs ls ⟨hk, hfr, hpg, hP, hS, hl⟩
            have hk : k + (j + 1) = N := hk
            have hfr : fr < 4294971392 := hfr
            have hP : va_P D vCl [(hm, mdO th mm ap vp hg ri pl to te kd_1 vi_1 us_1 ex_1 ca_1 fa_1 oe_1), (mm, arO dA M)] H := hP
            have hD : va_D A [(hm, mdO th mm ap vp hg ri pl to te kd_1 vi_1 us_1 ex_1 ca_1 fa_1 oe_1), (mm, arO dA M)] := hD.re rfl
            have hl : lv_has ls 9 [(8, .int (nI k)), (6, .long (lN fr)), (5, .int ac), (0, .ref hm), (1, .int mo), (2, .int wh), (3, .int ad), (4, .int n)] := hl
            refine lv_iload hx hb dX2_pages_38 (lv_at hl 0 rfl) ?_
            refine lv_iload hx hb dX2_pages_40 (lv_at hl 7 rfl) ?_
            refine lv_icmp_ge (tgt := 92) hx hb dX2_pages_42 (by decide) (fun c_6 => absurd c_6 (by rw [hnN]; exact nI_ge (by omega) (by omega))) (fun c_6 => ?_)
            refine lv_lload hx hb dX2_pages_45 (lv_at hl 1 rfl) ?_
            refine lv_ldc2 hx hb hown (hts _ q392) dX2_pages_47 ?_
            refine W.lcmp hx hb dX2_pages_50 ?_
            refine lv_if_ge (tgt := 92) hx hb dX2_pages_51 (by decide) (fun c_7 => ?_) (fun c_7 => ?_)
            · skip
              have c_7 := (pk_lLE (a := 4294967296) (by decide) (by omega)).mp ((lg_cmp_ge _ _).mp c_7)
              refine lv_iload hx hb dX2_pages_92 (lv_at hl 2 rfl) ?_
              exact gri (((pl, to, te), (kd_1, vi_1, us_1, ex_1, ca_1, fa_1, oe_1))) (by rw [← hpg]; show (ac, _) = (if fr < 4294967296 then _ else ac, _); rw [if_neg (by omega)]) hP hS hx hb hr hlocks dX2_pages_94
            · skip
              have c_7 : ¬ 4294967296 ≤ fr := fun z => c_7 ((lg_cmp_ge _ _).mpr ((pk_lLE (a := 4294967296) (by decide) (by omega)).mpr z))
              have hpg : pgc (fun fr => isOk (trL M ap vp hg ri mo wh fr)) j (fr + 4096) (ac + bI (isOk (trL M ap vp hg ri mo wh fr))) = PG := by rw [← hpg]; exact (if_pos (show fr < 4294967296 by omega)).symm
              refine lv_iload hx hb dX2_pages_54 (lv_at hl 2 rfl) ?_
              refine lv_aload_n hx hb dX2_pages_56 rfl (lv_at hl 3 rfl) ?_
              refine lv_iload_n hx hb dX2_pages_57 rfl (lv_at hl 4 rfl) ?_
              refine lv_iload_n hx hb dX2_pages_58 rfl (lv_at hl 5 rfl) ?_
              refine lv_lload hx hb dX2_pages_59 (lv_at hl 1 rfl) ?_
              refine lv_l2i hx hb dX2_pages_61 rfl ?_
              refine tpi (y := nI fr) (lN_i _) ?_
              refine gcl (va_runV (As := [.int mo, .int wh, .int (nI fr)]) (rest := [.int ac]) ⟨hx, hb, hml, hown, hts⟩ (m_lead l D hm mm dA M th ap vp hg ri pl to te (kdF wh) (viF mo) (usF mo) (exF wh) A kd_1 vi_1 us_1 ex_1 ca_1 fa_1 oe_1 mo wh (nI fr) (if viF mo = true then vp else ap) rfl rfl rfl rfl rfl) (cwV 3 hts (lw_V q321 q323 qs8 q21 q324) rfl rfl rfl (by decide +kernel) ⟨Nat.le_of_ble_eq_true rfl, Nat.le_of_ble_eq_true rfl⟩) (pM_V hK hP hD 0 rfl rfl) rfl rfl hl.1 rfl (lv_room (Nat.le_of_ble_eq_true rfl)) dX2_pages_62 ⟨Nat.le_refl _, Nat.le_refl _⟩) hS (fun _ h => h) (fun r_8 u_8 H locs po_8 hP hz_8 hk_8 hS => ?_)
              have po_8 : poM (trL M ap vp hg ri mo wh (tn (nI fr))) r_8 u_8 := po_8
              rw [tn_nI (by omega)] at po_8
              rcases hs : trL M ap vp hg ri mo wh fr with f | a
              · skip
                rw [hs] at po_8 hpg
                obtain ⟨rfl, rfl⟩ := po_8
                have hP : va_P D vCl [(hm, mdO th mm ap vp hg ri pl to te (kdF wh) (viF mo) (usF mo) (exF wh) f.1 (lN f.2.1) f.2.2), (mm, arO dA M)] H := hP
                have hD : va_D A [(hm, mdO th mm ap vp hg ri pl to te (kdF wh) (viF mo) (usF mo) (exF wh) f.1 (lN f.2.1) f.2.2), (mm, arO dA M)] := hD.re rfl
                refine lv_lconst (v := 0) hx hb dX2_pages_65 (by decide) ?_
                refine W.lcmp hx hb dX2_pages_66 ?_
                refine lv_if_lt (tgt := 74) hx hb dX2_pages_67 (by decide) (fun c_9 => ?_) (fun c_9 => absurd (show lg_cmp (-1) 0 < 0 by decide) c_9)
                refine lv_iconst (v := 0) hx hb dX2_pages_74 (by decide) ?_
                refine lv_iadd hx hb dX2_pages_75 ?_
                refine lv_istore (lv' := [(5, .int (ac + 0)), (8, .int (nI k)), (6, .long (lN fr)), (0, .ref hm), (1, .int mo), (2, .int wh), (3, .int ad), (4, .int n)]) hx hb dX2_pages_76 hl (by decide) rfl (fun ls hl => ?_)
                refine lv_lload hx hb dX2_pages_78 (lv_at hl 2 rfl) ?_
                refine lv_ldc2 hx hb hown (hts _ q327) dX2_pages_80 ?_
                refine lv_ladd hx hb dX2_pages_83 ?_
                refine tpl (y := lN (fr + 4096)) (lN_add fr 4096) ?_
                refine lv_lstore (lv' := [(6, .long (lN (fr + 4096))), (5, .int (ac + 0)), (8, .int (nI k)), (0, .ref hm), (1, .int mo), (2, .int wh), (3, .int ad), (4, .int n)]) hx hb dX2_pages_84 hl (by decide) rfl (fun ls hl => ?_)
                refine lv_iinc (v := nI (k + 1)) (lv' := [(8, .int (nI (k + 1))), (6, .long (lN (fr + 4096))), (5, .int (ac + 0)), (0, .ref hm), (1, .int mo), (2, .int wh), (3, .int ad), (4, .int n)]) hx hb dX2_pages_86 hl (k := 2) rfl (nI_1 k) (by decide) rfl (fun ls hl => ?_)
                refine lv_goto (tgt := 38) hx hb dX2_pages_89 (by decide) ?_
                exact ih (k + 1) (fr + 4096) (ac + 0) (kdF wh) (viF mo) (usF mo) (exF wh) f.1 (lN f.2.1) f.2.2 _ _ _ ⟨by show k + 1 + j = N; omega, by show fr + 4096 < 4294971392; omega, hpg, hP, hS, lv_sub hl [0, 1, 2, 3, 4, 5, 6, 7] rfl⟩
              · skip
                rw [hs] at po_8 hpg
                have po_8 : r_8 = lN a := po_8
                subst po_8
                obtain ⟨ca_2, fa_2, oe_2⟩ := u_8
                have hin_ := tr_in hs
                have hP : va_P D vCl [(hm, mdO th mm ap vp hg ri pl to te (kdF wh) (viF mo) (usF mo) (exF wh) ca_2 fa_2 oe_2), (mm, arO dA M)] H := hP
                have hD : va_D A [(hm, mdO th mm ap vp hg ri pl to te (kdF wh) (viF mo) (usF mo) (exF wh) ca_2 fa_2 oe_2), (mm, arO dA M)] := hD.re rfl
                refine lv_lconst (v := 0) hx hb dX2_pages_65 (by decide) ?_
                refine W.lcmp hx hb dX2_pages_66 ?_
                refine lv_if_lt (tgt := 74) hx hb dX2_pages_67 (by decide) (fun c_10 => absurd c_10 (lg_nl (by omega))) (fun c_10 => ?_)
                refine lv_iconst (v := 1) hx hb dX2_pages_70 (by decide) ?_
                refine lv_goto (tgt := 75) hx hb dX2_pages_71 (by decide) ?_
                refine lv_iadd hx hb dX2_pages_75 ?_
                refine lv_istore (lv' := [(5, .int (ac + 1)), (8, .int (nI k)), (6, .long (lN fr)), (0, .ref hm), (1, .int mo), (2, .int wh), (3, .int ad), (4, .int n)]) hx hb dX2_pages_76 hl (by decide) rfl (fun ls hl => ?_)
                refine lv_lload hx hb dX2_pages_78 (lv_at hl 2 rfl) ?_
                refine lv_ldc2 hx hb hown (hts _ q327) dX2_pages_80 ?_
                refine lv_ladd hx hb dX2_pages_83 ?_
                refine tpl (y := lN (fr + 4096)) (lN_add fr 4096) ?_
                refine lv_lstore (lv' := [(6, .long (lN (fr + 4096))), (5, .int (ac + 1)), (8, .int (nI k)), (0, .ref hm), (1, .int mo), (2, .int wh), (3, .int ad), (4, .int n)]) hx hb dX2_pages_84 hl (by decide) rfl (fun ls hl => ?_)
                refine lv_iinc (v := nI (k + 1)) (lv' := [(8, .int (nI (k + 1))), (6, .long (lN (fr + 4096))), (5, .int (ac + 1)), (0, .ref hm), (1, .int mo), (2, .int wh), (3, .int ad), (4, .int n)]) hx hb dX2_pages_86 hl (k := 2) rfl (nI_1 k) (by decide) rfl (fun ls hl => ?_)
                refine lv_goto (tgt := 38) hx hb dX2_pages_89 (by decide) ?_
                exact ih (k + 1) (fr + 4096) (ac + 1) (kdF wh) (viF mo) (usF mo) (exF wh) ca_2 fa_2 oe_2 _ _ _ ⟨by show k + 1 + j = N; omega, by show fr + 4096 < 4294971392; omega, hpg, hP, hS, lv_sub hl [0, 1, 2, 3, 4, 5, 6, 7] rfl⟩
        · skip
          exact K_4 (N, 0, tn ad, 0, kd, vi, us, ex, ca, fa, oe) _ _ _ ⟨Nat.zero_add N, by show tn ad < 4294971392; omega, hPG.symm, hP, hS, hl⟩
      · skip
        refine lv_iconst (v := (-1)) hx hb dX2_pages_22 (by decide) ?_
        exact gri (((pl, to, te), (kd, vi, us, ex, ca, fa, oe))) (by rw [pgs, if_neg (by rw [pn_gt c_3, Bool.and_false]; simp)]) hP hS hx hb hr hlocks dX2_pages_23
end
section
/-! StageWalker: what the law calls -/
set_option maxRecDepth 100000
theorem tnI (a : Int32) : a.toInt = if 2 * tn a < 4294967296 then (tn a : Int) else (tn a : Int) - 4294967296 := BitVec.toInt_eq_toNat_cond _
theorem and3z (a : Int32) : (a &&& 3 = 0) ↔ a.toInt % 4 = 0 := by
  have h := pk_and a (m := 3) 2 (by decide)
  rw [h]
  show (nI (tn a % 2 ^ 2) = nI 0) ↔ _
  have h2 := tn_lt a
  rw [nI_eq (by omega) (by decide), tnI]
  split <;> omega
theorem shr2 {a : Int32} (h0 : ¬ a < 0) : a >>> ((2 : Int32) &&& 31) = nI (a.toInt.toNat / 4) := by
  obtain ⟨n, hn, rfl⟩ := nI_of h0
  rw [nI_toInt hn, Int.toNat_natCast]
  exact pk_shrN hn ((2 : Int32) &&& 31) 2 (by decide)
theorem wx_1 {a : Int32} (h : ¬ a &&& 3 = 0) : wd a = false := by
  have h := (not_congr (and3z a)).mp h; exact decide_eq_false (by omega)
theorem wx_2 {a : Int32} (h0 : ¬ a < 0) (h : 65536 ≤ a >>> ((2 : Int32) &&& 31)) : wd a = false := by
  rw [shr2 h0] at h
  have hr := fb_rng a
  have h := (nI_leI (a := 65536) (by decide) (by omega)).mp h
  exact decide_eq_false (by omega)
theorem wx_3 {a : Int32} (h1 : a &&& 3 = 0) (h0 : ¬ a < 0) (h : ¬ 65536 ≤ a >>> ((2 : Int32) &&& 31)) : wd a = true := by
  have h1 := (and3z a).mp h1
  rw [shr2 h0] at h
  have hr := fb_rng a
  have h := (not_congr (nI_leI (a := 65536) (by decide) (by omega))).mp h
  rw [fa_lt, ti0] at h0
  exact decide_eq_true (by omega)
theorem wd_nn {a : Int32} (h : wd a = true) : ¬ a < 0 := by
  have h := of_decide_eq_true h; rw [fa_lt, ti0]; omega
theorem px_1 {a : Int32} (h : wd a = false) : pkb a = false := by
  have h := of_decide_eq_false h; exact decide_eq_false (by omega)
theorem px_2 {a : Int32} (hw : wd a = true) (h : ¬ (a >>> ((2 : Int32) &&& 31)) + 5 ≤ 65536) : pkb a = false := by
  rw [shr2 (wd_nn hw)] at h
  have hw := of_decide_eq_true hw
  have h2 : ¬ nI (a.toInt.toNat / 4 + 5) ≤ nI 65536 := by rw [← nI_add]; exact h
  have h3 := (not_congr (nI_leI (by omega) (by decide))).mp h2
  exact decide_eq_false (by omega)
theorem px_3 {a : Int32} (hw : wd a = true) (h : (a >>> ((2 : Int32) &&& 31)) + 5 ≤ 65536) : pkb a = true := by
  rw [shr2 (wd_nn hw)] at h
  have hw := of_decide_eq_true hw
  have h2 : nI (a.toInt.toNat / 4 + 5) ≤ nI 65536 := by rw [← nI_add]; exact h
  have h3 := (nI_leI (by omega) (by decide)).mp h2
  exact decide_eq_true (by omega)
theorem vi_lt {mo : Int32} (h : mo < 2) : viF mo = false := by
  rw [fa_lt, ti2] at h
  unfold viF
  rw [decide_eq_true (by rw [fa_le, ti1]; omega)]; rfl
theorem vi_ge {mo : Int32} (h : ¬ mo < 2) : viF mo = true := by
  rw [fa_lt, ti2] at h
  unfold viF
  rw [decide_eq_false (by rw [fa_le, ti1]; omega)]; rfl
theorem mo4 {mo k : Int32} (h : kok mo k = true) : mo = 0 ∨ mo = 1 ∨ mo = 2 ∨ mo = 3 := by
  have h := of_decide_eq_true h
  rw [fa_eq, fa_eq, fa_eq, fa_eq, ti0, ti1, ti2, ti3]
  omega
theorem us_0 {mo k : Int32} (h : kok mo k = true) (h2 : eb mo 0 = false) : usF mo = true := by
  rcases mo4 h with rfl | rfl | rfl | rfl
  · rfl
  · exact absurd h2 (by decide)
  · rfl
  · exact absurd h2 (by decide)
theorem us_1 {mo k : Int32} (h : kok mo k = true) (h2 : eb mo 0 = true) : usF mo = false := by
  rcases mo4 h with rfl | rfl | rfl | rfl
  · exact absurd h2 (by decide)
  · rfl
  · exact absurd h2 (by decide)
  · rfl
set_option maxHeartbeats 4000000 in
/-- isWord -/
theorem m_isWord (l : Launch) (a : Int32) : Met l yX0_isWord (ws_ yX0_isWord cX0_isWord 1 (some .boolean)) (rmX 0 0) (va_Pc [.int a] (Tt)) (QP (.int (bI (wd a)))) 0 0 NoA := by
  refine mst (by decide) (Nat.le_of_ble_eq_true rfl) ?_
  intro p ee s m below meth c hx hb hr hlocks hml hown hts hin hB ls hl
  have hl : lv_has ls 1 [(0, .int a)] := hl
  refine lv_iload_n hx hb dX0_isWord_0 rfl (lv_at hl 0 rfl) ?_
  refine lv_iconst (v := 3) hx hb dX0_isWord_1 (by decide) ?_
  refine lv_iand hx hb dX0_isWord_2 ?_
  refine lv_if_ne (tgt := 22) hx hb dX0_isWord_3 (by decide) (fun c_1 => ?_) (fun c_1 => ?_)
  · skip
    refine lv_iconst (v := 0) hx hb dX0_isWord_22 (by decide) ?_
    exact prz (by rw [wx_1 c_1]; rfl) hx hb hr hlocks dX0_isWord_23
  · skip
    refine lv_iload_n hx hb dX0_isWord_6 rfl (lv_at hl 0 rfl) ?_
    refine lv_if_lt (tgt := 22) hx hb dX0_isWord_7 (by decide) (fun c_2 => ?_) (fun c_2 => ?_)
    · skip
      refine lv_iconst (v := 0) hx hb dX0_isWord_22 (by decide) ?_
      exact prz (by rw [wd_1 c_2]; rfl) hx hb hr hlocks dX0_isWord_23
    · skip
      refine lv_iload_n hx hb dX0_isWord_10 rfl (lv_at hl 0 rfl) ?_
      refine lv_iconst (v := 2) hx hb dX0_isWord_11 (by decide) ?_
      refine lv_ishr hx hb dX0_isWord_12 ?_
      refine lv_ldc hx hb hown (hts _ q30) dX0_isWord_13 ?_
      refine lv_icmp_ge (tgt := 22) hx hb dX0_isWord_15 (by decide) (fun c_3 => ?_) (fun c_3 => ?_)
      · skip
        refine lv_iconst (v := 0) hx hb dX0_isWord_22 (by decide) ?_
        exact prz (by rw [wx_2 c_2 c_3]; rfl) hx hb hr hlocks dX0_isWord_23
      · skip
        refine lv_iconst (v := 1) hx hb dX0_isWord_18 (by decide) ?_
        refine lv_goto (tgt := 23) hx hb dX0_isWord_19 (by decide) ?_
        exact prz (by rw [wx_3 c_1 c_2 c_3]; rfl) hx hb hr hlocks dX0_isWord_23
set_option maxHeartbeats 4000000 in
/-- place -/
theorem m_xplace (l : Launch) (D : va_G) (hx_ mm hw : Nat) (dA : ClassId) (M : Nat → Int32) (ap vp hg ri : Int32) (pl se : Int32) (en : Bool) (vi us ex : Bool) (wp ws_2 : Int64) (we : Bool) (wt : Int64) (wr : Int32) : Met l yX0_place (ws_ yX0_place cX0_place 1 (some .int)) (rmX 0 0) (va_Pc [.ref hx_] (Gr D vCl [(dA, .int)] (xV hx_ mm hw dA M ap vp hg ri (pl, se, en) (vi, us, ex, wp, ws_2, we, wt, wr)))) (QP (.int pl)) 0 0 NoA := by
  refine mst (by decide) (Nat.le_of_ble_eq_true rfl) ?_
  intro p ee s m below meth c hx hb hr hlocks hml hown hts hin hB ls hl
  have hl : lv_has ls 1 [(0, .ref hx_)] := hl
  obtain ⟨hP, hK⟩ := hB
  have hP : va_P D vCl [(hx_, swO mm hw ri pl se en), (mm, arO dA M), (hw, wkO mm vi us ex ap vp hg (eb ri 0) (eb ri 1) (eb ri 2) (eb ri 3) wp ws_2 we wt wr)] s.heap := hP
  refine lv_aload_n hx hb dX0_place_0 rfl (lv_at hl 0 rfl) ?_
  refine va_get (D := D) (ci := 0) (v := .int pl) (C := RX0) (T := TX0) (N := 6) hx hb hts in_X0 hown hK hP 0 rfl rfl 3 (by decide) (hts _ q103) (fun _ h9 => h9) rfl dX0_place_1 ?_
  exact pri rfl hx hb hr hlocks dX0_place_4
set_option maxHeartbeats 4000000 in
/-- second -/
theorem m_xsecond (l : Launch) (D : va_G) (hx_ mm hw : Nat) (dA : ClassId) (M : Nat → Int32) (ap vp hg ri : Int32) (pl se : Int32) (en : Bool) (vi us ex : Bool) (wp ws_2 : Int64) (we : Bool) (wt : Int64) (wr : Int32) : Met l yX0_second (ws_ yX0_second cX0_second 1 (some .int)) (rmX 0 0) (va_Pc [.ref hx_] (Gr D vCl [(dA, .int)] (xV hx_ mm hw dA M ap vp hg ri (pl, se, en) (vi, us, ex, wp, ws_2, we, wt, wr)))) (QP (.int se)) 0 0 NoA := by
  refine mst (by decide) (Nat.le_of_ble_eq_true rfl) ?_
  intro p ee s m below meth c hx hb hr hlocks hml hown hts hin hB ls hl
  have hl : lv_has ls 1 [(0, .ref hx_)] := hl
  obtain ⟨hP, hK⟩ := hB
  have hP : va_P D vCl [(hx_, swO mm hw ri pl se en), (mm, arO dA M), (hw, wkO mm vi us ex ap vp hg (eb ri 0) (eb ri 1) (eb ri 2) (eb ri 3) wp ws_2 we wt wr)] s.heap := hP
  refine lv_aload_n hx hb dX0_second_0 rfl (lv_at hl 0 rfl) ?_
  refine va_get (D := D) (ci := 0) (v := .int se) (C := RX0) (T := TX0) (N := 6) hx hb hts in_X0 hown hK hP 0 rfl rfl 4 (by decide) (hts _ q104) (fun _ h9 => h9) rfl dX0_second_1 ?_
  exact pri rfl hx hb hr hlocks dX0_second_4
set_option maxHeartbeats 4000000 in
/-- entry -/
theorem m_xentry (l : Launch) (D : va_G) (hx_ mm hw : Nat) (dA : ClassId) (M : Nat → Int32) (ap vp hg ri : Int32) (pl se : Int32) (en : Bool) (vi us ex : Bool) (wp ws_2 : Int64) (we : Bool) (wt : Int64) (wr : Int32) : Met l yX0_entry (ws_ yX0_entry cX0_entry 1 (some .boolean)) (rmX 0 0) (va_Pc [.ref hx_] (Gr D vCl [(dA, .int)] (xV hx_ mm hw dA M ap vp hg ri (pl, se, en) (vi, us, ex, wp, ws_2, we, wt, wr)))) (QP (.int (bI en))) 0 0 NoA := by
  refine mst (by decide) (Nat.le_of_ble_eq_true rfl) ?_
  intro p ee s m below meth c hx hb hr hlocks hml hown hts hin hB ls hl
  have hl : lv_has ls 1 [(0, .ref hx_)] := hl
  obtain ⟨hP, hK⟩ := hB
  have hP : va_P D vCl [(hx_, swO mm hw ri pl se en), (mm, arO dA M), (hw, wkO mm vi us ex ap vp hg (eb ri 0) (eb ri 1) (eb ri 2) (eb ri 3) wp ws_2 we wt wr)] s.heap := hP
  refine lv_aload_n hx hb dX0_entry_0 rfl (lv_at hl 0 rfl) ?_
  refine va_get (D := D) (ci := 0) (v := .int (bI en)) (C := RX0) (T := TX0) (N := 6) hx hb hts in_X0 hown hK hP 0 rfl rfl 5 (by decide) (hts _ q105) (fun _ h9 => h9) rfl dX0_entry_1 ?_
  exact prz rfl hx hb hr hlocks dX0_entry_4
set_option maxHeartbeats 4000000 in
/-- word -/
theorem m_xword (l : Launch) (D : va_G) (hx_ mm hw : Nat) (dA : ClassId) (M : Nat → Int32) (ap vp hg ri : Int32) (pl se : Int32) (en : Bool) (vi us ex : Bool) (wp ws_2 : Int64) (we : Bool) (wt : Int64) (wr : Int32) (a : Int32) : Met l yX0_word (ws_ yX0_word cX0_word 2 (some .int)) (rmX 1 20) (va_Pc [.ref hx_, .int a] (Gr D vCl [(dA, .int)] (xV hx_ mm hw dA M ap vp hg ri (pl, se, en) (vi, us, ex, wp, ws_2, we, wt, wr)))) (QP (.int (wdR M a))) 0 0 NoA := by
  refine mst (by decide) (Nat.le_of_ble_eq_true rfl) ?_
  intro p ee s m below meth c hx hb hr hlocks hml hown hts hin hB ls hl
  have hl : lv_has ls 2 [(0, .ref hx_), (1, .int a)] := hl
  obtain ⟨hP, hK⟩ := hB
  have hP : va_P D vCl [(hx_, swO mm hw ri pl se en), (mm, arO dA M), (hw, wkO mm vi us ex ap vp hg (eb ri 0) (eb ri 1) (eb ri 2) (eb ri 3) wp ws_2 we wt wr)] s.heap := hP
  refine lv_iload_n hx hb dX0_word_0 rfl (lv_at hl 1 rfl) ?_
  refine pcall (va_runS (As := [.int a]) (rest := []) ⟨hx, hb, hml, hown, hts⟩ (m_isWord l a) (va_cwS 1 hts (lw_S q137 q138 q19 q139) rfl rfl rfl (by decide +kernel) ⟨Nat.le_of_ble_eq_true rfl, Nat.le_of_ble_eq_true rfl⟩) pT_S rfl rfl hl.1 rfl (lv_room (Nat.le_of_ble_eq_true rfl)) dX0_word_1 ⟨Nat.le_refl _, Nat.le_refl _⟩) ?_
  refine lv_if_eq (tgt := 18) hx hb dX0_word_4 (by decide) (fun c_1 => ?_) (fun c_1 => ?_)
  · skip
    have c_1 := (bI_z _).mp c_1
    refine lv_iconst (v := 0) hx hb dX0_word_18 (by decide) ?_
    exact pri (wdR_n c_1).symm hx hb hr hlocks dX0_word_19
  · skip
    have c_1 := (bI_n _).mp c_1
    obtain ⟨n, hn, ea, en_⟩ := wd_n c_1
    refine lv_aload_n hx hb dX0_word_7 rfl (lv_at hl 0 rfl) ?_
    refine va_get (D := D) (ci := 0) (v := .ref mm) (C := RX0) (T := TX0) (N := 6) hx hb hts in_X0 hown hK hP 0 rfl rfl 0 (by decide) (hts _ q100) (fun _ h9 => h9) rfl dX0_word_8 ?_
    refine lv_iload_n hx hb dX0_word_11 rfl (lv_at hl 1 rfl) ?_
    refine lv_iconst (v := 2) hx hb dX0_word_12 (by decide) ?_
    refine lv_ishr hx hb dX0_word_13 ?_
    refine tpi (y := nI n) (by rw [shr2 (wd_nn c_1), en_]) ?_
    refine va_iald hx hb hK hP 1 0 rfl rfl (vp_in_nI hn (by decide)) dX0_word_14 ?_
    refine lv_goto (tgt := 19) hx hb dX0_word_15 (by decide) ?_
    exact pri (by rw [wdR_y c_1, en_, nI_clamp (by omega)]) hx hb hr hlocks dX0_word_19
set_option maxHeartbeats 4000000 in
/-- poke -/
theorem m_xpoke (l : Launch) (D : va_G) (hx_ mm hw : Nat) (dA : ClassId) (M : Nat → Int32) (ap vp hg ri : Int32) (A : Nat → Prop) (pl se : Int32) (en : Bool) (vi us ex : Bool) (wp ws_2 : Int64) (we : Bool) (wt : Int64) (wr : Int32) (a v1 v2 v3 v4 v5 : Int32) : Met l yX0_poke (ws_ yX0_poke cX0_poke 8 (some .int)) (rmX 1 20) (va_Pc [.ref hx_, .int a, .int v1, .int v2, .int v3, .int v4, .int v5] (Gx D vCl [(dA, .int)] A (xV hx_ mm hw dA M ap vp hg ri (pl, se, en) (vi, us, ex, wp, ws_2, we, wt, wr)))) (GQi D vCl A (fun _ : Unit => xV hx_ mm hw dA (pkM M a v1 v2 v3 v4 v5) ap vp hg ri (pl, se, en) (vi, us, ex, wp, ws_2, we, wt, wr)) (fun r _ => r = pkR a)) 0 0 A := by
  refine mst (by decide) (Nat.le_of_ble_eq_true rfl) ?_
  intro p ee s m below meth c hx hb hr hlocks hml hown hts hin hB ls hl
  have hl : lv_has ls 8 [(0, .ref hx_), (1, .int a), (2, .int v1), (3, .int v2), (4, .int v3), (5, .int v4), (6, .int v5)] := hl
  obtain ⟨hP, hK, hD, hZ⟩ := hB
  have hP : va_P D vCl [(hx_, swO mm hw ri pl se en), (mm, arO dA M), (hw, wkO mm vi us ex ap vp hg (eb ri 0) (eb ri 1) (eb ri 2) (eb ri 3) wp ws_2 we wt wr)] s.heap := hP
  have hD : va_D A [(hx_, swO mm hw ri pl se en), (mm, arO dA M), (hw, wkO mm vi us ex ap vp hg (eb ri 0) (eb ri 1) (eb ri 2) (eb ri 3) wp ws_2 we wt wr)] := hD
  have hS : va_S A s.heap s.heap [] := va_S.rf
  refine lv_iload_n hx hb dX0_poke_0 rfl (lv_at hl 1 rfl) ?_
  refine pcall (va_runS (As := [.int a]) (rest := []) ⟨hx, hb, hml, hown, hts⟩ (m_isWord l a) (va_cwS 1 hts (lw_S q137 q138 q19 q139) rfl rfl rfl (by decide +kernel) ⟨Nat.le_of_ble_eq_true rfl, Nat.le_of_ble_eq_true rfl⟩) pT_S rfl rfl hl.1 rfl (lv_room (Nat.le_of_ble_eq_true rfl)) dX0_poke_1 ⟨Nat.le_refl _, Nat.le_refl _⟩) ?_
  refine lv_if_eq (tgt := 17) hx hb dX0_poke_4 (by decide) (fun c_1 => ?_) (fun c_1 => ?_)
  · skip
    have c_1 := (bI_z _).mp c_1
    refine lv_iconst (v := (-1)) hx hb dX0_poke_17 (by decide) ?_
    have hpk := px_1 c_1
    exact gri () (pkR_n hpk).symm (by rw [pkM_n hpk]; exact hP) hS hx hb hr hlocks dX0_poke_18
  · skip
    have c_1 := (bI_n _).mp c_1
    refine lv_iload_n hx hb dX0_poke_7 rfl (lv_at hl 1 rfl) ?_
    refine lv_iconst (v := 2) hx hb dX0_poke_8 (by decide) ?_
    refine lv_ishr hx hb dX0_poke_9 ?_
    refine lv_iconst (v := 5) hx hb dX0_poke_10 (by decide) ?_
    refine lv_iadd hx hb dX0_poke_11 ?_
    refine lv_ldc hx hb hown (hts _ q30) dX0_poke_12 ?_
    refine lv_icmp_le (tgt := 19) hx hb dX0_poke_14 (by decide) (fun c_2 => ?_) (fun c_2 => ?_)
    · skip
      have hpk := px_3 c_1 c_2
      obtain ⟨n, hn, ea, en_⟩ := pkb_n hpk
      have ed : a >>> ((2 : Int32) &&& 31) = nI n := by rw [shr2 (wd_nn c_1), en_]
      refine lv_iload_n hx hb dX0_poke_19 rfl (lv_at hl 1 rfl) ?_
      refine lv_iconst (v := 2) hx hb dX0_poke_20 (by decide) ?_
      refine lv_ishr hx hb dX0_poke_21 ?_
      refine tpi (y := nI n) (ed) ?_
      refine lv_istore (lv' := [(7, .int (nI n)), (0, .ref hx_), (1, .int a), (2, .int v1), (3, .int v2), (4, .int v3), (5, .int v4), (6, .int v5)]) hx hb dX0_poke_22 hl (by decide) rfl (fun ls hl => ?_)
      refine lv_aload_n hx hb dX0_poke_24 rfl (lv_at hl 1 rfl) ?_
      refine va_get (D := D) (ci := 0) (v := .ref mm) (C := RX0) (T := TX0) (N := 6) hx hb hts in_X0 hown hK hP 0 rfl rfl 0 (by decide) (hts _ q100) (fun _ h9 => h9) rfl dX0_poke_25 ?_
      refine lv_iload hx hb dX0_poke_28 (lv_at hl 0 rfl) ?_
      refine lv_iload_n hx hb dX0_poke_30 rfl (lv_at hl 3 rfl) ?_
      refine va_iast hx hb hK hP hD hS 1 0 rfl rfl (vp_in_nI (by omega) (by decide)) dX0_poke_31 (fun H locs hP hD hS => ?_)
      have hP : va_P D vCl [(hx_, swO mm hw ri pl se en), (mm, arO dA (upd M (nI n).toNatClampNeg v1)), (hw, wkO mm vi us ex ap vp hg (eb ri 0) (eb ri 1) (eb ri 2) (eb ri 3) wp ws_2 we wt wr)] H := hP
      have hD : va_D A [(hx_, swO mm hw ri pl se en), (mm, arO dA (upd M (nI n).toNatClampNeg v1)), (hw, wkO mm vi us ex ap vp hg (eb ri 0) (eb ri 1) (eb ri 2) (eb ri 3) wp ws_2 we wt wr)] := hD
      refine lv_aload_n hx hb dX0_poke_32 rfl (lv_at hl 1 rfl) ?_
      refine va_get (D := D) (ci := 0) (v := .ref mm) (C := RX0) (T := TX0) (N := 6) hx hb hts in_X0 hown hK hP 0 rfl rfl 0 (by decide) (hts _ q100) (fun _ h9 => h9) rfl dX0_poke_33 ?_
      refine lv_iload hx hb dX0_poke_36 (lv_at hl 0 rfl) ?_
      refine lv_iconst (v := 1) hx hb dX0_poke_38 (by decide) ?_
      refine lv_iadd hx hb dX0_poke_39 ?_
      refine tpi (y := nI (n + 1)) (nI_add n 1) ?_
      refine lv_iload_n hx hb dX0_poke_40 rfl (lv_at hl 4 rfl) ?_
      refine va_iast hx hb hK hP hD hS 1 0 rfl rfl (vp_in_nI (by omega) (by decide)) dX0_poke_41 (fun H locs hP hD hS => ?_)
      have hP : va_P D vCl [(hx_, swO mm hw ri pl se en), (mm, arO dA (upd (upd M (nI n).toNatClampNeg v1) (nI (n + 1)).toNatClampNeg v2)), (hw, wkO mm vi us ex ap vp hg (eb ri 0) (eb ri 1) (eb ri 2) (eb ri 3) wp ws_2 we wt wr)] H := hP
      have hD : va_D A [(hx_, swO mm hw ri pl se en), (mm, arO dA (upd (upd M (nI n).toNatClampNeg v1) (nI (n + 1)).toNatClampNeg v2)), (hw, wkO mm vi us ex ap vp hg (eb ri 0) (eb ri 1) (eb ri 2) (eb ri 3) wp ws_2 we wt wr)] := hD
      refine lv_aload_n hx hb dX0_poke_42 rfl (lv_at hl 1 rfl) ?_
      refine va_get (D := D) (ci := 0) (v := .ref mm) (C := RX0) (T := TX0) (N := 6) hx hb hts in_X0 hown hK hP 0 rfl rfl 0 (by decide) (hts _ q100) (fun _ h9 => h9) rfl dX0_poke_43 ?_
      refine lv_iload hx hb dX0_poke_46 (lv_at hl 0 rfl) ?_
      refine lv_iconst (v := 2) hx hb dX0_poke_48 (by decide) ?_
      refine lv_iadd hx hb dX0_poke_49 ?_
      refine tpi (y := nI (n + 2)) (nI_add n 2) ?_
      refine lv_iload hx hb dX0_poke_50 (lv_at hl 5 rfl) ?_
      refine va_iast hx hb hK hP hD hS 1 0 rfl rfl (vp_in_nI (by omega) (by decide)) dX0_poke_52 (fun H locs hP hD hS => ?_)
      have hP : va_P D vCl [(hx_, swO mm hw ri pl se en), (mm, arO dA (upd (upd (upd M (nI n).toNatClampNeg v1) (nI (n + 1)).toNatClampNeg v2) (nI (n + 2)).toNatClampNeg v3)), (hw, wkO mm vi us ex ap vp hg (eb ri 0) (eb ri 1) (eb ri 2) (eb ri 3) wp ws_2 we wt wr)] H := hP
      have hD : va_D A [(hx_, swO mm hw ri pl se en), (mm, arO dA (upd (upd (upd M (nI n).toNatClampNeg v1) (nI (n + 1)).toNatClampNeg v2) (nI (n + 2)).toNatClampNeg v3)), (hw, wkO mm vi us ex ap vp hg (eb ri 0) (eb ri 1) (eb ri 2) (eb ri 3) wp ws_2 we wt wr)] := hD
      refine lv_aload_n hx hb dX0_poke_53 rfl (lv_at hl 1 rfl) ?_
      refine va_get (D := D) (ci := 0) (v := .ref mm) (C := RX0) (T := TX0) (N := 6) hx hb hts in_X0 hown hK hP 0 rfl rfl 0 (by decide) (hts _ q100) (fun _ h9 => h9) rfl dX0_poke_54 ?_
      refine lv_iload hx hb dX0_poke_57 (lv_at hl 0 rfl) ?_
      refine lv_iconst (v := 3) hx hb dX0_poke_59 (by decide) ?_
      refine lv_iadd hx hb dX0_poke_60 ?_
      refine tpi (y := nI (n + 3)) (nI_add n 3) ?_
      refine lv_iload hx hb dX0_poke_61 (lv_at hl 6 rfl) ?_
      refine va_iast hx hb hK hP hD hS 1 0 rfl rfl (vp_in_nI (by omega) (by decide)) dX0_poke_63 (fun H locs hP hD hS => ?_)
      have hP : va_P D vCl [(hx_, swO mm hw ri pl se en), (mm, arO dA (upd (upd (upd (upd M (nI n).toNatClampNeg v1) (nI (n + 1)).toNatClampNeg v2) (nI (n + 2)).toNatClampNeg v3) (nI (n + 3)).toNatClampNeg v4)), (hw, wkO mm vi us ex ap vp hg (eb ri 0) (eb ri 1) (eb ri 2) (eb ri 3) wp ws_2 we wt wr)] H := hP
      have hD : va_D A [(hx_, swO mm hw ri pl se en), (mm, arO dA (upd (upd (upd (upd M (nI n).toNatClampNeg v1) (nI (n + 1)).toNatClampNeg v2) (nI (n + 2)).toNatClampNeg v3) (nI (n + 3)).toNatClampNeg v4)), (hw, wkO mm vi us ex ap vp hg (eb ri 0) (eb ri 1) (eb ri 2) (eb ri 3) wp ws_2 we wt wr)] := hD
      refine lv_aload_n hx hb dX0_poke_64 rfl (lv_at hl 1 rfl) ?_
      refine va_get (D := D) (ci := 0) (v := .ref mm) (C := RX0) (T := TX0) (N := 6) hx hb hts in_X0 hown hK hP 0 rfl rfl 0 (by decide) (hts _ q100) (fun _ h9 => h9) rfl dX0_poke_65 ?_
      refine lv_iload hx hb dX0_poke_68 (lv_at hl 0 rfl) ?_
      refine lv_iconst (v := 4) hx hb dX0_poke_70 (by decide) ?_
      refine lv_iadd hx hb dX0_poke_71 ?_
      refine tpi (y := nI (n + 4)) (nI_add n 4) ?_
      refine lv_iload hx hb dX0_poke_72 (lv_at hl 7 rfl) ?_
      refine va_iast hx hb hK hP hD hS 1 0 rfl rfl (vp_in_nI (by omega) (by decide)) dX0_poke_74 (fun H locs hP hD hS => ?_)
      have hP : va_P D vCl [(hx_, swO mm hw ri pl se en), (mm, arO dA (upd (upd (upd (upd (upd M (nI n).toNatClampNeg v1) (nI (n + 1)).toNatClampNeg v2) (nI (n + 2)).toNatClampNeg v3) (nI (n + 3)).toNatClampNeg v4) (nI (n + 4)).toNatClampNeg v5)), (hw, wkO mm vi us ex ap vp hg (eb ri 0) (eb ri 1) (eb ri 2) (eb ri 3) wp ws_2 we wt wr)] H := hP
      have hD : va_D A [(hx_, swO mm hw ri pl se en), (mm, arO dA (upd (upd (upd (upd (upd M (nI n).toNatClampNeg v1) (nI (n + 1)).toNatClampNeg v2) (nI (n + 2)).toNatClampNeg v3) (nI (n + 3)).toNatClampNeg v4) (nI (n + 4)).toNatClampNeg v5)), (hw, wkO mm vi us ex ap vp hg (eb ri 0) (eb ri 1) (eb ri 2) (eb ri 3) wp ws_2 we wt wr)] := hD
      refine lv_iload_n hx hb dX0_poke_75 rfl (lv_at hl 2 rfl) ?_
      refine lv_bipush (v := 20) hx hb dX0_poke_76 (by decide) ?_
      refine lv_iadd hx hb dX0_poke_78 ?_
      have eM : pkM M a v1 v2 v3 v4 v5 = upd (upd (upd (upd (upd M (nI n).toNatClampNeg v1) (nI (n + 1)).toNatClampNeg v2) (nI (n + 2)).toNatClampNeg v3) (nI (n + 3)).toNatClampNeg v4) (nI (n + 4)).toNatClampNeg v5 := by rw [pkM_y hpk, en_, nI_clamp (by omega), nI_clamp (by omega), nI_clamp (by omega), nI_clamp (by omega), nI_clamp (by omega)]; rfl
      exact gri () (pkR_y hpk).symm (by rw [eM]; exact hP) hS hx hb hr hlocks dX0_poke_79
    · skip
      refine lv_iconst (v := (-1)) hx hb dX0_poke_17 (by decide) ?_
      have hpk := px_2 c_1 c_2
      exact gri () (pkR_n hpk).symm (by rw [pkM_n hpk]; exact hP) hS hx hb hr hlocks dX0_poke_18
def mr (a : Int32) : Int32 := a &&& (-2143289345)
def mg (a : Int32) : Int32 := a &&& (-2143289348)
set_option maxHeartbeats 4000000 in
/-- roots -/
theorem m_xroots (l : Launch) (D : va_G) (hx_ mm hw : Nat) (dA : ClassId) (M : Nat → Int32) (ap vp hg ri : Int32) (A : Nat → Prop) (pl se : Int32) (en : Bool) (vi us ex : Bool) (wp ws_2 : Int64) (we : Bool) (wt : Int64) (wr : Int32) (a b d : Int32) : Met l yX0_roots (ws_ yX0_roots cX0_roots 4 none) (rmX 0 0) (va_Pc [.ref hx_, .int a, .int b, .int d] (Gx D vCl [(dA, .int)] A (xV hx_ mm hw dA M ap vp hg ri (pl, se, en) (vi, us, ex, wp, ws_2, we, wt, wr)))) (GQv D vCl A (fun _ : Unit => xV hx_ mm hw dA M (mr a) (mr b) (mg d) ri (pl, se, en) (vi, us, ex, wp, ws_2, we, wt, wr)) (fun _ => True)) 0 0 A := by
  refine mst (by decide) (Nat.le_of_ble_eq_true rfl) ?_
  intro p ee s m below meth c hx hb hr hlocks hml hown hts hin hB ls hl
  have hl : lv_has ls 4 [(0, .ref hx_), (1, .int a), (2, .int b), (3, .int d)] := hl
  obtain ⟨hP, hK, hD, hZ⟩ := hB
  have hP : va_P D vCl [(hx_, swO mm hw ri pl se en), (mm, arO dA M), (hw, wkO mm vi us ex ap vp hg (eb ri 0) (eb ri 1) (eb ri 2) (eb ri 3) wp ws_2 we wt wr)] s.heap := hP
  have hD : va_D A [(hx_, swO mm hw ri pl se en), (mm, arO dA M), (hw, wkO mm vi us ex ap vp hg (eb ri 0) (eb ri 1) (eb ri 2) (eb ri 3) wp ws_2 we wt wr)] := hD
  have hS : va_S A s.heap s.heap [] := va_S.rf
  refine lv_aload_n hx hb dX0_roots_0 rfl (lv_at hl 0 rfl) ?_
  refine va_get (D := D) (ci := 0) (v := .ref hw) (C := RX0) (T := TX0) (N := 6) hx hb hts in_X0 hown hK hP 0 rfl rfl 1 (by decide) (hts _ q101) (fun _ h9 => h9) rfl dX0_roots_1 ?_
  refine lv_iload_n hx hb dX0_roots_4 rfl (lv_at hl 1 rfl) ?_
  refine lv_ldc hx hb hown (hts _ q127) dX0_roots_5 ?_
  refine lv_iand hx hb dX0_roots_7 ?_
  refine va_put (D := D) (ci := 1) (v := .int (a &&& (-2143289345))) (ty := .int) (C := RX1) (T := TX1) (N := 16) hx hb hts in_X1 tyX1 tyX1_ok nmX1 hown hK hP hD hS 2 rfl rfl 4 (by decide) (hts _ q45) (fun _ h9 => h9) rfl (by decide +kernel) rfl rfl (Nat.le_of_ble_eq_true rfl) dX0_roots_8 (fun H locs hP hD hS => ?_)
  have hP : va_P D vCl [(hx_, swO mm hw ri pl se en), (mm, arO dA M), (hw, wkO mm vi us ex (a &&& (-2143289345)) vp hg (eb ri 0) (eb ri 1) (eb ri 2) (eb ri 3) wp ws_2 we wt wr)] H := hP
  have hD : va_D A [(hx_, swO mm hw ri pl se en), (mm, arO dA M), (hw, wkO mm vi us ex (a &&& (-2143289345)) vp hg (eb ri 0) (eb ri 1) (eb ri 2) (eb ri 3) wp ws_2 we wt wr)] := hD
  refine lv_aload_n hx hb dX0_roots_11 rfl (lv_at hl 0 rfl) ?_
  refine va_get (D := D) (ci := 0) (v := .ref hw) (C := RX0) (T := TX0) (N := 6) hx hb hts in_X0 hown hK hP 0 rfl rfl 1 (by decide) (hts _ q101) (fun _ h9 => h9) rfl dX0_roots_12 ?_
  refine lv_iload_n hx hb dX0_roots_15 rfl (lv_at hl 2 rfl) ?_
  refine lv_ldc hx hb hown (hts _ q127) dX0_roots_16 ?_
  refine lv_iand hx hb dX0_roots_18 ?_
  refine va_put (D := D) (ci := 1) (v := .int (b &&& (-2143289345))) (ty := .int) (C := RX1) (T := TX1) (N := 16) hx hb hts in_X1 tyX1 tyX1_ok nmX1 hown hK hP hD hS 2 rfl rfl 5 (by decide) (hts _ q47) (fun _ h9 => h9) rfl (by decide +kernel) rfl rfl (Nat.le_of_ble_eq_true rfl) dX0_roots_19 (fun H locs hP hD hS => ?_)
  have hP : va_P D vCl [(hx_, swO mm hw ri pl se en), (mm, arO dA M), (hw, wkO mm vi us ex (a &&& (-2143289345)) (b &&& (-2143289345)) hg (eb ri 0) (eb ri 1) (eb ri 2) (eb ri 3) wp ws_2 we wt wr)] H := hP
  have hD : va_D A [(hx_, swO mm hw ri pl se en), (mm, arO dA M), (hw, wkO mm vi us ex (a &&& (-2143289345)) (b &&& (-2143289345)) hg (eb ri 0) (eb ri 1) (eb ri 2) (eb ri 3) wp ws_2 we wt wr)] := hD
  refine lv_aload_n hx hb dX0_roots_22 rfl (lv_at hl 0 rfl) ?_
  refine va_get (D := D) (ci := 0) (v := .ref hw) (C := RX0) (T := TX0) (N := 6) hx hb hts in_X0 hown hK hP 0 rfl rfl 1 (by decide) (hts _ q101) (fun _ h9 => h9) rfl dX0_roots_23 ?_
  refine lv_iload_n hx hb dX0_roots_26 rfl (lv_at hl 3 rfl) ?_
  refine lv_ldc hx hb hown (hts _ q128) dX0_roots_27 ?_
  refine lv_iand hx hb dX0_roots_29 ?_
  refine va_put (D := D) (ci := 1) (v := .int (d &&& (-2143289348))) (ty := .int) (C := RX1) (T := TX1) (N := 16) hx hb hts in_X1 tyX1 tyX1_ok nmX1 hown hK hP hD hS 2 rfl rfl 6 (by decide) (hts _ q48) (fun _ h9 => h9) rfl (by decide +kernel) rfl rfl (Nat.le_of_ble_eq_true rfl) dX0_roots_30 (fun H locs hP hD hS => ?_)
  have hP : va_P D vCl [(hx_, swO mm hw ri pl se en), (mm, arO dA M), (hw, wkO mm vi us ex (a &&& (-2143289345)) (b &&& (-2143289345)) (d &&& (-2143289348)) (eb ri 0) (eb ri 1) (eb ri 2) (eb ri 3) wp ws_2 we wt wr)] H := hP
  have hD : va_D A [(hx_, swO mm hw ri pl se en), (mm, arO dA M), (hw, wkO mm vi us ex (a &&& (-2143289345)) (b &&& (-2143289345)) (d &&& (-2143289348)) (eb ri 0) (eb ri 1) (eb ri 2) (eb ri 3) wp ws_2 we wt wr)] := hD
  exact grv () trivial hP hS hx hb hr hlocks dX0_roots_33
set_option maxHeartbeats 4000000 in
/-- rights -/
theorem m_xrights (l : Launch) (D : va_G) (hx_ mm hw : Nat) (dA : ClassId) (M : Nat → Int32) (ap vp hg ri : Int32) (A : Nat → Prop) (pl se : Int32) (en : Bool) (vi us ex : Bool) (wp ws_2 : Int64) (we : Bool) (wt : Int64) (wr : Int32) (b : Int32) : Met l yX0_rights (ws_ yX0_rights cX0_rights 3 (some .int)) (rmX 0 0) (va_Pc [.ref hx_, .int b] (Gx D vCl [(dA, .int)] A (xV hx_ mm hw dA M ap vp hg ri (pl, se, en) (vi, us, ex, wp, ws_2, we, wt, wr)))) (GQi D vCl A (fun _ : Unit => xV hx_ mm hw dA M ap vp hg (b &&& 15) (pl, se, en) (vi, us, ex, wp, ws_2, we, wt, wr)) (fun r _ => r = ri)) 0 0 A := by
  refine mst (by decide) (Nat.le_of_ble_eq_true rfl) ?_
  intro p ee s m below meth c hx hb hr hlocks hml hown hts hin hB ls hl
  have hl : lv_has ls 3 [(0, .ref hx_), (1, .int b)] := hl
  obtain ⟨hP, hK, hD, hZ⟩ := hB
  have hP : va_P D vCl [(hx_, swO mm hw ri pl se en), (mm, arO dA M), (hw, wkO mm vi us ex ap vp hg (eb ri 0) (eb ri 1) (eb ri 2) (eb ri 3) wp ws_2 we wt wr)] s.heap := hP
  have hD : va_D A [(hx_, swO mm hw ri pl se en), (mm, arO dA M), (hw, wkO mm vi us ex ap vp hg (eb ri 0) (eb ri 1) (eb ri 2) (eb ri 3) wp ws_2 we wt wr)] := hD
  have hS : va_S A s.heap s.heap [] := va_S.rf
  refine lv_aload_n hx hb dX0_rights_0 rfl (lv_at hl 0 rfl) ?_
  refine va_get (D := D) (ci := 0) (v := .int ri) (C := RX0) (T := TX0) (N := 6) hx hb hts in_X0 hown hK hP 0 rfl rfl 2 (by decide) (hts _ q102) (fun _ h9 => h9) rfl dX0_rights_1 ?_
  refine lv_istore_n (lv' := [(2, .int ri), (0, .ref hx_), (1, .int b)]) hx hb dX0_rights_4 rfl hl (by decide) rfl (fun ls hl => ?_)
  refine lv_aload_n hx hb dX0_rights_5 rfl (lv_at hl 1 rfl) ?_
  refine lv_iload_n hx hb dX0_rights_6 rfl (lv_at hl 2 rfl) ?_
  refine lv_bipush (v := 15) hx hb dX0_rights_7 (by decide) ?_
  refine lv_iand hx hb dX0_rights_9 ?_
  refine va_put (D := D) (ci := 0) (v := .int (b &&& 15)) (ty := .int) (C := RX0) (T := TX0) (N := 6) hx hb hts in_X0 tyX0 tyX0_ok nmX0 hown hK hP hD hS 0 rfl rfl 2 (by decide) (hts _ q102) (fun _ h9 => h9) rfl (by decide +kernel) rfl rfl (Nat.le_of_ble_eq_true rfl) dX0_rights_10 (fun H locs hP hD hS => ?_)
  have hP : va_P D vCl [(hx_, swO mm hw (b &&& 15) pl se en), (mm, arO dA M), (hw, wkO mm vi us ex ap vp hg (eb ri 0) (eb ri 1) (eb ri 2) (eb ri 3) wp ws_2 we wt wr)] H := hP
  have hD : va_D A [(hx_, swO mm hw (b &&& 15) pl se en), (mm, arO dA M), (hw, wkO mm vi us ex ap vp hg (eb ri 0) (eb ri 1) (eb ri 2) (eb ri 3) wp ws_2 we wt wr)] := hD
  refine lv_aload_n hx hb dX0_rights_13 rfl (lv_at hl 1 rfl) ?_
  refine va_get (D := D) (ci := 0) (v := .ref hw) (C := RX0) (T := TX0) (N := 6) hx hb hts in_X0 hown hK hP 0 rfl rfl 1 (by decide) (hts _ q101) (fun _ h9 => h9) rfl dX0_rights_14 ?_
  refine lv_aload_n hx hb dX0_rights_17 rfl (lv_at hl 1 rfl) ?_
  refine va_get (D := D) (ci := 0) (v := .int (b &&& 15)) (C := RX0) (T := TX0) (N := 6) hx hb hts in_X0 hown hK hP 0 rfl rfl 2 (by decide) (hts _ q102) (fun _ h9 => h9) rfl dX0_rights_18 ?_
  refine lv_iconst (v := 1) hx hb dX0_rights_21 (by decide) ?_
  refine lv_iand hx hb dX0_rights_22 ?_
  refine jn (X := Int32) (fun x_ => F0 m 31 ls [.int x_, .ref hw]) (fun x_ => x_ = bI (eb (b &&& 15) 0)) ?_ (fun K_1 => ?_)
  · intro x_ ex_
    have ex_ := ex_.symm
    subst ex_
    refine va_put (D := D) (ci := 1) (v := .int (bI (eb (b &&& 15) 0))) (ty := .boolean) (C := RX1) (T := TX1) (N := 16) hx hb hts in_X1 tyX1 tyX1_ok nmX1 hown hK hP hD hS 2 rfl rfl 7 (by decide) (hts _ q50) (fun _ h9 => h9) rfl (by decide +kernel) (nar_bI _) (fit_bI _) (Nat.le_of_ble_eq_true rfl) dX0_rights_31 (fun H locs hP hD hS => ?_)
    have hP : va_P D vCl [(hx_, swO mm hw (b &&& 15) pl se en), (mm, arO dA M), (hw, wkO mm vi us ex ap vp hg (eb (b &&& 15) 0) (eb ri 1) (eb ri 2) (eb ri 3) wp ws_2 we wt wr)] H := hP
    have hD : va_D A [(hx_, swO mm hw (b &&& 15) pl se en), (mm, arO dA M), (hw, wkO mm vi us ex ap vp hg (eb (b &&& 15) 0) (eb ri 1) (eb ri 2) (eb ri 3) wp ws_2 we wt wr)] := hD
    refine lv_aload_n hx hb dX0_rights_34 rfl (lv_at hl 1 rfl) ?_
    refine va_get (D := D) (ci := 0) (v := .ref hw) (C := RX0) (T := TX0) (N := 6) hx hb hts in_X0 hown hK hP 0 rfl rfl 1 (by decide) (hts _ q101) (fun _ h9 => h9) rfl dX0_rights_35 ?_
    refine lv_aload_n hx hb dX0_rights_38 rfl (lv_at hl 1 rfl) ?_
    refine va_get (D := D) (ci := 0) (v := .int (b &&& 15)) (C := RX0) (T := TX0) (N := 6) hx hb hts in_X0 hown hK hP 0 rfl rfl 2 (by decide) (hts _ q102) (fun _ h9 => h9) rfl dX0_rights_39 ?_
    refine lv_iconst (v := 2) hx hb dX0_rights_42 (by decide) ?_
    refine lv_iand hx hb dX0_rights_43 ?_
    refine jn (X := Int32) (fun x_ => F0 m 52 ls [.int x_, .ref hw]) (fun x_ => x_ = bI (eb (b &&& 15) 1)) ?_ (fun K_2 => ?_)
    · intro x_ ex_
      have ex_ := ex_.symm
      subst ex_
      refine va_put (D := D) (ci := 1) (v := .int (bI (eb (b &&& 15) 1))) (ty := .boolean) (C := RX1) (T := TX1) (N := 16) hx hb hts in_X1 tyX1 tyX1_ok nmX1 hown hK hP hD hS 2 rfl rfl 8 (by decide) (hts _ q53) (fun _ h9 => h9) rfl (by decide +kernel) (nar_bI _) (fit_bI _) (Nat.le_of_ble_eq_true rfl) dX0_rights_52 (fun H locs hP hD hS => ?_)
      have hP : va_P D vCl [(hx_, swO mm hw (b &&& 15) pl se en), (mm, arO dA M), (hw, wkO mm vi us ex ap vp hg (eb (b &&& 15) 0) (eb (b &&& 15) 1) (eb ri 2) (eb ri 3) wp ws_2 we wt wr)] H := hP
      have hD : va_D A [(hx_, swO mm hw (b &&& 15) pl se en), (mm, arO dA M), (hw, wkO mm vi us ex ap vp hg (eb (b &&& 15) 0) (eb (b &&& 15) 1) (eb ri 2) (eb ri 3) wp ws_2 we wt wr)] := hD
      refine lv_aload_n hx hb dX0_rights_55 rfl (lv_at hl 1 rfl) ?_
      refine va_get (D := D) (ci := 0) (v := .ref hw) (C := RX0) (T := TX0) (N := 6) hx hb hts in_X0 hown hK hP 0 rfl rfl 1 (by decide) (hts _ q101) (fun _ h9 => h9) rfl dX0_rights_56 ?_
      refine lv_aload_n hx hb dX0_rights_59 rfl (lv_at hl 1 rfl) ?_
      refine va_get (D := D) (ci := 0) (v := .int (b &&& 15)) (C := RX0) (T := TX0) (N := 6) hx hb hts in_X0 hown hK hP 0 rfl rfl 2 (by decide) (hts _ q102) (fun _ h9 => h9) rfl dX0_rights_60 ?_
      refine lv_iconst (v := 4) hx hb dX0_rights_63 (by decide) ?_
      refine lv_iand hx hb dX0_rights_64 ?_
      refine jn (X := Int32) (fun x_ => F0 m 73 ls [.int x_, .ref hw]) (fun x_ => x_ = bI (eb (b &&& 15) 2)) ?_ (fun K_3 => ?_)
      · intro x_ ex_
        have ex_ := ex_.symm
        subst ex_
        refine va_put (D := D) (ci := 1) (v := .int (bI (eb (b &&& 15) 2))) (ty := .boolean) (C := RX1) (T := TX1) (N := 16) hx hb hts in_X1 tyX1 tyX1_ok nmX1 hown hK hP hD hS 2 rfl rfl 9 (by decide) (hts _ q54) (fun _ h9 => h9) rfl (by decide +kernel) (nar_bI _) (fit_bI _) (Nat.le_of_ble_eq_true rfl) dX0_rights_73 (fun H locs hP hD hS => ?_)
        have hP : va_P D vCl [(hx_, swO mm hw (b &&& 15) pl se en), (mm, arO dA M), (hw, wkO mm vi us ex ap vp hg (eb (b &&& 15) 0) (eb (b &&& 15) 1) (eb (b &&& 15) 2) (eb ri 3) wp ws_2 we wt wr)] H := hP
        have hD : va_D A [(hx_, swO mm hw (b &&& 15) pl se en), (mm, arO dA M), (hw, wkO mm vi us ex ap vp hg (eb (b &&& 15) 0) (eb (b &&& 15) 1) (eb (b &&& 15) 2) (eb ri 3) wp ws_2 we wt wr)] := hD
        refine lv_aload_n hx hb dX0_rights_76 rfl (lv_at hl 1 rfl) ?_
        refine va_get (D := D) (ci := 0) (v := .ref hw) (C := RX0) (T := TX0) (N := 6) hx hb hts in_X0 hown hK hP 0 rfl rfl 1 (by decide) (hts _ q101) (fun _ h9 => h9) rfl dX0_rights_77 ?_
        refine lv_aload_n hx hb dX0_rights_80 rfl (lv_at hl 1 rfl) ?_
        refine va_get (D := D) (ci := 0) (v := .int (b &&& 15)) (C := RX0) (T := TX0) (N := 6) hx hb hts in_X0 hown hK hP 0 rfl rfl 2 (by decide) (hts _ q102) (fun _ h9 => h9) rfl dX0_rights_81 ?_
        refine lv_bipush (v := 8) hx hb dX0_rights_84 (by decide) ?_
        refine lv_iand hx hb dX0_rights_86 ?_
        refine jn (X := Int32) (fun x_ => F0 m 95 ls [.int x_, .ref hw]) (fun x_ => x_ = bI (eb (b &&& 15) 3)) ?_ (fun K_4 => ?_)
        · intro x_ ex_
          have ex_ := ex_.symm
          subst ex_
          refine va_put (D := D) (ci := 1) (v := .int (bI (eb (b &&& 15) 3))) (ty := .boolean) (C := RX1) (T := TX1) (N := 16) hx hb hts in_X1 tyX1 tyX1_ok nmX1 hown hK hP hD hS 2 rfl rfl 10 (by decide) (hts _ q57) (fun _ h9 => h9) rfl (by decide +kernel) (nar_bI _) (fit_bI _) (Nat.le_of_ble_eq_true rfl) dX0_rights_95 (fun H locs hP hD hS => ?_)
          have hP : va_P D vCl [(hx_, swO mm hw (b &&& 15) pl se en), (mm, arO dA M), (hw, wkO mm vi us ex ap vp hg (eb (b &&& 15) 0) (eb (b &&& 15) 1) (eb (b &&& 15) 2) (eb (b &&& 15) 3) wp ws_2 we wt wr)] H := hP
          have hD : va_D A [(hx_, swO mm hw (b &&& 15) pl se en), (mm, arO dA M), (hw, wkO mm vi us ex ap vp hg (eb (b &&& 15) 0) (eb (b &&& 15) 1) (eb (b &&& 15) 2) (eb (b &&& 15) 3) wp ws_2 we wt wr)] := hD
          refine lv_iload_n hx hb dX0_rights_98 rfl (lv_at hl 0 rfl) ?_
          exact gri (()) (rfl) hP hS hx hb hr hlocks dX0_rights_99
        · skip
          refine lv_if_eq (tgt := 94) hx hb dX0_rights_87 (by decide) (fun c_5 => ?_) (fun c_5 => ?_)
          · skip
            have c_5 := (z_8 _).mp c_5
            refine lv_iconst (v := 0) hx hb dX0_rights_94 (by decide) ?_
            exact K_4 _ (by simp [bI, c_5])
          · skip
            have c_5 := (n_8 _).mp c_5
            refine lv_iconst (v := 1) hx hb dX0_rights_90 (by decide) ?_
            refine lv_goto (tgt := 95) hx hb dX0_rights_91 (by decide) ?_
            exact K_4 _ (by simp [bI, c_5])
      · skip
        refine lv_if_eq (tgt := 72) hx hb dX0_rights_65 (by decide) (fun c_6 => ?_) (fun c_6 => ?_)
        · skip
          have c_6 := (z_4 _).mp c_6
          refine lv_iconst (v := 0) hx hb dX0_rights_72 (by decide) ?_
          exact K_3 _ (by simp [bI, c_6])
        · skip
          have c_6 := (n_4 _).mp c_6
          refine lv_iconst (v := 1) hx hb dX0_rights_68 (by decide) ?_
          refine lv_goto (tgt := 73) hx hb dX0_rights_69 (by decide) ?_
          exact K_3 _ (by simp [bI, c_6])
    · skip
      refine lv_if_eq (tgt := 51) hx hb dX0_rights_44 (by decide) (fun c_7 => ?_) (fun c_7 => ?_)
      · skip
        have c_7 := (z_2 _).mp c_7
        refine lv_iconst (v := 0) hx hb dX0_rights_51 (by decide) ?_
        exact K_2 _ (by simp [bI, c_7])
      · skip
        have c_7 := (n_2 _).mp c_7
        refine lv_iconst (v := 1) hx hb dX0_rights_47 (by decide) ?_
        refine lv_goto (tgt := 52) hx hb dX0_rights_48 (by decide) ?_
        exact K_2 _ (by simp [bI, c_7])
  · skip
    refine lv_if_eq (tgt := 30) hx hb dX0_rights_23 (by decide) (fun c_8 => ?_) (fun c_8 => ?_)
    · skip
      have c_8 := (z_1 _).mp c_8
      refine lv_iconst (v := 0) hx hb dX0_rights_30 (by decide) ?_
      exact K_1 _ (by simp [bI, c_8])
    · skip
      have c_8 := (n_1 _).mp c_8
      refine lv_iconst (v := 1) hx hb dX0_rights_26 (by decide) ?_
      refine lv_goto (tgt := 31) hx hb dX0_rights_27 (by decide) ?_
      exact K_1 _ (by simp [bI, c_8])
end
section
/-! begin, of both sides -/
set_option maxRecDepth 100000
set_option maxHeartbeats 4000000 in
/-- begin -/
theorem m_xbegin (l : Launch) (D : va_G) (hx_ mm hw : Nat) (dA : ClassId) (M : Nat → Int32) (ap vp hg ri : Int32) (A : Nat → Prop) (pl se : Int32) (en : Bool) (vi us ex : Bool) (wp ws_2 : Int64) (we : Bool) (wt : Int64) (wr : Int32) : Met l yX0_begin (ws_ yX0_begin cX0_begin 2 none) (rmX 1 23) (va_Pc [.ref hx_] (Gx D vCl [(dA, .int)] A (xV hx_ mm hw dA M ap vp hg ri (pl, se, en) (vi, us, ex, wp, ws_2, we, wt, wr)))) (GQv D vCl A (fun _ : Unit => xV hx_ mm hw dA (fa_fill (fun _ => 0) M 65536) (mr 0) (mr 0) (mg 0) 0 (-1, 0, false) (vi, us, ex, wp, ws_2, we, wt, wr)) (fun _ => True)) 0 0 A := by
  refine mst (by decide) (Nat.le_of_ble_eq_true rfl) ?_
  intro p ee s m below meth c hx hb hr hlocks hml hown hts hin hB ls hl
  have hl : lv_has ls 2 [(0, .ref hx_)] := hl
  obtain ⟨hP, hK, hD, hZ⟩ := hB
  have hP : va_P D vCl [(hx_, swO mm hw ri pl se en), (mm, arO dA M), (hw, wkO mm vi us ex ap vp hg (eb ri 0) (eb ri 1) (eb ri 2) (eb ri 3) wp ws_2 we wt wr)] s.heap := hP
  have hD : va_D A [(hx_, swO mm hw ri pl se en), (mm, arO dA M), (hw, wkO mm vi us ex ap vp hg (eb ri 0) (eb ri 1) (eb ri 2) (eb ri 3) wp ws_2 we wt wr)] := hD
  have hS : va_S A s.heap s.heap [] := va_S.rf
  refine lv_iconst (v := 0) hx hb dX0_begin_0 (by decide) ?_
  refine lv_istore_n (lv' := [(1, .int 0), (0, .ref hx_)]) hx hb dX0_begin_1 rfl hl (by decide) rfl (fun ls hl => ?_)
  refine jg (X := Nat × Nat) (fun _ ls => F0 m 2 ls []) (fun y_ H locs ls => y_.2 + y_.1 = 65536 ∧ va_P D vCl [(hx_, swO mm hw ri pl se en), (mm, arO dA (fa_fill (fun _ => 0) M y_.2)), (hw, wkO mm vi us ex ap vp hg (eb ri 0) (eb ri 1) (eb ri 2) (eb ri 3) wp ws_2 we wt wr)] H ∧ va_S A s.heap H locs ∧ lv_has ls 2 [(1, .int (nI y_.2)), (0, .ref hx_)]) ?_ (fun K_1 => ?_)
  · intro y_
    obtain ⟨j, k⟩ := y_
    induction j generalizing k with
    | zero =>
      rintro H locs ls ⟨hk, hP, hS, hl⟩
      have hk : k + 0 = 65536 := hk
      have hk0 : k = 65536 := hk
      subst hk0
      have hP : va_P D vCl [(hx_, swO mm hw ri pl se en), (mm, arO dA (fa_fill (fun _ => 0) M 65536)), (hw, wkO mm vi us ex ap vp hg (eb ri 0) (eb ri 1) (eb ri 2) (eb ri 3) wp ws_2 we wt wr)] H := hP
      have hD : va_D A [(hx_, swO mm hw ri pl se en), (mm, arO dA (fa_fill (fun _ => 0) M 65536)), (hw, wkO mm vi us ex ap vp hg (eb ri 0) (eb ri 1) (eb ri 2) (eb ri 3) wp ws_2 we wt wr)] := hD.re rfl
      have hl : lv_has ls 2 [(1, .int (nI 65536)), (0, .ref hx_)] := hl
      refine lv_iload_n hx hb dX0_begin_2 rfl (lv_at hl 0 rfl) ?_
      refine lv_ldc hx hb hown (hts _ q30) dX0_begin_3 ?_
      refine lv_icmp_ge (tgt := 21) hx hb dX0_begin_5 (by decide) (fun c_2 => ?_) (fun c_2 => absurd (show (65536 : Int32) ≤ nI 65536 by decide) c_2)
      refine lv_aload_n hx hb dX0_begin_21 rfl (lv_at hl 1 rfl) ?_
      refine lv_iconst (v := 0) hx hb dX0_begin_22 (by decide) ?_
      refine lv_iconst (v := 0) hx hb dX0_begin_23 (by decide) ?_
      refine lv_iconst (v := 0) hx hb dX0_begin_24 (by decide) ?_
      refine gcv (va_runV (As := [.int 0, .int 0, .int 0]) (rest := []) ⟨hx, hb, hml, hown, hts⟩ (m_xroots l D hx_ mm hw dA (fa_fill (fun _ => 0) M 65536) ap vp hg ri A pl se en vi us ex wp ws_2 we wt wr 0 0 0) (cwV 3 hts (lw_V q123 q124 q125 q19 q126) rfl rfl rfl (by decide +kernel) ⟨Nat.le_of_ble_eq_true rfl, Nat.le_of_ble_eq_true rfl⟩) (pX_V hK hP hD hZ hS 0 rfl rfl) rfl rfl hl.1 rfl (lv_room (Nat.le_of_ble_eq_true rfl)) dX0_begin_25 ⟨Nat.le_refl _, Nat.le_refl _⟩) hS (fun _ h => h) (fun u_3 H locs po_3 hP hz_3 hk_3 hS => ?_)
      have hP : va_P D vCl [(hx_, swO mm hw ri pl se en), (mm, arO dA (fa_fill (fun _ => 0) M 65536)), (hw, wkO mm vi us ex (mr 0) (mr 0) (mg 0) (eb ri 0) (eb ri 1) (eb ri 2) (eb ri 3) wp ws_2 we wt wr)] H := hP
      have hD : va_D A [(hx_, swO mm hw ri pl se en), (mm, arO dA (fa_fill (fun _ => 0) M 65536)), (hw, wkO mm vi us ex (mr 0) (mr 0) (mg 0) (eb ri 0) (eb ri 1) (eb ri 2) (eb ri 3) wp ws_2 we wt wr)] := hD.re rfl
      refine lv_aload_n hx hb dX0_begin_28 rfl (lv_at hl 1 rfl) ?_
      refine lv_iconst (v := 0) hx hb dX0_begin_29 (by decide) ?_
      refine gci (va_runV (As := [.int 0]) (rest := []) ⟨hx, hb, hml, hown, hts⟩ (m_xrights l D hx_ mm hw dA (fa_fill (fun _ => 0) M 65536) (mr 0) (mr 0) (mg 0) ri A pl se en vi us ex wp ws_2 we wt wr 0) (cwV 1 hts (lw_V q129 q130 q131 q19 q132) rfl rfl rfl (by decide +kernel) ⟨Nat.le_of_ble_eq_true rfl, Nat.le_of_ble_eq_true rfl⟩) (pX_V hK hP hD hZ hS 0 rfl rfl) rfl rfl hl.1 rfl (lv_room (Nat.le_of_ble_eq_true rfl)) dX0_begin_30 ⟨Nat.le_refl _, Nat.le_refl _⟩) hS (fun _ h => h) (fun r_4 u_4 H locs po_4 hP hz_4 hk_4 hS => ?_)
      have hP : va_P D vCl [(hx_, swO mm hw 0 pl se en), (mm, arO dA (fa_fill (fun _ => 0) M 65536)), (hw, wkO mm vi us ex (mr 0) (mr 0) (mg 0) (eb 0 0) (eb 0 1) (eb 0 2) (eb 0 3) wp ws_2 we wt wr)] H := hP
      have hD : va_D A [(hx_, swO mm hw 0 pl se en), (mm, arO dA (fa_fill (fun _ => 0) M 65536)), (hw, wkO mm vi us ex (mr 0) (mr 0) (mg 0) (eb 0 0) (eb 0 1) (eb 0 2) (eb 0 3) wp ws_2 we wt wr)] := hD.re rfl
      refine lv_istore_n (lv' := [(1, .int r_4), (0, .ref hx_)]) hx hb dX0_begin_33 rfl hl (by decide) rfl (fun ls hl => ?_)
      refine lv_aload_n hx hb dX0_begin_34 rfl (lv_at hl 1 rfl) ?_
      refine lv_iconst (v := (-1)) hx hb dX0_begin_35 (by decide) ?_
      refine va_put (D := D) (ci := 0) (v := .int (-1)) (ty := .int) (C := RX0) (T := TX0) (N := 6) hx hb hts in_X0 tyX0 tyX0_ok nmX0 hown hK hP hD hS 0 rfl rfl 3 (by decide) (hts _ q103) (fun _ h9 => h9) rfl (by decide +kernel) rfl rfl (Nat.le_of_ble_eq_true rfl) dX0_begin_36 (fun H locs hP hD hS => ?_)
      have hP : va_P D vCl [(hx_, swO mm hw 0 (-1) se en), (mm, arO dA (fa_fill (fun _ => 0) M 65536)), (hw, wkO mm vi us ex (mr 0) (mr 0) (mg 0) (eb 0 0) (eb 0 1) (eb 0 2) (eb 0 3) wp ws_2 we wt wr)] H := hP
      have hD : va_D A [(hx_, swO mm hw 0 (-1) se en), (mm, arO dA (fa_fill (fun _ => 0) M 65536)), (hw, wkO mm vi us ex (mr 0) (mr 0) (mg 0) (eb 0 0) (eb 0 1) (eb 0 2) (eb 0 3) wp ws_2 we wt wr)] := hD
      refine lv_aload_n hx hb dX0_begin_39 rfl (lv_at hl 1 rfl) ?_
      refine lv_iconst (v := 0) hx hb dX0_begin_40 (by decide) ?_
      refine va_put (D := D) (ci := 0) (v := .int 0) (ty := .int) (C := RX0) (T := TX0) (N := 6) hx hb hts in_X0 tyX0 tyX0_ok nmX0 hown hK hP hD hS 0 rfl rfl 4 (by decide) (hts _ q104) (fun _ h9 => h9) rfl (by decide +kernel) rfl rfl (Nat.le_of_ble_eq_true rfl) dX0_begin_41 (fun H locs hP hD hS => ?_)
      have hP : va_P D vCl [(hx_, swO mm hw 0 (-1) 0 en), (mm, arO dA (fa_fill (fun _ => 0) M 65536)), (hw, wkO mm vi us ex (mr 0) (mr 0) (mg 0) (eb 0 0) (eb 0 1) (eb 0 2) (eb 0 3) wp ws_2 we wt wr)] H := hP
      have hD : va_D A [(hx_, swO mm hw 0 (-1) 0 en), (mm, arO dA (fa_fill (fun _ => 0) M 65536)), (hw, wkO mm vi us ex (mr 0) (mr 0) (mg 0) (eb 0 0) (eb 0 1) (eb 0 2) (eb 0 3) wp ws_2 we wt wr)] := hD
      refine lv_aload_n hx hb dX0_begin_44 rfl (lv_at hl 1 rfl) ?_
      refine lv_iconst (v := 0) hx hb dX0_begin_45 (by decide) ?_
      refine va_put (D := D) (ci := 0) (v := .int 0) (ty := .boolean) (C := RX0) (T := TX0) (N := 6) hx hb hts in_X0 tyX0 tyX0_ok nmX0 hown hK hP hD hS 0 rfl rfl 5 (by decide) (hts _ q105) (fun _ h9 => h9) rfl (by decide +kernel) rfl rfl (Nat.le_of_ble_eq_true rfl) dX0_begin_46 (fun H locs hP hD hS => ?_)
      have hP : va_P D vCl [(hx_, swO mm hw 0 (-1) 0 false), (mm, arO dA (fa_fill (fun _ => 0) M 65536)), (hw, wkO mm vi us ex (mr 0) (mr 0) (mg 0) (eb 0 0) (eb 0 1) (eb 0 2) (eb 0 3) wp ws_2 we wt wr)] H := hP
      have hD : va_D A [(hx_, swO mm hw 0 (-1) 0 false), (mm, arO dA (fa_fill (fun _ => 0) M 65536)), (hw, wkO mm vi us ex (mr 0) (mr 0) (mg 0) (eb 0 0) (eb 0 1) (eb 0 2) (eb 0 3) wp ws_2 we wt wr)] := hD
      exact grv () trivial hP hS hx hb hr hlocks dX0_begin_49
    | succ j ih =>
      rintro H locs ls ⟨hk, hP, hS, hl⟩
      have hk : k + (j + 1) = 65536 := hk
      have hP : va_P D vCl [(hx_, swO mm hw ri pl se en), (mm, arO dA (fa_fill (fun _ => 0) M k)), (hw, wkO mm vi us ex ap vp hg (eb ri 0) (eb ri 1) (eb ri 2) (eb ri 3) wp ws_2 we wt wr)] H := hP
      have hD : va_D A [(hx_, swO mm hw ri pl se en), (mm, arO dA (fa_fill (fun _ => 0) M k)), (hw, wkO mm vi us ex ap vp hg (eb ri 0) (eb ri 1) (eb ri 2) (eb ri 3) wp ws_2 we wt wr)] := hD.re rfl
      have hl : lv_has ls 2 [(1, .int (nI k)), (0, .ref hx_)] := hl
      refine lv_iload_n hx hb dX0_begin_2 rfl (lv_at hl 0 rfl) ?_
      refine lv_ldc hx hb hown (hts _ q30) dX0_begin_3 ?_
      refine lv_icmp_ge (tgt := 21) hx hb dX0_begin_5 (by decide) (fun c_5 => absurd c_5 (nI_ge (b := 65536) (by omega) (by decide))) (fun c_5 => ?_)
      refine lv_aload_n hx hb dX0_begin_8 rfl (lv_at hl 1 rfl) ?_
      refine va_get (D := D) (ci := 0) (v := .ref mm) (C := RX0) (T := TX0) (N := 6) hx hb hts in_X0 hown hK hP 0 rfl rfl 0 (by decide) (hts _ q100) (fun _ h9 => h9) rfl dX0_begin_9 ?_
      refine lv_iload_n hx hb dX0_begin_12 rfl (lv_at hl 0 rfl) ?_
      refine lv_iconst (v := 0) hx hb dX0_begin_13 (by decide) ?_
      refine va_iast hx hb hK hP hD hS 1 0 rfl rfl (vp_in_nI (by omega) (by decide)) dX0_begin_14 (fun H locs hP hD hS => ?_)
      have hP : va_P D vCl [(hx_, swO mm hw ri pl se en), (mm, arO dA (upd (fa_fill (fun _ => 0) M k) (nI k).toNatClampNeg 0)), (hw, wkO mm vi us ex ap vp hg (eb ri 0) (eb ri 1) (eb ri 2) (eb ri 3) wp ws_2 we wt wr)] H := hP
      have hD : va_D A [(hx_, swO mm hw ri pl se en), (mm, arO dA (upd (fa_fill (fun _ => 0) M k) (nI k).toNatClampNeg 0)), (hw, wkO mm vi us ex ap vp hg (eb ri 0) (eb ri 1) (eb ri 2) (eb ri 3) wp ws_2 we wt wr)] := hD
      refine lv_iinc (v := nI (k + 1)) (lv' := [(1, .int (nI (k + 1))), (0, .ref hx_)]) hx hb dX0_begin_15 hl (k := 0) rfl (nI_1 k) (by decide) rfl (fun ls hl => ?_)
      refine lv_goto (tgt := 2) hx hb dX0_begin_18 (by decide) ?_
      rw [nI_clamp (by omega), fa_fill_succ (fun _ => (0 : Int32)) M k] at hP
      exact ih (k + 1) _ _ _ ⟨by show k + 1 + j = 65536; omega, hP, hS, hl⟩
  · skip
    exact K_1 (65536, 0) _ _ _ ⟨rfl, by rw [fa_fill_0]; exact hP, hS, hl⟩
set_option maxHeartbeats 4000000 in
/-- begin -/
theorem m_mbegin (l : Launch) (D : va_G) (hm mm : Nat) (dA : ClassId) (M : Nat → Int32) (th ap vp hg ri : Int32) (A : Nat → Prop) (pl to : Int32) (te : Bool) (kd : Int32) (vi us ex : Bool) (ca : Int32) (fa : Int64) (oe : Bool) : Met l yX2_begin (ws_ yX2_begin cX2_begin 2 none) (rmX 0 0) (va_Pc [.ref hm] (Gm D vCl [(dA, .int)] A (mV hm mm dA M th ap vp hg ri (pl, to, te) (kd, vi, us, ex, ca, fa, oe)))) (GQv D vCl A (fun _ : Unit => mV hm mm dA (fa_fill (fun _ => 0) M 65536) th 0 0 0 0 (-1, 0, false) (kd, vi, us, ex, ca, fa, oe)) (fun _ => True)) 0 0 A := by
  refine mst (by decide) (Nat.le_of_ble_eq_true rfl) ?_
  intro p ee s m below meth c hx hb hr hlocks hml hown hts hin hB ls hl
  have hl : lv_has ls 2 [(0, .ref hm)] := hl
  obtain ⟨hP, hK, hD⟩ := hB
  have hP : va_P D vCl [(hm, mdO th mm ap vp hg ri pl to te kd vi us ex ca fa oe), (mm, arO dA M)] s.heap := hP
  have hD : va_D A [(hm, mdO th mm ap vp hg ri pl to te kd vi us ex ca fa oe), (mm, arO dA M)] := hD
  have hS : va_S A s.heap s.heap [] := va_S.rf
  refine lv_iconst (v := 0) hx hb dX2_begin_0 (by decide) ?_
  refine lv_istore_n (lv' := [(1, .int 0), (0, .ref hm)]) hx hb dX2_begin_1 rfl hl (by decide) rfl (fun ls hl => ?_)
  refine jg (X := Nat × Nat) (fun _ ls => F0 m 2 ls []) (fun y_ H locs ls => y_.2 + y_.1 = 65536 ∧ va_P D vCl [(hm, mdO th mm ap vp hg ri pl to te kd vi us ex ca fa oe), (mm, arO dA (fa_fill (fun _ => 0) M y_.2))] H ∧ va_S A s.heap H locs ∧ lv_has ls 2 [(1, .int (nI y_.2)), (0, .ref hm)]) ?_ (fun K_1 => ?_)
  · intro y_
    obtain ⟨j, k⟩ := y_
    induction j generalizing k with
    | zero =>
      rintro H locs ls ⟨hk, hP, hS, hl⟩
      have hk : k + 0 = 65536 := hk
      have hk0 : k = 65536 := hk
      subst hk0
      have hP : va_P D vCl [(hm, mdO th mm ap vp hg ri pl to te kd vi us ex ca fa oe), (mm, arO dA (fa_fill (fun _ => 0) M 65536))] H := hP
      have hD : va_D A [(hm, mdO th mm ap vp hg ri pl to te kd vi us ex ca fa oe), (mm, arO dA (fa_fill (fun _ => 0) M 65536))] := hD.re rfl
      have hl : lv_has ls 2 [(1, .int (nI 65536)), (0, .ref hm)] := hl
      refine lv_iload_n hx hb dX2_begin_2 rfl (lv_at hl 0 rfl) ?_
      refine lv_ldc hx hb hown (hts _ q242) dX2_begin_3 ?_
      refine lv_icmp_ge (tgt := 21) hx hb dX2_begin_5 (by decide) (fun c_2 => ?_) (fun c_2 => absurd (show (65536 : Int32) ≤ nI 65536 by decide) c_2)
      refine lv_aload_n hx hb dX2_begin_21 rfl (lv_at hl 1 rfl) ?_
      refine lv_iconst (v := 0) hx hb dX2_begin_22 (by decide) ?_
      refine va_put (D := D) (ci := 2) (v := .int 0) (ty := .int) (C := RX2) (T := TX2) (N := 16) hx hb hts in_X2 tyX2 tyX2_ok nmX2 hown hK hP hD hS 0 rfl rfl 2 (by decide) (hts _ q248) (fun _ h9 => h9) rfl (by decide +kernel) rfl rfl (Nat.le_of_ble_eq_true rfl) dX2_begin_23 (fun H locs hP hD hS => ?_)
      have hP : va_P D vCl [(hm, mdO th mm 0 vp hg ri pl to te kd vi us ex ca fa oe), (mm, arO dA (fa_fill (fun _ => 0) M 65536))] H := hP
      have hD : va_D A [(hm, mdO th mm 0 vp hg ri pl to te kd vi us ex ca fa oe), (mm, arO dA (fa_fill (fun _ => 0) M 65536))] := hD
      refine lv_aload_n hx hb dX2_begin_26 rfl (lv_at hl 1 rfl) ?_
      refine lv_iconst (v := 0) hx hb dX2_begin_27 (by decide) ?_
      refine va_put (D := D) (ci := 2) (v := .int 0) (ty := .int) (C := RX2) (T := TX2) (N := 16) hx hb hts in_X2 tyX2 tyX2_ok nmX2 hown hK hP hD hS 0 rfl rfl 3 (by decide) (hts _ q249) (fun _ h9 => h9) rfl (by decide +kernel) rfl rfl (Nat.le_of_ble_eq_true rfl) dX2_begin_28 (fun H locs hP hD hS => ?_)
      have hP : va_P D vCl [(hm, mdO th mm 0 0 hg ri pl to te kd vi us ex ca fa oe), (mm, arO dA (fa_fill (fun _ => 0) M 65536))] H := hP
      have hD : va_D A [(hm, mdO th mm 0 0 hg ri pl to te kd vi us ex ca fa oe), (mm, arO dA (fa_fill (fun _ => 0) M 65536))] := hD
      refine lv_aload_n hx hb dX2_begin_31 rfl (lv_at hl 1 rfl) ?_
      refine lv_iconst (v := 0) hx hb dX2_begin_32 (by decide) ?_
      refine va_put (D := D) (ci := 2) (v := .int 0) (ty := .int) (C := RX2) (T := TX2) (N := 16) hx hb hts in_X2 tyX2 tyX2_ok nmX2 hown hK hP hD hS 0 rfl rfl 4 (by decide) (hts _ q250) (fun _ h9 => h9) rfl (by decide +kernel) rfl rfl (Nat.le_of_ble_eq_true rfl) dX2_begin_33 (fun H locs hP hD hS => ?_)
      have hP : va_P D vCl [(hm, mdO th mm 0 0 0 ri pl to te kd vi us ex ca fa oe), (mm, arO dA (fa_fill (fun _ => 0) M 65536))] H := hP
      have hD : va_D A [(hm, mdO th mm 0 0 0 ri pl to te kd vi us ex ca fa oe), (mm, arO dA (fa_fill (fun _ => 0) M 65536))] := hD
      refine lv_aload_n hx hb dX2_begin_36 rfl (lv_at hl 1 rfl) ?_
      refine lv_iconst (v := 0) hx hb dX2_begin_37 (by decide) ?_
      refine va_put (D := D) (ci := 2) (v := .int 0) (ty := .int) (C := RX2) (T := TX2) (N := 16) hx hb hts in_X2 tyX2 tyX2_ok nmX2 hown hK hP hD hS 0 rfl rfl 5 (by decide) (hts _ q251) (fun _ h9 => h9) rfl (by decide +kernel) rfl rfl (Nat.le_of_ble_eq_true rfl) dX2_begin_38 (fun H locs hP hD hS => ?_)
      have hP : va_P D vCl [(hm, mdO th mm 0 0 0 0 pl to te kd vi us ex ca fa oe), (mm, arO dA (fa_fill (fun _ => 0) M 65536))] H := hP
      have hD : va_D A [(hm, mdO th mm 0 0 0 0 pl to te kd vi us ex ca fa oe), (mm, arO dA (fa_fill (fun _ => 0) M 65536))] := hD
      refine lv_aload_n hx hb dX2_begin_41 rfl (lv_at hl 1 rfl) ?_
      refine lv_iconst (v := (-1)) hx hb dX2_begin_42 (by decide) ?_
      refine va_put (D := D) (ci := 2) (v := .int (-1)) (ty := .int) (C := RX2) (T := TX2) (N := 16) hx hb hts in_X2 tyX2 tyX2_ok nmX2 hown hK hP hD hS 0 rfl rfl 6 (by decide) (hts _ q252) (fun _ h9 => h9) rfl (by decide +kernel) rfl rfl (Nat.le_of_ble_eq_true rfl) dX2_begin_43 (fun H locs hP hD hS => ?_)
      have hP : va_P D vCl [(hm, mdO th mm 0 0 0 0 (-1) to te kd vi us ex ca fa oe), (mm, arO dA (fa_fill (fun _ => 0) M 65536))] H := hP
      have hD : va_D A [(hm, mdO th mm 0 0 0 0 (-1) to te kd vi us ex ca fa oe), (mm, arO dA (fa_fill (fun _ => 0) M 65536))] := hD
      refine lv_aload_n hx hb dX2_begin_46 rfl (lv_at hl 1 rfl) ?_
      refine lv_iconst (v := 0) hx hb dX2_begin_47 (by decide) ?_
      refine va_put (D := D) (ci := 2) (v := .int 0) (ty := .int) (C := RX2) (T := TX2) (N := 16) hx hb hts in_X2 tyX2 tyX2_ok nmX2 hown hK hP hD hS 0 rfl rfl 7 (by decide) (hts _ q253) (fun _ h9 => h9) rfl (by decide +kernel) rfl rfl (Nat.le_of_ble_eq_true rfl) dX2_begin_48 (fun H locs hP hD hS => ?_)
      have hP : va_P D vCl [(hm, mdO th mm 0 0 0 0 (-1) 0 te kd vi us ex ca fa oe), (mm, arO dA (fa_fill (fun _ => 0) M 65536))] H := hP
      have hD : va_D A [(hm, mdO th mm 0 0 0 0 (-1) 0 te kd vi us ex ca fa oe), (mm, arO dA (fa_fill (fun _ => 0) M 65536))] := hD
      refine lv_aload_n hx hb dX2_begin_51 rfl (lv_at hl 1 rfl) ?_
      refine lv_iconst (v := 0) hx hb dX2_begin_52 (by decide) ?_
      refine va_put (D := D) (ci := 2) (v := .int 0) (ty := .boolean) (C := RX2) (T := TX2) (N := 16) hx hb hts in_X2 tyX2 tyX2_ok nmX2 hown hK hP hD hS 0 rfl rfl 8 (by decide) (hts _ q254) (fun _ h9 => h9) rfl (by decide +kernel) rfl rfl (Nat.le_of_ble_eq_true rfl) dX2_begin_53 (fun H locs hP hD hS => ?_)
      have hP : va_P D vCl [(hm, mdO th mm 0 0 0 0 (-1) 0 false kd vi us ex ca fa oe), (mm, arO dA (fa_fill (fun _ => 0) M 65536))] H := hP
      have hD : va_D A [(hm, mdO th mm 0 0 0 0 (-1) 0 false kd vi us ex ca fa oe), (mm, arO dA (fa_fill (fun _ => 0) M 65536))] := hD
      exact grv () trivial hP hS hx hb hr hlocks dX2_begin_56
    | succ j ih =>
      rintro H locs ls ⟨hk, hP, hS, hl⟩
      have hk : k + (j + 1) = 65536 := hk
      have hP : va_P D vCl [(hm, mdO th mm ap vp hg ri pl to te kd vi us ex ca fa oe), (mm, arO dA (fa_fill (fun _ => 0) M k))] H := hP
      have hD : va_D A [(hm, mdO th mm ap vp hg ri pl to te kd vi us ex ca fa oe), (mm, arO dA (fa_fill (fun _ => 0) M k))] := hD.re rfl
      have hl : lv_has ls 2 [(1, .int (nI k)), (0, .ref hm)] := hl
      refine lv_iload_n hx hb dX2_begin_2 rfl (lv_at hl 0 rfl) ?_
      refine lv_ldc hx hb hown (hts _ q242) dX2_begin_3 ?_
      refine lv_icmp_ge (tgt := 21) hx hb dX2_begin_5 (by decide) (fun c_3 => absurd c_3 (nI_ge (b := 65536) (by omega) (by decide))) (fun c_3 => ?_)
      refine lv_aload_n hx hb dX2_begin_8 rfl (lv_at hl 1 rfl) ?_
      refine va_get (D := D) (ci := 2) (v := .ref mm) (C := RX2) (T := TX2) (N := 16) hx hb hts in_X2 hown hK hP 0 rfl rfl 1 (by decide) (hts _ q247) (fun _ h9 => h9) rfl dX2_begin_9 ?_
      refine lv_iload_n hx hb dX2_begin_12 rfl (lv_at hl 0 rfl) ?_
      refine lv_iconst (v := 0) hx hb dX2_begin_13 (by decide) ?_
      refine va_iast hx hb hK hP hD hS 1 0 rfl rfl (vp_in_nI (by omega) (by decide)) dX2_begin_14 (fun H locs hP hD hS => ?_)
      have hP : va_P D vCl [(hm, mdO th mm ap vp hg ri pl to te kd vi us ex ca fa oe), (mm, arO dA (upd (fa_fill (fun _ => 0) M k) (nI k).toNatClampNeg 0))] H := hP
      have hD : va_D A [(hm, mdO th mm ap vp hg ri pl to te kd vi us ex ca fa oe), (mm, arO dA (upd (fa_fill (fun _ => 0) M k) (nI k).toNatClampNeg 0))] := hD
      refine lv_iinc (v := nI (k + 1)) (lv' := [(1, .int (nI (k + 1))), (0, .ref hm)]) hx hb dX2_begin_15 hl (k := 0) rfl (nI_1 k) (by decide) rfl (fun ls hl => ?_)
      refine lv_goto (tgt := 2) hx hb dX2_begin_18 (by decide) ?_
      rw [nI_clamp (by omega), fa_fill_succ (fun _ => (0 : Int32)) M k] at hP
      exact ih (k + 1) _ _ _ ⟨by show k + 1 + j = 65536; omega, hP, hS, hl⟩
  · skip
    exact K_1 (65536, 0) _ _ _ ⟨rfl, by rw [fa_fill_0]; exact hP, hS, hl⟩
end
section
/-! StageWalker: go, translate, pages -/
set_option maxRecDepth 100000
set_option maxHeartbeats 4000000 in
/-- go -/
theorem m_go (l : Launch) (D : va_G) (hx_ mm hw : Nat) (dA : ClassId) (M : Nat → Int32) (ap vp hg ri : Int32) (A : Nat → Prop) (pl se : Int32) (en : Bool) (vi us ex : Bool) (wp ws_2 : Int64) (we : Bool) (wt : Int64) (wr : Int32) (mo k ad : Int32) (hko : kok mo k = true) : Met l yX0_go (ws_ yX0_go cX0_go 4 (some .int)) (rmX 6 159) (va_Pc [.ref hx_, .int mo, .int k, .int ad] (Gx D vCl [(dA, .int)] A (xV hx_ mm hw dA M ap vp hg ri (pl, se, en) (vi, us, ex, wp, ws_2, we, wt, wr)))) (GQi D vCl A (fun j : xJ => xV hx_ mm hw dA M ap vp hg ri (pl, se, en) j) (fun r j => poW (trL M ap vp hg ri mo k (tn ad)) r j.2.2.2)) 0 0 A := by
  refine mst (by decide) (Nat.le_of_ble_eq_true rfl) ?_
  intro p ee s m below meth c hx hb hr hlocks hml hown hts hin hB ls hl
  have hl : lv_has ls 4 [(0, .ref hx_), (1, .int mo), (2, .int k), (3, .int ad)] := hl
  obtain ⟨hP, hK, hD, hZ⟩ := hB
  have hP : va_P D vCl [(hx_, swO mm hw ri pl se en), (mm, arO dA M), (hw, wkO mm vi us ex ap vp hg (eb ri 0) (eb ri 1) (eb ri 2) (eb ri 3) wp ws_2 we wt wr)] s.heap := hP
  have hD : va_D A [(hx_, swO mm hw ri pl se en), (mm, arO dA M), (hw, wkO mm vi us ex ap vp hg (eb ri 0) (eb ri 1) (eb ri 2) (eb ri 3) wp ws_2 we wt wr)] := hD
  have hS : va_S A s.heap s.heap [] := va_S.rf
  refine lv_aload_n hx hb dX0_go_0 rfl (lv_at hl 0 rfl) ?_
  refine va_get (D := D) (ci := 0) (v := .ref hw) (C := RX0) (T := TX0) (N := 6) hx hb hts in_X0 hown hK hP 0 rfl rfl 1 (by decide) (hts _ q101) (fun _ h9 => h9) rfl dX0_go_1 ?_
  refine lv_iload_n hx hb dX0_go_4 rfl (lv_at hl 1 rfl) ?_
  refine lv_iconst (v := 2) hx hb dX0_go_5 (by decide) ?_
  refine jn (X := Int32) (fun x_ => F0 m 14 ls [.int x_, .ref hw]) (fun x_ => x_ = bI (viF mo)) ?_ (fun K_1 => ?_)
  · intro x_ ex_
    have ex_ := ex_.symm
    subst ex_
    refine va_put (D := D) (ci := 1) (v := .int (bI (viF mo))) (ty := .boolean) (C := RX1) (T := TX1) (N := 16) hx hb hts in_X1 tyX1 tyX1_ok nmX1 hown hK hP hD hS 2 rfl rfl 1 (by decide) (hts _ q39) (fun _ h9 => h9) rfl (by decide +kernel) (nar_bI _) (fit_bI _) (Nat.le_of_ble_eq_true rfl) dX0_go_14 (fun H locs hP hD hS => ?_)
    have hP : va_P D vCl [(hx_, swO mm hw ri pl se en), (mm, arO dA M), (hw, wkO mm (viF mo) us ex ap vp hg (eb ri 0) (eb ri 1) (eb ri 2) (eb ri 3) wp ws_2 we wt wr)] H := hP
    have hD : va_D A [(hx_, swO mm hw ri pl se en), (mm, arO dA M), (hw, wkO mm (viF mo) us ex ap vp hg (eb ri 0) (eb ri 1) (eb ri 2) (eb ri 3) wp ws_2 we wt wr)] := hD
    refine lv_aload_n hx hb dX0_go_17 rfl (lv_at hl 0 rfl) ?_
    refine va_get (D := D) (ci := 0) (v := .ref hw) (C := RX0) (T := TX0) (N := 6) hx hb hts in_X0 hown hK hP 0 rfl rfl 1 (by decide) (hts _ q101) (fun _ h9 => h9) rfl dX0_go_18 ?_
    refine lv_iload_n hx hb dX0_go_21 rfl (lv_at hl 1 rfl) ?_
    refine lv_iconst (v := 1) hx hb dX0_go_22 (by decide) ?_
    refine lv_iand hx hb dX0_go_23 ?_
    refine jn (X := Int32) (fun x_ => F0 m 32 ls [.int x_, .ref hw]) (fun x_ => x_ = bI (usF mo)) ?_ (fun K_2 => ?_)
    · intro x_ ex_
      have ex_ := ex_.symm
      subst ex_
      refine va_put (D := D) (ci := 1) (v := .int (bI (usF mo))) (ty := .boolean) (C := RX1) (T := TX1) (N := 16) hx hb hts in_X1 tyX1 tyX1_ok nmX1 hown hK hP hD hS 2 rfl rfl 2 (by decide) (hts _ q40) (fun _ h9 => h9) rfl (by decide +kernel) (nar_bI _) (fit_bI _) (Nat.le_of_ble_eq_true rfl) dX0_go_32 (fun H locs hP hD hS => ?_)
      have hP : va_P D vCl [(hx_, swO mm hw ri pl se en), (mm, arO dA M), (hw, wkO mm (viF mo) (usF mo) ex ap vp hg (eb ri 0) (eb ri 1) (eb ri 2) (eb ri 3) wp ws_2 we wt wr)] H := hP
      have hD : va_D A [(hx_, swO mm hw ri pl se en), (mm, arO dA M), (hw, wkO mm (viF mo) (usF mo) ex ap vp hg (eb ri 0) (eb ri 1) (eb ri 2) (eb ri 3) wp ws_2 we wt wr)] := hD
      refine lv_aload_n hx hb dX0_go_35 rfl (lv_at hl 0 rfl) ?_
      refine va_get (D := D) (ci := 0) (v := .ref hw) (C := RX0) (T := TX0) (N := 6) hx hb hts in_X0 hown hK hP 0 rfl rfl 1 (by decide) (hts _ q101) (fun _ h9 => h9) rfl dX0_go_36 ?_
      refine lv_iload_n hx hb dX0_go_39 rfl (lv_at hl 2 rfl) ?_
      refine lv_iconst (v := 3) hx hb dX0_go_40 (by decide) ?_
      refine jn (X := Int32) (fun x_ => F0 m 49 ls [.int x_, .ref hw]) (fun x_ => x_ = bI (exF k)) ?_ (fun K_3 => ?_)
      · intro x_ ex_
        have ex_ := ex_.symm
        subst ex_
        refine va_put (D := D) (ci := 1) (v := .int (bI (exF k))) (ty := .boolean) (C := RX1) (T := TX1) (N := 16) hx hb hts in_X1 tyX1 tyX1_ok nmX1 hown hK hP hD hS 2 rfl rfl 3 (by decide) (hts _ q43) (fun _ h9 => h9) rfl (by decide +kernel) (nar_bI _) (fit_bI _) (Nat.le_of_ble_eq_true rfl) dX0_go_49 (fun H locs hP hD hS => ?_)
        have hP : va_P D vCl [(hx_, swO mm hw ri pl se en), (mm, arO dA M), (hw, wkO mm (viF mo) (usF mo) (exF k) ap vp hg (eb ri 0) (eb ri 1) (eb ri 2) (eb ri 3) wp ws_2 we wt wr)] H := hP
        have hD : va_D A [(hx_, swO mm hw ri pl se en), (mm, arO dA M), (hw, wkO mm (viF mo) (usF mo) (exF k) ap vp hg (eb ri 0) (eb ri 1) (eb ri 2) (eb ri 3) wp ws_2 we wt wr)] := hD
        refine lv_aload_n hx hb dX0_go_52 rfl (lv_at hl 0 rfl) ?_
        refine va_get (D := D) (ci := 0) (v := .ref hw) (C := RX0) (T := TX0) (N := 6) hx hb hts in_X0 hown hK hP 0 rfl rfl 1 (by decide) (hts _ q101) (fun _ h9 => h9) rfl dX0_go_53 ?_
        refine lv_iload_n hx hb dX0_go_56 rfl (lv_at hl 3 rfl) ?_
        refine lv_iload_n hx hb dX0_go_57 rfl (lv_at hl 2 rfl) ?_
        refine lv_iconst (v := 3) hx hb dX0_go_58 (by decide) ?_
        refine jn (X := Int32) (fun x_ => F0 m 67 ls [.int x_, .int ad, .ref hw]) (fun x_ => x_ = kdF k) ?_ (fun K_4 => ?_)
        · intro x_ ex_
          have ex_ := ex_.symm
          subst ex_
          have hPc := hP.sub (ws' := [(hw, wkO mm (viF mo) (usF mo) (exF k) ap vp hg (eb ri 0) (eb ri 1) (eb ri 2) (eb ri 3) wp ws_2 we wt wr), (mm, arO dA M)]) [2, 1] rfl
          have hDc := (hD.sub (ws' := [(hw, wkO mm (viF mo) (usF mo) (exF k) ap vp hg (eb ri 0) (eb ri 1) (eb ri 2) (eb ri 3) wp ws_2 we wt wr), (mm, arO dA M)]) [2, 1] (by decide) rfl)
          refine gci (va_runV (As := [.int ad, .int (kdF k)]) (rest := []) ⟨hx, hb, hml, hown, hts⟩ (m_translate l D hw mm dA M (viF mo) (usF mo) (exF k) ap vp hg (eb ri 0) (eb ri 1) (eb ri 2) (eb ri 3) (inW [(hw, wkO mm (viF mo) (usF mo) (exF k) ap vp hg (eb ri 0) (eb ri 1) (eb ri 2) (eb ri 3) wp ws_2 we wt wr), (mm, arO dA M)]) wp ws_2 we wt wr ad (kdF k) (if viF mo = true then vp else ap) rfl (k3_kd hko)) (cwV 2 hts (lw_V q157 q158 q159 q20 q160) rfl rfl rfl (by decide +kernel) ⟨Nat.le_of_ble_eq_true rfl, Nat.le_of_ble_eq_true rfl⟩) (pX_W hK hPc hDc.own hZ hS (inW_in hDc) 0 rfl rfl) rfl rfl hl.1 rfl (lv_room (Nat.le_of_ble_eq_true rfl)) dX0_go_67 ⟨Nat.le_refl _, Nat.le_refl _⟩) hS (inW_in hDc) (fun r_5 u_5 H locs po_5 hP1 hz_5 hk_5 hS => ?_)
          have hPr := gjoin hP hD [2, 1] [0] (wc := [(hw, wkO mm (viF mo) (usF mo) (exF k) ap vp hg (eb ri 0) (eb ri 1) (eb ri 2) (eb ri 3) wp ws_2 we wt wr), (mm, arO dA M)]) (wr := [(hx_, swO mm hw ri pl se en)]) rfl rfl (by decide) hk_5
          obtain ⟨wp_1, ws_1, we_1, wt_1, wr_1⟩ := u_5
          have hP := (hPr.app hP1).sub (ws' := _) [0, 2, 1] rfl
          have hP : va_P D vCl [(hx_, swO mm hw ri pl se en), (mm, arO dA M), (hw, wkO mm (viF mo) (usF mo) (exF k) ap vp hg (eb ri 0) (eb ri 1) (eb ri 2) (eb ri 3) wp_1 ws_1 we_1 wt_1 wr_1)] H := hP
          have hD : va_D A [(hx_, swO mm hw ri pl se en), (mm, arO dA M), (hw, wkO mm (viF mo) (usF mo) (exF k) ap vp hg (eb ri 0) (eb ri 1) (eb ri 2) (eb ri 3) wp_1 ws_1 we_1 wt_1 wr_1)] := hD.re rfl
          exact gri ((viF mo, usF mo, exF k, wp_1, ws_1, we_1, wt_1, wr_1)) (po_5) hP hS hx hb hr hlocks dX0_go_70
        · skip
          refine lv_icmp_ne (tgt := 66) hx hb dX0_go_59 (by decide) (fun c_6 => ?_) (fun c_6 => ?_)
          · skip
            refine lv_iload_n hx hb dX0_go_66 rfl (lv_at hl 2 rfl) ?_
            exact K_4 _ (by simp [kdF, c_6])
          · skip
            refine lv_iconst (v := 1) hx hb dX0_go_62 (by decide) ?_
            refine lv_goto (tgt := 67) hx hb dX0_go_63 (by decide) ?_
            exact K_4 _ (by simp [kdF, c_6])
      · skip
        refine lv_icmp_ne (tgt := 48) hx hb dX0_go_41 (by decide) (fun c_7 => ?_) (fun c_7 => ?_)
        · skip
          refine lv_iconst (v := 0) hx hb dX0_go_48 (by decide) ?_
          exact K_3 _ (by simp [bI, exF, c_7])
        · skip
          refine lv_iconst (v := 1) hx hb dX0_go_44 (by decide) ?_
          refine lv_goto (tgt := 49) hx hb dX0_go_45 (by decide) ?_
          exact K_3 _ (by simp [bI, exF, c_7])
    · skip
      refine lv_if_ne (tgt := 31) hx hb dX0_go_24 (by decide) (fun c_8 => ?_) (fun c_8 => ?_)
      · skip
        have c_8 := (n_1 _).mp c_8
        refine lv_iconst (v := 0) hx hb dX0_go_31 (by decide) ?_
        exact K_2 _ (by rw [us_1 hko c_8]; rfl)
      · skip
        have c_8 := (z_1 _).mp c_8
        refine lv_iconst (v := 1) hx hb dX0_go_27 (by decide) ?_
        refine lv_goto (tgt := 32) hx hb dX0_go_28 (by decide) ?_
        exact K_2 _ (by rw [us_0 hko c_8]; rfl)
  · skip
    refine lv_icmp_lt (tgt := 13) hx hb dX0_go_6 (by decide) (fun c_9 => ?_) (fun c_9 => ?_)
    · skip
      refine lv_iconst (v := 0) hx hb dX0_go_13 (by decide) ?_
      exact K_1 _ (by rw [vi_lt c_9]; rfl)
    · skip
      refine lv_iconst (v := 1) hx hb dX0_go_9 (by decide) ?_
      refine lv_goto (tgt := 14) hx hb dX0_go_10 (by decide) ?_
      exact K_1 _ (by rw [vi_ge c_9]; rfl)
set_option maxHeartbeats 4000000 in
/-- translate -/
theorem m_xtranslate (l : Launch) (D : va_G) (hx_ mm hw : Nat) (dA : ClassId) (M : Nat → Int32) (ap vp hg ri : Int32) (A : Nat → Prop) (pl se : Int32) (en : Bool) (vi us ex : Bool) (wp ws_2 : Int64) (we : Bool) (wt : Int64) (wr : Int32) (mo k ad : Int32) : Met l yX0_translate (ws_ yX0_translate cX0_translate 5 (some .int)) (rmX 7 182) (va_Pc [.ref hx_, .int mo, .int k, .int ad] (Gx D vCl [(dA, .int)] A (xV hx_ mm hw dA M ap vp hg ri (pl, se, en) (vi, us, ex, wp, ws_2, we, wt, wr)))) (GQi D vCl A (fun u : tS × xJ => xV hx_ mm hw dA M ap vp hg ri u.1 u.2) (fun r u => (r, u.1) = tT M ap vp hg ri mo k ad (pl, se, en))) 0 0 A := by
  refine mst (by decide) (Nat.le_of_ble_eq_true rfl) ?_
  intro p ee s m below meth c hx hb hr hlocks hml hown hts hin hB ls hl
  have hl : lv_has ls 5 [(0, .ref hx_), (1, .int mo), (2, .int k), (3, .int ad)] := hl
  obtain ⟨hP, hK, hD, hZ⟩ := hB
  have hP : va_P D vCl [(hx_, swO mm hw ri pl se en), (mm, arO dA M), (hw, wkO mm vi us ex ap vp hg (eb ri 0) (eb ri 1) (eb ri 2) (eb ri 3) wp ws_2 we wt wr)] s.heap := hP
  have hD : va_D A [(hx_, swO mm hw ri pl se en), (mm, arO dA M), (hw, wkO mm vi us ex ap vp hg (eb ri 0) (eb ri 1) (eb ri 2) (eb ri 3) wp ws_2 we wt wr)] := hD
  have hS : va_S A s.heap s.heap [] := va_S.rf
  refine lv_iload_n hx hb dX0_translate_0 rfl (lv_at hl 1 rfl) ?_
  refine lv_iload_n hx hb dX0_translate_1 rfl (lv_at hl 2 rfl) ?_
  refine pcall (va_runS (As := [.int mo, .int k]) (rest := []) ⟨hx, hb, hml, hown, hts⟩ (m_isKind l mo k) (va_cwS 2 hts (lw_S q150 q151 q19 q152) rfl rfl rfl (by decide +kernel) ⟨Nat.le_of_ble_eq_true rfl, Nat.le_of_ble_eq_true rfl⟩) pT_S rfl rfl hl.1 rfl (lv_room (Nat.le_of_ble_eq_true rfl)) dX0_translate_2 ⟨Nat.le_refl _, Nat.le_refl _⟩) ?_
  refine lv_if_ne (tgt := 10) hx hb dX0_translate_5 (by decide) (fun c_1 => ?_) (fun c_1 => ?_)
  · skip
    have c_1 := (bI_n _).mp c_1
    have had := tn_lt ad
    refine lv_aload_n hx hb dX0_translate_10 rfl (lv_at hl 0 rfl) ?_
    refine lv_iload_n hx hb dX0_translate_11 rfl (lv_at hl 1 rfl) ?_
    refine lv_iload_n hx hb dX0_translate_12 rfl (lv_at hl 2 rfl) ?_
    refine lv_iload_n hx hb dX0_translate_13 rfl (lv_at hl 3 rfl) ?_
    refine gci (va_runV (As := [.int mo, .int k, .int ad]) (rest := []) ⟨hx, hb, hml, hown, hts⟩ (m_go l D hx_ mm hw dA M ap vp hg ri A pl se en vi us ex wp ws_2 we wt wr mo k ad c_1) (cwV 3 hts (lw_V q153 q155 qs0 q19 q156) rfl rfl rfl (by decide +kernel) ⟨Nat.le_of_ble_eq_true rfl, Nat.le_of_ble_eq_true rfl⟩) (pX_V hK hP hD hZ hS 0 rfl rfl) rfl rfl hl.1 rfl (lv_room (Nat.le_of_ble_eq_true rfl)) dX0_translate_14 ⟨Nat.le_refl _, Nat.le_refl _⟩) hS (fun _ h => h) (fun r_2 u_2 H locs po_2 hP hz_2 hk_2 hS => ?_)
    obtain ⟨vi_2, us_2, ex_2, w_2⟩ := u_2
    have po_2 : poW (trL M ap vp hg ri mo k (tn ad)) r_2 w_2 := po_2
    rcases hs : trL M ap vp hg ri mo k (tn ad) with f | a
    · skip
      rw [hs] at po_2
      obtain ⟨rfl, hn_2, wp_2, wt_2, wr_2, rfl⟩ := po_2
      have hfb := tr_fb had hs
      have hP : va_P D vCl [(hx_, swO mm hw ri pl se en), (mm, arO dA M), (hw, wkO mm vi_2 us_2 ex_2 ap vp hg (eb ri 0) (eb ri 1) (eb ri 2) (eb ri 3) wp_2 (lN f.2.1) f.2.2 wt_2 wr_2)] H := hP
      have hD : va_D A [(hx_, swO mm hw ri pl se en), (mm, arO dA M), (hw, wkO mm vi_2 us_2 ex_2 ap vp hg (eb ri 0) (eb ri 1) (eb ri 2) (eb ri 3) wp_2 (lN f.2.1) f.2.2 wt_2 wr_2)] := hD.re rfl
      refine lv_istore (lv' := [(4, .int f.1), (0, .ref hx_), (1, .int mo), (2, .int k), (3, .int ad)]) hx hb dX0_translate_17 hl (by decide) rfl (fun ls hl => ?_)
      refine lv_aload_n hx hb dX0_translate_19 rfl (lv_at hl 1 rfl) ?_
      refine lv_iload hx hb dX0_translate_20 (lv_at hl 0 rfl) ?_
      refine lv_if_ne (tgt := 36) hx hb dX0_translate_22 (by decide) (fun c_3 => ?_) (fun c_3 => absurd c_3 hn_2)
      refine lv_iconst (v := (-1)) hx hb dX0_translate_36 (by decide) ?_
      refine va_put (D := D) (ci := 0) (v := .int (-1)) (ty := .int) (C := RX0) (T := TX0) (N := 6) hx hb hts in_X0 tyX0 tyX0_ok nmX0 hown hK hP hD hS 0 rfl rfl 3 (by decide) (hts _ q103) (fun _ h9 => h9) rfl (by decide +kernel) rfl rfl (Nat.le_of_ble_eq_true rfl) dX0_translate_37 (fun H locs hP hD hS => ?_)
      have hP : va_P D vCl [(hx_, swO mm hw ri (-1) se en), (mm, arO dA M), (hw, wkO mm vi_2 us_2 ex_2 ap vp hg (eb ri 0) (eb ri 1) (eb ri 2) (eb ri 3) wp_2 (lN f.2.1) f.2.2 wt_2 wr_2)] H := hP
      have hD : va_D A [(hx_, swO mm hw ri (-1) se en), (mm, arO dA M), (hw, wkO mm vi_2 us_2 ex_2 ap vp hg (eb ri 0) (eb ri 1) (eb ri 2) (eb ri 3) wp_2 (lN f.2.1) f.2.2 wt_2 wr_2)] := hD
      refine lv_aload_n hx hb dX0_translate_40 rfl (lv_at hl 1 rfl) ?_
      refine lv_aload_n hx hb dX0_translate_41 rfl (lv_at hl 1 rfl) ?_
      refine va_get (D := D) (ci := 0) (v := .ref hw) (C := RX0) (T := TX0) (N := 6) hx hb hts in_X0 hown hK hP 0 rfl rfl 1 (by decide) (hts _ q101) (fun _ h9 => h9) rfl dX0_translate_42 ?_
      refine va_get (D := D) (ci := 1) (v := .long (lN f.2.1)) (C := RX1) (T := TX1) (N := 16) hx hb hts in_X1 hown hK hP 2 rfl rfl 12 (by decide) (hts _ q61) (fun _ h9 => h9) rfl dX0_translate_45 ?_
      refine lv_iconst (v := 2) hx hb dX0_translate_48 (by decide) ?_
      refine lv_lshr hx hb dX0_translate_49 rfl ?_
      refine tpl (y := lN (f.2.1 / 4)) (sh2 (by omega)) ?_
      refine lv_l2i hx hb dX0_translate_50 rfl ?_
      refine tpi (y := nI (f.2.1 / 4)) (lN_i _) ?_
      refine va_put (D := D) (ci := 0) (v := .int (nI (f.2.1 / 4))) (ty := .int) (C := RX0) (T := TX0) (N := 6) hx hb hts in_X0 tyX0 tyX0_ok nmX0 hown hK hP hD hS 0 rfl rfl 4 (by decide) (hts _ q104) (fun _ h9 => h9) rfl (by decide +kernel) rfl rfl (Nat.le_of_ble_eq_true rfl) dX0_translate_51 (fun H locs hP hD hS => ?_)
      have hP : va_P D vCl [(hx_, swO mm hw ri (-1) (nI (f.2.1 / 4)) en), (mm, arO dA M), (hw, wkO mm vi_2 us_2 ex_2 ap vp hg (eb ri 0) (eb ri 1) (eb ri 2) (eb ri 3) wp_2 (lN f.2.1) f.2.2 wt_2 wr_2)] H := hP
      have hD : va_D A [(hx_, swO mm hw ri (-1) (nI (f.2.1 / 4)) en), (mm, arO dA M), (hw, wkO mm vi_2 us_2 ex_2 ap vp hg (eb ri 0) (eb ri 1) (eb ri 2) (eb ri 3) wp_2 (lN f.2.1) f.2.2 wt_2 wr_2)] := hD
      refine lv_aload_n hx hb dX0_translate_54 rfl (lv_at hl 1 rfl) ?_
      refine lv_aload_n hx hb dX0_translate_55 rfl (lv_at hl 1 rfl) ?_
      refine va_get (D := D) (ci := 0) (v := .ref hw) (C := RX0) (T := TX0) (N := 6) hx hb hts in_X0 hown hK hP 0 rfl rfl 1 (by decide) (hts _ q101) (fun _ h9 => h9) rfl dX0_translate_56 ?_
      refine va_get (D := D) (ci := 1) (v := .int (bI f.2.2)) (C := RX1) (T := TX1) (N := 16) hx hb hts in_X1 hown hK hP 2 rfl rfl 13 (by decide) (hts _ q63) (fun _ h9 => h9) rfl dX0_translate_59 ?_
      refine va_put (D := D) (ci := 0) (v := .int (bI f.2.2)) (ty := .boolean) (C := RX0) (T := TX0) (N := 6) hx hb hts in_X0 tyX0 tyX0_ok nmX0 hown hK hP hD hS 0 rfl rfl 5 (by decide) (hts _ q105) (fun _ h9 => h9) rfl (by decide +kernel) (nar_bI _) (fit_bI _) (Nat.le_of_ble_eq_true rfl) dX0_translate_62 (fun H locs hP hD hS => ?_)
      have hP : va_P D vCl [(hx_, swO mm hw ri (-1) (nI (f.2.1 / 4)) f.2.2), (mm, arO dA M), (hw, wkO mm vi_2 us_2 ex_2 ap vp hg (eb ri 0) (eb ri 1) (eb ri 2) (eb ri 3) wp_2 (lN f.2.1) f.2.2 wt_2 wr_2)] H := hP
      have hD : va_D A [(hx_, swO mm hw ri (-1) (nI (f.2.1 / 4)) f.2.2), (mm, arO dA M), (hw, wkO mm vi_2 us_2 ex_2 ap vp hg (eb ri 0) (eb ri 1) (eb ri 2) (eb ri 3) wp_2 (lN f.2.1) f.2.2 wt_2 wr_2)] := hD
      refine lv_iload hx hb dX0_translate_65 (lv_at hl 0 rfl) ?_
      exact gri ((((-1), nI (f.2.1 / 4), f.2.2), (vi_2, us_2, ex_2, wp_2, lN f.2.1, f.2.2, wt_2, wr_2))) (by rw [tT, if_pos c_1, hs]; rfl) hP hS hx hb hr hlocks dX0_translate_67
    · skip
      rw [hs] at po_2
      obtain ⟨rfl, wt_2, wr_2, rfl⟩ := po_2
      have hP : va_P D vCl [(hx_, swO mm hw ri pl se en), (mm, arO dA M), (hw, wkO mm vi_2 us_2 ex_2 ap vp hg (eb ri 0) (eb ri 1) (eb ri 2) (eb ri 3) (lN a) 0 false wt_2 wr_2)] H := hP
      have hD : va_D A [(hx_, swO mm hw ri pl se en), (mm, arO dA M), (hw, wkO mm vi_2 us_2 ex_2 ap vp hg (eb ri 0) (eb ri 1) (eb ri 2) (eb ri 3) (lN a) 0 false wt_2 wr_2)] := hD.re rfl
      refine lv_istore (lv' := [(4, .int 0), (0, .ref hx_), (1, .int mo), (2, .int k), (3, .int ad)]) hx hb dX0_translate_17 hl (by decide) rfl (fun ls hl => ?_)
      refine lv_aload_n hx hb dX0_translate_19 rfl (lv_at hl 1 rfl) ?_
      refine lv_iload hx hb dX0_translate_20 (lv_at hl 0 rfl) ?_
      refine lv_if_ne (tgt := 36) hx hb dX0_translate_22 (by decide) (fun c_4 => absurd c_4 (by decide)) (fun c_4 => ?_)
      refine lv_aload_n hx hb dX0_translate_25 rfl (lv_at hl 1 rfl) ?_
      refine va_get (D := D) (ci := 0) (v := .ref hw) (C := RX0) (T := TX0) (N := 6) hx hb hts in_X0 hown hK hP 0 rfl rfl 1 (by decide) (hts _ q101) (fun _ h9 => h9) rfl dX0_translate_26 ?_
      refine va_get (D := D) (ci := 1) (v := .long (lN a)) (C := RX1) (T := TX1) (N := 16) hx hb hts in_X1 hown hK hP 2 rfl rfl 11 (by decide) (hts _ q59) (fun _ h9 => h9) rfl dX0_translate_29 ?_
      refine lv_l2i hx hb dX0_translate_32 rfl ?_
      refine tpi (y := nI a) (lN_i _) ?_
      refine lv_goto (tgt := 37) hx hb dX0_translate_33 (by decide) ?_
      refine va_put (D := D) (ci := 0) (v := .int (nI a)) (ty := .int) (C := RX0) (T := TX0) (N := 6) hx hb hts in_X0 tyX0 tyX0_ok nmX0 hown hK hP hD hS 0 rfl rfl 3 (by decide) (hts _ q103) (fun _ h9 => h9) rfl (by decide +kernel) rfl rfl (Nat.le_of_ble_eq_true rfl) dX0_translate_37 (fun H locs hP hD hS => ?_)
      have hP : va_P D vCl [(hx_, swO mm hw ri (nI a) se en), (mm, arO dA M), (hw, wkO mm vi_2 us_2 ex_2 ap vp hg (eb ri 0) (eb ri 1) (eb ri 2) (eb ri 3) (lN a) 0 false wt_2 wr_2)] H := hP
      have hD : va_D A [(hx_, swO mm hw ri (nI a) se en), (mm, arO dA M), (hw, wkO mm vi_2 us_2 ex_2 ap vp hg (eb ri 0) (eb ri 1) (eb ri 2) (eb ri 3) (lN a) 0 false wt_2 wr_2)] := hD
      refine lv_aload_n hx hb dX0_translate_40 rfl (lv_at hl 1 rfl) ?_
      refine lv_aload_n hx hb dX0_translate_41 rfl (lv_at hl 1 rfl) ?_
      refine va_get (D := D) (ci := 0) (v := .ref hw) (C := RX0) (T := TX0) (N := 6) hx hb hts in_X0 hown hK hP 0 rfl rfl 1 (by decide) (hts _ q101) (fun _ h9 => h9) rfl dX0_translate_42 ?_
      refine va_get (D := D) (ci := 1) (v := .long 0) (C := RX1) (T := TX1) (N := 16) hx hb hts in_X1 hown hK hP 2 rfl rfl 12 (by decide) (hts _ q61) (fun _ h9 => h9) rfl dX0_translate_45 ?_
      refine lv_iconst (v := 2) hx hb dX0_translate_48 (by decide) ?_
      refine lv_lshr hx hb dX0_translate_49 rfl ?_
      refine lv_l2i hx hb dX0_translate_50 rfl ?_
      refine tpi (y := 0) (by decide) ?_
      refine va_put (D := D) (ci := 0) (v := .int 0) (ty := .int) (C := RX0) (T := TX0) (N := 6) hx hb hts in_X0 tyX0 tyX0_ok nmX0 hown hK hP hD hS 0 rfl rfl 4 (by decide) (hts _ q104) (fun _ h9 => h9) rfl (by decide +kernel) rfl rfl (Nat.le_of_ble_eq_true rfl) dX0_translate_51 (fun H locs hP hD hS => ?_)
      have hP : va_P D vCl [(hx_, swO mm hw ri (nI a) 0 en), (mm, arO dA M), (hw, wkO mm vi_2 us_2 ex_2 ap vp hg (eb ri 0) (eb ri 1) (eb ri 2) (eb ri 3) (lN a) 0 false wt_2 wr_2)] H := hP
      have hD : va_D A [(hx_, swO mm hw ri (nI a) 0 en), (mm, arO dA M), (hw, wkO mm vi_2 us_2 ex_2 ap vp hg (eb ri 0) (eb ri 1) (eb ri 2) (eb ri 3) (lN a) 0 false wt_2 wr_2)] := hD
      refine lv_aload_n hx hb dX0_translate_54 rfl (lv_at hl 1 rfl) ?_
      refine lv_aload_n hx hb dX0_translate_55 rfl (lv_at hl 1 rfl) ?_
      refine va_get (D := D) (ci := 0) (v := .ref hw) (C := RX0) (T := TX0) (N := 6) hx hb hts in_X0 hown hK hP 0 rfl rfl 1 (by decide) (hts _ q101) (fun _ h9 => h9) rfl dX0_translate_56 ?_
      refine va_get (D := D) (ci := 1) (v := .int (bI false)) (C := RX1) (T := TX1) (N := 16) hx hb hts in_X1 hown hK hP 2 rfl rfl 13 (by decide) (hts _ q63) (fun _ h9 => h9) rfl dX0_translate_59 ?_
      refine va_put (D := D) (ci := 0) (v := .int (bI false)) (ty := .boolean) (C := RX0) (T := TX0) (N := 6) hx hb hts in_X0 tyX0 tyX0_ok nmX0 hown hK hP hD hS 0 rfl rfl 5 (by decide) (hts _ q105) (fun _ h9 => h9) rfl (by decide +kernel) (nar_bI _) (fit_bI _) (Nat.le_of_ble_eq_true rfl) dX0_translate_62 (fun H locs hP hD hS => ?_)
      have hP : va_P D vCl [(hx_, swO mm hw ri (nI a) 0 false), (mm, arO dA M), (hw, wkO mm vi_2 us_2 ex_2 ap vp hg (eb ri 0) (eb ri 1) (eb ri 2) (eb ri 3) (lN a) 0 false wt_2 wr_2)] H := hP
      have hD : va_D A [(hx_, swO mm hw ri (nI a) 0 false), (mm, arO dA M), (hw, wkO mm vi_2 us_2 ex_2 ap vp hg (eb ri 0) (eb ri 1) (eb ri 2) (eb ri 3) (lN a) 0 false wt_2 wr_2)] := hD
      refine lv_iload hx hb dX0_translate_65 (lv_at hl 0 rfl) ?_
      exact gri (((nI a, 0, false), (vi_2, us_2, ex_2, lN a, 0, false, wt_2, wr_2))) (by rw [tT, if_pos c_1, hs]; rfl) hP hS hx hb hr hlocks dX0_translate_67
  · skip
    have c_1 := (bI_z _).mp c_1
    refine lv_iconst (v := (-1)) hx hb dX0_translate_8 (by decide) ?_
    exact gri (((pl, se, en), (vi, us, ex, wp, ws_2, we, wt, wr))) (by rw [tT, if_neg (by rw [c_1]; decide)]) hP hS hx hb hr hlocks dX0_translate_9
set_option maxHeartbeats 4000000 in
/-- pages -/
theorem m_xpages (l : Launch) (D : va_G) (hx_ mm hw : Nat) (dA : ClassId) (M : Nat → Int32) (ap vp hg ri : Int32) (A : Nat → Prop) (pl se : Int32) (en : Bool) (vi us ex : Bool) (wp ws_2 : Int64) (we : Bool) (wt : Int64) (wr : Int32) (mo k ad n : Int32) : Met l yX0_pages (ws_ yX0_pages cX0_pages 9 (some .int)) (rmX 7 182) (va_Pc [.ref hx_, .int mo, .int k, .int ad, .int n] (Gx D vCl [(dA, .int)] A (xV hx_ mm hw dA M ap vp hg ri (pl, se, en) (vi, us, ex, wp, ws_2, we, wt, wr)))) (GQi D vCl A (fun u : tS × xJ => xV hx_ mm hw dA M ap vp hg ri u.1 u.2) (fun r u => (r, u.1) = (pgs M ap vp hg ri mo k ad n, (pl, se, en)))) 0 0 A := by
  refine mst (by decide) (Nat.le_of_ble_eq_true rfl) ?_
  intro p ee s m below meth c hx hb hr hlocks hml hown hts hin hB ls hl
  have hl : lv_has ls 9 [(0, .ref hx_), (1, .int mo), (2, .int k), (3, .int ad), (4, .int n)] := hl
  obtain ⟨hP, hK, hD, hZ⟩ := hB
  have hP : va_P D vCl [(hx_, swO mm hw ri pl se en), (mm, arO dA M), (hw, wkO mm vi us ex ap vp hg (eb ri 0) (eb ri 1) (eb ri 2) (eb ri 3) wp ws_2 we wt wr)] s.heap := hP
  have hD : va_D A [(hx_, swO mm hw ri pl se en), (mm, arO dA M), (hw, wkO mm vi us ex ap vp hg (eb ri 0) (eb ri 1) (eb ri 2) (eb ri 3) wp ws_2 we wt wr)] := hD
  have hS : va_S A s.heap s.heap [] := va_S.rf
  refine lv_iload_n hx hb dX0_pages_0 rfl (lv_at hl 1 rfl) ?_
  refine lv_iload_n hx hb dX0_pages_1 rfl (lv_at hl 2 rfl) ?_
  refine pcall (va_runS (As := [.int mo, .int k]) (rest := []) ⟨hx, hb, hml, hown, hts⟩ (m_isKind l mo k) (va_cwS 2 hts (lw_S q150 q151 q19 q152) rfl rfl rfl (by decide +kernel) ⟨Nat.le_of_ble_eq_true rfl, Nat.le_of_ble_eq_true rfl⟩) pT_S rfl rfl hl.1 rfl (lv_room (Nat.le_of_ble_eq_true rfl)) dX0_pages_2 ⟨Nat.le_refl _, Nat.le_refl _⟩) ?_
  refine lv_if_eq (tgt := 22) hx hb dX0_pages_5 (by decide) (fun c_1 => ?_) (fun c_1 => ?_)
  · skip
    have c_1 := (bI_z _).mp c_1
    refine lv_iconst (v := (-1)) hx hb dX0_pages_22 (by decide) ?_
    exact gri (((pl, se, en), (vi, us, ex, wp, ws_2, we, wt, wr))) (by rw [pgs, if_neg (by rw [c_1]; simp)]) hP hS hx hb hr hlocks dX0_pages_23
  · skip
    have c_1 := (bI_n _).mp c_1
    refine lv_iload hx hb dX0_pages_8 (lv_at hl 4 rfl) ?_
    refine lv_iconst (v := 1) hx hb dX0_pages_10 (by decide) ?_
    refine lv_icmp_lt (tgt := 22) hx hb dX0_pages_11 (by decide) (fun c_2 => ?_) (fun c_2 => ?_)
    · skip
      refine lv_iconst (v := (-1)) hx hb dX0_pages_22 (by decide) ?_
      exact gri (((pl, se, en), (vi, us, ex, wp, ws_2, we, wt, wr))) (by rw [pgs, if_neg (by rw [pn_lt c_2]; simp)]) hP hS hx hb hr hlocks dX0_pages_23
    · skip
      refine lv_iload hx hb dX0_pages_14 (lv_at hl 4 rfl) ?_
      refine lv_sipush (v := 1024) hx hb dX0_pages_16 (by decide) ?_
      refine lv_icmp_le (tgt := 24) hx hb dX0_pages_19 (by decide) (fun c_3 => ?_) (fun c_3 => ?_)
      · skip
        have hpn := pn_y c_2 c_3
        obtain ⟨N, hN1, hN2, hnN, hN3⟩ := pn_N hpn
        have had := tn_lt ad
        have hPG : pgs M ap vp hg ri mo k ad n = pgc (fun fr => isOk (trL M ap vp hg ri mo k fr)) N (tn ad) 0 := by rw [pgs, if_pos (by rw [c_1, hpn]; rfl), hN3]
        generalize pgs M ap vp hg ri mo k ad n = PG at hPG ⊢
        refine lv_iload_n hx hb dX0_pages_24 rfl (lv_at hl 3 rfl) ?_
        refine lv_i2l hx hb dX0_pages_25 rfl ?_
        refine lv_ldc2 hx hb hown (hts _ q234) dX0_pages_26 ?_
        refine lv_land hx hb dX0_pages_29 ?_
        refine tpl (y := lN (tn ad)) (i2l_low ad) ?_
        refine lv_lstore (lv' := [(5, .long (lN (tn ad))), (0, .ref hx_), (1, .int mo), (2, .int k), (3, .int ad), (4, .int n)]) hx hb dX0_pages_30 hl (by decide) rfl (fun ls hl => ?_)
        refine lv_iconst (v := 0) hx hb dX0_pages_32 (by decide) ?_
        refine lv_istore (lv' := [(7, .int 0), (5, .long (lN (tn ad))), (0, .ref hx_), (1, .int mo), (2, .int k), (3, .int ad), (4, .int n)]) hx hb dX0_pages_33 hl (by decide) rfl (fun ls hl => ?_)
        refine lv_iconst (v := 0) hx hb dX0_pages_35 (by decide) ?_
        refine lv_istore (lv' := [(8, .int 0), (7, .int 0), (5, .long (lN (tn ad))), (0, .ref hx_), (1, .int mo), (2, .int k), (3, .int ad), (4, .int n)]) hx hb dX0_pages_36 hl (by decide) rfl (fun ls hl => ?_)
        refine jg (X := Nat × Nat × Nat × Int32 × xJ) (fun _ ls => F0 m 38 ls []) (fun y_ H locs ls => y_.2.1 + y_.1 = N ∧ y_.2.2.1 < 4294971392 ∧ pgc (fun fr => isOk (trL M ap vp hg ri mo k fr)) y_.1 y_.2.2.1 y_.2.2.2.1 = PG ∧ va_P D vCl (xV hx_ mm hw dA M ap vp hg ri (pl, se, en) y_.2.2.2.2) H ∧ va_S A s.heap H locs ∧ lv_has ls 9 [(8, .int (nI y_.2.1)), (7, .int y_.2.2.2.1), (5, .long (lN y_.2.2.1)), (0, .ref hx_), (1, .int mo), (2, .int k), (3, .int ad), (4, .int n)]) ?_ (fun K_4 => ?_)
        · intro y_
          obtain ⟨j, i, fr, ac, vi_1, us_1, ex_1, wp_1, ws_1, we_1, wt_1, wr_1⟩ := y_
          induction j generalizing i fr ac vi_1 us_1 ex_1 wp_1 ws_1 we_1 wt_1 wr_1 with
          | zero =>
            rintro H locs ls ⟨hi, hfr, hpg, hP, hS, hl⟩
            have hi : i + 0 = N := hi
            have hfr : fr < 4294971392 := hfr
            have hP : va_P D vCl [(hx_, swO mm hw ri pl se en), (mm, arO dA M), (hw, wkO mm vi_1 us_1 ex_1 ap vp hg (eb ri 0) (eb ri 1) (eb ri 2) (eb ri 3) wp_1 ws_1 we_1 wt_1 wr_1)] H := hP
            have hD : va_D A [(hx_, swO mm hw ri pl se en), (mm, arO dA M), (hw, wkO mm vi_1 us_1 ex_1 ap vp hg (eb ri 0) (eb ri 1) (eb ri 2) (eb ri 3) wp_1 ws_1 we_1 wt_1 wr_1)] := hD.re rfl
            have hl : lv_has ls 9 [(8, .int (nI i)), (7, .int ac), (5, .long (lN fr)), (0, .ref hx_), (1, .int mo), (2, .int k), (3, .int ad), (4, .int n)] := hl
            refine lv_iload hx hb dX0_pages_38 (lv_at hl 0 rfl) ?_
            refine lv_iload hx hb dX0_pages_40 (lv_at hl 7 rfl) ?_
            refine lv_icmp_ge (tgt := 91) hx hb dX0_pages_42 (by decide) (fun c_5 => ?_) (fun c_5 => absurd (by rw [hnN]; exact nI_le (by omega) (by omega)) c_5)
            refine lv_iload hx hb dX0_pages_91 (lv_at hl 1 rfl) ?_
            exact gri (((pl, se, en), (vi_1, us_1, ex_1, wp_1, ws_1, we_1, wt_1, wr_1))) (by rw [← hpg]; rfl) hP hS hx hb hr hlocks dX0_pages_93
          | succ j ih =>
            rintro H locs ls ⟨hi, hfr, hpg, hP, hS, hl⟩
            have hi : i + (j + 1) = N := hi
            have hfr : fr < 4294971392 := hfr
            have hP : va_P D vCl [(hx_, swO mm hw ri pl se en), (mm, arO dA M), (hw, wkO mm vi_1 us_1 ex_1 ap vp hg (eb ri 0) (eb ri 1) (eb ri 2) (eb ri 3) wp_1 ws_1 we_1 wt_1 wr_1)] H := hP
            have hD : va_D A [(hx_, swO mm hw ri pl se en), (mm, arO dA M), (hw, wkO mm vi_1 us_1 ex_1 ap vp hg (eb ri 0) (eb ri 1) (eb ri 2) (eb ri 3) wp_1 ws_1 we_1 wt_1 wr_1)] := hD.re rfl
            have hl : lv_has ls 9 [(8, .int (nI i)), (7, .int ac), (5, .long (lN fr)), (0, .ref hx_), (1, .int mo), (2, .int k), (3, .int ad), (4, .int n)] := hl
            refine lv_iload hx hb dX0_pages_38 (lv_at hl 0 rfl) ?_
            refine lv_iload hx hb dX0_pages_40 (lv_at hl 7 rfl) ?_
            refine lv_icmp_ge (tgt := 91) hx hb dX0_pages_42 (by decide) (fun c_6 => absurd c_6 (by rw [hnN]; exact nI_ge (by omega) (by omega))) (fun c_6 => ?_)
            refine lv_lload hx hb dX0_pages_45 (lv_at hl 2 rfl) ?_
            refine lv_bipush (v := 32) hx hb dX0_pages_47 (by decide) ?_
            refine lv_lshr hx hb dX0_pages_49 rfl ?_
            refine tpl (y := lN (fr / 4294967296)) (sh32 (by omega)) ?_
            refine lv_lconst (v := 0) hx hb dX0_pages_50 (by decide) ?_
            refine W.lcmp hx hb dX0_pages_51 ?_
            refine lv_if_ne (tgt := 91) hx hb dX0_pages_52 (by decide) (fun c_7 => ?_) (fun c_7 => ?_)
            · skip
              have c_7 : ¬ fr / 4294967296 = 0 := fun z => c_7 ((lg_cmp_eq _ _).mpr (by rw [z]; rfl))
              refine lv_iload hx hb dX0_pages_91 (lv_at hl 1 rfl) ?_
              exact gri (((pl, se, en), (vi_1, us_1, ex_1, wp_1, ws_1, we_1, wt_1, wr_1))) (by rw [← hpg]; show (ac, _) = (if fr < 4294967296 then _ else ac, _); rw [if_neg (by omega)]) hP hS hx hb hr hlocks dX0_pages_93
            · skip
              have c_7 := (fb_lN_inj (b := 0) (by omega) (by decide)).mp ((lg_cmp_eq _ _).mp c_7)
              have hpg : pgc (fun fr => isOk (trL M ap vp hg ri mo k fr)) j (fr + 4096) (ac + bI (isOk (trL M ap vp hg ri mo k fr))) = PG := by rw [← hpg]; exact (if_pos (show fr < 4294967296 by omega)).symm
              refine lv_iload hx hb dX0_pages_55 (lv_at hl 1 rfl) ?_
              refine lv_aload_n hx hb dX0_pages_57 rfl (lv_at hl 3 rfl) ?_
              refine lv_iload_n hx hb dX0_pages_58 rfl (lv_at hl 4 rfl) ?_
              refine lv_iload_n hx hb dX0_pages_59 rfl (lv_at hl 5 rfl) ?_
              refine lv_lload hx hb dX0_pages_60 (lv_at hl 2 rfl) ?_
              refine lv_l2i hx hb dX0_pages_62 rfl ?_
              refine tpi (y := nI fr) (lN_i _) ?_
              refine gci (va_runV (As := [.int mo, .int k, .int (nI fr)]) (rest := [.int ac]) ⟨hx, hb, hml, hown, hts⟩ (m_go l D hx_ mm hw dA M ap vp hg ri A pl se en vi_1 us_1 ex_1 wp_1 ws_1 we_1 wt_1 wr_1 mo k (nI fr) c_1) (cwV 3 hts (lw_V q153 q155 qs0 q19 q156) rfl rfl rfl (by decide +kernel) ⟨Nat.le_of_ble_eq_true rfl, Nat.le_of_ble_eq_true rfl⟩) (pX_V hK hP hD hZ hS 0 rfl rfl) rfl rfl hl.1 rfl (lv_room (Nat.le_of_ble_eq_true rfl)) dX0_pages_63 ⟨Nat.le_refl _, Nat.le_refl _⟩) hS (fun _ h => h) (fun r_8 u_8 H locs po_8 hP hz_8 hk_8 hS => ?_)
              rw [tn_nI (by omega)] at po_8
              obtain ⟨vi_8, us_8, ex_8, w_8⟩ := u_8
              have po_8 : poW (trL M ap vp hg ri mo k fr) r_8 w_8 := po_8
              rcases hs : trL M ap vp hg ri mo k fr with f | a
              · skip
                rw [hs] at po_8
                obtain ⟨rfl, hn_8, wp_8, wt_8, wr_8, rfl⟩ := po_8
                rw [hs] at hpg
                have hP : va_P D vCl [(hx_, swO mm hw ri pl se en), (mm, arO dA M), (hw, wkO mm vi_8 us_8 ex_8 ap vp hg (eb ri 0) (eb ri 1) (eb ri 2) (eb ri 3) wp_8 (lN f.2.1) f.2.2 wt_8 wr_8)] H := hP
                have hD : va_D A [(hx_, swO mm hw ri pl se en), (mm, arO dA M), (hw, wkO mm vi_8 us_8 ex_8 ap vp hg (eb ri 0) (eb ri 1) (eb ri 2) (eb ri 3) wp_8 (lN f.2.1) f.2.2 wt_8 wr_8)] := hD.re rfl
                refine lv_if_ne (tgt := 73) hx hb dX0_pages_66 (by decide) (fun c_9 => ?_) (fun c_9 => absurd c_9 hn_8)
                refine lv_iconst (v := 0) hx hb dX0_pages_73 (by decide) ?_
                refine lv_iadd hx hb dX0_pages_74 ?_
                refine lv_istore (lv' := [(7, .int (ac + 0)), (8, .int (nI i)), (5, .long (lN fr)), (0, .ref hx_), (1, .int mo), (2, .int k), (3, .int ad), (4, .int n)]) hx hb dX0_pages_75 hl (by decide) rfl (fun ls hl => ?_)
                refine lv_lload hx hb dX0_pages_77 (lv_at hl 2 rfl) ?_
                refine lv_ldc2 hx hb hown (hts _ q235) dX0_pages_79 ?_
                refine lv_ladd hx hb dX0_pages_82 ?_
                refine tpl (y := lN (fr + 4096)) (lN_add fr 4096) ?_
                refine lv_lstore (lv' := [(5, .long (lN (fr + 4096))), (7, .int (ac + 0)), (8, .int (nI i)), (0, .ref hx_), (1, .int mo), (2, .int k), (3, .int ad), (4, .int n)]) hx hb dX0_pages_83 hl (by decide) rfl (fun ls hl => ?_)
                refine lv_iinc (v := nI (i + 1)) (lv' := [(8, .int (nI (i + 1))), (5, .long (lN (fr + 4096))), (7, .int (ac + 0)), (0, .ref hx_), (1, .int mo), (2, .int k), (3, .int ad), (4, .int n)]) hx hb dX0_pages_85 hl (k := 2) rfl (nI_1 i) (by decide) rfl (fun ls hl => ?_)
                refine lv_goto (tgt := 38) hx hb dX0_pages_88 (by decide) ?_
                exact ih (i + 1) (fr + 4096) (ac + 0) vi_8 us_8 ex_8 wp_8 (lN f.2.1) f.2.2 wt_8 wr_8 _ _ _ ⟨by show i + 1 + j = N; omega, by show fr + 4096 < 4294971392; omega, hpg, hP, hS, lv_sub hl [0, 2, 1, 3, 4, 5, 6, 7] rfl⟩
              · skip
                rw [hs] at po_8
                obtain ⟨rfl, wt_8, wr_8, rfl⟩ := po_8
                rw [hs] at hpg
                have hP : va_P D vCl [(hx_, swO mm hw ri pl se en), (mm, arO dA M), (hw, wkO mm vi_8 us_8 ex_8 ap vp hg (eb ri 0) (eb ri 1) (eb ri 2) (eb ri 3) (lN a) 0 false wt_8 wr_8)] H := hP
                have hD : va_D A [(hx_, swO mm hw ri pl se en), (mm, arO dA M), (hw, wkO mm vi_8 us_8 ex_8 ap vp hg (eb ri 0) (eb ri 1) (eb ri 2) (eb ri 3) (lN a) 0 false wt_8 wr_8)] := hD.re rfl
                refine lv_if_ne (tgt := 73) hx hb dX0_pages_66 (by decide) (fun c_10 => absurd c_10 (by decide)) (fun c_10 => ?_)
                refine lv_iconst (v := 1) hx hb dX0_pages_69 (by decide) ?_
                refine lv_goto (tgt := 74) hx hb dX0_pages_70 (by decide) ?_
                refine lv_iadd hx hb dX0_pages_74 ?_
                refine lv_istore (lv' := [(7, .int (ac + 1)), (8, .int (nI i)), (5, .long (lN fr)), (0, .ref hx_), (1, .int mo), (2, .int k), (3, .int ad), (4, .int n)]) hx hb dX0_pages_75 hl (by decide) rfl (fun ls hl => ?_)
                refine lv_lload hx hb dX0_pages_77 (lv_at hl 2 rfl) ?_
                refine lv_ldc2 hx hb hown (hts _ q235) dX0_pages_79 ?_
                refine lv_ladd hx hb dX0_pages_82 ?_
                refine tpl (y := lN (fr + 4096)) (lN_add fr 4096) ?_
                refine lv_lstore (lv' := [(5, .long (lN (fr + 4096))), (7, .int (ac + 1)), (8, .int (nI i)), (0, .ref hx_), (1, .int mo), (2, .int k), (3, .int ad), (4, .int n)]) hx hb dX0_pages_83 hl (by decide) rfl (fun ls hl => ?_)
                refine lv_iinc (v := nI (i + 1)) (lv' := [(8, .int (nI (i + 1))), (5, .long (lN (fr + 4096))), (7, .int (ac + 1)), (0, .ref hx_), (1, .int mo), (2, .int k), (3, .int ad), (4, .int n)]) hx hb dX0_pages_85 hl (k := 2) rfl (nI_1 i) (by decide) rfl (fun ls hl => ?_)
                refine lv_goto (tgt := 38) hx hb dX0_pages_88 (by decide) ?_
                exact ih (i + 1) (fr + 4096) (ac + 1) vi_8 us_8 ex_8 (lN a) 0 false wt_8 wr_8 _ _ _ ⟨by show i + 1 + j = N; omega, by show fr + 4096 < 4294971392; omega, hpg, hP, hS, lv_sub hl [0, 2, 1, 3, 4, 5, 6, 7] rfl⟩
        · skip
          exact K_4 (N, 0, tn ad, 0, vi, us, ex, wp, ws_2, we, wt, wr) _ _ _ ⟨Nat.zero_add N, by show tn ad < 4294971392; omega, hPG.symm, hP, hS, hl⟩
      · skip
        refine lv_iconst (v := (-1)) hx hb dX0_pages_22 (by decide) ?_
        exact gri (((pl, se, en), (vi, us, ex, wp, ws_2, we, wt, wr))) (by rw [pgs, if_neg (by rw [pn_gt c_3, Bool.and_false]; simp)]) hP hS hx hb hr hlocks dX0_pages_23
end
section
/-! constructors -/
set_option maxRecDepth 100000
/-- a start that may make cells -/
def Gn (D : va_G) (cl : List vw_C) (A : Nat → Prop) (ws : va_W) (U : State) : Prop := va_P D cl ws U.heap ∧ va_K D cl [] U ∧ va_D A ws ∧ ∀ q, U.heap.size ≤ q → A q
/-- an end with cells made -/
def QN {S : Type} (D : va_G) (cl : List vw_C) (A : Nat → Prop) (w : S → va_W) (ty : S → List (ClassId × FieldType)) : Array Value → State → Outcome → State → Prop := fun _ st o t => ∃ u : S, o = .returned none ∧ va_P D cl (w u) t.heap ∧ va_D A (w u) ∧ va_K D cl (ty u) t ∧ va_F A st t
section
variable {p : Program} {l : Launch} {e : Env} {R : Room} {s : State} {m : MethodId} {args : Array Value} {below : List Frame} {meth : Method} {c : Code} {H : Heap} {locs : List Loc} {cells slots mc ms : Nat} {Q : State → Prop}
variable {pc : Nat} {ls : Array Slot} {rest st0 : List Value} {a : Array Value} {cc : ByteArray} {D : va_G} {cl : List vw_C} {A A1 : Nat → Prop} {H0 : Heap} {tys : List (ClassId × FieldType)} {ws : va_W} {b : Nat} {As : List Value}
theorem pM_I (hK : va_K D cl tys s) (hP : va_P D cl ws H) (hD : va_D A ws) : PreS s H (va_Pc (.ref b :: As) (Gm D cl tys A ws)) (.ref b :: As) :=
  ⟨fun a U g mk h => ⟨h.1, h.2.1, va_K.moved (u := U) (U := U.calling g mk a) (Vm.Alike.refl U.vm) h.2.2.1, h.2.2.2⟩, fun U hU hW => ⟨rfl, by rw [hU]; exact hP, va_K.moved hW.alike hK, hD⟩⟩
theorem pN_I (hK : va_K D cl [] s) (hP : va_P D cl ws H) (hD : va_D A ws) (hA : ∀ q, H.size ≤ q → A q) : PreS s H (va_Pc (.ref b :: As) (Gn D cl A ws)) (.ref b :: As) :=
  ⟨fun a U g mk h => ⟨h.1, h.2.1, va_K.moved (u := U) (U := U.calling g mk a) (Vm.Alike.refl U.vm) h.2.2.1, h.2.2.2⟩, fun U hU hW => ⟨rfl, by rw [hU]; exact hP, va_K.moved hW.alike hK, hD, by rw [hU]; exact hA⟩⟩
theorem gcn {S : Type} {w : S → va_W} {ty : S → List (ClassId × FieldType)} (hr : va_Run p l e R s m args below meth c H locs cells slots mc ms (F0 m pc ls st0) rest (QN D cl A1 w ty a) A1) (hS : va_S A H0 H locs) (hA : ∀ q, A1 q → A q)
    (kk : ∀ (u : S) (H1 : Heap) (locs1 : List Loc), va_P D cl (w u) H1 → va_D A1 (w u) → va_K D cl (ty u) s → H.size ≤ H1.size → (∀ q : Nat, q < H.size → ¬ A1 q → H1[q]? = H[q]?) → va_S A H0 H1 locs1 → W p l e R s m args below meth c H1 locs1 (cells + mc) (slots + ms) Q (F0 m (pc + 3) ls rest)) : W p l e R s m args below meth c H locs cells slots Q (F0 m pc ls st0) := by
  intro T hT X
  obtain ⟨v, st₀, t, T', L, h0, X', hL, e1, e2, ⟨u, hv, hP, hD, hK, hz, hk⟩, st⟩ := hr T hT X
  cases hv
  rw [h0] at hz hk
  have hvm : s.vm.Alike t.vm := by rw [← e2]; exact X'.warmed.alike
  obtain ⟨t2, a1, b1⟩ := kk u T'.heap (locs ++ L) (by rw [e1]; exact hP) hD (va_K.moved hvm.symm hK) (by rw [e1]; exact hz) (fun q h1 h2 => by rw [e1]; exact hk q h1 h2)
    ⟨Nat.le_trans hS.1 (by rw [e1]; exact hz), fun q h1 h2 => by rw [e1, hk q (Nat.lt_of_lt_of_le h1 hS.1) (fun z => h2 (hA q z))]; exact hS.2.1 q h1 h2, fun q hq => by
      rcases List.mem_append.mp hq with h | h
      · exact hS.2.2 q h
      · exact hA _ (hL q h)⟩ T' rfl X'
  exact ⟨t2, st t2 a1, b1⟩
theorem grn {S : Type} {w : S → va_W} {ty : S → List (ClassId × FieldType)} (u : S) (hP : va_P D cl (w u) H) (hD : va_D A (w u)) (hK : va_K D cl (ty u) s) (hS : va_S A s.heap H locs) (hx : p.tables.exec = Jvm.exec) (hb : c.code = cc) (hr : meth.sig.returnType = none) (hlocks : meth.locks = false) (hdg : decode cc pc = .ok (.return_, 1)) : W p l e R s m args below meth c H locs cells slots (MQ below (QN D cl A w ty) args s cells slots A) (F0 m pc ls []) :=
  W.vret hx hb hr (fun t ht hW => ⟨u, rfl, by rw [ht]; exact hP, hD, va_K.moved hW.alike hK, hS.F ht⟩) hS.2.2 hdg hlocks
end
theorem mr0 : mr 0 = 0 := by decide
theorem mg0 : mg 0 = 0 := by decide
theorem eb0 : eb 0 0 = false ∧ eb 0 1 = false ∧ eb 0 2 = false ∧ eb 0 3 = false := by decide
theorem fill0 : fa_fill (fun _ => (0 : Int32)) (fun _ => (0 : Int32)) 65536 = fun _ => 0 := by
  funext k
  unfold fa_fill
  split <;> rfl
set_option maxHeartbeats 4000000 in
/-- Walker's constructor -/
theorem m_winit (l : Launch) (D : va_G) (A : Nat → Prop) (hw mm : Nat) : Met l yX1_init (ws_ yX1_init cX1_init 2 none) ({ frames := 1, cells := 0, slots := 0, locals := 12 }) (va_Pc [.ref hw, .ref mm] (Gm D vCl [] A [(hw, .inr (1, [.null, .int (bI false), .int (bI false), .int (bI false), .int 0, .int 0, .int 0, .int (bI false), .int (bI false), .int (bI false), .int (bI false), .long 0, .long 0, .int (bI false), .long 0, .int 0]))])) (GQv D vCl A (fun _ : Unit => [(hw, wkO mm false false false 0 0 0 false false false false 0 0 false 0 0)]) (fun _ => True)) 0 0 A := by
  refine mst (by decide) (Nat.le_of_ble_eq_true rfl) ?_
  intro p ee s m below meth c hx hb hr hlocks hml hown hts hin hB ls hl
  have hl : lv_has ls 2 [(0, .ref hw), (1, .ref mm)] := hl
  obtain ⟨hP, hK, hD⟩ := hB
  have hS : va_S A s.heap s.heap [] := va_S.rf
  refine lv_aload_n hx hb dX1_init_0 rfl (lv_at hl 0 rfl) ?_
  refine W.objInit hx hb hown (hts _ q36) (hts _ q28) (hts _ q29) rfl (by rw [hml]; exact hl.1) rfl dX1_init_1 (Nat.le_of_ble_eq_true rfl) (Nat.le_of_ble_eq_true rfl) ?_
  refine W.eq (g2 := F0 m 4 ls []) rfl ?_
  refine lv_aload_n hx hb dX1_init_4 rfl (lv_at hl 0 rfl) ?_
  refine lv_aload_n hx hb dX1_init_5 rfl (lv_at hl 1 rfl) ?_
  refine va_putF (D := D) (ci := 1) (v := .ref mm) (ty := .array .int) (C := RX1) (T := TX1) (N := 16) hx hb hts in_X1 tyX1 tyX1_ok nmX1 hown hK hP hD hS 0 rfl rfl 0 (by decide) (hts _ q37) (fun _ h9 => h9) rfl hin rfl (by decide +kernel) rfl rfl (Nat.le_of_ble_eq_true rfl) dX1_init_6 (fun H locs hP hD hS => ?_)
  have hP : va_P D vCl [(hw, wkO mm false false false 0 0 0 false false false false 0 0 false 0 0)] H := hP
  have hD : va_D A [(hw, wkO mm false false false 0 0 0 false false false false 0 0 false 0 0)] := hD
  exact grv () trivial hP hS hx hb hr hlocks dX1_init_9
set_option maxHeartbeats 4000000 in
/-- StageWalker's constructor -/
theorem m_xinit (l : Launch) (D : va_G) (A : Nat → Prop) (hx_ : Nat) : Met l yX0_init (ws_ yX0_init cX0_init 1 none) ({ frames := 2, cells := 2, slots := 65552, locals := 33 }) (va_Pc [.ref hx_] (Gn D vCl A [(hx_, .inr (0, [.null, .null, .int 0, .int 0, .int 0, .int (bI false)]))])) (QN D vCl A (fun u : Nat × Nat × ClassId => xV hx_ u.1 u.2.1 u.2.2 (fun _ => 0) (mr 0) (mr 0) (mg 0) 0 (-1, 0, false) (false, false, false, 0, 0, false, 0, 0)) (fun u => [(u.2.2, .int)])) 2 65552 A := by
  refine mst (by decide) (Nat.le_of_ble_eq_true rfl) ?_
  intro p ee s m below meth c hx hb hr hlocks hml hown hts hin hB ls hl
  have hl : lv_has ls 1 [(0, .ref hx_)] := hl
  obtain ⟨hP, hK, hD, hA⟩ := hB
  have hS : va_S A s.heap s.heap [] := va_S.rf
  have hP : va_P D vCl [(hx_, .inr (0, [.null, .null, .int 0, .int 0, .int 0, .int (bI false)]))] s.heap := hP
  refine lv_aload_n hx hb dX0_init_0 rfl (lv_at hl 0 rfl) ?_
  refine W.objInit hx hb hown (hts _ q27) (hts _ q28) (hts _ q29) rfl (by rw [hml]; exact hl.1) rfl dX0_init_1 (Nat.le_of_ble_eq_true rfl) (Nat.le_of_ble_eq_true rfl) ?_
  refine W.eq (g2 := F0 m 4 ls []) rfl ?_
  refine lv_aload_n hx hb dX0_init_4 rfl (lv_at hl 0 rfl) ?_
  refine lv_ldc hx hb hown (hts _ q30) dX0_init_5 ?_
  refine va_newa (atype := .int) hx hb (hts _ q99) (ty := .int) rfl hK hP hD hS hA (n := 65536) (N' := 65536) (a0 := (65536, .inl (fun _ => 0))) (fun _ => rfl) (by decide) (by decide) (by decide) (Nat.le_of_ble_eq_true rfl) (Nat.le_of_ble_eq_true rfl) dX0_init_7 (fun mm dA H hK hP hD hS => ?_)
  have hP : va_P D vCl [(hx_, .inr (0, [.null, .null, .int 0, .int 0, .int 0, .int (bI false)])), (mm, arO dA (fun _ => 0))] H := hP
  have hD : va_D A [(hx_, .inr (0, [.null, .null, .int 0, .int 0, .int 0, .int (bI false)])), (mm, arO dA (fun _ => 0))] := hD
  have hK : va_K D vCl [(dA, .int)] s := hK
  refine W.widen (k := 1) (n := 65536) (by omega) (by omega) ?_
  refine va_putF (D := D) (ci := 0) (v := .ref mm) (ty := .array .int) (C := RX0) (T := TX0) (N := 6) hx hb hts in_X0 tyX0 tyX0_ok nmX0 hown hK hP hD hS 0 rfl rfl 0 (by decide) (hts _ q100) (fun _ h9 => h9) rfl hin rfl (by decide +kernel) rfl rfl (Nat.le_of_ble_eq_true rfl) dX0_init_9 (fun H locs hP hD hS => ?_)
  have hP : va_P D vCl [(hx_, .inr (0, [.ref mm, .null, .int 0, .int 0, .int 0, .int (bI false)])), (mm, arO dA (fun _ => 0))] H := hP
  have hD : va_D A [(hx_, .inr (0, [.ref mm, .null, .int 0, .int 0, .int 0, .int (bI false)])), (mm, arO dA (fun _ => 0))] := hD
  refine lv_aload_n hx hb dX0_init_12 rfl (lv_at hl 0 rfl) ?_
  refine va_new (D := D) (ci := 1) (fs := [.null, .int (bI false), .int (bI false), .int (bI false), .int 0, .int 0, .int 0, .int (bI false), .int (bI false), .int (bI false), .int (bI false), .long 0, .long 0, .int (bI false), .long 0, .int 0]) (C := RX1) (T := TX1) (N := 16) hx hb hts in_X1 tyX1 tyX1_ok hown (hts _ q31) (hts _ q32) (hts _ q20) hK hP hD hS hA rfl (fun j hj => by rcases (show j = 0 ∨ j = 1 ∨ j = 2 ∨ j = 3 ∨ j = 4 ∨ j = 5 ∨ j = 6 ∨ j = 7 ∨ j = 8 ∨ j = 9 ∨ j = 10 ∨ j = 11 ∨ j = 12 ∨ j = 13 ∨ j = 14 ∨ j = 15 by omega) with rfl | rfl | rfl | rfl | rfl | rfl | rfl | rfl | rfl | rfl | rfl | rfl | rfl | rfl | rfl | rfl <;> rfl) (Nat.le_of_ble_eq_true rfl) (Nat.le_of_ble_eq_true rfl) dX0_init_13 (fun hw H hP hD hS => ?_)
  have hP : va_P D vCl [(hx_, .inr (0, [.ref mm, .null, .int 0, .int 0, .int 0, .int (bI false)])), (mm, arO dA (fun _ => 0)), (hw, .inr (1, [.null, .int (bI false), .int (bI false), .int (bI false), .int 0, .int 0, .int 0, .int (bI false), .int (bI false), .int (bI false), .int (bI false), .long 0, .long 0, .int (bI false), .long 0, .int 0]))] H := hP
  have hD : va_D A [(hx_, .inr (0, [.ref mm, .null, .int 0, .int 0, .int 0, .int (bI false)])), (mm, arO dA (fun _ => 0)), (hw, .inr (1, [.null, .int (bI false), .int (bI false), .int (bI false), .int 0, .int 0, .int 0, .int (bI false), .int (bI false), .int (bI false), .int (bI false), .long 0, .long 0, .int (bI false), .long 0, .int 0]))] := hD
  refine W.widen (k := 2) (n := 65552) (by omega) (by omega) ?_
  refine lv_dup hx hb dX0_init_16 rfl ?_
  refine lv_aload_n hx hb dX0_init_17 rfl (lv_at hl 0 rfl) ?_
  refine va_get (D := D) (ci := 0) (v := .ref mm) (C := RX0) (T := TX0) (N := 6) hx hb hts in_X0 hown hK hP 0 rfl rfl 0 (by decide) (hts _ q100) (fun _ h9 => h9) rfl dX0_init_18 ?_
  have hPc := hP.sub (ws' := [(hw, .inr (1, [.null, .int (bI false), .int (bI false), .int (bI false), .int 0, .int 0, .int 0, .int (bI false), .int (bI false), .int (bI false), .int (bI false), .long 0, .long 0, .int (bI false), .long 0, .int 0]))]) [2] rfl
  have hDc := (hD.sub (ws' := [(hw, .inr (1, [.null, .int (bI false), .int (bI false), .int (bI false), .int 0, .int 0, .int 0, .int (bI false), .int (bI false), .int (bI false), .int (bI false), .long 0, .long 0, .int (bI false), .long 0, .int 0]))]) [2] (by decide) rfl)
  refine gcv (va_runI (As := [.ref mm]) (rest := [.ref hw, .ref hx_]) ⟨hx, hb, hml, hown, hts⟩ (m_winit l D (inW [(hw, .inr (1, [.null, .int (bI false), .int (bI false), .int (bI false), .int 0, .int 0, .int 0, .int (bI false), .int (bI false), .int (bI false), .int (bI false), .long 0, .long 0, .int (bI false), .long 0, .int 0]))]) hw mm) (cwI 1 hts (lw_meth q35) rfl rfl rfl (hts _ q20) (hts _ q33) (hts _ q34) rfl (by decide +kernel) ⟨Nat.le_of_ble_eq_true rfl, Nat.le_of_ble_eq_true rfl⟩) (pM_I (hK.sub (tys' := []) [] rfl) hPc hDc.own) rfl rfl hl.1 rfl (lv_room (Nat.le_of_ble_eq_true rfl)) dX0_init_21 ⟨Nat.le_of_ble_eq_true rfl, Nat.le_of_ble_eq_true rfl⟩) hS (inW_in hDc) (fun u_1 H locs po_1 hP1 hz_1 hk_1 hS => ?_)
  have hPr := gjoin hP hD [2] [0, 1] (wc := [(hw, .inr (1, [.null, .int (bI false), .int (bI false), .int (bI false), .int 0, .int 0, .int 0, .int (bI false), .int (bI false), .int (bI false), .int (bI false), .long 0, .long 0, .int (bI false), .long 0, .int 0]))]) (wr := [(hx_, .inr (0, [.ref mm, .null, .int 0, .int 0, .int 0, .int (bI false)])), (mm, arO dA (fun _ => 0))]) rfl rfl (by decide) hk_1
  have hP : va_P D vCl [(hx_, .inr (0, [.ref mm, .null, .int 0, .int 0, .int 0, .int (bI false)])), (mm, arO dA (fun _ => 0)), (hw, wkO mm false false false 0 0 0 false false false false 0 0 false 0 0)] H := hPr.app hP1
  have hD : va_D A [(hx_, .inr (0, [.ref mm, .null, .int 0, .int 0, .int 0, .int (bI false)])), (mm, arO dA (fun _ => 0)), (hw, wkO mm false false false 0 0 0 false false false false 0 0 false 0 0)] := hD.re rfl
  refine va_putF (D := D) (ci := 0) (v := .ref hw) (ty := .object "StageWalker$Walker") (C := RX0) (T := TX0) (N := 6) hx hb hts in_X0 tyX0 tyX0_ok nmX0 hown hK hP hD hS 0 rfl rfl 1 (by decide) (hts _ q101) (fun _ h9 => h9) rfl hin rfl (by decide +kernel) rfl rfl (Nat.le_of_ble_eq_true rfl) dX0_init_24 (fun H locs hP hD hS => ?_)
  have hP : va_P D vCl [(hx_, swO mm hw 0 0 0 false), (mm, arO dA (fun _ => 0)), (hw, wkO mm false false false 0 0 0 false false false false 0 0 false 0 0)] H := hP
  have hD : va_D A [(hx_, swO mm hw 0 0 0 false), (mm, arO dA (fun _ => 0)), (hw, wkO mm false false false 0 0 0 false false false false 0 0 false 0 0)] := hD
  refine lv_aload_n hx hb dX0_init_27 rfl (lv_at hl 0 rfl) ?_
  refine lv_iconst (v := (-1)) hx hb dX0_init_28 (by decide) ?_
  refine va_put (D := D) (ci := 0) (v := .int (-1)) (ty := .int) (C := RX0) (T := TX0) (N := 6) hx hb hts in_X0 tyX0 tyX0_ok nmX0 hown hK hP hD hS 0 rfl rfl 3 (by decide) (hts _ q103) (fun _ h9 => h9) rfl (by decide +kernel) rfl rfl (Nat.le_of_ble_eq_true rfl) dX0_init_29 (fun H locs hP hD hS => ?_)
  have hP : va_P D vCl [(hx_, swO mm hw 0 (-1) 0 false), (mm, arO dA (fun _ => 0)), (hw, wkO mm false false false 0 0 0 false false false false 0 0 false 0 0)] H := hP
  have hD : va_D A [(hx_, swO mm hw 0 (-1) 0 false), (mm, arO dA (fun _ => 0)), (hw, wkO mm false false false 0 0 0 false false false false 0 0 false 0 0)] := hD
  obtain ⟨z0, z1, z2, z3⟩ := eb0
  exact grn (mm, hw, dA) (by dsimp only [xV]; rw [mr0, mg0, z0, z1, z2, z3]; exact hP) (hD.re rfl) hK hS hx hb hr hlocks dX0_init_32
set_option maxHeartbeats 4000000 in
/-- StageWalkerModel's constructor -/
theorem m_minit (l : Launch) (D : va_G) (A : Nat → Prop) (hm : Nat) : Met l yX2_init (ws_ yX2_init cX2_init 1 none) ({ frames := 1, cells := 1, slots := 65536, locals := 21 }) (va_Pc [.ref hm] (Gn D vCl A [(hm, .inr (2, [.int 0, .null, .int 0, .int 0, .int 0, .int 0, .int 0, .int 0, .int (bI false), .int 0, .int (bI false), .int (bI false), .int (bI false), .int 0, .long 0, .int (bI false)]))])) (QN D vCl A (fun u : Nat × ClassId => mV hm u.1 u.2 (fun _ => 0) 0 0 0 0 0 (-1, 0, false) (0, false, false, false, 0, 0, false)) (fun u => [(u.2, .int)])) 1 65536 A := by
  refine mst (by decide) (Nat.le_of_ble_eq_true rfl) ?_
  intro p ee s m below meth c hx hb hr hlocks hml hown hts hin hB ls hl
  have hl : lv_has ls 1 [(0, .ref hm)] := hl
  obtain ⟨hP, hK, hD, hA⟩ := hB
  have hS : va_S A s.heap s.heap [] := va_S.rf
  have hP : va_P D vCl [(hm, .inr (2, [.int 0, .null, .int 0, .int 0, .int 0, .int 0, .int 0, .int 0, .int (bI false), .int 0, .int (bI false), .int (bI false), .int (bI false), .int 0, .long 0, .int (bI false)]))] s.heap := hP
  refine lv_aload_n hx hb dX2_init_0 rfl (lv_at hl 0 rfl) ?_
  refine W.objInit hx hb hown (hts _ q241) (hts _ q28) (hts _ q29) rfl (by rw [hml]; exact hl.1) rfl dX2_init_1 (Nat.le_of_ble_eq_true rfl) (Nat.le_of_ble_eq_true rfl) ?_
  refine W.eq (g2 := F0 m 4 ls []) rfl ?_
  refine lv_aload_n hx hb dX2_init_4 rfl (lv_at hl 0 rfl) ?_
  refine lv_ldc hx hb hown (hts _ q242) dX2_init_5 ?_
  refine va_newa (atype := .int) hx hb (hts _ q99) (ty := .int) rfl hK hP hD hS hA (n := 65536) (N' := 65536) (a0 := (65536, .inl (fun _ => 0))) (fun _ => rfl) (by decide) (by decide) (by decide) (Nat.le_of_ble_eq_true rfl) (Nat.le_of_ble_eq_true rfl) dX2_init_7 (fun mm dA H hK hP hD hS => ?_)
  have hP : va_P D vCl [(hm, .inr (2, [.int 0, .null, .int 0, .int 0, .int 0, .int 0, .int 0, .int 0, .int (bI false), .int 0, .int (bI false), .int (bI false), .int (bI false), .int 0, .long 0, .int (bI false)])), (mm, arO dA (fun _ => 0))] H := hP
  have hD : va_D A [(hm, .inr (2, [.int 0, .null, .int 0, .int 0, .int 0, .int 0, .int 0, .int 0, .int (bI false), .int 0, .int (bI false), .int (bI false), .int (bI false), .int 0, .long 0, .int (bI false)])), (mm, arO dA (fun _ => 0))] := hD
  have hK : va_K D vCl [(dA, .int)] s := hK
  refine W.widen (k := 1) (n := 65536) (by omega) (by omega) ?_
  refine va_putF (D := D) (ci := 2) (v := .ref mm) (ty := .array .int) (C := RX2) (T := TX2) (N := 16) hx hb hts in_X2 tyX2 tyX2_ok nmX2 hown hK hP hD hS 0 rfl rfl 1 (by decide) (hts _ q247) (fun _ h9 => h9) rfl hin rfl (by decide +kernel) rfl rfl (Nat.le_of_ble_eq_true rfl) dX2_init_9 (fun H locs hP hD hS => ?_)
  have hP : va_P D vCl [(hm, mdO 0 mm 0 0 0 0 0 0 false 0 false false false 0 0 false), (mm, arO dA (fun _ => 0))] H := hP
  have hD : va_D A [(hm, mdO 0 mm 0 0 0 0 0 0 false 0 false false false 0 0 false), (mm, arO dA (fun _ => 0))] := hD
  refine lv_aload_n hx hb dX2_init_12 rfl (lv_at hl 0 rfl) ?_
  refine gcv (va_runV (As := []) (rest := []) ⟨hx, hb, hml, hown, hts⟩ (m_mbegin l D hm mm dA (fun _ => 0) 0 0 0 0 0 A 0 0 false 0 false false false 0 0 false) (cwV 0 hts (lw_V q243 q244 q245 q21 q246) rfl rfl rfl (by decide +kernel) ⟨Nat.le_of_ble_eq_true rfl, Nat.le_of_ble_eq_true rfl⟩) (pM_V hK hP hD 0 rfl rfl) rfl rfl hl.1 rfl (lv_room (Nat.le_of_ble_eq_true rfl)) dX2_init_13 ⟨Nat.le_of_ble_eq_true rfl, Nat.le_of_ble_eq_true rfl⟩) hS (fun _ h => h) (fun u_1 H locs po_1 hP hz_1 hk_1 hS => ?_)
  rw [fill0] at hP
  exact grn (mm, dA) hP (hD.re rfl) hK hS hx hb hr hlocks dX2_init_16
end
section
set_option maxRecDepth 100000
/-! THE CLAIM OUT OF ONE WALK OF THE LAW'S BODY. Your part is whole_start (and what it stands on); all else here is the same for every law, but numbers. -/
def R_law : String := "StageWalkerLaw"
def lw_P (b : Addr) (xs : List Int32) (args : Array Value) (s : State) : Prop := args = #[.ref b] ∧ s.IntsAt b xs ∧ xs.length ≤ 448 ∧ (Jvm.Cond.and given_1 narrow_1).before args s = true
def lw_Q (_ : Array Value) (s : State) (o : Outcome) (t : State) : Prop := o = .returned (some (.int 1)) ∧ Framed s o t [] 600000 7302250
def lw_Z (below : List Frame) (a : Array Value) (s : State) : State → Prop := fun t => ∃ o, t.status = .running ∧ Ended t below o ∧ lw_Q a s o t
/-- the law's own end, with 1 on the stack, nothing written that was there before, its room as the claim has it -/
theorem lw_ret {p : Program} {l : Launch} {e : Env} {s : State} {m : MethodId} {below : List Frame} {meth : Method} {c : Code} {b : Nat} (hx : p.tables.exec = Jvm.exec) (hb : c.code = code) (hr : meth.sig.returnType = ret) (hlocks : meth.locks = false) {pc : Nat} {H : Heap} {ls : Array Slot} (hdg : decode code pc = .ok (.ireturn, 1)) : W p l e room_1 s m #[Value.ref b] below meth c H [] 600000 7302250 (lw_Z below #[Value.ref b] s) (F0 m pc ls [.int 1]) := by
  intro T hT X
  obtain ⟨fs, hret, hrun, hended, hW, hframe⟩ := X.leave (v := some (.int 1)) (hlocks := hlocks) (fun h => by rw [hr] at h; cases h)
  have hmeth' : T.vm.method? m = some meth := X.method'
  refine ⟨T.setFrames fs, ?_, .returned (some (.int 1)), hrun, hended, rfl, ⟨_, rfl⟩, hW, hframe⟩
  jvm_step X.here [X.here.top, hx, hb, hdg, hmeth', hr, ret, narrow_b1]
  (try refine ⟨rfl, ?_⟩); (try refine ⟨rfl, ?_⟩)
  first | (intro acts; rw [hret _ acts rfl rfl rfl]) | rw [hret _ _ rfl rfl rfl]
  exact Steps.refl _
/-- what holds at the law's entry: the machine, the code, the tables' words (any of lw_tbl by 'hts w (by decide +kernel)'), the script of L ints xs at the cell b, what the Statement gives of the start (any of its parts by flat_of_before) -/
def lw_At (p : Program) (s : State) (m : MethodId) (meth : Method) (c : Code) (b L : Nat) (xs : Nat → Int32) : Prop :=
  p.tables.exec = Jvm.exec ∧ c.code = code ∧ meth.sig.returnType = ret ∧ c.maxLocals = 4 ∧ s.vm.findClass R_law = some m.cls ∧ (∀ w ∈ lw_tbl, w.before #[Value.ref b] s = true) ∧ va_X b L xs s s.heap ∧ b < s.heap.size ∧ meth.locks = false ∧ (Jvm.Cond.and given_1 narrow_1).before #[Value.ref b] s = true
/-! own: the masks of the roots change nothing; the static tables at the start -/
theorem tn_and (a c : Int32) : tn (a &&& c) = tn a &&& tn c := by
  unfold tn
  rw [Int32.toBitVec_and, BitVec.toNat_and]
theorem neg_tn (a : Int32) : a < 0 ↔ (tn a).testBit 31 = true := by
  have h := tn_lt a
  rw [fa_lt, ti0, tnI, Nat.testBit_eq_decide_div_mod_eq, decide_eq_true_iff]
  split <;> omega
theorem mr_neg (a : Int32) : mr a < 0 ↔ a < 0 := by
  rw [neg_tn, neg_tn, mr, tn_and, Nat.testBit_and, show (tn (-2143289345)).testBit 31 = true from by decide, Bool.and_true]
theorem mg_neg (a : Int32) : mg a < 0 ↔ a < 0 := by
  rw [neg_tn, neg_tn, mg, tn_and, Nat.testBit_and, show (tn (-2143289348)).testBit 31 = true from by decide, Bool.and_true]
theorem rt1_m (a : Int32) : rt1 (mr a) = rt1 a := by
  unfold rt1
  congr 1
  have h1 : (tn a &&& tn (-2143289345)) % 2 ^ 22 = (tn a % 2 ^ 22) &&& (tn (-2143289345) % 2 ^ 22) := Nat.and_mod_two_pow
  rw [show tn (-2143289345) % 2 ^ 22 = 2 ^ 22 - 1 from by decide, Nat.and_two_pow_sub_one_eq_mod, Nat.mod_mod] at h1
  rw [mr, tn_and]
  exact h1
theorem rt2_m (a : Int32) : rt2 (mg a) = rt2 a := by
  unfold rt2
  rw [mg, tn_and, Nat.and_assoc, show tn (-2143289348) &&& 4194300 = 4194300 from by decide]
theorem s2_m {M : Nat → Int32} {hg k : Int32} {fr : Nat} {ok : Int32 → Bool} {ent : Bool} : s2 M (mg hg) k fr ok ent = s2 M hg k fr ok ent := by
  unfold s2
  rw [rt2_m]
  by_cases h : hg < 0
  · rw [if_pos h, if_pos ((mg_neg hg).mpr h)]
  · rw [if_neg h, if_neg (fun z => h ((mg_neg hg).mp z))]
theorem rd1_m {M : Nat → Int32} {hg k : Int32} : rd1 M (mg hg) k = rd1 M hg k := by
  funext a
  unfold rd1
  rw [s2_m]
theorem st1_m {M : Nat → Int32} {hg k root : Int32} {vi us sm fx tx : Bool} {ad : Nat} : st1 M (mg hg) k (mr root) vi us sm fx tx ad = st1 M hg k root vi us sm fx tx ad := by
  unfold st1 rdx
  rw [rt1_m, rd1_m]
  by_cases h : root < 0
  · rw [if_pos h, if_pos ((mr_neg root).mpr h)]
  · rw [if_neg h, if_neg (fun z => h ((mr_neg root).mp z))]
theorem tr_m {M : Nat → Int32} {hg k root : Int32} {vi us sm fx tx mx : Bool} {ad : Nat} : tr M (mg hg) k (mr root) vi us sm fx tx mx ad = tr M hg k root vi us sm fx tx mx ad := by
  unfold tr
  rw [st1_m]
  congr 1
  unfold st2
  split
  · rfl
  · rw [s2_m]
theorem trL_m {M : Nat → Int32} {ap vp hg ri mo k : Int32} {ad : Nat} : trL M (mr ap) (mr vp) (mg hg) ri mo k ad = trL M ap vp hg ri mo k ad := by
  unfold trL
  rw [show (if viF mo = true then mr vp else mr ap) = mr (if viF mo = true then vp else ap) from by split <;> rfl, tr_m]
theorem tT_m {M : Nat → Int32} {ap vp hg ri mo k ad : Int32} {t : tS} : tT M (mr ap) (mr vp) (mg hg) ri mo k ad t = tT M ap vp hg ri mo k ad t := by
  unfold tT
  rw [trL_m]
theorem pgs_m {M : Nat → Int32} {ap vp hg ri mo k ad n : Int32} : pgs M (mr ap) (mr vp) (mg hg) ri mo k ad n = pgs M ap vp hg ri mo k ad n := by
  unfold pgs
  rw [show (fun fr => isOk (trL M (mr ap) (mr vp) (mg hg) ri mo k fr)) = (fun fr => isOk (trL M ap vp hg ri mo k fr)) from funext fun fr => by rw [trL_m]]
theorem stt1 {args : Array Value} {s : State} {A : Nat → Prop} {n : String} {f : Nat → Int32} (hl : (Cond.laysStatic "StageWalker$Walker" n "[B").before args s = true) (hini : (Cond.initialized "StageWalker$Walker").before args s = true) (harr : (Cond.arrayOf (.static "StageWalker$Walker" n "[B") .byte).before args s = true) (hlen : (Cond.eq (.length (.static "StageWalker$Walker" n "[B")) (.int 3)).before args s = true)
    (h0 : (Cond.eq (.elem (.static "StageWalker$Walker" n "[B") (.int 0)) (.int (f 0))).before args s = true) (h1 : (Cond.eq (.elem (.static "StageWalker$Walker" n "[B") (.int 1)) (.int (f 1))).before args s = true) (h2 : (Cond.eq (.elem (.static "StageWalker$Walker" n "[B") (.int 2)) (.int (f 2))).before args s = true) (hA : ∀ a : Nat, a < s.heap.size → ¬ A a) :
    ∃ t : Nat, va_Z "StageWalker$Walker" n "[B" (.ref t) A s s.heap ∧ va_T .byte t 3 (fun j => .int (f j)) A s s.heap := by
  obtain ⟨t, ht, hT⟩ := va_Tof (N := 3) (f := fun j => .int (f j)) (by decide) harr (va_eqt hlen) (fun j hj => by
    match j, hj with
    | 0, _ => exact va_eqt h0
    | 1, _ => exact va_eqt h1
    | 2, _ => exact va_eqt h2
    | j + 3, h => omega) hA
  exact ⟨t, va_Zof hl hini ht hA, hT⟩
theorem stt_of {s : State} {b : Nat} {A : Nat → Prop} (hts0 : ∀ w ∈ lw_tbl, w.before #[Value.ref b] s = true) (hgv : (Jvm.Cond.and given_1 narrow_1).before #[Value.ref b] s = true) (hA : ∀ a : Nat, a < s.heap.size → ¬ A a) : Stt A s := by
  have hs := flat_of_before _ hgv
  have hini := hts0 _ (lw_all_tbl q20)
  obtain ⟨tO, o1, o2⟩ := stt1 (f := oT) (hts0 _ q189) hini (hs _ (by decide +kernel)) (hs _ (by decide +kernel)) (hs _ (by decide +kernel)) (hs _ (by decide +kernel)) (hs _ (by decide +kernel)) hA
  obtain ⟨tP, p1, p2⟩ := stt1 (f := pT) (hts0 _ q217) hini (hs _ (by decide +kernel)) (hs _ (by decide +kernel)) (hs _ (by decide +kernel)) (hs _ (by decide +kernel)) (hs _ (by decide +kernel)) hA
  obtain ⟨tG, g1, g2⟩ := stt1 (f := gT) (hts0 _ q207) hini (hs _ (by decide +kernel)) (hs _ (by decide +kernel)) (hs _ (by decide +kernel)) (hs _ (by decide +kernel)) (hs _ (by decide +kernel)) hA
  exact ⟨tO, tP, tG, ⟨o1, o2⟩, ⟨p1, p2⟩, ⟨g1, g2⟩⟩
theorem classes_of {s : State} {b : Nat} (hts : ∀ w ∈ lw_all, w.before #[Value.ref b] s = true) : ∃ D : va_G, ∀ (k : Nat) (q : vw_C), vCl[k]? = some q → u_Kn s q.1 q.2.1 q.2.2 (D.1 k) (D.2 k) := by
  obtain ⟨c0, i0, h0⟩ := u_known (C := RX0) (T := TX0) (N := 6) (n := 6) hts in_X0 (hts _ q23)
  obtain ⟨c1, i1, h1⟩ := u_known (C := RX1) (T := TX1) (N := 16) (n := 16) hts in_X1 (hts _ q32)
  obtain ⟨c2, i2, h2⟩ := u_known (C := RX2) (T := TX2) (N := 16) (n := 16) hts in_X2 (hts _ q237)
  refine ⟨(fun k => if k = 0 then c0 else if k = 1 then c1 else c2, fun k => if k = 0 then i0 else if k = 1 then i1 else i2), ?_⟩
  intro k q hq
  match k, hq with
  | 0, hq => cases hq; exact h0
  | 1, hq => cases hq; exact h1
  | 2, hq => cases hq; exact h2
  | k + 3, hq => simp [vCl] at hq
theorem lc {L i : Nat} (hL : L ≤ 448) (hi : i ≤ 448) : (Int32.ofNat L - 7 < nI i) ↔ L < i + 7 := by
  rw [fa_lt]
  have h := pk_sub_toInt (a := L) (b := 7) (by omega) (by omega)
  have h2 : (Int32.ofNat L - 7).toInt = (L : Int) - (7 : Nat) := h
  rw [h2, nI_toInt (by omega)]
  omega
abbrev lawV (hx_ mm hw : Nat) (dA : ClassId) (hm mm2 : Nat) (dA2 : ClassId) (M : Nat → Int32) (ap vp hg ri : Int32) (t : tS) (xj : xJ) (mj : mJ) : va_W := [(hx_, swO mm hw ri t.1 t.2.1 t.2.2), (mm, arO dA M), (hw, wkO mm xj.1 xj.2.1 xj.2.2.1 (mr ap) (mr vp) (mg hg) (eb ri 0) (eb ri 1) (eb ri 2) (eb ri 3) xj.2.2.2.1 xj.2.2.2.2.1 xj.2.2.2.2.2.1 xj.2.2.2.2.2.2.1 xj.2.2.2.2.2.2.2), (hm, mdO 0 mm2 ap vp hg ri t.1 t.2.1 t.2.2 mj.1 mj.2.1 mj.2.2.1 mj.2.2.2.1 mj.2.2.2.2.1 mj.2.2.2.2.2.1 mj.2.2.2.2.2.2), (mm2, arO dA2 M)]
end
section
set_option maxRecDepth 100000
set_option maxHeartbeats 8000000 in
/-- from the entry, for every script of at most 448 ints, the law comes to its end with true -/
theorem whole_start {p : Program} {e : Env} {s : State} {m : MethodId} {below : List Frame} {meth : Method} {c : Code} (l : Launch) {b L : Nat} {xs : Nat → Int32} (hL : L ≤ 448) (C0 : lw_At p s m meth c b L xs) : W p l e room_1 s m #[Value.ref b] below meth c s.heap [] 0 0 (lw_Z below #[Value.ref b] s) (entryFrame m ([Value.ref b] : List Value).toArray 4) := by
  obtain ⟨hx, hb, hr, hml, hown, hts0, hX, hbl, hlocks, hgv⟩ := C0
  have hts : ∀ w ∈ lw_all, w.before #[Value.ref b] s = true := fun w h => hts0 w (lw_all_tbl h)
  obtain ⟨A, hAe⟩ : ∃ A : Nat → Prop, A = fun q => s.heap.size ≤ q := ⟨_, rfl⟩
  have hA : ∀ q : Nat, s.heap.size ≤ q → A q := fun q h => by rw [hAe]; exact h
  have hA2 : ∀ q : Nat, A q → s.heap.size ≤ q := fun q h => by rw [hAe] at h; exact h
  have hbA : ¬ A b := fun h => absurd (hA2 b h) (by omega)
  have hZ : Stt A s := stt_of hts0 hgv (fun a h1 h2 => absurd (hA2 a h2) (by omega))
  obtain ⟨D, hKn⟩ := classes_of hts
  have hS : va_S A s.heap s.heap [] := va_S.rf
  have hK : va_K D vCl [] s := ⟨hKn, fun k q h => by simp at h⟩
  have hP : va_P D vCl [] s.heap := fun k q h => by simp at h
  have hD : va_D A [] := ⟨fun i j p q h => by simp at h, fun k q h => by simp at h⟩
  have hl := lv_entry ([.ref b]) (n := 4) (Nat.le_of_ble_eq_true rfl)
  rw [lg_entry_eq]
  generalize (lg_sl ([.ref b]) ++ List.replicate (4 - (lg_sl ([.ref b])).length) Slot.unset).toArray = ls at hl ⊢
  have hl : lv_has ls 4 [(0, .ref b)] := hl
  refine va_new (D := D) (ci := 0) (fs := [.null, .null, .int 0, .int 0, .int 0, .int (bI false)]) (C := RX0) (T := TX0) (N := 6) hx hb hts in_X0 tyX0 tyX0_ok hown (hts _ q22) (hts _ q23) (hts _ q19) hK hP hD hS hA rfl (fun j hj => by rcases (show j = 0 ∨ j = 1 ∨ j = 2 ∨ j = 3 ∨ j = 4 ∨ j = 5 by omega) with rfl | rfl | rfl | rfl | rfl | rfl <;> rfl) (Nat.le_of_ble_eq_true rfl) (Nat.le_of_ble_eq_true rfl) dL_law_0 (fun hx_ H hP hD hS => ?_)
  have hP : va_P D vCl [(hx_, .inr (0, [.null, .null, .int 0, .int 0, .int 0, .int (bI false)]))] H := hP
  have hD : va_D A [(hx_, .inr (0, [.null, .null, .int 0, .int 0, .int 0, .int (bI false)]))] := hD
  refine W.widen (k := 1) (n := 6) (by omega) (by omega) ?_
  refine lv_dup hx hb dL_law_3 rfl ?_
  refine gcn (va_runI (As := []) (rest := [.ref hx_]) ⟨hx, hb, hml, hown, hts⟩ (m_xinit l D A hx_) (cwI 0 hts (lw_meth q26) rfl rfl rfl (hts _ q19) (hts _ q24) (hts _ q25) rfl (by decide +kernel) ⟨Nat.le_of_ble_eq_true rfl, Nat.le_of_ble_eq_true rfl⟩) (pN_I hK hP hD (fun q h => hA q (Nat.le_trans hS.1 h))) rfl rfl hl.1 rfl (lv_room (Nat.le_of_ble_eq_true rfl)) dL_law_4 ⟨Nat.le_of_ble_eq_true rfl, Nat.le_of_ble_eq_true rfl⟩) hS (fun _ h => h) (fun u_1 H locs hP hD hK hz_1 hk_1 hS => ?_)
  obtain ⟨mm, hw, dA⟩ := u_1
  have hK : va_K D vCl [(dA, .int)] s := hK
  have hP : va_P D vCl [(hx_, swO mm hw 0 (-1) 0 false), (mm, arO dA (fun _ => 0)), (hw, wkO mm false false false (mr 0) (mr 0) (mg 0) (eb 0 0) (eb 0 1) (eb 0 2) (eb 0 3) 0 0 false 0 0)] H := hP
  have hD : va_D A [(hx_, swO mm hw 0 (-1) 0 false), (mm, arO dA (fun _ => 0)), (hw, wkO mm false false false (mr 0) (mr 0) (mg 0) (eb 0 0) (eb 0 1) (eb 0 2) (eb 0 3) 0 0 false 0 0)] := hD
  refine W.widen (k := 3) (n := 65558) (by omega) (by omega) ?_
  refine lv_astore_n (lv' := [(1, .ref hx_), (0, .ref b)]) hx hb dL_law_7 rfl hl (by decide) rfl (fun ls hl => ?_)
  refine va_new (D := D) (ci := 2) (fs := [.int 0, .null, .int 0, .int 0, .int 0, .int 0, .int 0, .int 0, .int (bI false), .int 0, .int (bI false), .int (bI false), .int (bI false), .int 0, .long 0, .int (bI false)]) (C := RX2) (T := TX2) (N := 16) hx hb hts in_X2 tyX2 tyX2_ok hown (hts _ q236) (hts _ q237) (hts _ q21) hK hP hD hS hA rfl (fun j hj => by rcases (show j = 0 ∨ j = 1 ∨ j = 2 ∨ j = 3 ∨ j = 4 ∨ j = 5 ∨ j = 6 ∨ j = 7 ∨ j = 8 ∨ j = 9 ∨ j = 10 ∨ j = 11 ∨ j = 12 ∨ j = 13 ∨ j = 14 ∨ j = 15 by omega) with rfl | rfl | rfl | rfl | rfl | rfl | rfl | rfl | rfl | rfl | rfl | rfl | rfl | rfl | rfl | rfl <;> rfl) (Nat.le_of_ble_eq_true rfl) (Nat.le_of_ble_eq_true rfl) dL_law_8 (fun hm H hP hD hS => ?_)
  have hP : va_P D vCl [(hx_, swO mm hw 0 (-1) 0 false), (mm, arO dA (fun _ => 0)), (hw, wkO mm false false false (mr 0) (mr 0) (mg 0) (eb 0 0) (eb 0 1) (eb 0 2) (eb 0 3) 0 0 false 0 0), (hm, .inr (2, [.int 0, .null, .int 0, .int 0, .int 0, .int 0, .int 0, .int 0, .int (bI false), .int 0, .int (bI false), .int (bI false), .int (bI false), .int 0, .long 0, .int (bI false)]))] H := hP
  have hD : va_D A [(hx_, swO mm hw 0 (-1) 0 false), (mm, arO dA (fun _ => 0)), (hw, wkO mm false false false (mr 0) (mr 0) (mg 0) (eb 0 0) (eb 0 1) (eb 0 2) (eb 0 3) 0 0 false 0 0), (hm, .inr (2, [.int 0, .null, .int 0, .int 0, .int 0, .int 0, .int 0, .int 0, .int (bI false), .int 0, .int (bI false), .int (bI false), .int (bI false), .int 0, .long 0, .int (bI false)]))] := hD
  refine W.widen (k := 4) (n := 65574) (by omega) (by omega) ?_
  refine lv_dup hx hb dL_law_11 rfl ?_
  have hPc := hP.sub (ws' := [(hm, .inr (2, [.int 0, .null, .int 0, .int 0, .int 0, .int 0, .int 0, .int 0, .int (bI false), .int 0, .int (bI false), .int (bI false), .int (bI false), .int 0, .long 0, .int (bI false)]))]) [3] rfl
  have hDc := (hD.sub (ws' := [(hm, .inr (2, [.int 0, .null, .int 0, .int 0, .int 0, .int 0, .int 0, .int 0, .int (bI false), .int 0, .int (bI false), .int (bI false), .int (bI false), .int 0, .long 0, .int (bI false)]))]) [3] (by decide) rfl)
  have hFc := va_free (wc := [(hm, .inr (2, [.int 0, .null, .int 0, .int 0, .int 0, .int 0, .int 0, .int 0, .int (bI false), .int 0, .int (bI false), .int (bI false), .int (bI false), .int 0, .long 0, .int (bI false)]))]) hD hS hA [3] rfl
  refine gcn (va_runI (As := []) (rest := [.ref hm]) ⟨hx, hb, hml, hown, hts⟩ (m_minit l D (va_A [(hm, .inr (2, [.int 0, .null, .int 0, .int 0, .int 0, .int 0, .int 0, .int 0, .int (bI false), .int 0, .int (bI false), .int (bI false), .int (bI false), .int 0, .long 0, .int (bI false)]))] H.size) hm) (cwI 0 hts (lw_meth q240) rfl rfl rfl (hts _ q21) (hts _ q238) (hts _ q239) rfl (by decide +kernel) ⟨Nat.le_of_ble_eq_true rfl, Nat.le_of_ble_eq_true rfl⟩) (pN_I (hK.sub (tys' := []) [] rfl) hPc hDc.self (fun q h => Or.inr h)) rfl rfl hl.1 rfl (lv_room (Nat.le_of_ble_eq_true rfl)) dL_law_12 ⟨Nat.le_of_ble_eq_true rfl, Nat.le_of_ble_eq_true rfl⟩) hS hFc (fun u_2 H1 locs hP1 hD1 hK1 hz_2 hk_2 hS => ?_)
  obtain ⟨mm2, dA2⟩ := u_2
  obtain ⟨hP, hD⟩ := va_join (wr := [(hx_, swO mm hw 0 (-1) 0 false), (mm, arO dA (fun _ => 0)), (hw, wkO mm false false false (mr 0) (mr 0) (mg 0) (eb 0 0) (eb 0 1) (eb 0 2) (eb 0 3) 0 0 false 0 0)]) hP hD [3] [0, 1, 2] rfl rfl (by decide) (by decide) hk_2 hFc hP1 hD1
  have hK : va_K D vCl [(dA, .int), (dA2, .int)] s := hK.app hK1
  generalize H1 = H at hP hS ⊢
  have hP : va_P D vCl [(hx_, swO mm hw 0 (-1) 0 false), (mm, arO dA (fun _ => 0)), (hw, wkO mm false false false (mr 0) (mr 0) (mg 0) (eb 0 0) (eb 0 1) (eb 0 2) (eb 0 3) 0 0 false 0 0), (hm, mdO 0 mm2 0 0 0 0 (-1) 0 false 0 false false false 0 0 false), (mm2, arO dA2 (fun _ => 0))] H := hP
  have hD : va_D A [(hx_, swO mm hw 0 (-1) 0 false), (mm, arO dA (fun _ => 0)), (hw, wkO mm false false false (mr 0) (mr 0) (mg 0) (eb 0 0) (eb 0 1) (eb 0 2) (eb 0 3) 0 0 false 0 0), (hm, mdO 0 mm2 0 0 0 0 (-1) 0 false 0 false false false 0 0 false), (mm2, arO dA2 (fun _ => 0))] := hD
  refine W.widen (k := 5) (n := 131110) (by omega) (by omega) ?_
  refine lv_astore_n (lv' := [(2, .ref hm), (1, .ref hx_), (0, .ref b)]) hx hb dL_law_15 rfl hl (by decide) rfl (fun ls hl => ?_)
  refine lv_iconst (v := 0) hx hb dL_law_16 (by decide) ?_
  refine lv_istore_n (lv' := [(3, .int 0), (2, .ref hm), (1, .ref hx_), (0, .ref b)]) hx hb dL_law_17 rfl hl (by decide) rfl (fun ls hl => ?_)
  refine jg (X := Nat × Nat × (Nat → Int32) × Int32 × Int32 × Int32 × Int32 × tS × xJ × mJ) (fun _ ls => F0 m 18 ls []) (fun y_ H locs ls => y_.2.1 ≤ 448 ∧ L + 1 ≤ y_.2.1 + y_.1 ∧ va_P D vCl (lawV hx_ mm hw dA hm mm2 dA2 y_.2.2.1 y_.2.2.2.1 y_.2.2.2.2.1 y_.2.2.2.2.2.1 y_.2.2.2.2.2.2.1 y_.2.2.2.2.2.2.2.1 y_.2.2.2.2.2.2.2.2.1 y_.2.2.2.2.2.2.2.2.2) H ∧ va_S A s.heap H locs ∧ lv_has ls 4 [(3, .int (nI y_.2.1)), (2, .ref hm), (1, .ref hx_), (0, .ref b)]) ?_ (fun K_1 => ?_)
  · intro y_
    obtain ⟨n, i, M, ap, vp, hg, ri, ⟨pl, se, en⟩, ⟨xv, xu, xe, xp, xs_, xn, xt, xr⟩, ⟨mk, mv, mu, me, mc_, mf, mo_⟩⟩ := y_
    induction n generalizing i M ap vp hg ri pl se en xv xu xe xp xs_ xn xt xr mk mv mu me mc_ mf mo_ with
    | zero =>
      rintro H locs ls ⟨hi, hn, hP, hS, hl⟩
      have hi : i ≤ 448 := hi
      have hn : L + 1 ≤ i + 0 := hn
      have hP : va_P D vCl [(hx_, swO mm hw ri pl se en), (mm, arO dA M), (hw, wkO mm xv xu xe (mr ap) (mr vp) (mg hg) (eb ri 0) (eb ri 1) (eb ri 2) (eb ri 3) xp xs_ xn xt xr), (hm, mdO 0 mm2 ap vp hg ri pl se en mk mv mu me mc_ mf mo_), (mm2, arO dA2 M)] H := hP
      have hD : va_D A [(hx_, swO mm hw ri pl se en), (mm, arO dA M), (hw, wkO mm xv xu xe (mr ap) (mr vp) (mg hg) (eb ri 0) (eb ri 1) (eb ri 2) (eb ri 3) xp xs_ xn xt xr), (hm, mdO 0 mm2 ap vp hg ri pl se en mk mv mu me mc_ mf mo_), (mm2, arO dA2 M)] := hD.re rfl
      have hl : lv_has ls 4 [(3, .int (nI i)), (2, .ref hm), (1, .ref hx_), (0, .ref b)] := hl
      refine lv_iload_n hx hb dL_law_18 rfl (lv_at hl 0 rfl) ?_
      refine lv_aload_n hx hb dL_law_19 rfl (lv_at hl 3 rfl) ?_
      refine va_slen hx hb hX hbl hbA hS dL_law_20 ?_
      refine lv_bipush (v := 7) hx hb dL_law_21 (by decide) ?_
      refine lv_isub hx hb dL_law_23 ?_
      refine lv_icmp_gt (tgt := 402) hx hb dL_law_24 (by decide) (fun c_2 => ?_) (fun c_2 => absurd ((lc hL hi).mpr (by omega)) c_2)
      refine lv_iconst (v := 1) hx hb dL_law_402 (by decide) ?_
      refine va_forget (fun q hq => hA2 _ (hS.2.2 q hq)) ?_
      refine W.widen (k := 600000) (n := 7302250) (by decide) (by decide) ?_
      exact lw_ret hx hb hr hlocks dL_law_403
    | succ n ih =>
      rintro H locs ls ⟨hi, hn, hP, hS, hl⟩
      have hi : i ≤ 448 := hi
      have hn : L + 1 ≤ i + (n + 1) := hn
      have hP : va_P D vCl [(hx_, swO mm hw ri pl se en), (mm, arO dA M), (hw, wkO mm xv xu xe (mr ap) (mr vp) (mg hg) (eb ri 0) (eb ri 1) (eb ri 2) (eb ri 3) xp xs_ xn xt xr), (hm, mdO 0 mm2 ap vp hg ri pl se en mk mv mu me mc_ mf mo_), (mm2, arO dA2 M)] H := hP
      have hD : va_D A [(hx_, swO mm hw ri pl se en), (mm, arO dA M), (hw, wkO mm xv xu xe (mr ap) (mr vp) (mg hg) (eb ri 0) (eb ri 1) (eb ri 2) (eb ri 3) xp xs_ xn xt xr), (hm, mdO 0 mm2 ap vp hg ri pl se en mk mv mu me mc_ mf mo_), (mm2, arO dA2 M)] := hD.re rfl
      have hl : lv_has ls 4 [(3, .int (nI i)), (2, .ref hm), (1, .ref hx_), (0, .ref b)] := hl
      refine lv_iload_n hx hb dL_law_18 rfl (lv_at hl 0 rfl) ?_
      refine lv_aload_n hx hb dL_law_19 rfl (lv_at hl 3 rfl) ?_
      refine va_slen hx hb hX hbl hbA hS dL_law_20 ?_
      refine lv_bipush (v := 7) hx hb dL_law_21 (by decide) ?_
      refine lv_isub hx hb dL_law_23 ?_
      refine lv_icmp_gt (tgt := 402) hx hb dL_law_24 (by decide) (fun c_3 => ?_) (fun c_3 => ?_)
      · skip
        have c_3 := (lc hL hi).mp c_3
        refine lv_iconst (v := 1) hx hb dL_law_402 (by decide) ?_
        refine va_forget (fun q hq => hA2 _ (hS.2.2 q hq)) ?_
        refine W.widen (k := 600000) (n := 7302250) (by decide) (by decide) ?_
        exact lw_ret hx hb hr hlocks dL_law_403
      · skip
        have c_3 := (not_congr (lc hL hi)).mp c_3
        refine jg (X := (Nat → Int32) × Int32 × Int32 × Int32 × Int32 × tS × xJ × mJ) (fun _ ls => F0 m 396 ls []) (fun y_ H locs ls => va_P D vCl (lawV hx_ mm hw dA hm mm2 dA2 y_.1 y_.2.1 y_.2.2.1 y_.2.2.2.1 y_.2.2.2.2.1 y_.2.2.2.2.2.1 y_.2.2.2.2.2.2.1 y_.2.2.2.2.2.2.2) H ∧ va_S A s.heap H locs ∧ lv_has ls 4 [(3, .int (nI i)), (2, .ref hm), (1, .ref hx_), (0, .ref b)]) ?_ (fun K_4 => ?_)
        · rintro ⟨M, ap, vp, hg, ri, ⟨pl, se, en⟩, ⟨xv, xu, xe, xp, xs_, xn, xt, xr⟩, ⟨mk, mv, mu, me, mc_, mf, mo_⟩⟩ H locs ls ⟨hP, hS, hl⟩
          have hl : lv_has ls 4 [(3, .int (nI i)), (2, .ref hm), (1, .ref hx_), (0, .ref b)] := hl
          refine lv_iinc (v := nI (i + 7)) (lv' := [(3, .int (nI (i + 7))), (2, .ref hm), (1, .ref hx_), (0, .ref b)]) hx hb dL_law_396 hl (k := 0) rfl (nI_add i 7) (by decide) rfl (fun ls hl => ?_)
          refine lv_goto (tgt := 18) hx hb dL_law_399 (by decide) ?_
          exact ih (i + 7) M ap vp hg ri pl se en xv xu xe xp xs_ xn xt xr mk mv mu me mc_ mf mo_ _ _ _ ⟨by show i + 7 ≤ 448; omega, by show L + 1 ≤ i + 7 + n; omega, hP, hS, hl⟩
        · skip
          refine lv_aload_n hx hb dL_law_27 rfl (lv_at hl 3 rfl) ?_
          refine lv_iload_n hx hb dL_law_28 rfl (lv_at hl 0 rfl) ?_
          refine va_sld hx hb hX hbl hbA hS (vp_in_nI (by omega) (by omega)) dL_law_29 ?_
          refine tpi (y := xs (i)) (by rw [nI_clamp (by omega)]) ?_
          refine lv_bipush (v := 15) hx hb dL_law_30 (by decide) ?_
          refine lv_iand hx hb dL_law_32 ?_
          obtain ⟨v, hv, ev⟩ := pk_andE (xs i) (m := 15) 4 (by decide)
          refine tpi (y := nI v) (ev) ?_
          have hv16 : v < 16 := hv
          rcases (show v = 0 ∨ v = 1 ∨ v = 2 ∨ v = 3 ∨ v = 4 ∨ v = 5 ∨ v = 6 ∨ v = 7 ∨ v = 8 ∨ v = 9 ∨ 10 ≤ v by omega) with h0 | h0 | h0 | h0 | h0 | h0 | h0 | h0 | h0 | h0 | h0
          · skip
            subst h0
            refine lv_tableIn (off := 55) (tgt := 88) hx hb dL_law_33 (by decide) (by decide) (by decide) (by decide) ?_
            refine lv_aload_n hx hb dL_law_88 rfl (lv_at hl 2 rfl) ?_
            have hPc := hP.sub (ws' := [(hx_, swO mm hw ri pl se en), (mm, arO dA M), (hw, wkO mm xv xu xe (mr ap) (mr vp) (mg hg) (eb ri 0) (eb ri 1) (eb ri 2) (eb ri 3) xp xs_ xn xt xr)]) [0, 1, 2] rfl
            have hDc := (hD.sub (ws' := [(hx_, swO mm hw ri pl se en), (mm, arO dA M), (hw, wkO mm xv xu xe (mr ap) (mr vp) (mg hg) (eb ri 0) (eb ri 1) (eb ri 2) (eb ri 3) xp xs_ xn xt xr)]) [0, 1, 2] (by decide) rfl)
            have hKc := hK.sub (tys' := [(dA, .int)]) [0] rfl
            refine gcv (va_runV (As := []) (rest := []) ⟨hx, hb, hml, hown, hts⟩ (m_xbegin l D hx_ mm hw dA M (mr ap) (mr vp) (mg hg) ri (inW [(hx_, swO mm hw ri pl se en), (mm, arO dA M), (hw, wkO mm xv xu xe (mr ap) (mr vp) (mg hg) (eb ri 0) (eb ri 1) (eb ri 2) (eb ri 3) xp xs_ xn xt xr)]) pl se en xv xu xe xp xs_ xn xt xr) (cwV 0 hts (lw_V q119 q120 q121 q19 q122) rfl rfl rfl (by decide +kernel) ⟨Nat.le_of_ble_eq_true rfl, Nat.le_of_ble_eq_true rfl⟩) (pX_W hKc hPc hDc.own hZ hS (inW_in hDc) 0 rfl rfl) rfl rfl hl.1 rfl (lv_room (Nat.le_of_ble_eq_true rfl)) dL_law_89 ⟨Nat.le_of_ble_eq_true rfl, Nat.le_of_ble_eq_true rfl⟩) hS (inW_in hDc) (fun u_5 H locs po_5 hP1 hz_5 hk_5 hS => ?_)
            have hPr := gjoin hP hD [0, 1, 2] [3, 4] (wc := [(hx_, swO mm hw ri pl se en), (mm, arO dA M), (hw, wkO mm xv xu xe (mr ap) (mr vp) (mg hg) (eb ri 0) (eb ri 1) (eb ri 2) (eb ri 3) xp xs_ xn xt xr)]) (wr := [(hm, mdO 0 mm2 ap vp hg ri pl se en mk mv mu me mc_ mf mo_), (mm2, arO dA2 M)]) rfl rfl (by decide) hk_5
            have hP : va_P D vCl [(hx_, swO mm hw 0 (-1) 0 false), (mm, arO dA (fa_fill (fun _ => 0) M 65536)), (hw, wkO mm xv xu xe (mr 0) (mr 0) (mg 0) (eb 0 0) (eb 0 1) (eb 0 2) (eb 0 3) xp xs_ xn xt xr), (hm, mdO 0 mm2 ap vp hg ri pl se en mk mv mu me mc_ mf mo_), (mm2, arO dA2 M)] H := hP1.app hPr
            have hD : va_D A [(hx_, swO mm hw 0 (-1) 0 false), (mm, arO dA (fa_fill (fun _ => 0) M 65536)), (hw, wkO mm xv xu xe (mr 0) (mr 0) (mg 0) (eb 0 0) (eb 0 1) (eb 0 2) (eb 0 3) xp xs_ xn xt xr), (hm, mdO 0 mm2 ap vp hg ri pl se en mk mv mu me mc_ mf mo_), (mm2, arO dA2 M)] := hD.re rfl
            refine lv_aload_n hx hb dL_law_92 rfl (lv_at hl 1 rfl) ?_
            have hPc := hP.sub (ws' := [(hm, mdO 0 mm2 ap vp hg ri pl se en mk mv mu me mc_ mf mo_), (mm2, arO dA2 M)]) [3, 4] rfl
            have hDc := (hD.sub (ws' := [(hm, mdO 0 mm2 ap vp hg ri pl se en mk mv mu me mc_ mf mo_), (mm2, arO dA2 M)]) [3, 4] (by decide) rfl)
            have hKc := hK.sub (tys' := [(dA2, .int)]) [1] rfl
            refine gcv (va_runV (As := []) (rest := []) ⟨hx, hb, hml, hown, hts⟩ (m_mbegin l D hm mm2 dA2 M 0 ap vp hg ri (inW [(hm, mdO 0 mm2 ap vp hg ri pl se en mk mv mu me mc_ mf mo_), (mm2, arO dA2 M)]) pl se en mk mv mu me mc_ mf mo_) (cwV 0 hts (lw_V q295 q244 q245 q21 q246) rfl rfl rfl (by decide +kernel) ⟨Nat.le_of_ble_eq_true rfl, Nat.le_of_ble_eq_true rfl⟩) (pM_V hKc hPc hDc.own 0 rfl rfl) rfl rfl hl.1 rfl (lv_room (Nat.le_of_ble_eq_true rfl)) dL_law_93 ⟨Nat.le_of_ble_eq_true rfl, Nat.le_of_ble_eq_true rfl⟩) hS (inW_in hDc) (fun u_6 H locs po_6 hP1 hz_6 hk_6 hS => ?_)
            have hPr := gjoin hP hD [3, 4] [0, 1, 2] (wc := [(hm, mdO 0 mm2 ap vp hg ri pl se en mk mv mu me mc_ mf mo_), (mm2, arO dA2 M)]) (wr := [(hx_, swO mm hw 0 (-1) 0 false), (mm, arO dA (fa_fill (fun _ => 0) M 65536)), (hw, wkO mm xv xu xe (mr 0) (mr 0) (mg 0) (eb 0 0) (eb 0 1) (eb 0 2) (eb 0 3) xp xs_ xn xt xr)]) rfl rfl (by decide) hk_6
            have hP : va_P D vCl [(hx_, swO mm hw 0 (-1) 0 false), (mm, arO dA (fa_fill (fun _ => 0) M 65536)), (hw, wkO mm xv xu xe (mr 0) (mr 0) (mg 0) (eb 0 0) (eb 0 1) (eb 0 2) (eb 0 3) xp xs_ xn xt xr), (hm, mdO 0 mm2 0 0 0 0 (-1) 0 false mk mv mu me mc_ mf mo_), (mm2, arO dA2 (fa_fill (fun _ => 0) M 65536))] H := hPr.app hP1
            have hD : va_D A [(hx_, swO mm hw 0 (-1) 0 false), (mm, arO dA (fa_fill (fun _ => 0) M 65536)), (hw, wkO mm xv xu xe (mr 0) (mr 0) (mg 0) (eb 0 0) (eb 0 1) (eb 0 2) (eb 0 3) xp xs_ xn xt xr), (hm, mdO 0 mm2 0 0 0 0 (-1) 0 false mk mv mu me mc_ mf mo_), (mm2, arO dA2 (fa_fill (fun _ => 0) M 65536))] := hD.re rfl
            refine lv_goto (tgt := 396) hx hb dL_law_96 (by decide) ?_
            exact K_4 (fa_fill (fun _ => 0) M 65536, 0, 0, 0, 0, ((-1), 0, false), (xv, xu, xe, xp, xs_, xn, xt, xr), (mk, mv, mu, me, mc_, mf, mo_)) _ _ _ ⟨hP, hS, hl⟩
          · skip
            subst h0
            refine lv_tableIn (off := 66) (tgt := 99) hx hb dL_law_33 (by decide) (by decide) (by decide) (by decide) ?_
            refine lv_aload_n hx hb dL_law_99 rfl (lv_at hl 2 rfl) ?_
            refine lv_aload_n hx hb dL_law_100 rfl (lv_at hl 3 rfl) ?_
            refine lv_iload_n hx hb dL_law_101 rfl (lv_at hl 0 rfl) ?_
            refine lv_iconst (v := 1) hx hb dL_law_102 (by decide) ?_
            refine lv_iadd hx hb dL_law_103 ?_
            refine tpi (y := nI (i + 1)) (nI_add i 1) ?_
            refine va_sld hx hb hX hbl hbA hS (vp_in_nI (by omega) (by omega)) dL_law_104 ?_
            refine tpi (y := xs (i + 1)) (by rw [nI_clamp (by omega)]) ?_
            refine lv_aload_n hx hb dL_law_105 rfl (lv_at hl 3 rfl) ?_
            refine lv_iload_n hx hb dL_law_106 rfl (lv_at hl 0 rfl) ?_
            refine lv_iconst (v := 2) hx hb dL_law_107 (by decide) ?_
            refine lv_iadd hx hb dL_law_108 ?_
            refine tpi (y := nI (i + 2)) (nI_add i 2) ?_
            refine va_sld hx hb hX hbl hbA hS (vp_in_nI (by omega) (by omega)) dL_law_109 ?_
            refine tpi (y := xs (i + 2)) (by rw [nI_clamp (by omega)]) ?_
            refine lv_aload_n hx hb dL_law_110 rfl (lv_at hl 3 rfl) ?_
            refine lv_iload_n hx hb dL_law_111 rfl (lv_at hl 0 rfl) ?_
            refine lv_iconst (v := 3) hx hb dL_law_112 (by decide) ?_
            refine lv_iadd hx hb dL_law_113 ?_
            refine tpi (y := nI (i + 3)) (nI_add i 3) ?_
            refine va_sld hx hb hX hbl hbA hS (vp_in_nI (by omega) (by omega)) dL_law_114 ?_
            refine tpi (y := xs (i + 3)) (by rw [nI_clamp (by omega)]) ?_
            refine lv_aload_n hx hb dL_law_115 rfl (lv_at hl 3 rfl) ?_
            refine lv_iload_n hx hb dL_law_116 rfl (lv_at hl 0 rfl) ?_
            refine lv_iconst (v := 4) hx hb dL_law_117 (by decide) ?_
            refine lv_iadd hx hb dL_law_118 ?_
            refine tpi (y := nI (i + 4)) (nI_add i 4) ?_
            refine va_sld hx hb hX hbl hbA hS (vp_in_nI (by omega) (by omega)) dL_law_119 ?_
            refine tpi (y := xs (i + 4)) (by rw [nI_clamp (by omega)]) ?_
            refine lv_aload_n hx hb dL_law_120 rfl (lv_at hl 3 rfl) ?_
            refine lv_iload_n hx hb dL_law_121 rfl (lv_at hl 0 rfl) ?_
            refine lv_iconst (v := 5) hx hb dL_law_122 (by decide) ?_
            refine lv_iadd hx hb dL_law_123 ?_
            refine tpi (y := nI (i + 5)) (nI_add i 5) ?_
            refine va_sld hx hb hX hbl hbA hS (vp_in_nI (by omega) (by omega)) dL_law_124 ?_
            refine tpi (y := xs (i + 5)) (by rw [nI_clamp (by omega)]) ?_
            refine lv_aload_n hx hb dL_law_125 rfl (lv_at hl 3 rfl) ?_
            refine lv_iload_n hx hb dL_law_126 rfl (lv_at hl 0 rfl) ?_
            refine lv_bipush (v := 6) hx hb dL_law_127 (by decide) ?_
            refine lv_iadd hx hb dL_law_129 ?_
            refine tpi (y := nI (i + 6)) (nI_add i 6) ?_
            refine va_sld hx hb hX hbl hbA hS (vp_in_nI (by omega) (by omega)) dL_law_130 ?_
            refine tpi (y := xs (i + 6)) (by rw [nI_clamp (by omega)]) ?_
            have hPc := hP.sub (ws' := [(hx_, swO mm hw ri pl se en), (mm, arO dA M), (hw, wkO mm xv xu xe (mr ap) (mr vp) (mg hg) (eb ri 0) (eb ri 1) (eb ri 2) (eb ri 3) xp xs_ xn xt xr)]) [0, 1, 2] rfl
            have hDc := (hD.sub (ws' := [(hx_, swO mm hw ri pl se en), (mm, arO dA M), (hw, wkO mm xv xu xe (mr ap) (mr vp) (mg hg) (eb ri 0) (eb ri 1) (eb ri 2) (eb ri 3) xp xs_ xn xt xr)]) [0, 1, 2] (by decide) rfl)
            have hKc := hK.sub (tys' := [(dA, .int)]) [0] rfl
            refine gci (va_runV (As := [.int (xs (i + 1)), .int (xs (i + 2)), .int (xs (i + 3)), .int (xs (i + 4)), .int (xs (i + 5)), .int (xs (i + 6))]) (rest := []) ⟨hx, hb, hml, hown, hts⟩ (m_xpoke l D hx_ mm hw dA M (mr ap) (mr vp) (mg hg) ri (inW [(hx_, swO mm hw ri pl se en), (mm, arO dA M), (hw, wkO mm xv xu xe (mr ap) (mr vp) (mg hg) (eb ri 0) (eb ri 1) (eb ri 2) (eb ri 3) xp xs_ xn xt xr)]) pl se en xv xu xe xp xs_ xn xt xr (xs (i + 1)) (xs (i + 2)) (xs (i + 3)) (xs (i + 4)) (xs (i + 5)) (xs (i + 6))) (cwV 6 hts (lw_V q133 q134 q135 q19 q136) rfl rfl rfl (by decide +kernel) ⟨Nat.le_of_ble_eq_true rfl, Nat.le_of_ble_eq_true rfl⟩) (pX_W hKc hPc hDc.own hZ hS (inW_in hDc) 0 rfl rfl) rfl rfl hl.1 rfl (lv_room (Nat.le_of_ble_eq_true rfl)) dL_law_131 ⟨Nat.le_of_ble_eq_true rfl, Nat.le_of_ble_eq_true rfl⟩) hS (inW_in hDc) (fun r_7 u_7 H locs po_7 hP1 hz_7 hk_7 hS => ?_)
            have hPr := gjoin hP hD [0, 1, 2] [3, 4] (wc := [(hx_, swO mm hw ri pl se en), (mm, arO dA M), (hw, wkO mm xv xu xe (mr ap) (mr vp) (mg hg) (eb ri 0) (eb ri 1) (eb ri 2) (eb ri 3) xp xs_ xn xt xr)]) (wr := [(hm, mdO 0 mm2 ap vp hg ri pl se en mk mv mu me mc_ mf mo_), (mm2, arO dA2 M)]) rfl rfl (by decide) hk_7
            have hP : va_P D vCl [(hx_, swO mm hw ri pl se en), (mm, arO dA (pkM M (xs (i + 1)) (xs (i + 2)) (xs (i + 3)) (xs (i + 4)) (xs (i + 5)) (xs (i + 6)))), (hw, wkO mm xv xu xe (mr ap) (mr vp) (mg hg) (eb ri 0) (eb ri 1) (eb ri 2) (eb ri 3) xp xs_ xn xt xr), (hm, mdO 0 mm2 ap vp hg ri pl se en mk mv mu me mc_ mf mo_), (mm2, arO dA2 M)] H := hP1.app hPr
            have hD : va_D A [(hx_, swO mm hw ri pl se en), (mm, arO dA (pkM M (xs (i + 1)) (xs (i + 2)) (xs (i + 3)) (xs (i + 4)) (xs (i + 5)) (xs (i + 6)))), (hw, wkO mm xv xu xe (mr ap) (mr vp) (mg hg) (eb ri 0) (eb ri 1) (eb ri 2) (eb ri 3) xp xs_ xn xt xr), (hm, mdO 0 mm2 ap vp hg ri pl se en mk mv mu me mc_ mf mo_), (mm2, arO dA2 M)] := hD.re rfl
            refine lv_aload_n hx hb dL_law_134 rfl (lv_at hl 1 rfl) ?_
            refine lv_aload_n hx hb dL_law_135 rfl (lv_at hl 3 rfl) ?_
            refine lv_iload_n hx hb dL_law_136 rfl (lv_at hl 0 rfl) ?_
            refine lv_iconst (v := 1) hx hb dL_law_137 (by decide) ?_
            refine lv_iadd hx hb dL_law_138 ?_
            refine tpi (y := nI (i + 1)) (nI_add i 1) ?_
            refine va_sld hx hb hX hbl hbA hS (vp_in_nI (by omega) (by omega)) dL_law_139 ?_
            refine tpi (y := xs (i + 1)) (by rw [nI_clamp (by omega)]) ?_
            refine lv_aload_n hx hb dL_law_140 rfl (lv_at hl 3 rfl) ?_
            refine lv_iload_n hx hb dL_law_141 rfl (lv_at hl 0 rfl) ?_
            refine lv_iconst (v := 2) hx hb dL_law_142 (by decide) ?_
            refine lv_iadd hx hb dL_law_143 ?_
            refine tpi (y := nI (i + 2)) (nI_add i 2) ?_
            refine va_sld hx hb hX hbl hbA hS (vp_in_nI (by omega) (by omega)) dL_law_144 ?_
            refine tpi (y := xs (i + 2)) (by rw [nI_clamp (by omega)]) ?_
            refine lv_aload_n hx hb dL_law_145 rfl (lv_at hl 3 rfl) ?_
            refine lv_iload_n hx hb dL_law_146 rfl (lv_at hl 0 rfl) ?_
            refine lv_iconst (v := 3) hx hb dL_law_147 (by decide) ?_
            refine lv_iadd hx hb dL_law_148 ?_
            refine tpi (y := nI (i + 3)) (nI_add i 3) ?_
            refine va_sld hx hb hX hbl hbA hS (vp_in_nI (by omega) (by omega)) dL_law_149 ?_
            refine tpi (y := xs (i + 3)) (by rw [nI_clamp (by omega)]) ?_
            refine lv_aload_n hx hb dL_law_150 rfl (lv_at hl 3 rfl) ?_
            refine lv_iload_n hx hb dL_law_151 rfl (lv_at hl 0 rfl) ?_
            refine lv_iconst (v := 4) hx hb dL_law_152 (by decide) ?_
            refine lv_iadd hx hb dL_law_153 ?_
            refine tpi (y := nI (i + 4)) (nI_add i 4) ?_
            refine va_sld hx hb hX hbl hbA hS (vp_in_nI (by omega) (by omega)) dL_law_154 ?_
            refine tpi (y := xs (i + 4)) (by rw [nI_clamp (by omega)]) ?_
            refine lv_aload_n hx hb dL_law_155 rfl (lv_at hl 3 rfl) ?_
            refine lv_iload_n hx hb dL_law_156 rfl (lv_at hl 0 rfl) ?_
            refine lv_iconst (v := 5) hx hb dL_law_157 (by decide) ?_
            refine lv_iadd hx hb dL_law_158 ?_
            refine tpi (y := nI (i + 5)) (nI_add i 5) ?_
            refine va_sld hx hb hX hbl hbA hS (vp_in_nI (by omega) (by omega)) dL_law_159 ?_
            refine tpi (y := xs (i + 5)) (by rw [nI_clamp (by omega)]) ?_
            refine lv_aload_n hx hb dL_law_160 rfl (lv_at hl 3 rfl) ?_
            refine lv_iload_n hx hb dL_law_161 rfl (lv_at hl 0 rfl) ?_
            refine lv_bipush (v := 6) hx hb dL_law_162 (by decide) ?_
            refine lv_iadd hx hb dL_law_164 ?_
            refine tpi (y := nI (i + 6)) (nI_add i 6) ?_
            refine va_sld hx hb hX hbl hbA hS (vp_in_nI (by omega) (by omega)) dL_law_165 ?_
            refine tpi (y := xs (i + 6)) (by rw [nI_clamp (by omega)]) ?_
            have hPc := hP.sub (ws' := [(hm, mdO 0 mm2 ap vp hg ri pl se en mk mv mu me mc_ mf mo_), (mm2, arO dA2 M)]) [3, 4] rfl
            have hDc := (hD.sub (ws' := [(hm, mdO 0 mm2 ap vp hg ri pl se en mk mv mu me mc_ mf mo_), (mm2, arO dA2 M)]) [3, 4] (by decide) rfl)
            have hKc := hK.sub (tys' := [(dA2, .int)]) [1] rfl
            refine gci (va_runV (As := [.int (xs (i + 1)), .int (xs (i + 2)), .int (xs (i + 3)), .int (xs (i + 4)), .int (xs (i + 5)), .int (xs (i + 6))]) (rest := [.int r_7]) ⟨hx, hb, hml, hown, hts⟩ (m_mpoke l D hm mm2 dA2 M 0 ap vp hg ri (inW [(hm, mdO 0 mm2 ap vp hg ri pl se en mk mv mu me mc_ mf mo_), (mm2, arO dA2 M)]) pl se en mk mv mu me mc_ mf mo_ (xs (i + 1)) (xs (i + 2)) (xs (i + 3)) (xs (i + 4)) (xs (i + 5)) (xs (i + 6))) (cwV 6 hts (lw_V q296 q297 q298 q21 q299) rfl rfl rfl (by decide +kernel) ⟨Nat.le_of_ble_eq_true rfl, Nat.le_of_ble_eq_true rfl⟩) (pM_V hKc hPc hDc.own 0 rfl rfl) rfl rfl hl.1 rfl (lv_room (Nat.le_of_ble_eq_true rfl)) dL_law_166 ⟨Nat.le_of_ble_eq_true rfl, Nat.le_of_ble_eq_true rfl⟩) hS (inW_in hDc) (fun r_8 u_8 H locs po_8 hP1 hz_8 hk_8 hS => ?_)
            have hPr := gjoin hP hD [3, 4] [0, 1, 2] (wc := [(hm, mdO 0 mm2 ap vp hg ri pl se en mk mv mu me mc_ mf mo_), (mm2, arO dA2 M)]) (wr := [(hx_, swO mm hw ri pl se en), (mm, arO dA (pkM M (xs (i + 1)) (xs (i + 2)) (xs (i + 3)) (xs (i + 4)) (xs (i + 5)) (xs (i + 6)))), (hw, wkO mm xv xu xe (mr ap) (mr vp) (mg hg) (eb ri 0) (eb ri 1) (eb ri 2) (eb ri 3) xp xs_ xn xt xr)]) rfl rfl (by decide) hk_8
            have hP : va_P D vCl [(hx_, swO mm hw ri pl se en), (mm, arO dA (pkM M (xs (i + 1)) (xs (i + 2)) (xs (i + 3)) (xs (i + 4)) (xs (i + 5)) (xs (i + 6)))), (hw, wkO mm xv xu xe (mr ap) (mr vp) (mg hg) (eb ri 0) (eb ri 1) (eb ri 2) (eb ri 3) xp xs_ xn xt xr), (hm, mdO 0 mm2 ap vp hg ri pl se en mk mv mu me mc_ mf mo_), (mm2, arO dA2 (pkM M (xs (i + 1)) (xs (i + 2)) (xs (i + 3)) (xs (i + 4)) (xs (i + 5)) (xs (i + 6))))] H := hPr.app hP1
            have hD : va_D A [(hx_, swO mm hw ri pl se en), (mm, arO dA (pkM M (xs (i + 1)) (xs (i + 2)) (xs (i + 3)) (xs (i + 4)) (xs (i + 5)) (xs (i + 6)))), (hw, wkO mm xv xu xe (mr ap) (mr vp) (mg hg) (eb ri 0) (eb ri 1) (eb ri 2) (eb ri 3) xp xs_ xn xt xr), (hm, mdO 0 mm2 ap vp hg ri pl se en mk mv mu me mc_ mf mo_), (mm2, arO dA2 (pkM M (xs (i + 1)) (xs (i + 2)) (xs (i + 3)) (xs (i + 4)) (xs (i + 5)) (xs (i + 6))))] := hD.re rfl
            refine lv_icmp_eq (tgt := 396) hx hb dL_law_169 (by decide) (fun c_9 => ?_) (fun c_9 => absurd (po_7.trans po_8.symm) c_9)
            exact K_4 (pkM M (xs (i + 1)) (xs (i + 2)) (xs (i + 3)) (xs (i + 4)) (xs (i + 5)) (xs (i + 6)), ap, vp, hg, ri, (pl, se, en), (xv, xu, xe, xp, xs_, xn, xt, xr), (mk, mv, mu, me, mc_, mf, mo_)) _ _ _ ⟨hP, hS, hl⟩
          · skip
            subst h0
            refine lv_tableIn (off := 141) (tgt := 174) hx hb dL_law_33 (by decide) (by decide) (by decide) (by decide) ?_
            refine lv_aload_n hx hb dL_law_174 rfl (lv_at hl 2 rfl) ?_
            refine lv_aload_n hx hb dL_law_175 rfl (lv_at hl 3 rfl) ?_
            refine lv_iload_n hx hb dL_law_176 rfl (lv_at hl 0 rfl) ?_
            refine lv_iconst (v := 1) hx hb dL_law_177 (by decide) ?_
            refine lv_iadd hx hb dL_law_178 ?_
            refine tpi (y := nI (i + 1)) (nI_add i 1) ?_
            refine va_sld hx hb hX hbl hbA hS (vp_in_nI (by omega) (by omega)) dL_law_179 ?_
            refine tpi (y := xs (i + 1)) (by rw [nI_clamp (by omega)]) ?_
            have hPc := hP.sub (ws' := [(hx_, swO mm hw ri pl se en), (mm, arO dA M), (hw, wkO mm xv xu xe (mr ap) (mr vp) (mg hg) (eb ri 0) (eb ri 1) (eb ri 2) (eb ri 3) xp xs_ xn xt xr)]) [0, 1, 2] rfl
            have hDc := (hD.sub (ws' := [(hx_, swO mm hw ri pl se en), (mm, arO dA M), (hw, wkO mm xv xu xe (mr ap) (mr vp) (mg hg) (eb ri 0) (eb ri 1) (eb ri 2) (eb ri 3) xp xs_ xn xt xr)]) [0, 1, 2] (by decide) rfl)
            have hKc := hK.sub (tys' := [(dA, .int)]) [0] rfl
            refine pcall (va_runV (As := [.int (xs (i + 1))]) (rest := []) ⟨hx, hb, hml, hown, hts⟩ (m_xword l D hx_ mm hw dA M (mr ap) (mr vp) (mg hg) ri pl se en xv xu xe xp xs_ xn xt xr (xs (i + 1))) (cwV 1 hts (lw_V q140 q141 q142 q19 q143) rfl rfl rfl (by decide +kernel) ⟨Nat.le_of_ble_eq_true rfl, Nat.le_of_ble_eq_true rfl⟩) (pR_V hKc hPc 0 rfl rfl) rfl rfl hl.1 rfl (lv_room (Nat.le_of_ble_eq_true rfl)) dL_law_180 ⟨Nat.le_of_ble_eq_true rfl, Nat.le_of_ble_eq_true rfl⟩) ?_
            refine lv_aload_n hx hb dL_law_183 rfl (lv_at hl 1 rfl) ?_
            refine lv_aload_n hx hb dL_law_184 rfl (lv_at hl 3 rfl) ?_
            refine lv_iload_n hx hb dL_law_185 rfl (lv_at hl 0 rfl) ?_
            refine lv_iconst (v := 1) hx hb dL_law_186 (by decide) ?_
            refine lv_iadd hx hb dL_law_187 ?_
            refine tpi (y := nI (i + 1)) (nI_add i 1) ?_
            refine va_sld hx hb hX hbl hbA hS (vp_in_nI (by omega) (by omega)) dL_law_188 ?_
            refine tpi (y := xs (i + 1)) (by rw [nI_clamp (by omega)]) ?_
            have hPc := hP.sub (ws' := [(hm, mdO 0 mm2 ap vp hg ri pl se en mk mv mu me mc_ mf mo_), (mm2, arO dA2 M)]) [3, 4] rfl
            have hDc := (hD.sub (ws' := [(hm, mdO 0 mm2 ap vp hg ri pl se en mk mv mu me mc_ mf mo_), (mm2, arO dA2 M)]) [3, 4] (by decide) rfl)
            have hKc := hK.sub (tys' := [(dA2, .int)]) [1] rfl
            refine pcall (va_runV (As := [.int (xs (i + 1))]) (rest := [.int (wdR M (xs (i + 1)))]) ⟨hx, hb, hml, hown, hts⟩ (m_mword l D hm mm2 dA2 M 0 ap vp hg ri pl se en mk mv mu me mc_ mf mo_ (xs (i + 1))) (cwV 1 hts (lw_V q301 q302 q303 q21 q304) rfl rfl rfl (by decide +kernel) ⟨Nat.le_of_ble_eq_true rfl, Nat.le_of_ble_eq_true rfl⟩) (pR_V hKc hPc 0 rfl rfl) rfl rfl hl.1 rfl (lv_room (Nat.le_of_ble_eq_true rfl)) dL_law_189 ⟨Nat.le_of_ble_eq_true rfl, Nat.le_of_ble_eq_true rfl⟩) ?_
            refine lv_icmp_eq (tgt := 396) hx hb dL_law_192 (by decide) (fun c_10 => ?_) (fun c_10 => absurd (rfl) c_10)
            exact K_4 (M, ap, vp, hg, ri, (pl, se, en), (xv, xu, xe, xp, xs_, xn, xt, xr), (mk, mv, mu, me, mc_, mf, mo_)) _ _ _ ⟨hP, hS, hl⟩
          · skip
            subst h0
            refine lv_tableIn (off := 164) (tgt := 197) hx hb dL_law_33 (by decide) (by decide) (by decide) (by decide) ?_
            refine lv_aload_n hx hb dL_law_197 rfl (lv_at hl 2 rfl) ?_
            refine lv_aload_n hx hb dL_law_198 rfl (lv_at hl 3 rfl) ?_
            refine lv_iload_n hx hb dL_law_199 rfl (lv_at hl 0 rfl) ?_
            refine lv_iconst (v := 1) hx hb dL_law_200 (by decide) ?_
            refine lv_iadd hx hb dL_law_201 ?_
            refine tpi (y := nI (i + 1)) (nI_add i 1) ?_
            refine va_sld hx hb hX hbl hbA hS (vp_in_nI (by omega) (by omega)) dL_law_202 ?_
            refine tpi (y := xs (i + 1)) (by rw [nI_clamp (by omega)]) ?_
            refine lv_aload_n hx hb dL_law_203 rfl (lv_at hl 3 rfl) ?_
            refine lv_iload_n hx hb dL_law_204 rfl (lv_at hl 0 rfl) ?_
            refine lv_iconst (v := 2) hx hb dL_law_205 (by decide) ?_
            refine lv_iadd hx hb dL_law_206 ?_
            refine tpi (y := nI (i + 2)) (nI_add i 2) ?_
            refine va_sld hx hb hX hbl hbA hS (vp_in_nI (by omega) (by omega)) dL_law_207 ?_
            refine tpi (y := xs (i + 2)) (by rw [nI_clamp (by omega)]) ?_
            refine lv_aload_n hx hb dL_law_208 rfl (lv_at hl 3 rfl) ?_
            refine lv_iload_n hx hb dL_law_209 rfl (lv_at hl 0 rfl) ?_
            refine lv_iconst (v := 3) hx hb dL_law_210 (by decide) ?_
            refine lv_iadd hx hb dL_law_211 ?_
            refine tpi (y := nI (i + 3)) (nI_add i 3) ?_
            refine va_sld hx hb hX hbl hbA hS (vp_in_nI (by omega) (by omega)) dL_law_212 ?_
            refine tpi (y := xs (i + 3)) (by rw [nI_clamp (by omega)]) ?_
            have hPc := hP.sub (ws' := [(hx_, swO mm hw ri pl se en), (mm, arO dA M), (hw, wkO mm xv xu xe (mr ap) (mr vp) (mg hg) (eb ri 0) (eb ri 1) (eb ri 2) (eb ri 3) xp xs_ xn xt xr)]) [0, 1, 2] rfl
            have hDc := (hD.sub (ws' := [(hx_, swO mm hw ri pl se en), (mm, arO dA M), (hw, wkO mm xv xu xe (mr ap) (mr vp) (mg hg) (eb ri 0) (eb ri 1) (eb ri 2) (eb ri 3) xp xs_ xn xt xr)]) [0, 1, 2] (by decide) rfl)
            have hKc := hK.sub (tys' := [(dA, .int)]) [0] rfl
            refine gcv (va_runV (As := [.int (xs (i + 1)), .int (xs (i + 2)), .int (xs (i + 3))]) (rest := []) ⟨hx, hb, hml, hown, hts⟩ (m_xroots l D hx_ mm hw dA M (mr ap) (mr vp) (mg hg) ri (inW [(hx_, swO mm hw ri pl se en), (mm, arO dA M), (hw, wkO mm xv xu xe (mr ap) (mr vp) (mg hg) (eb ri 0) (eb ri 1) (eb ri 2) (eb ri 3) xp xs_ xn xt xr)]) pl se en xv xu xe xp xs_ xn xt xr (xs (i + 1)) (xs (i + 2)) (xs (i + 3))) (cwV 3 hts (lw_V q144 q124 q125 q19 q126) rfl rfl rfl (by decide +kernel) ⟨Nat.le_of_ble_eq_true rfl, Nat.le_of_ble_eq_true rfl⟩) (pX_W hKc hPc hDc.own hZ hS (inW_in hDc) 0 rfl rfl) rfl rfl hl.1 rfl (lv_room (Nat.le_of_ble_eq_true rfl)) dL_law_213 ⟨Nat.le_of_ble_eq_true rfl, Nat.le_of_ble_eq_true rfl⟩) hS (inW_in hDc) (fun u_11 H locs po_11 hP1 hz_11 hk_11 hS => ?_)
            have hPr := gjoin hP hD [0, 1, 2] [3, 4] (wc := [(hx_, swO mm hw ri pl se en), (mm, arO dA M), (hw, wkO mm xv xu xe (mr ap) (mr vp) (mg hg) (eb ri 0) (eb ri 1) (eb ri 2) (eb ri 3) xp xs_ xn xt xr)]) (wr := [(hm, mdO 0 mm2 ap vp hg ri pl se en mk mv mu me mc_ mf mo_), (mm2, arO dA2 M)]) rfl rfl (by decide) hk_11
            have hP : va_P D vCl [(hx_, swO mm hw ri pl se en), (mm, arO dA M), (hw, wkO mm xv xu xe (mr (xs (i + 1))) (mr (xs (i + 2))) (mg (xs (i + 3))) (eb ri 0) (eb ri 1) (eb ri 2) (eb ri 3) xp xs_ xn xt xr), (hm, mdO 0 mm2 ap vp hg ri pl se en mk mv mu me mc_ mf mo_), (mm2, arO dA2 M)] H := hP1.app hPr
            have hD : va_D A [(hx_, swO mm hw ri pl se en), (mm, arO dA M), (hw, wkO mm xv xu xe (mr (xs (i + 1))) (mr (xs (i + 2))) (mg (xs (i + 3))) (eb ri 0) (eb ri 1) (eb ri 2) (eb ri 3) xp xs_ xn xt xr), (hm, mdO 0 mm2 ap vp hg ri pl se en mk mv mu me mc_ mf mo_), (mm2, arO dA2 M)] := hD.re rfl
            refine lv_aload_n hx hb dL_law_216 rfl (lv_at hl 1 rfl) ?_
            refine lv_aload_n hx hb dL_law_217 rfl (lv_at hl 3 rfl) ?_
            refine lv_iload_n hx hb dL_law_218 rfl (lv_at hl 0 rfl) ?_
            refine lv_iconst (v := 1) hx hb dL_law_219 (by decide) ?_
            refine lv_iadd hx hb dL_law_220 ?_
            refine tpi (y := nI (i + 1)) (nI_add i 1) ?_
            refine va_sld hx hb hX hbl hbA hS (vp_in_nI (by omega) (by omega)) dL_law_221 ?_
            refine tpi (y := xs (i + 1)) (by rw [nI_clamp (by omega)]) ?_
            refine lv_aload_n hx hb dL_law_222 rfl (lv_at hl 3 rfl) ?_
            refine lv_iload_n hx hb dL_law_223 rfl (lv_at hl 0 rfl) ?_
            refine lv_iconst (v := 2) hx hb dL_law_224 (by decide) ?_
            refine lv_iadd hx hb dL_law_225 ?_
            refine tpi (y := nI (i + 2)) (nI_add i 2) ?_
            refine va_sld hx hb hX hbl hbA hS (vp_in_nI (by omega) (by omega)) dL_law_226 ?_
            refine tpi (y := xs (i + 2)) (by rw [nI_clamp (by omega)]) ?_
            refine lv_aload_n hx hb dL_law_227 rfl (lv_at hl 3 rfl) ?_
            refine lv_iload_n hx hb dL_law_228 rfl (lv_at hl 0 rfl) ?_
            refine lv_iconst (v := 3) hx hb dL_law_229 (by decide) ?_
            refine lv_iadd hx hb dL_law_230 ?_
            refine tpi (y := nI (i + 3)) (nI_add i 3) ?_
            refine va_sld hx hb hX hbl hbA hS (vp_in_nI (by omega) (by omega)) dL_law_231 ?_
            refine tpi (y := xs (i + 3)) (by rw [nI_clamp (by omega)]) ?_
            have hPc := hP.sub (ws' := [(hm, mdO 0 mm2 ap vp hg ri pl se en mk mv mu me mc_ mf mo_), (mm2, arO dA2 M)]) [3, 4] rfl
            have hDc := (hD.sub (ws' := [(hm, mdO 0 mm2 ap vp hg ri pl se en mk mv mu me mc_ mf mo_), (mm2, arO dA2 M)]) [3, 4] (by decide) rfl)
            have hKc := hK.sub (tys' := [(dA2, .int)]) [1] rfl
            refine gcv (va_runV (As := [.int (xs (i + 1)), .int (xs (i + 2)), .int (xs (i + 3))]) (rest := []) ⟨hx, hb, hml, hown, hts⟩ (m_mroots l D hm mm2 dA2 M 0 ap vp hg ri (inW [(hm, mdO 0 mm2 ap vp hg ri pl se en mk mv mu me mc_ mf mo_), (mm2, arO dA2 M)]) pl se en mk mv mu me mc_ mf mo_ (xs (i + 1)) (xs (i + 2)) (xs (i + 3))) (cwV 3 hts (lw_V q306 q307 q308 q21 q309) rfl rfl rfl (by decide +kernel) ⟨Nat.le_of_ble_eq_true rfl, Nat.le_of_ble_eq_true rfl⟩) (pM_V hKc hPc hDc.own 0 rfl rfl) rfl rfl hl.1 rfl (lv_room (Nat.le_of_ble_eq_true rfl)) dL_law_232 ⟨Nat.le_of_ble_eq_true rfl, Nat.le_of_ble_eq_true rfl⟩) hS (inW_in hDc) (fun u_12 H locs po_12 hP1 hz_12 hk_12 hS => ?_)
            have hPr := gjoin hP hD [3, 4] [0, 1, 2] (wc := [(hm, mdO 0 mm2 ap vp hg ri pl se en mk mv mu me mc_ mf mo_), (mm2, arO dA2 M)]) (wr := [(hx_, swO mm hw ri pl se en), (mm, arO dA M), (hw, wkO mm xv xu xe (mr (xs (i + 1))) (mr (xs (i + 2))) (mg (xs (i + 3))) (eb ri 0) (eb ri 1) (eb ri 2) (eb ri 3) xp xs_ xn xt xr)]) rfl rfl (by decide) hk_12
            have hP : va_P D vCl [(hx_, swO mm hw ri pl se en), (mm, arO dA M), (hw, wkO mm xv xu xe (mr (xs (i + 1))) (mr (xs (i + 2))) (mg (xs (i + 3))) (eb ri 0) (eb ri 1) (eb ri 2) (eb ri 3) xp xs_ xn xt xr), (hm, mdO 0 mm2 (xs (i + 1)) (xs (i + 2)) (xs (i + 3)) ri pl se en mk mv mu me mc_ mf mo_), (mm2, arO dA2 M)] H := hPr.app hP1
            have hD : va_D A [(hx_, swO mm hw ri pl se en), (mm, arO dA M), (hw, wkO mm xv xu xe (mr (xs (i + 1))) (mr (xs (i + 2))) (mg (xs (i + 3))) (eb ri 0) (eb ri 1) (eb ri 2) (eb ri 3) xp xs_ xn xt xr), (hm, mdO 0 mm2 (xs (i + 1)) (xs (i + 2)) (xs (i + 3)) ri pl se en mk mv mu me mc_ mf mo_), (mm2, arO dA2 M)] := hD.re rfl
            refine lv_goto (tgt := 396) hx hb dL_law_235 (by decide) ?_
            exact K_4 (M, (xs (i + 1)), (xs (i + 2)), (xs (i + 3)), ri, (pl, se, en), (xv, xu, xe, xp, xs_, xn, xt, xr), (mk, mv, mu, me, mc_, mf, mo_)) _ _ _ ⟨hP, hS, hl⟩
          · skip
            subst h0
            refine lv_tableIn (off := 205) (tgt := 238) hx hb dL_law_33 (by decide) (by decide) (by decide) (by decide) ?_
            refine lv_aload_n hx hb dL_law_238 rfl (lv_at hl 2 rfl) ?_
            refine lv_aload_n hx hb dL_law_239 rfl (lv_at hl 3 rfl) ?_
            refine lv_iload_n hx hb dL_law_240 rfl (lv_at hl 0 rfl) ?_
            refine lv_iconst (v := 1) hx hb dL_law_241 (by decide) ?_
            refine lv_iadd hx hb dL_law_242 ?_
            refine tpi (y := nI (i + 1)) (nI_add i 1) ?_
            refine va_sld hx hb hX hbl hbA hS (vp_in_nI (by omega) (by omega)) dL_law_243 ?_
            refine tpi (y := xs (i + 1)) (by rw [nI_clamp (by omega)]) ?_
            have hPc := hP.sub (ws' := [(hx_, swO mm hw ri pl se en), (mm, arO dA M), (hw, wkO mm xv xu xe (mr ap) (mr vp) (mg hg) (eb ri 0) (eb ri 1) (eb ri 2) (eb ri 3) xp xs_ xn xt xr)]) [0, 1, 2] rfl
            have hDc := (hD.sub (ws' := [(hx_, swO mm hw ri pl se en), (mm, arO dA M), (hw, wkO mm xv xu xe (mr ap) (mr vp) (mg hg) (eb ri 0) (eb ri 1) (eb ri 2) (eb ri 3) xp xs_ xn xt xr)]) [0, 1, 2] (by decide) rfl)
            have hKc := hK.sub (tys' := [(dA, .int)]) [0] rfl
            refine gci (va_runV (As := [.int (xs (i + 1))]) (rest := []) ⟨hx, hb, hml, hown, hts⟩ (m_xrights l D hx_ mm hw dA M (mr ap) (mr vp) (mg hg) ri (inW [(hx_, swO mm hw ri pl se en), (mm, arO dA M), (hw, wkO mm xv xu xe (mr ap) (mr vp) (mg hg) (eb ri 0) (eb ri 1) (eb ri 2) (eb ri 3) xp xs_ xn xt xr)]) pl se en xv xu xe xp xs_ xn xt xr (xs (i + 1))) (cwV 1 hts (lw_V q145 q130 q131 q19 q132) rfl rfl rfl (by decide +kernel) ⟨Nat.le_of_ble_eq_true rfl, Nat.le_of_ble_eq_true rfl⟩) (pX_W hKc hPc hDc.own hZ hS (inW_in hDc) 0 rfl rfl) rfl rfl hl.1 rfl (lv_room (Nat.le_of_ble_eq_true rfl)) dL_law_244 ⟨Nat.le_of_ble_eq_true rfl, Nat.le_of_ble_eq_true rfl⟩) hS (inW_in hDc) (fun r_13 u_13 H locs po_13 hP1 hz_13 hk_13 hS => ?_)
            have hPr := gjoin hP hD [0, 1, 2] [3, 4] (wc := [(hx_, swO mm hw ri pl se en), (mm, arO dA M), (hw, wkO mm xv xu xe (mr ap) (mr vp) (mg hg) (eb ri 0) (eb ri 1) (eb ri 2) (eb ri 3) xp xs_ xn xt xr)]) (wr := [(hm, mdO 0 mm2 ap vp hg ri pl se en mk mv mu me mc_ mf mo_), (mm2, arO dA2 M)]) rfl rfl (by decide) hk_13
            have hP : va_P D vCl [(hx_, swO mm hw ((xs (i + 1)) &&& 15) pl se en), (mm, arO dA M), (hw, wkO mm xv xu xe (mr ap) (mr vp) (mg hg) (eb ((xs (i + 1)) &&& 15) 0) (eb ((xs (i + 1)) &&& 15) 1) (eb ((xs (i + 1)) &&& 15) 2) (eb ((xs (i + 1)) &&& 15) 3) xp xs_ xn xt xr), (hm, mdO 0 mm2 ap vp hg ri pl se en mk mv mu me mc_ mf mo_), (mm2, arO dA2 M)] H := hP1.app hPr
            have hD : va_D A [(hx_, swO mm hw ((xs (i + 1)) &&& 15) pl se en), (mm, arO dA M), (hw, wkO mm xv xu xe (mr ap) (mr vp) (mg hg) (eb ((xs (i + 1)) &&& 15) 0) (eb ((xs (i + 1)) &&& 15) 1) (eb ((xs (i + 1)) &&& 15) 2) (eb ((xs (i + 1)) &&& 15) 3) xp xs_ xn xt xr), (hm, mdO 0 mm2 ap vp hg ri pl se en mk mv mu me mc_ mf mo_), (mm2, arO dA2 M)] := hD.re rfl
            refine lv_aload_n hx hb dL_law_247 rfl (lv_at hl 1 rfl) ?_
            refine lv_aload_n hx hb dL_law_248 rfl (lv_at hl 3 rfl) ?_
            refine lv_iload_n hx hb dL_law_249 rfl (lv_at hl 0 rfl) ?_
            refine lv_iconst (v := 1) hx hb dL_law_250 (by decide) ?_
            refine lv_iadd hx hb dL_law_251 ?_
            refine tpi (y := nI (i + 1)) (nI_add i 1) ?_
            refine va_sld hx hb hX hbl hbA hS (vp_in_nI (by omega) (by omega)) dL_law_252 ?_
            refine tpi (y := xs (i + 1)) (by rw [nI_clamp (by omega)]) ?_
            have hPc := hP.sub (ws' := [(hm, mdO 0 mm2 ap vp hg ri pl se en mk mv mu me mc_ mf mo_), (mm2, arO dA2 M)]) [3, 4] rfl
            have hDc := (hD.sub (ws' := [(hm, mdO 0 mm2 ap vp hg ri pl se en mk mv mu me mc_ mf mo_), (mm2, arO dA2 M)]) [3, 4] (by decide) rfl)
            have hKc := hK.sub (tys' := [(dA2, .int)]) [1] rfl
            refine gci (va_runV (As := [.int (xs (i + 1))]) (rest := [.int r_13]) ⟨hx, hb, hml, hown, hts⟩ (m_mrights l D hm mm2 dA2 M 0 ap vp hg ri (inW [(hm, mdO 0 mm2 ap vp hg ri pl se en mk mv mu me mc_ mf mo_), (mm2, arO dA2 M)]) pl se en mk mv mu me mc_ mf mo_ (xs (i + 1))) (cwV 1 hts (lw_V q310 q311 q312 q21 q313) rfl rfl rfl (by decide +kernel) ⟨Nat.le_of_ble_eq_true rfl, Nat.le_of_ble_eq_true rfl⟩) (pM_V hKc hPc hDc.own 0 rfl rfl) rfl rfl hl.1 rfl (lv_room (Nat.le_of_ble_eq_true rfl)) dL_law_253 ⟨Nat.le_of_ble_eq_true rfl, Nat.le_of_ble_eq_true rfl⟩) hS (inW_in hDc) (fun r_14 u_14 H locs po_14 hP1 hz_14 hk_14 hS => ?_)
            have hPr := gjoin hP hD [3, 4] [0, 1, 2] (wc := [(hm, mdO 0 mm2 ap vp hg ri pl se en mk mv mu me mc_ mf mo_), (mm2, arO dA2 M)]) (wr := [(hx_, swO mm hw ((xs (i + 1)) &&& 15) pl se en), (mm, arO dA M), (hw, wkO mm xv xu xe (mr ap) (mr vp) (mg hg) (eb ((xs (i + 1)) &&& 15) 0) (eb ((xs (i + 1)) &&& 15) 1) (eb ((xs (i + 1)) &&& 15) 2) (eb ((xs (i + 1)) &&& 15) 3) xp xs_ xn xt xr)]) rfl rfl (by decide) hk_14
            have hP : va_P D vCl [(hx_, swO mm hw ((xs (i + 1)) &&& 15) pl se en), (mm, arO dA M), (hw, wkO mm xv xu xe (mr ap) (mr vp) (mg hg) (eb ((xs (i + 1)) &&& 15) 0) (eb ((xs (i + 1)) &&& 15) 1) (eb ((xs (i + 1)) &&& 15) 2) (eb ((xs (i + 1)) &&& 15) 3) xp xs_ xn xt xr), (hm, mdO 0 mm2 ap vp hg ((xs (i + 1)) &&& 15) pl se en mk mv mu me mc_ mf mo_), (mm2, arO dA2 M)] H := hPr.app hP1
            have hD : va_D A [(hx_, swO mm hw ((xs (i + 1)) &&& 15) pl se en), (mm, arO dA M), (hw, wkO mm xv xu xe (mr ap) (mr vp) (mg hg) (eb ((xs (i + 1)) &&& 15) 0) (eb ((xs (i + 1)) &&& 15) 1) (eb ((xs (i + 1)) &&& 15) 2) (eb ((xs (i + 1)) &&& 15) 3) xp xs_ xn xt xr), (hm, mdO 0 mm2 ap vp hg ((xs (i + 1)) &&& 15) pl se en mk mv mu me mc_ mf mo_), (mm2, arO dA2 M)] := hD.re rfl
            refine lv_icmp_eq (tgt := 396) hx hb dL_law_256 (by decide) (fun c_15 => ?_) (fun c_15 => absurd (po_13.trans po_14.symm) c_15)
            exact K_4 (M, ap, vp, hg, ((xs (i + 1)) &&& 15), (pl, se, en), (xv, xu, xe, xp, xs_, xn, xt, xr), (mk, mv, mu, me, mc_, mf, mo_)) _ _ _ ⟨hP, hS, hl⟩
          · skip
            subst h0
            refine lv_tableIn (off := 228) (tgt := 261) hx hb dL_law_33 (by decide) (by decide) (by decide) (by decide) ?_
            refine lv_aload_n hx hb dL_law_261 rfl (lv_at hl 2 rfl) ?_
            refine lv_aload_n hx hb dL_law_262 rfl (lv_at hl 3 rfl) ?_
            refine lv_iload_n hx hb dL_law_263 rfl (lv_at hl 0 rfl) ?_
            refine lv_iconst (v := 1) hx hb dL_law_264 (by decide) ?_
            refine lv_iadd hx hb dL_law_265 ?_
            refine tpi (y := nI (i + 1)) (nI_add i 1) ?_
            refine va_sld hx hb hX hbl hbA hS (vp_in_nI (by omega) (by omega)) dL_law_266 ?_
            refine tpi (y := xs (i + 1)) (by rw [nI_clamp (by omega)]) ?_
            refine lv_aload_n hx hb dL_law_267 rfl (lv_at hl 3 rfl) ?_
            refine lv_iload_n hx hb dL_law_268 rfl (lv_at hl 0 rfl) ?_
            refine lv_iconst (v := 2) hx hb dL_law_269 (by decide) ?_
            refine lv_iadd hx hb dL_law_270 ?_
            refine tpi (y := nI (i + 2)) (nI_add i 2) ?_
            refine va_sld hx hb hX hbl hbA hS (vp_in_nI (by omega) (by omega)) dL_law_271 ?_
            refine tpi (y := xs (i + 2)) (by rw [nI_clamp (by omega)]) ?_
            refine lv_aload_n hx hb dL_law_272 rfl (lv_at hl 3 rfl) ?_
            refine lv_iload_n hx hb dL_law_273 rfl (lv_at hl 0 rfl) ?_
            refine lv_iconst (v := 3) hx hb dL_law_274 (by decide) ?_
            refine lv_iadd hx hb dL_law_275 ?_
            refine tpi (y := nI (i + 3)) (nI_add i 3) ?_
            refine va_sld hx hb hX hbl hbA hS (vp_in_nI (by omega) (by omega)) dL_law_276 ?_
            refine tpi (y := xs (i + 3)) (by rw [nI_clamp (by omega)]) ?_
            have hPc := hP.sub (ws' := [(hx_, swO mm hw ri pl se en), (mm, arO dA M), (hw, wkO mm xv xu xe (mr ap) (mr vp) (mg hg) (eb ri 0) (eb ri 1) (eb ri 2) (eb ri 3) xp xs_ xn xt xr)]) [0, 1, 2] rfl
            have hDc := (hD.sub (ws' := [(hx_, swO mm hw ri pl se en), (mm, arO dA M), (hw, wkO mm xv xu xe (mr ap) (mr vp) (mg hg) (eb ri 0) (eb ri 1) (eb ri 2) (eb ri 3) xp xs_ xn xt xr)]) [0, 1, 2] (by decide) rfl)
            have hKc := hK.sub (tys' := [(dA, .int)]) [0] rfl
            refine gci (va_runV (As := [.int (xs (i + 1)), .int (xs (i + 2)), .int (xs (i + 3))]) (rest := []) ⟨hx, hb, hml, hown, hts⟩ (m_xtranslate l D hx_ mm hw dA M (mr ap) (mr vp) (mg hg) ri (inW [(hx_, swO mm hw ri pl se en), (mm, arO dA M), (hw, wkO mm xv xu xe (mr ap) (mr vp) (mg hg) (eb ri 0) (eb ri 1) (eb ri 2) (eb ri 3) xp xs_ xn xt xr)]) pl se en xv xu xe xp xs_ xn xt xr (xs (i + 1)) (xs (i + 2)) (xs (i + 3))) (cwV 3 hts (lw_V q146 q147 q148 q19 q149) rfl rfl rfl (by decide +kernel) ⟨Nat.le_of_ble_eq_true rfl, Nat.le_of_ble_eq_true rfl⟩) (pX_W hKc hPc hDc.own hZ hS (inW_in hDc) 0 rfl rfl) rfl rfl hl.1 rfl (lv_room (Nat.le_of_ble_eq_true rfl)) dL_law_277 ⟨Nat.le_of_ble_eq_true rfl, Nat.le_of_ble_eq_true rfl⟩) hS (inW_in hDc) (fun r_16 u_16 H locs po_16 hP1 hz_16 hk_16 hS => ?_)
            have hPr := gjoin hP hD [0, 1, 2] [3, 4] (wc := [(hx_, swO mm hw ri pl se en), (mm, arO dA M), (hw, wkO mm xv xu xe (mr ap) (mr vp) (mg hg) (eb ri 0) (eb ri 1) (eb ri 2) (eb ri 3) xp xs_ xn xt xr)]) (wr := [(hm, mdO 0 mm2 ap vp hg ri pl se en mk mv mu me mc_ mf mo_), (mm2, arO dA2 M)]) rfl rfl (by decide) hk_16
            obtain ⟨⟨pl_16, se_16, en_16⟩, xv_16, xu_16, xe_16, xp_16, xs__16, xn_16, xt_16, xr_16⟩ := u_16
            have po_16 : (r_16, pl_16, se_16, en_16) = tT M (mr ap) (mr vp) (mg hg) ri (xs (i + 1)) (xs (i + 2)) (xs (i + 3)) (pl, se, en) := po_16
            have hP : va_P D vCl [(hx_, swO mm hw ri pl_16 se_16 en_16), (mm, arO dA M), (hw, wkO mm xv_16 xu_16 xe_16 (mr ap) (mr vp) (mg hg) (eb ri 0) (eb ri 1) (eb ri 2) (eb ri 3) xp_16 xs__16 xn_16 xt_16 xr_16), (hm, mdO 0 mm2 ap vp hg ri pl se en mk mv mu me mc_ mf mo_), (mm2, arO dA2 M)] H := hP1.app hPr
            have hD : va_D A [(hx_, swO mm hw ri pl_16 se_16 en_16), (mm, arO dA M), (hw, wkO mm xv_16 xu_16 xe_16 (mr ap) (mr vp) (mg hg) (eb ri 0) (eb ri 1) (eb ri 2) (eb ri 3) xp_16 xs__16 xn_16 xt_16 xr_16), (hm, mdO 0 mm2 ap vp hg ri pl se en mk mv mu me mc_ mf mo_), (mm2, arO dA2 M)] := hD.re rfl
            refine lv_aload_n hx hb dL_law_280 rfl (lv_at hl 1 rfl) ?_
            refine lv_aload_n hx hb dL_law_281 rfl (lv_at hl 3 rfl) ?_
            refine lv_iload_n hx hb dL_law_282 rfl (lv_at hl 0 rfl) ?_
            refine lv_iconst (v := 1) hx hb dL_law_283 (by decide) ?_
            refine lv_iadd hx hb dL_law_284 ?_
            refine tpi (y := nI (i + 1)) (nI_add i 1) ?_
            refine va_sld hx hb hX hbl hbA hS (vp_in_nI (by omega) (by omega)) dL_law_285 ?_
            refine tpi (y := xs (i + 1)) (by rw [nI_clamp (by omega)]) ?_
            refine lv_aload_n hx hb dL_law_286 rfl (lv_at hl 3 rfl) ?_
            refine lv_iload_n hx hb dL_law_287 rfl (lv_at hl 0 rfl) ?_
            refine lv_iconst (v := 2) hx hb dL_law_288 (by decide) ?_
            refine lv_iadd hx hb dL_law_289 ?_
            refine tpi (y := nI (i + 2)) (nI_add i 2) ?_
            refine va_sld hx hb hX hbl hbA hS (vp_in_nI (by omega) (by omega)) dL_law_290 ?_
            refine tpi (y := xs (i + 2)) (by rw [nI_clamp (by omega)]) ?_
            refine lv_aload_n hx hb dL_law_291 rfl (lv_at hl 3 rfl) ?_
            refine lv_iload_n hx hb dL_law_292 rfl (lv_at hl 0 rfl) ?_
            refine lv_iconst (v := 3) hx hb dL_law_293 (by decide) ?_
            refine lv_iadd hx hb dL_law_294 ?_
            refine tpi (y := nI (i + 3)) (nI_add i 3) ?_
            refine va_sld hx hb hX hbl hbA hS (vp_in_nI (by omega) (by omega)) dL_law_295 ?_
            refine tpi (y := xs (i + 3)) (by rw [nI_clamp (by omega)]) ?_
            have hPc := hP.sub (ws' := [(hm, mdO 0 mm2 ap vp hg ri pl se en mk mv mu me mc_ mf mo_), (mm2, arO dA2 M)]) [3, 4] rfl
            have hDc := (hD.sub (ws' := [(hm, mdO 0 mm2 ap vp hg ri pl se en mk mv mu me mc_ mf mo_), (mm2, arO dA2 M)]) [3, 4] (by decide) rfl)
            have hKc := hK.sub (tys' := [(dA2, .int)]) [1] rfl
            refine gci (va_runV (As := [.int (xs (i + 1)), .int (xs (i + 2)), .int (xs (i + 3))]) (rest := [.int r_16]) ⟨hx, hb, hml, hown, hts⟩ (m_mtranslate l D hm mm2 dA2 M 0 ap vp hg ri (inW [(hm, mdO 0 mm2 ap vp hg ri pl se en mk mv mu me mc_ mf mo_), (mm2, arO dA2 M)]) pl se en mk mv mu me mc_ mf mo_ (xs (i + 1)) (xs (i + 2)) (xs (i + 3))) (cwV 3 hts (lw_V q314 q315 q316 q21 q317) rfl rfl rfl (by decide +kernel) ⟨Nat.le_of_ble_eq_true rfl, Nat.le_of_ble_eq_true rfl⟩) (pM_V hKc hPc hDc.own 0 rfl rfl) rfl rfl hl.1 rfl (lv_room (Nat.le_of_ble_eq_true rfl)) dL_law_296 ⟨Nat.le_of_ble_eq_true rfl, Nat.le_of_ble_eq_true rfl⟩) hS (inW_in hDc) (fun r_17 u_17 H locs po_17 hP1 hz_17 hk_17 hS => ?_)
            have hPr := gjoin hP hD [3, 4] [0, 1, 2] (wc := [(hm, mdO 0 mm2 ap vp hg ri pl se en mk mv mu me mc_ mf mo_), (mm2, arO dA2 M)]) (wr := [(hx_, swO mm hw ri pl_16 se_16 en_16), (mm, arO dA M), (hw, wkO mm xv_16 xu_16 xe_16 (mr ap) (mr vp) (mg hg) (eb ri 0) (eb ri 1) (eb ri 2) (eb ri 3) xp_16 xs__16 xn_16 xt_16 xr_16)]) rfl rfl (by decide) hk_17
            obtain ⟨⟨pl_17, se_17, en_17⟩, mk_17, mv_17, mu_17, me_17, mc__17, mf_17, mo__17⟩ := u_17
            have po_17 : (r_17, pl_17, se_17, en_17) = tT M ap vp hg ri (xs (i + 1)) (xs (i + 2)) (xs (i + 3)) (pl, se, en) := po_17
            have hP : va_P D vCl [(hx_, swO mm hw ri pl_16 se_16 en_16), (mm, arO dA M), (hw, wkO mm xv_16 xu_16 xe_16 (mr ap) (mr vp) (mg hg) (eb ri 0) (eb ri 1) (eb ri 2) (eb ri 3) xp_16 xs__16 xn_16 xt_16 xr_16), (hm, mdO 0 mm2 ap vp hg ri pl_17 se_17 en_17 mk_17 mv_17 mu_17 me_17 mc__17 mf_17 mo__17), (mm2, arO dA2 M)] H := hPr.app hP1
            have hD : va_D A [(hx_, swO mm hw ri pl_16 se_16 en_16), (mm, arO dA M), (hw, wkO mm xv_16 xu_16 xe_16 (mr ap) (mr vp) (mg hg) (eb ri 0) (eb ri 1) (eb ri 2) (eb ri 3) xp_16 xs__16 xn_16 xt_16 xr_16), (hm, mdO 0 mm2 ap vp hg ri pl_17 se_17 en_17 mk_17 mv_17 mu_17 me_17 mc__17 mf_17 mo__17), (mm2, arO dA2 M)] := hD.re rfl
            rw [tT_m] at po_16
            have ee := po_16.trans po_17.symm
            simp only [Prod.mk.injEq] at ee
            obtain ⟨e1, e2, e3, e4⟩ := ee
            subst e2 e3 e4
            have hP : va_P D vCl [(hx_, swO mm hw ri pl_16 se_16 en_16), (mm, arO dA M), (hw, wkO mm xv_16 xu_16 xe_16 (mr ap) (mr vp) (mg hg) (eb ri 0) (eb ri 1) (eb ri 2) (eb ri 3) xp_16 xs__16 xn_16 xt_16 xr_16), (hm, mdO 0 mm2 ap vp hg ri pl_16 se_16 en_16 mk_17 mv_17 mu_17 me_17 mc__17 mf_17 mo__17), (mm2, arO dA2 M)] H := hP
            have hD : va_D A [(hx_, swO mm hw ri pl_16 se_16 en_16), (mm, arO dA M), (hw, wkO mm xv_16 xu_16 xe_16 (mr ap) (mr vp) (mg hg) (eb ri 0) (eb ri 1) (eb ri 2) (eb ri 3) xp_16 xs__16 xn_16 xt_16 xr_16), (hm, mdO 0 mm2 ap vp hg ri pl_16 se_16 en_16 mk_17 mv_17 mu_17 me_17 mc__17 mf_17 mo__17), (mm2, arO dA2 M)] := hD
            refine lv_icmp_eq (tgt := 396) hx hb dL_law_299 (by decide) (fun c_18 => ?_) (fun c_18 => absurd (e1) c_18)
            exact K_4 (M, ap, vp, hg, ri, (pl_16, se_16, en_16), (xv_16, xu_16, xe_16, xp_16, xs__16, xn_16, xt_16, xr_16), (mk_17, mv_17, mu_17, me_17, mc__17, mf_17, mo__17)) _ _ _ ⟨hP, hS, hl⟩
          · skip
            subst h0
            refine lv_tableIn (off := 271) (tgt := 304) hx hb dL_law_33 (by decide) (by decide) (by decide) (by decide) ?_
            refine lv_aload_n hx hb dL_law_304 rfl (lv_at hl 2 rfl) ?_
            have hPc := hP.sub (ws' := [(hx_, swO mm hw ri pl se en), (mm, arO dA M), (hw, wkO mm xv xu xe (mr ap) (mr vp) (mg hg) (eb ri 0) (eb ri 1) (eb ri 2) (eb ri 3) xp xs_ xn xt xr)]) [0, 1, 2] rfl
            have hDc := (hD.sub (ws' := [(hx_, swO mm hw ri pl se en), (mm, arO dA M), (hw, wkO mm xv xu xe (mr ap) (mr vp) (mg hg) (eb ri 0) (eb ri 1) (eb ri 2) (eb ri 3) xp xs_ xn xt xr)]) [0, 1, 2] (by decide) rfl)
            have hKc := hK.sub (tys' := [(dA, .int)]) [0] rfl
            refine pcall (va_runV (As := []) (rest := []) ⟨hx, hb, hml, hown, hts⟩ (m_xplace l D hx_ mm hw dA M (mr ap) (mr vp) (mg hg) ri pl se en xv xu xe xp xs_ xn xt xr) (cwV 0 hts (lw_V q218 q219 q220 q19 q221) rfl rfl rfl (by decide +kernel) ⟨Nat.le_of_ble_eq_true rfl, Nat.le_of_ble_eq_true rfl⟩) (pR_V hKc hPc 0 rfl rfl) rfl rfl hl.1 rfl (lv_room (Nat.le_of_ble_eq_true rfl)) dL_law_305 ⟨Nat.le_of_ble_eq_true rfl, Nat.le_of_ble_eq_true rfl⟩) ?_
            refine lv_aload_n hx hb dL_law_308 rfl (lv_at hl 1 rfl) ?_
            have hPc := hP.sub (ws' := [(hm, mdO 0 mm2 ap vp hg ri pl se en mk mv mu me mc_ mf mo_), (mm2, arO dA2 M)]) [3, 4] rfl
            have hDc := (hD.sub (ws' := [(hm, mdO 0 mm2 ap vp hg ri pl se en mk mv mu me mc_ mf mo_), (mm2, arO dA2 M)]) [3, 4] (by decide) rfl)
            have hKc := hK.sub (tys' := [(dA2, .int)]) [1] rfl
            refine pcall (va_runV (As := []) (rest := [.int pl]) ⟨hx, hb, hml, hown, hts⟩ (m_mplace l D hm mm2 dA2 M 0 ap vp hg ri pl se en mk mv mu me mc_ mf mo_) (cwV 0 hts (lw_V q376 q377 q378 q21 q379) rfl rfl rfl (by decide +kernel) ⟨Nat.le_of_ble_eq_true rfl, Nat.le_of_ble_eq_true rfl⟩) (pR_V hKc hPc 0 rfl rfl) rfl rfl hl.1 rfl (lv_room (Nat.le_of_ble_eq_true rfl)) dL_law_309 ⟨Nat.le_of_ble_eq_true rfl, Nat.le_of_ble_eq_true rfl⟩) ?_
            refine lv_icmp_eq (tgt := 396) hx hb dL_law_312 (by decide) (fun c_19 => ?_) (fun c_19 => absurd (rfl) c_19)
            exact K_4 (M, ap, vp, hg, ri, (pl, se, en), (xv, xu, xe, xp, xs_, xn, xt, xr), (mk, mv, mu, me, mc_, mf, mo_)) _ _ _ ⟨hP, hS, hl⟩
          · skip
            subst h0
            refine lv_tableIn (off := 284) (tgt := 317) hx hb dL_law_33 (by decide) (by decide) (by decide) (by decide) ?_
            refine lv_aload_n hx hb dL_law_317 rfl (lv_at hl 2 rfl) ?_
            have hPc := hP.sub (ws' := [(hx_, swO mm hw ri pl se en), (mm, arO dA M), (hw, wkO mm xv xu xe (mr ap) (mr vp) (mg hg) (eb ri 0) (eb ri 1) (eb ri 2) (eb ri 3) xp xs_ xn xt xr)]) [0, 1, 2] rfl
            have hDc := (hD.sub (ws' := [(hx_, swO mm hw ri pl se en), (mm, arO dA M), (hw, wkO mm xv xu xe (mr ap) (mr vp) (mg hg) (eb ri 0) (eb ri 1) (eb ri 2) (eb ri 3) xp xs_ xn xt xr)]) [0, 1, 2] (by decide) rfl)
            have hKc := hK.sub (tys' := [(dA, .int)]) [0] rfl
            refine pcall (va_runV (As := []) (rest := []) ⟨hx, hb, hml, hown, hts⟩ (m_xsecond l D hx_ mm hw dA M (mr ap) (mr vp) (mg hg) ri pl se en xv xu xe xp xs_ xn xt xr) (cwV 0 hts (lw_V q222 q223 q224 q19 q225) rfl rfl rfl (by decide +kernel) ⟨Nat.le_of_ble_eq_true rfl, Nat.le_of_ble_eq_true rfl⟩) (pR_V hKc hPc 0 rfl rfl) rfl rfl hl.1 rfl (lv_room (Nat.le_of_ble_eq_true rfl)) dL_law_318 ⟨Nat.le_of_ble_eq_true rfl, Nat.le_of_ble_eq_true rfl⟩) ?_
            refine lv_aload_n hx hb dL_law_321 rfl (lv_at hl 1 rfl) ?_
            have hPc := hP.sub (ws' := [(hm, mdO 0 mm2 ap vp hg ri pl se en mk mv mu me mc_ mf mo_), (mm2, arO dA2 M)]) [3, 4] rfl
            have hDc := (hD.sub (ws' := [(hm, mdO 0 mm2 ap vp hg ri pl se en mk mv mu me mc_ mf mo_), (mm2, arO dA2 M)]) [3, 4] (by decide) rfl)
            have hKc := hK.sub (tys' := [(dA2, .int)]) [1] rfl
            refine pcall (va_runV (As := []) (rest := [.int se]) ⟨hx, hb, hml, hown, hts⟩ (m_msecond l D hm mm2 dA2 M 0 ap vp hg ri pl se en mk mv mu me mc_ mf mo_) (cwV 0 hts (lw_V q380 q381 q382 q21 q383) rfl rfl rfl (by decide +kernel) ⟨Nat.le_of_ble_eq_true rfl, Nat.le_of_ble_eq_true rfl⟩) (pR_V hKc hPc 0 rfl rfl) rfl rfl hl.1 rfl (lv_room (Nat.le_of_ble_eq_true rfl)) dL_law_322 ⟨Nat.le_of_ble_eq_true rfl, Nat.le_of_ble_eq_true rfl⟩) ?_
            refine lv_icmp_eq (tgt := 396) hx hb dL_law_325 (by decide) (fun c_20 => ?_) (fun c_20 => absurd (rfl) c_20)
            exact K_4 (M, ap, vp, hg, ri, (pl, se, en), (xv, xu, xe, xp, xs_, xn, xt, xr), (mk, mv, mu, me, mc_, mf, mo_)) _ _ _ ⟨hP, hS, hl⟩
          · skip
            subst h0
            refine lv_tableIn (off := 297) (tgt := 330) hx hb dL_law_33 (by decide) (by decide) (by decide) (by decide) ?_
            refine lv_aload_n hx hb dL_law_330 rfl (lv_at hl 2 rfl) ?_
            have hPc := hP.sub (ws' := [(hx_, swO mm hw ri pl se en), (mm, arO dA M), (hw, wkO mm xv xu xe (mr ap) (mr vp) (mg hg) (eb ri 0) (eb ri 1) (eb ri 2) (eb ri 3) xp xs_ xn xt xr)]) [0, 1, 2] rfl
            have hDc := (hD.sub (ws' := [(hx_, swO mm hw ri pl se en), (mm, arO dA M), (hw, wkO mm xv xu xe (mr ap) (mr vp) (mg hg) (eb ri 0) (eb ri 1) (eb ri 2) (eb ri 3) xp xs_ xn xt xr)]) [0, 1, 2] (by decide) rfl)
            have hKc := hK.sub (tys' := [(dA, .int)]) [0] rfl
            refine pcall (va_runV (As := []) (rest := []) ⟨hx, hb, hml, hown, hts⟩ (m_xentry l D hx_ mm hw dA M (mr ap) (mr vp) (mg hg) ri pl se en xv xu xe xp xs_ xn xt xr) (cwV 0 hts (lw_V q226 q227 q228 q19 q229) rfl rfl rfl (by decide +kernel) ⟨Nat.le_of_ble_eq_true rfl, Nat.le_of_ble_eq_true rfl⟩) (pR_V hKc hPc 0 rfl rfl) rfl rfl hl.1 rfl (lv_room (Nat.le_of_ble_eq_true rfl)) dL_law_331 ⟨Nat.le_of_ble_eq_true rfl, Nat.le_of_ble_eq_true rfl⟩) ?_
            refine lv_aload_n hx hb dL_law_334 rfl (lv_at hl 1 rfl) ?_
            have hPc := hP.sub (ws' := [(hm, mdO 0 mm2 ap vp hg ri pl se en mk mv mu me mc_ mf mo_), (mm2, arO dA2 M)]) [3, 4] rfl
            have hDc := (hD.sub (ws' := [(hm, mdO 0 mm2 ap vp hg ri pl se en mk mv mu me mc_ mf mo_), (mm2, arO dA2 M)]) [3, 4] (by decide) rfl)
            have hKc := hK.sub (tys' := [(dA2, .int)]) [1] rfl
            refine pcall (va_runV (As := []) (rest := [.int (bI en)]) ⟨hx, hb, hml, hown, hts⟩ (m_mentry l D hm mm2 dA2 M 0 ap vp hg ri pl se en mk mv mu me mc_ mf mo_) (cwV 0 hts (lw_V q384 q385 q386 q21 q387) rfl rfl rfl (by decide +kernel) ⟨Nat.le_of_ble_eq_true rfl, Nat.le_of_ble_eq_true rfl⟩) (pR_V hKc hPc 0 rfl rfl) rfl rfl hl.1 rfl (lv_room (Nat.le_of_ble_eq_true rfl)) dL_law_335 ⟨Nat.le_of_ble_eq_true rfl, Nat.le_of_ble_eq_true rfl⟩) ?_
            refine lv_icmp_eq (tgt := 396) hx hb dL_law_338 (by decide) (fun c_21 => ?_) (fun c_21 => absurd (rfl) c_21)
            exact K_4 (M, ap, vp, hg, ri, (pl, se, en), (xv, xu, xe, xp, xs_, xn, xt, xr), (mk, mv, mu, me, mc_, mf, mo_)) _ _ _ ⟨hP, hS, hl⟩
          · skip
            subst h0
            refine lv_tableIn (off := 310) (tgt := 343) hx hb dL_law_33 (by decide) (by decide) (by decide) (by decide) ?_
            refine lv_aload_n hx hb dL_law_343 rfl (lv_at hl 2 rfl) ?_
            refine lv_aload_n hx hb dL_law_344 rfl (lv_at hl 3 rfl) ?_
            refine lv_iload_n hx hb dL_law_345 rfl (lv_at hl 0 rfl) ?_
            refine lv_iconst (v := 1) hx hb dL_law_346 (by decide) ?_
            refine lv_iadd hx hb dL_law_347 ?_
            refine tpi (y := nI (i + 1)) (nI_add i 1) ?_
            refine va_sld hx hb hX hbl hbA hS (vp_in_nI (by omega) (by omega)) dL_law_348 ?_
            refine tpi (y := xs (i + 1)) (by rw [nI_clamp (by omega)]) ?_
            refine lv_aload_n hx hb dL_law_349 rfl (lv_at hl 3 rfl) ?_
            refine lv_iload_n hx hb dL_law_350 rfl (lv_at hl 0 rfl) ?_
            refine lv_iconst (v := 2) hx hb dL_law_351 (by decide) ?_
            refine lv_iadd hx hb dL_law_352 ?_
            refine tpi (y := nI (i + 2)) (nI_add i 2) ?_
            refine va_sld hx hb hX hbl hbA hS (vp_in_nI (by omega) (by omega)) dL_law_353 ?_
            refine tpi (y := xs (i + 2)) (by rw [nI_clamp (by omega)]) ?_
            refine lv_aload_n hx hb dL_law_354 rfl (lv_at hl 3 rfl) ?_
            refine lv_iload_n hx hb dL_law_355 rfl (lv_at hl 0 rfl) ?_
            refine lv_iconst (v := 3) hx hb dL_law_356 (by decide) ?_
            refine lv_iadd hx hb dL_law_357 ?_
            refine tpi (y := nI (i + 3)) (nI_add i 3) ?_
            refine va_sld hx hb hX hbl hbA hS (vp_in_nI (by omega) (by omega)) dL_law_358 ?_
            refine tpi (y := xs (i + 3)) (by rw [nI_clamp (by omega)]) ?_
            refine lv_aload_n hx hb dL_law_359 rfl (lv_at hl 3 rfl) ?_
            refine lv_iload_n hx hb dL_law_360 rfl (lv_at hl 0 rfl) ?_
            refine lv_iconst (v := 4) hx hb dL_law_361 (by decide) ?_
            refine lv_iadd hx hb dL_law_362 ?_
            refine tpi (y := nI (i + 4)) (nI_add i 4) ?_
            refine va_sld hx hb hX hbl hbA hS (vp_in_nI (by omega) (by omega)) dL_law_363 ?_
            refine tpi (y := xs (i + 4)) (by rw [nI_clamp (by omega)]) ?_
            have hPc := hP.sub (ws' := [(hx_, swO mm hw ri pl se en), (mm, arO dA M), (hw, wkO mm xv xu xe (mr ap) (mr vp) (mg hg) (eb ri 0) (eb ri 1) (eb ri 2) (eb ri 3) xp xs_ xn xt xr)]) [0, 1, 2] rfl
            have hDc := (hD.sub (ws' := [(hx_, swO mm hw ri pl se en), (mm, arO dA M), (hw, wkO mm xv xu xe (mr ap) (mr vp) (mg hg) (eb ri 0) (eb ri 1) (eb ri 2) (eb ri 3) xp xs_ xn xt xr)]) [0, 1, 2] (by decide) rfl)
            have hKc := hK.sub (tys' := [(dA, .int)]) [0] rfl
            refine gci (va_runV (As := [.int (xs (i + 1)), .int (xs (i + 2)), .int (xs (i + 3)), .int (xs (i + 4))]) (rest := []) ⟨hx, hb, hml, hown, hts⟩ (m_xpages l D hx_ mm hw dA M (mr ap) (mr vp) (mg hg) ri (inW [(hx_, swO mm hw ri pl se en), (mm, arO dA M), (hw, wkO mm xv xu xe (mr ap) (mr vp) (mg hg) (eb ri 0) (eb ri 1) (eb ri 2) (eb ri 3) xp xs_ xn xt xr)]) pl se en xv xu xe xp xs_ xn xt xr (xs (i + 1)) (xs (i + 2)) (xs (i + 3)) (xs (i + 4))) (cwV 4 hts (lw_V q230 q231 q232 q19 q233) rfl rfl rfl (by decide +kernel) ⟨Nat.le_of_ble_eq_true rfl, Nat.le_of_ble_eq_true rfl⟩) (pX_W hKc hPc hDc.own hZ hS (inW_in hDc) 0 rfl rfl) rfl rfl hl.1 rfl (lv_room (Nat.le_of_ble_eq_true rfl)) dL_law_364 ⟨Nat.le_of_ble_eq_true rfl, Nat.le_of_ble_eq_true rfl⟩) hS (inW_in hDc) (fun r_22 u_22 H locs po_22 hP1 hz_22 hk_22 hS => ?_)
            have hPr := gjoin hP hD [0, 1, 2] [3, 4] (wc := [(hx_, swO mm hw ri pl se en), (mm, arO dA M), (hw, wkO mm xv xu xe (mr ap) (mr vp) (mg hg) (eb ri 0) (eb ri 1) (eb ri 2) (eb ri 3) xp xs_ xn xt xr)]) (wr := [(hm, mdO 0 mm2 ap vp hg ri pl se en mk mv mu me mc_ mf mo_), (mm2, arO dA2 M)]) rfl rfl (by decide) hk_22
            obtain ⟨⟨pl_22, se_22, en_22⟩, xv_22, xu_22, xe_22, xp_22, xs__22, xn_22, xt_22, xr_22⟩ := u_22
            have po_22 : (r_22, pl_22, se_22, en_22) = (pgs M (mr ap) (mr vp) (mg hg) ri (xs (i + 1)) (xs (i + 2)) (xs (i + 3)) (xs (i + 4)), pl, se, en) := po_22
            have hP : va_P D vCl [(hx_, swO mm hw ri pl_22 se_22 en_22), (mm, arO dA M), (hw, wkO mm xv_22 xu_22 xe_22 (mr ap) (mr vp) (mg hg) (eb ri 0) (eb ri 1) (eb ri 2) (eb ri 3) xp_22 xs__22 xn_22 xt_22 xr_22), (hm, mdO 0 mm2 ap vp hg ri pl se en mk mv mu me mc_ mf mo_), (mm2, arO dA2 M)] H := hP1.app hPr
            have hD : va_D A [(hx_, swO mm hw ri pl_22 se_22 en_22), (mm, arO dA M), (hw, wkO mm xv_22 xu_22 xe_22 (mr ap) (mr vp) (mg hg) (eb ri 0) (eb ri 1) (eb ri 2) (eb ri 3) xp_22 xs__22 xn_22 xt_22 xr_22), (hm, mdO 0 mm2 ap vp hg ri pl se en mk mv mu me mc_ mf mo_), (mm2, arO dA2 M)] := hD.re rfl
            refine lv_aload_n hx hb dL_law_367 rfl (lv_at hl 1 rfl) ?_
            refine lv_aload_n hx hb dL_law_368 rfl (lv_at hl 3 rfl) ?_
            refine lv_iload_n hx hb dL_law_369 rfl (lv_at hl 0 rfl) ?_
            refine lv_iconst (v := 1) hx hb dL_law_370 (by decide) ?_
            refine lv_iadd hx hb dL_law_371 ?_
            refine tpi (y := nI (i + 1)) (nI_add i 1) ?_
            refine va_sld hx hb hX hbl hbA hS (vp_in_nI (by omega) (by omega)) dL_law_372 ?_
            refine tpi (y := xs (i + 1)) (by rw [nI_clamp (by omega)]) ?_
            refine lv_aload_n hx hb dL_law_373 rfl (lv_at hl 3 rfl) ?_
            refine lv_iload_n hx hb dL_law_374 rfl (lv_at hl 0 rfl) ?_
            refine lv_iconst (v := 2) hx hb dL_law_375 (by decide) ?_
            refine lv_iadd hx hb dL_law_376 ?_
            refine tpi (y := nI (i + 2)) (nI_add i 2) ?_
            refine va_sld hx hb hX hbl hbA hS (vp_in_nI (by omega) (by omega)) dL_law_377 ?_
            refine tpi (y := xs (i + 2)) (by rw [nI_clamp (by omega)]) ?_
            refine lv_aload_n hx hb dL_law_378 rfl (lv_at hl 3 rfl) ?_
            refine lv_iload_n hx hb dL_law_379 rfl (lv_at hl 0 rfl) ?_
            refine lv_iconst (v := 3) hx hb dL_law_380 (by decide) ?_
            refine lv_iadd hx hb dL_law_381 ?_
            refine tpi (y := nI (i + 3)) (nI_add i 3) ?_
            refine va_sld hx hb hX hbl hbA hS (vp_in_nI (by omega) (by omega)) dL_law_382 ?_
            refine tpi (y := xs (i + 3)) (by rw [nI_clamp (by omega)]) ?_
            refine lv_aload_n hx hb dL_law_383 rfl (lv_at hl 3 rfl) ?_
            refine lv_iload_n hx hb dL_law_384 rfl (lv_at hl 0 rfl) ?_
            refine lv_iconst (v := 4) hx hb dL_law_385 (by decide) ?_
            refine lv_iadd hx hb dL_law_386 ?_
            refine tpi (y := nI (i + 4)) (nI_add i 4) ?_
            refine va_sld hx hb hX hbl hbA hS (vp_in_nI (by omega) (by omega)) dL_law_387 ?_
            refine tpi (y := xs (i + 4)) (by rw [nI_clamp (by omega)]) ?_
            have hPc := hP.sub (ws' := [(hm, mdO 0 mm2 ap vp hg ri pl se en mk mv mu me mc_ mf mo_), (mm2, arO dA2 M)]) [3, 4] rfl
            have hDc := (hD.sub (ws' := [(hm, mdO 0 mm2 ap vp hg ri pl se en mk mv mu me mc_ mf mo_), (mm2, arO dA2 M)]) [3, 4] (by decide) rfl)
            have hKc := hK.sub (tys' := [(dA2, .int)]) [1] rfl
            refine gci (va_runV (As := [.int (xs (i + 1)), .int (xs (i + 2)), .int (xs (i + 3)), .int (xs (i + 4))]) (rest := [.int r_22]) ⟨hx, hb, hml, hown, hts⟩ (m_mpages l D hm mm2 dA2 M 0 ap vp hg ri (inW [(hm, mdO 0 mm2 ap vp hg ri pl se en mk mv mu me mc_ mf mo_), (mm2, arO dA2 M)]) pl se en mk mv mu me mc_ mf mo_ (xs (i + 1)) (xs (i + 2)) (xs (i + 3)) (xs (i + 4))) (cwV 4 hts (lw_V q388 q389 q390 q21 q391) rfl rfl rfl (by decide +kernel) ⟨Nat.le_of_ble_eq_true rfl, Nat.le_of_ble_eq_true rfl⟩) (pM_V hKc hPc hDc.own 0 rfl rfl) rfl rfl hl.1 rfl (lv_room (Nat.le_of_ble_eq_true rfl)) dL_law_388 ⟨Nat.le_of_ble_eq_true rfl, Nat.le_of_ble_eq_true rfl⟩) hS (inW_in hDc) (fun r_23 u_23 H locs po_23 hP1 hz_23 hk_23 hS => ?_)
            have hPr := gjoin hP hD [3, 4] [0, 1, 2] (wc := [(hm, mdO 0 mm2 ap vp hg ri pl se en mk mv mu me mc_ mf mo_), (mm2, arO dA2 M)]) (wr := [(hx_, swO mm hw ri pl_22 se_22 en_22), (mm, arO dA M), (hw, wkO mm xv_22 xu_22 xe_22 (mr ap) (mr vp) (mg hg) (eb ri 0) (eb ri 1) (eb ri 2) (eb ri 3) xp_22 xs__22 xn_22 xt_22 xr_22)]) rfl rfl (by decide) hk_23
            obtain ⟨⟨pl_23, se_23, en_23⟩, mk_23, mv_23, mu_23, me_23, mc__23, mf_23, mo__23⟩ := u_23
            have po_23 : (r_23, pl_23, se_23, en_23) = (pgs M ap vp hg ri (xs (i + 1)) (xs (i + 2)) (xs (i + 3)) (xs (i + 4)), pl, se, en) := po_23
            have hP : va_P D vCl [(hx_, swO mm hw ri pl_22 se_22 en_22), (mm, arO dA M), (hw, wkO mm xv_22 xu_22 xe_22 (mr ap) (mr vp) (mg hg) (eb ri 0) (eb ri 1) (eb ri 2) (eb ri 3) xp_22 xs__22 xn_22 xt_22 xr_22), (hm, mdO 0 mm2 ap vp hg ri pl_23 se_23 en_23 mk_23 mv_23 mu_23 me_23 mc__23 mf_23 mo__23), (mm2, arO dA2 M)] H := hPr.app hP1
            have hD : va_D A [(hx_, swO mm hw ri pl_22 se_22 en_22), (mm, arO dA M), (hw, wkO mm xv_22 xu_22 xe_22 (mr ap) (mr vp) (mg hg) (eb ri 0) (eb ri 1) (eb ri 2) (eb ri 3) xp_22 xs__22 xn_22 xt_22 xr_22), (hm, mdO 0 mm2 ap vp hg ri pl_23 se_23 en_23 mk_23 mv_23 mu_23 me_23 mc__23 mf_23 mo__23), (mm2, arO dA2 M)] := hD.re rfl
            rw [pgs_m] at po_22
            have ee := po_22.trans po_23.symm
            simp only [Prod.mk.injEq] at ee
            obtain ⟨e1, e2, e3, e4⟩ := ee
            subst e2 e3 e4
            have hP : va_P D vCl [(hx_, swO mm hw ri pl_22 se_22 en_22), (mm, arO dA M), (hw, wkO mm xv_22 xu_22 xe_22 (mr ap) (mr vp) (mg hg) (eb ri 0) (eb ri 1) (eb ri 2) (eb ri 3) xp_22 xs__22 xn_22 xt_22 xr_22), (hm, mdO 0 mm2 ap vp hg ri pl_22 se_22 en_22 mk_23 mv_23 mu_23 me_23 mc__23 mf_23 mo__23), (mm2, arO dA2 M)] H := hP
            have hD : va_D A [(hx_, swO mm hw ri pl_22 se_22 en_22), (mm, arO dA M), (hw, wkO mm xv_22 xu_22 xe_22 (mr ap) (mr vp) (mg hg) (eb ri 0) (eb ri 1) (eb ri 2) (eb ri 3) xp_22 xs__22 xn_22 xt_22 xr_22), (hm, mdO 0 mm2 ap vp hg ri pl_22 se_22 en_22 mk_23 mv_23 mu_23 me_23 mc__23 mf_23 mo__23), (mm2, arO dA2 M)] := hD
            refine lv_icmp_eq (tgt := 396) hx hb dL_law_391 (by decide) (fun c_24 => ?_) (fun c_24 => absurd (e1) c_24)
            exact K_4 (M, ap, vp, hg, ri, (pl_22, se_22, en_22), (xv_22, xu_22, xe_22, xp_22, xs__22, xn_22, xt_22, xr_22), (mk_23, mv_23, mu_23, me_23, mc__23, mf_23, mo__23)) _ _ _ ⟨hP, hS, hl⟩
          · skip
            refine lv_tableOut (tgt := 396) hx hb dL_law_33 (Or.inr (by rw [nI_toInt (by omega)]; omega)) (by decide) ?_
            exact K_4 (M, ap, vp, hg, ri, (pl, se, en), (xv, xu, xe, xp, xs_, xn, xt, xr), (mk, mv, mu, me, mc_, mf, mo_)) _ _ _ ⟨hP, hS, hl⟩
  · skip
    exact K_1 (L + 1, 0, (fun _ => 0), 0, 0, 0, 0, ((-1), 0, false), (false, false, false, 0, 0, false, 0, 0), (0, false, false, false, 0, 0, false)) _ _ _ ⟨Nat.zero_le _, by show L + 1 ≤ 0 + (L + 1); omega, hP, hS, hl⟩
end
section
set_option maxHeartbeats 4000000 in
theorem lw_walk (l : Launch) (b : Addr) (xs : List Int32) : MetFree l x (headSpec (Jvm.Cond.code x code maxLocals ret :: tables_1) room_1) (lw_P b xs) (fun _ _ _ _ _ => True) lw_Q := by
  refine MetFree.of_bodyS (code := code) (maxLocals := maxLocals) (ret := ret) (by decide) ?_ ?_
  · intro args s m h hn
    obtain ⟨meth, c, h1, h2, h3, h4, h5, h6, -, -⟩ := Cond.code_spec hn (atoms_spec (ws := Jvm.Cond.code x code maxLocals ret :: tables_1) h _ List.mem_cons_self)
    exact ⟨meth, c, h1, h2, h3, h4, h5, h6⟩
  · intro p e s m args below meth c s₁ B hml0 hP _
    obtain ⟨rfl, hx, hbd, hgv⟩ := hP
    obtain ⟨scr, harrAt, hlist, hof, hsmall⟩ := hx
    obtain ⟨hcb, hkn, -, -⟩ := State.arrayAt?_spec harrAt
    have hown : s.vm.findClass R_law = some m.cls := findClass_of_methodNamed B.named
    have hts0 : ∀ c ∈ (Jvm.Cond.code x code maxLocals ret :: tables_1), c.before #[Value.ref b] s = true := atoms_spec (ws := Jvm.Cond.code x code maxLocals ret :: tables_1) B.pre
    have hts : ∀ w ∈ lw_tbl, w.before #[Value.ref b] s = true := k2_hts_sels lw_privs (fun w hw => hts0 w (List.mem_cons_of_mem _ hw)) lw_privs_ok
    have hml : c.maxLocals = 4 := B.maxLocals_eq (hts0 _ List.mem_cons_self)
    have X₀ : Stand p l e room_1 s m #[Value.ref b] below meth c s₁ [] 0 0 := Stand.of_body B
    have hh0 : s₁.heap = s.heap := by rw [B.state]; rfl
    have hsz : scr.slots.size = xs.length := by rw [← Array.length_toList, hlist, List.length_map]
    have hval : ∀ j : Nat, j < xs.length → scr.slots[j]? = some (.int (xs.getD j 0)) := fun j hj => by
      rw [← Array.getElem?_toList, hlist]
      simp [hj]
    have hbl : b < s.heap.size := (Array.getElem?_eq_some_iff.mp hcb).1
    have hX : va_X b xs.length (fun j => xs.getD j 0) s s.heap := ⟨scr, hcb, hof, hkn, hsz, hval⟩
    have K : W p l e room_1 s m #[Value.ref b] below meth c s₁.heap [] 0 0 (lw_Z below #[Value.ref b] s) (entryFrame m ([Value.ref b] : List Value).toArray 4) := by
      rw [hh0]
      exact whole_start l hbd ⟨B.exec, B.bytes, B.returns, hml, hown, hts, hX, hbl, B.notSynchronized, hgv⟩
    obtain ⟨t, a1, o, b1, b2, b3⟩ := K s₁ rfl X₀
    exact ⟨t, o, a1, b1, b2, b3⟩
theorem lw_pre_spec {args : Array Value} {s : State} (h : (Jvm.Cond.and given_1 narrow_1).before args s = true) (hr : rest_1_c.before args s = true) : ∃ (b : Addr) (xs : List Int32), lw_P b xs args s := by
  have hs := flat_of_before _ h
  have hq := flat_of_before _ hr
  have hc : (Cond.count 1).before args s = true := hs _ (by decide +kernel)
  have harr : (Cond.arrayOf (.arg 0) .int).before args s = true := hs _ (by decide +kernel)
  have hle : (Cond.le (.length (.arg 0)) (.int 448)).before args s = true := hs _ (by decide +kernel)
  have hlen : (Cond.isInt (.length (.arg 0))).before args s = true := hq _ (by decide +kernel)
  have hall : (Cond.all (.arg 0) (.isInt (.elem (.arg 0) (.index 0)))).before args s = true := hq _ (by decide +kernel)
  obtain ⟨b, xs, hb, hx⟩ := State.ints_of_pre rfl harr hlen hall
  have hsm : xs.length < 2 ^ 31 := hx.choose_spec.2.2.2
  have hev : (Term.length (.arg 0)).eval args s none [] s = some (.int xs.length.toInt32) := hx.length_eval hb
  have hv := Cond.le_ints hev (show (Term.int 448).eval args s none [] s = some (.int 448) from rfl)
  have hd : xs.length.toInt32 ≤ 448 := by
    simpa [Cond.before, Cond.holds, hv] using hle
  have hN : xs.length ≤ 448 := (Int32.ofNat_le_ofNat hsm (by decide)).mp (show Int32.ofNat xs.length ≤ Int32.ofNat 448 from hd)
  exact ⟨b, xs, Cond.one_arg hc (show args[0]? = some (.ref b) from hb), hx, hN, h⟩
theorem lw_comes (l : Launch) : Comes l x (Jvm.Cond.code x code maxLocals ret :: tables_1) room_1 (fun tb e args s => Calls_1 tb e args s ∧ rest_1 tb e args s ∧ Pre_1 tb e args s)
    (fun _ _ args s o t => lw_Q args s o t) := by
  intro p e ha hc hk s m args below hf hfit hheap happ hpre
  obtain ⟨b, xs, hP⟩ := lw_pre_spec hpre.2.2 hpre.2.1
  obtain ⟨k, o, h1, h2, h3, hQ⟩ := lw_walk l b xs p e ha hc hk s m args below hf ((Spec.applies_iff_loose hf).mp happ).1 hP trivial
  exact ⟨k, o, h1, h2, h3, hQ⟩
theorem lw_frame {s t : State} {o : Outcome} {args : Array Value} (h : Framed s o t [] 600000 7302250) :
    Framed s o t (fieldLocs frame_1_writes args s ++ arrayLocs frame_1_arrays args s ++ staticLocs frame_1_statics s) 600000 7302250 := h
theorem lw_limb (L : Cond) (hL : ∀ (args : Array Value) (s t : State), L.after args s (.returned (some (.int 1))) t = true) :
    ArmFor flags0 classFile x code maxLocals ret World_1 tables_1 room_1 Calls_1 rest_1 Pre_1
      (fun tb e a s o t => postC L tb e a s o t ∧ Framed s o t (fieldLocs frame_1_writes a s ++ arrayLocs frame_1_arrays a s ++ staticLocs frame_1_statics s) 600000 7302250) := by
  intro l _ _ _ p e ha hc hk s m args below hf hfit hheap happ hpre
  obtain ⟨k, o, h1, h2, h3, rfl, hF⟩ := lw_comes l p e ha hc hk s m args below hf hfit hheap happ hpre
  exact ⟨k, _, h1, h2, h3, hL args s _, lw_frame hF⟩
theorem i_vc : Claimed_1_1 ∧ Claimed_1_2 := ⟨lw_limb limb_1_1 (fun args s t => by simp [limb_1_1, Cond.after, Cond.holds, Cond.value]), lw_limb limb_1_2 (fun args s t => Cond.after_iff.mpr (by
  first | (rw [show limb_1_2 = Cond.eq .result (.int 1) from rfl, Cond.eq_ints (x := 1) (y := 1) rfl rfl]; simp; done) | (simp [limb_1_2, Cond.value, Term.eval]; done)))⟩
end
