section
-- ===== PART A: goes FIRST, ahead of the names: the tables' words, and 'selects' of the private methods out of them =====
/-- a private method of a class that the tables say can be made, by its rows of tables_1 -/
def lw_okq (q : MethodName × Nat) : Prop := (q.1.cls ≠ "java/lang/invoke/MethodHandle" ∧ q.1.cls ≠ "java/lang/invoke/VarHandle") ∧ Cond.instantiable q.1.cls q.2 ∈ tables_1 ∧ Cond.privateMethod q.1 ∈ tables_1 ∧ Cond.instanceMethod q.1 ∈ tables_1
set_option maxRecDepth 100000
theorem lw_t1 {w : Cond} (h : w ∈ tables_1_1) : w ∈ tables_1 := List.mem_append_left _ h
theorem lw_t2 {w : Cond} (h : w ∈ tables_1_2) : w ∈ tables_1 := List.mem_append_right _ h
theorem lw_p0 : lw_okq (⟨"MarchTester", "quiet", "()I"⟩, 9) := ⟨⟨by decide +kernel, by decide +kernel⟩, lw_t1 (List.mem_of_getElem? (i := 4) rfl), lw_t1 (List.mem_of_getElem? (i := 65) rfl), lw_t1 (List.mem_of_getElem? (i := 66) rfl)⟩
theorem lw_p1 : lw_okq (⟨"MarchTester", "runs", "(IZII)Z"⟩, 9) := ⟨⟨by decide +kernel, by decide +kernel⟩, lw_t1 (List.mem_of_getElem? (i := 4) rfl), lw_t1 (List.mem_of_getElem? (i := 69) rfl), lw_t1 (List.mem_of_getElem? (i := 70) rfl)⟩
theorem lw_p2 : lw_okq (⟨"MarchTester", "hold", "()V"⟩, 9) := ⟨⟨by decide +kernel, by decide +kernel⟩, lw_t1 (List.mem_of_getElem? (i := 4) rfl), lw_t1 (List.mem_of_getElem? (i := 73) rfl), lw_t1 (List.mem_of_getElem? (i := 74) rfl)⟩
theorem lw_p3 : lw_okq (⟨"MarchTester", "visit", "(IZ)V"⟩, 9) := ⟨⟨by decide +kernel, by decide +kernel⟩, lw_t1 (List.mem_of_getElem? (i := 4) rfl), lw_t1 (List.mem_of_getElem? (i := 77) rfl), lw_t1 (List.mem_of_getElem? (i := 78) rfl)⟩
theorem lw_p4 : lw_okq (⟨"MarchTester", "writeOwn", "(I)V"⟩, 9) := ⟨⟨by decide +kernel, by decide +kernel⟩, lw_t1 (List.mem_of_getElem? (i := 4) rfl), lw_t1 (List.mem_of_getElem? (i := 81) rfl), lw_t1 (List.mem_of_getElem? (i := 82) rfl)⟩
theorem lw_p5 : lw_okq (⟨"MarchTester", "writeOther", "(I)V"⟩, 9) := ⟨⟨by decide +kernel, by decide +kernel⟩, lw_t1 (List.mem_of_getElem? (i := 4) rfl), lw_t1 (List.mem_of_getElem? (i := 85) rfl), lw_t1 (List.mem_of_getElem? (i := 86) rfl)⟩
theorem lw_p6 : lw_okq (⟨"MarchTester", "isFound", "(IZ)Z"⟩, 9) := ⟨⟨by decide +kernel, by decide +kernel⟩, lw_t1 (List.mem_of_getElem? (i := 4) rfl), lw_t1 (List.mem_of_getElem? (i := 100) rfl), lw_t1 (List.mem_of_getElem? (i := 101) rfl)⟩
theorem lw_p7 : lw_okq (⟨"MarchTester", "silent", "(IZ)I"⟩, 9) := ⟨⟨by decide +kernel, by decide +kernel⟩, lw_t1 (List.mem_of_getElem? (i := 4) rfl), lw_t1 (List.mem_of_getElem? (i := 104) rfl), lw_t1 (List.mem_of_getElem? (i := 105) rfl)⟩
theorem lw_p8 : lw_okq (⟨"MarchTester", "foundSet", "()I"⟩, 9) := ⟨⟨by decide +kernel, by decide +kernel⟩, lw_t1 (List.mem_of_getElem? (i := 4) rfl), lw_t1 (List.mem_of_getElem? (i := 128) rfl), lw_t1 (List.mem_of_getElem? (i := 129) rfl)⟩
theorem lw_p9 : lw_okq (⟨"MarchTesterModel", "count", "(IIII)I"⟩, 8) := ⟨⟨by decide +kernel, by decide +kernel⟩, lw_t1 (List.mem_of_getElem? (i := 132) rfl), lw_t1 (List.mem_of_getElem? (i := 188) rfl), lw_t1 (List.mem_of_getElem? (i := 189) rfl)⟩
theorem lw_p10 : lw_okq (⟨"MarchTesterModel", "run", "(II)Z"⟩, 8) := ⟨⟨by decide +kernel, by decide +kernel⟩, lw_t1 (List.mem_of_getElem? (i := 132) rfl), lw_t1 (List.mem_of_getElem? (i := 192) rfl), lw_t1 (List.mem_of_getElem? (i := 193) rfl)⟩
theorem lw_p11 : lw_okq (⟨"MarchTesterModel", "settle", "()V"⟩, 8) := ⟨⟨by decide +kernel, by decide +kernel⟩, lw_t1 (List.mem_of_getElem? (i := 132) rfl), lw_t1 (List.mem_of_getElem? (i := 196) rfl), lw_t1 (List.mem_of_getElem? (i := 197) rfl)⟩
theorem lw_p12 : lw_okq (⟨"MarchTesterModel", "put", "(II)V"⟩, 8) := ⟨⟨by decide +kernel, by decide +kernel⟩, lw_t1 (List.mem_of_getElem? (i := 132) rfl), lw_t1 (List.mem_of_getElem? (i := 200) rfl), lw_t1 (List.mem_of_getElem? (i := 201) rfl)⟩
theorem lw_p13 : lw_okq (⟨"MarchTesterModel", "bit", "(I)I"⟩, 8) := ⟨⟨by decide +kernel, by decide +kernel⟩, lw_t1 (List.mem_of_getElem? (i := 132) rfl), lw_t1 (List.mem_of_getElem? (i := 204) rfl), lw_t1 (List.mem_of_getElem? (i := 205) rfl)⟩
theorem lw_p14 : lw_okq (⟨"MarchTesterModel", "fails", "(II)Z"⟩, 8) := ⟨⟨by decide +kernel, by decide +kernel⟩, lw_t1 (List.mem_of_getElem? (i := 132) rfl), lw_t1 (List.mem_of_getElem? (i := 208) rfl), lw_t1 (List.mem_of_getElem? (i := 209) rfl)⟩
theorem lw_p15 : lw_okq (⟨"MarchTesterModel", "write", "(II)V"⟩, 8) := ⟨⟨by decide +kernel, by decide +kernel⟩, lw_t1 (List.mem_of_getElem? (i := 132) rfl), lw_t1 (List.mem_of_getElem? (i := 212) rfl), lw_t1 (List.mem_of_getElem? (i := 213) rfl)⟩
def lw_privs_1 : List (MethodName × Nat) := [(⟨"MarchTester", "quiet", "()I"⟩, 9), (⟨"MarchTester", "runs", "(IZII)Z"⟩, 9), (⟨"MarchTester", "hold", "()V"⟩, 9), (⟨"MarchTester", "visit", "(IZ)V"⟩, 9), (⟨"MarchTester", "writeOwn", "(I)V"⟩, 9), (⟨"MarchTester", "writeOther", "(I)V"⟩, 9), (⟨"MarchTester", "isFound", "(IZ)Z"⟩, 9), (⟨"MarchTester", "silent", "(IZ)I"⟩, 9), (⟨"MarchTester", "foundSet", "()I"⟩, 9), (⟨"MarchTesterModel", "count", "(IIII)I"⟩, 8), (⟨"MarchTesterModel", "run", "(II)Z"⟩, 8), (⟨"MarchTesterModel", "settle", "()V"⟩, 8), (⟨"MarchTesterModel", "put", "(II)V"⟩, 8), (⟨"MarchTesterModel", "bit", "(I)I"⟩, 8), (⟨"MarchTesterModel", "fails", "(II)Z"⟩, 8), (⟨"MarchTesterModel", "write", "(II)V"⟩, 8)]
theorem lw_r1 : ∀ q ∈ lw_privs_1, lw_okq q := List.forall_mem_cons.mpr ⟨lw_p0, List.forall_mem_cons.mpr ⟨lw_p1, List.forall_mem_cons.mpr ⟨lw_p2, List.forall_mem_cons.mpr ⟨lw_p3, List.forall_mem_cons.mpr ⟨lw_p4, List.forall_mem_cons.mpr ⟨lw_p5, List.forall_mem_cons.mpr ⟨lw_p6, List.forall_mem_cons.mpr ⟨lw_p7, List.forall_mem_cons.mpr ⟨lw_p8, List.forall_mem_cons.mpr ⟨lw_p9, List.forall_mem_cons.mpr ⟨lw_p10, List.forall_mem_cons.mpr ⟨lw_p11, List.forall_mem_cons.mpr ⟨lw_p12, List.forall_mem_cons.mpr ⟨lw_p13, List.forall_mem_cons.mpr ⟨lw_p14, List.forall_mem_cons.mpr ⟨lw_p15, fun _ h => absurd h List.not_mem_nil⟩⟩⟩⟩⟩⟩⟩⟩⟩⟩⟩⟩⟩⟩⟩⟩
theorem lw_p16 : lw_okq (⟨"MarchTesterModel", "fault", "(III)Z"⟩, 8) := ⟨⟨by decide +kernel, by decide +kernel⟩, lw_t1 (List.mem_of_getElem? (i := 132) rfl), lw_t1 (List.mem_of_getElem? (i := 224) rfl), lw_t1 (List.mem_of_getElem? (i := 225) rfl)⟩
theorem lw_p17 : lw_okq (⟨"MarchTesterModel", "without", "(II)Z"⟩, 8) := ⟨⟨by decide +kernel, by decide +kernel⟩, lw_t1 (List.mem_of_getElem? (i := 132) rfl), lw_t2 (List.mem_of_getElem? (i := 6) rfl), lw_t2 (List.mem_of_getElem? (i := 7) rfl)⟩
def lw_privs_2 : List (MethodName × Nat) := [(⟨"MarchTesterModel", "fault", "(III)Z"⟩, 8), (⟨"MarchTesterModel", "without", "(II)Z"⟩, 8)]
theorem lw_r2 : ∀ q ∈ lw_privs_2, lw_okq q := List.forall_mem_cons.mpr ⟨lw_p16, List.forall_mem_cons.mpr ⟨lw_p17, fun _ h => absurd h List.not_mem_nil⟩⟩
def lw_privs : List (MethodName × Nat) := lw_privs_1 ++ (lw_privs_2)
def lw_tbl : List Cond := k2_sels lw_privs ++ tables_1
theorem lw_privs_ok : ∀ q ∈ lw_privs, lw_okq q := by
  show ∀ q ∈ lw_privs_1 ++ (lw_privs_2), lw_okq q
  exact List.forall_mem_append.mpr ⟨lw_r1, lw_r2⟩
-- ===== ONE list of words for every method: the tables' words that hold all through a run =====
def lw_all : List Cond := lw_tbl.filter goodWord
/-- a word of the tables by its place: claim/WORDS.tsv -/
theorem lw_w {w : Cond} (i : Nat) (h : lw_tbl[i]? = some w) (g : goodWord w = true) : w ∈ lw_all := List.mem_filter.mpr ⟨List.mem_of_getElem? h, g⟩
theorem lw_all_tbl {w : Cond} (h : w ∈ lw_all) : w ∈ lw_tbl := (List.mem_filter.mp h).1
theorem lw_self : GoodIn lw_all lw_all := fun w h => ⟨h, good_of_word (List.mem_filter.mp h).2⟩
/-- a class's field words, by their places -/
theorem lw_in (ws : List Cond) (ps : List Nat) (hp : ws = ps.filterMap (fun i => lw_tbl[i]?)) (hg : ws.all goodWord = true) : ∀ w ∈ ws, w ∈ lw_all := by
  intro w h
  have h1 := List.all_eq_true.mp hg w h
  rw [hp] at h
  obtain ⟨i, -, hi⟩ := List.mem_filterMap.mp h
  exact lw_w i hi h1
/-- the words of a contract for the method y with code b, L locals, answer r -/
abbrev ws_ (y : MethodName) (b : ByteArray) (L : Nat) (r : Option FieldType) : List Cond := Cond.code y b L r :: lw_all
theorem lw_meth {y : MethodName} {b : ByteArray} {L : Nat} {r : Option FieldType} (h : Cond.code y b L r ∈ lw_all) : GoodIn lw_all (ws_ y b L r) := by
  intro w hw
  rcases List.mem_cons.mp hw with e | e
  · rw [e]
    exact lw_self _ h
  · exact lw_self _ e
theorem lw_app {a c : List Cond} (ha : ∀ w ∈ a, w ∈ lw_all) (hc : GoodIn lw_all c) : GoodIn lw_all (a ++ c) := by
  intro w hw
  rcases List.mem_append.mp hw with e | e
  · exact lw_self w (ha w e)
  · exact hc w e
/-- what a call through an object asks: cwV n hts (lw_V ..) -/
theorem lw_V {own : String} {idx : Nat} {C : String} {y : MethodName} {b : ByteArray} {L : Nat} {r : Option FieldType} (h1 : Cond.methodLink own idx y ∈ lw_all) (h2 : Cond.instanceMethod y ∈ lw_all) (h3 : Cond.selects C y y ∈ lw_all) (h4 : Cond.initialized C ∈ lw_all) (h5 : Cond.code y b L r ∈ lw_all) : GoodIn lw_all (wsV own idx C y (ws_ y b L r)) := by
  refine lw_app ?_ (lw_meth h5)
  intro w hw
  simp only [List.mem_cons, List.not_mem_nil, or_false] at hw
  rcases hw with e | e | e | e
  · rw [e]; exact h1
  · rw [e]; exact h2
  · rw [e]; exact h3
  · rw [e]; exact h4
/-- what a static call asks: va_cwS n hts (lw_S ..) -/
theorem lw_S {own : String} {idx : Nat} {y : MethodName} {b : ByteArray} {L : Nat} {r : Option FieldType} (h1 : Cond.methodLink own idx y ∈ lw_all) (h2 : Cond.static y ∈ lw_all) (h3 : Cond.initialized y.cls ∈ lw_all) (h4 : Cond.code y b L r ∈ lw_all) : GoodIn lw_all (va_wsS own idx y (ws_ y b L r)) := by
  refine lw_app ?_ (lw_meth h4)
  intro w hw
  simp only [List.mem_cons, List.not_mem_nil, or_false] at hw
  rcases hw with e | e | e
  · rw [e]; exact h1
  · rw [e]; exact h2
  · rw [e]; exact h3
/-- the words of a contract for a method WITH HANDLERS (hh: its table) -/
abbrev wsW_ (y : MethodName) (b : ByteArray) (L : Nat) (r : Option FieldType) (hh : List (Nat × Nat × Nat × Nat)) : List Cond := Cond.codeWith y b L r hh :: lw_all
theorem lw_methW {y : MethodName} {b : ByteArray} {L : Nat} {r : Option FieldType} {hh : List (Nat × Nat × Nat × Nat)} (h : Cond.codeWith y b L r hh ∈ lw_all) : GoodIn lw_all (wsW_ y b L r hh) := by
  intro w hw
  rcases List.mem_cons.mp hw with e | e
  · rw [e]
    exact lw_self _ h
  · exact lw_self _ e
/-- any list of words by their places (lw_in), good -/
theorem lw_good {ws : List Cond} (h : ∀ w ∈ ws, w ∈ lw_all) : GoodIn lw_all ws := fun w hw => lw_self w (h w hw)
/-- what a call of a method with handlers asks: vx_cwVW n hts (lw_VW ..), vx_cwSW n hts (lw_SW ..) -/
theorem lw_VW {own : String} {idx : Nat} {C : String} {y : MethodName} {b : ByteArray} {L : Nat} {r : Option FieldType} {hh : List (Nat × Nat × Nat × Nat)} (h1 : Cond.methodLink own idx y ∈ lw_all) (h2 : Cond.instanceMethod y ∈ lw_all) (h3 : Cond.selects C y y ∈ lw_all) (h4 : Cond.initialized C ∈ lw_all) (h5 : Cond.codeWith y b L r hh ∈ lw_all) : GoodIn lw_all (wsV own idx C y (wsW_ y b L r hh)) := by
  refine lw_app ?_ (lw_methW h5)
  intro w hw
  simp only [List.mem_cons, List.not_mem_nil, or_false] at hw
  rcases hw with e | e | e | e
  · rw [e]; exact h1
  · rw [e]; exact h2
  · rw [e]; exact h3
  · rw [e]; exact h4
theorem lw_SW {own : String} {idx : Nat} {y : MethodName} {b : ByteArray} {L : Nat} {r : Option FieldType} {hh : List (Nat × Nat × Nat × Nat)} (h1 : Cond.methodLink own idx y ∈ lw_all) (h2 : Cond.static y ∈ lw_all) (h3 : Cond.initialized y.cls ∈ lw_all) (h4 : Cond.codeWith y b L r hh ∈ lw_all) : GoodIn lw_all (va_wsS own idx y (wsW_ y b L r hh)) := by
  refine lw_app ?_ (lw_methW h4)
  intro w hw
  simp only [List.mem_cons, List.not_mem_nil, or_false] at hw
  rcases hw with e | e | e
  · rw [e]; exact h1
  · rw [e]; exact h2
  · rw [e]; exact h3
/-- a word by its place in its run of the tables -/
theorem lw_at {r : List Cond} (hr : ∀ w ∈ r, w ∈ lw_tbl) {w : Cond} (i : Nat) (h : r[i]? = some w) : w ∈ lw_tbl := hr w (List.mem_of_getElem? h)
theorem lw_g {w : Cond} (h : w ∈ lw_tbl) (g : goodWord w = true) : w ∈ lw_all := List.mem_filter.mpr ⟨h, g⟩
theorem lw_ms : ∀ w ∈ k2_sels lw_privs, w ∈ lw_tbl := fun w h => show w ∈ k2_sels lw_privs ++ tables_1 from List.mem_append_left _ h
theorem lw_m1 : ∀ w ∈ tables_1_1, w ∈ lw_tbl := fun w h => show w ∈ k2_sels lw_privs ++ tables_1 from List.mem_append_right (k2_sels lw_privs) (show w ∈ tables_1 from List.mem_append_left _ h)
theorem lw_m2 : ∀ w ∈ tables_1_2, w ∈ lw_tbl := fun w h => show w ∈ k2_sels lw_privs ++ tables_1 from List.mem_append_right (k2_sels lw_privs) (show w ∈ tables_1 from List.mem_append_right _ h)
theorem qs0 : (Cond.selects "MarchTester" ⟨"MarchTester", "quiet", "()I"⟩ ⟨"MarchTester", "quiet", "()I"⟩) ∈ lw_all := lw_g (lw_at lw_ms 0 rfl) rfl
theorem qs1 : (Cond.selects "MarchTester" ⟨"MarchTester", "runs", "(IZII)Z"⟩ ⟨"MarchTester", "runs", "(IZII)Z"⟩) ∈ lw_all := lw_g (lw_at lw_ms 1 rfl) rfl
theorem qs2 : (Cond.selects "MarchTester" ⟨"MarchTester", "hold", "()V"⟩ ⟨"MarchTester", "hold", "()V"⟩) ∈ lw_all := lw_g (lw_at lw_ms 2 rfl) rfl
theorem qs3 : (Cond.selects "MarchTester" ⟨"MarchTester", "visit", "(IZ)V"⟩ ⟨"MarchTester", "visit", "(IZ)V"⟩) ∈ lw_all := lw_g (lw_at lw_ms 3 rfl) rfl
theorem qs4 : (Cond.selects "MarchTester" ⟨"MarchTester", "writeOwn", "(I)V"⟩ ⟨"MarchTester", "writeOwn", "(I)V"⟩) ∈ lw_all := lw_g (lw_at lw_ms 4 rfl) rfl
theorem qs5 : (Cond.selects "MarchTester" ⟨"MarchTester", "writeOther", "(I)V"⟩ ⟨"MarchTester", "writeOther", "(I)V"⟩) ∈ lw_all := lw_g (lw_at lw_ms 5 rfl) rfl
theorem qs6 : (Cond.selects "MarchTester" ⟨"MarchTester", "isFound", "(IZ)Z"⟩ ⟨"MarchTester", "isFound", "(IZ)Z"⟩) ∈ lw_all := lw_g (lw_at lw_ms 6 rfl) rfl
theorem qs7 : (Cond.selects "MarchTester" ⟨"MarchTester", "silent", "(IZ)I"⟩ ⟨"MarchTester", "silent", "(IZ)I"⟩) ∈ lw_all := lw_g (lw_at lw_ms 7 rfl) rfl
theorem qs8 : (Cond.selects "MarchTester" ⟨"MarchTester", "foundSet", "()I"⟩ ⟨"MarchTester", "foundSet", "()I"⟩) ∈ lw_all := lw_g (lw_at lw_ms 8 rfl) rfl
theorem qs9 : (Cond.selects "MarchTesterModel" ⟨"MarchTesterModel", "count", "(IIII)I"⟩ ⟨"MarchTesterModel", "count", "(IIII)I"⟩) ∈ lw_all := lw_g (lw_at lw_ms 9 rfl) rfl
theorem qs10 : (Cond.selects "MarchTesterModel" ⟨"MarchTesterModel", "run", "(II)Z"⟩ ⟨"MarchTesterModel", "run", "(II)Z"⟩) ∈ lw_all := lw_g (lw_at lw_ms 10 rfl) rfl
theorem qs11 : (Cond.selects "MarchTesterModel" ⟨"MarchTesterModel", "settle", "()V"⟩ ⟨"MarchTesterModel", "settle", "()V"⟩) ∈ lw_all := lw_g (lw_at lw_ms 11 rfl) rfl
theorem qs12 : (Cond.selects "MarchTesterModel" ⟨"MarchTesterModel", "put", "(II)V"⟩ ⟨"MarchTesterModel", "put", "(II)V"⟩) ∈ lw_all := lw_g (lw_at lw_ms 12 rfl) rfl
theorem qs13 : (Cond.selects "MarchTesterModel" ⟨"MarchTesterModel", "bit", "(I)I"⟩ ⟨"MarchTesterModel", "bit", "(I)I"⟩) ∈ lw_all := lw_g (lw_at lw_ms 13 rfl) rfl
theorem qs14 : (Cond.selects "MarchTesterModel" ⟨"MarchTesterModel", "fails", "(II)Z"⟩ ⟨"MarchTesterModel", "fails", "(II)Z"⟩) ∈ lw_all := lw_g (lw_at lw_ms 14 rfl) rfl
theorem qs15 : (Cond.selects "MarchTesterModel" ⟨"MarchTesterModel", "write", "(II)V"⟩ ⟨"MarchTesterModel", "write", "(II)V"⟩) ∈ lw_all := lw_g (lw_at lw_ms 15 rfl) rfl
theorem qs16 : (Cond.selects "MarchTesterModel" ⟨"MarchTesterModel", "fault", "(III)Z"⟩ ⟨"MarchTesterModel", "fault", "(III)Z"⟩) ∈ lw_all := lw_g (lw_at lw_ms 16 rfl) rfl
theorem qs17 : (Cond.selects "MarchTesterModel" ⟨"MarchTesterModel", "without", "(II)Z"⟩ ⟨"MarchTesterModel", "without", "(II)Z"⟩) ∈ lw_all := lw_g (lw_at lw_ms 17 rfl) rfl
end
section
/-! MarchTester -/
set_option maxRecDepth 100000
def RX0 : String := "MarchTester"
def TX0 : u_T := fun k => match k with
  | 0 => ("MarchTester", "count", "I", false)
  | 1 => ("MarchTester", "directions", "[B", true)
  | 2 => ("MarchTester", "sizes", "[B", true)
  | 3 => ("MarchTester", "ops", "[B", true)
  | 4 => ("MarchTester", "without", "I", false)
  | 5 => ("MarchTester", "kind", "I", false)
  | 6 => ("MarchTester", "bit", "I", false)
  | 7 => ("MarchTester", "other", "I", false)
  | _ => ("MarchTester", "failed", "Z", false)
def tyX0 : Nat → FieldType := fun k => match k with
  | 0 => .int
  | 1 => .array .byte
  | 2 => .array .byte
  | 3 => .array .byte
  | 4 => .int
  | 5 => .int
  | 6 => .int
  | 7 => .int
  | _ => .boolean
abbrev wsX00 : List Cond := u_ws RX0 TX0 9
theorem nmX0 : ∀ a, a < 9 → ∀ b, b < 9 → a ≠ b → (TX0 a).2.1 ≠ (TX0 b).2.1 := by decide +kernel
theorem tyX0_ok : ∀ k, k < 9 → parseFieldDescriptor (TX0 k).2.2.1 = some (tyX0 k) := by decide +kernel
abbrev cX0_init : ByteArray := prog_1_method_1_code
def yX0_init : MethodName := ⟨RX0, "<init>", "()V"⟩
theorem dX0_init_0 : decode cX0_init 0 = .ok (.aload_n 0, 1) := by decide +kernel
theorem dX0_init_1 : decode cX0_init 1 = .ok (.invokespecial 1, 3) := by decide +kernel
theorem dX0_init_4 : decode cX0_init 4 = .ok (.aload_n 0, 1) := by decide +kernel
theorem dX0_init_5 : decode cX0_init 5 = .ok (.bipush 6, 2) := by decide +kernel
theorem dX0_init_7 : decode cX0_init 7 = .ok (.newarray .byte, 2) := by decide +kernel
theorem dX0_init_9 : decode cX0_init 9 = .ok (.putfield 7, 3) := by decide +kernel
theorem dX0_init_12 : decode cX0_init 12 = .ok (.aload_n 0, 1) := by decide +kernel
theorem dX0_init_13 : decode cX0_init 13 = .ok (.bipush 6, 2) := by decide +kernel
theorem dX0_init_15 : decode cX0_init 15 = .ok (.newarray .byte, 2) := by decide +kernel
theorem dX0_init_17 : decode cX0_init 17 = .ok (.putfield 13, 3) := by decide +kernel
theorem dX0_init_20 : decode cX0_init 20 = .ok (.aload_n 0, 1) := by decide +kernel
theorem dX0_init_21 : decode cX0_init 21 = .ok (.bipush 24, 2) := by decide +kernel
theorem dX0_init_23 : decode cX0_init 23 = .ok (.newarray .byte, 2) := by decide +kernel
theorem dX0_init_25 : decode cX0_init 25 = .ok (.putfield 16, 3) := by decide +kernel
theorem dX0_init_28 : decode cX0_init 28 = .ok (.aload_n 0, 1) := by decide +kernel
theorem dX0_init_29 : decode cX0_init 29 = .ok (.iconst (-1), 1) := by decide +kernel
theorem dX0_init_30 : decode cX0_init 30 = .ok (.putfield 19, 3) := by decide +kernel
theorem dX0_init_33 : decode cX0_init 33 = .ok (.return_, 1) := by decide +kernel
abbrev cX0_march : ByteArray := prog_1_method_2_code
def yX0_march : MethodName := ⟨RX0, "march", "(I)I"⟩
theorem dX0_march_0 : decode cX0_march 0 = .ok (.iload_n 1, 1) := by decide +kernel
theorem dX0_march_1 : decode cX0_march 1 = .ok (.ifCond .eq 10, 3) := by decide +kernel
theorem dX0_march_4 : decode cX0_march 4 = .ok (.iload_n 1, 1) := by decide +kernel
theorem dX0_march_5 : decode cX0_march 5 = .ok (.iconst 1, 1) := by decide +kernel
theorem dX0_march_6 : decode cX0_march 6 = .ok (.if_icmp .eq 5, 3) := by decide +kernel
theorem dX0_march_9 : decode cX0_march 9 = .ok (.iconst (-1), 1) := by decide +kernel
theorem dX0_march_10 : decode cX0_march 10 = .ok (.ireturn, 1) := by decide +kernel
theorem dX0_march_11 : decode cX0_march 11 = .ok (.aload_n 0, 1) := by decide +kernel
theorem dX0_march_12 : decode cX0_march 12 = .ok (.getfield 23, 3) := by decide +kernel
theorem dX0_march_15 : decode cX0_march 15 = .ok (.bipush 6, 2) := by decide +kernel
theorem dX0_march_17 : decode cX0_march 17 = .ok (.if_icmp .lt 6, 3) := by decide +kernel
theorem dX0_march_20 : decode cX0_march 20 = .ok (.bipush (-2), 2) := by decide +kernel
theorem dX0_march_22 : decode cX0_march 22 = .ok (.ireturn, 1) := by decide +kernel
theorem dX0_march_23 : decode cX0_march 23 = .ok (.aload_n 0, 1) := by decide +kernel
theorem dX0_march_24 : decode cX0_march 24 = .ok (.getfield 7, 3) := by decide +kernel
theorem dX0_march_27 : decode cX0_march 27 = .ok (.aload_n 0, 1) := by decide +kernel
theorem dX0_march_28 : decode cX0_march 28 = .ok (.getfield 23, 3) := by decide +kernel
theorem dX0_march_31 : decode cX0_march 31 = .ok (.iload_n 1, 1) := by decide +kernel
theorem dX0_march_32 : decode cX0_march 32 = .ok (.i2b, 1) := by decide +kernel
theorem dX0_march_33 : decode cX0_march 33 = .ok (.bastore, 1) := by decide +kernel
theorem dX0_march_34 : decode cX0_march 34 = .ok (.aload_n 0, 1) := by decide +kernel
theorem dX0_march_35 : decode cX0_march 35 = .ok (.getfield 13, 3) := by decide +kernel
theorem dX0_march_38 : decode cX0_march 38 = .ok (.aload_n 0, 1) := by decide +kernel
theorem dX0_march_39 : decode cX0_march 39 = .ok (.getfield 23, 3) := by decide +kernel
theorem dX0_march_42 : decode cX0_march 42 = .ok (.iconst 0, 1) := by decide +kernel
theorem dX0_march_43 : decode cX0_march 43 = .ok (.bastore, 1) := by decide +kernel
theorem dX0_march_44 : decode cX0_march 44 = .ok (.aload_n 0, 1) := by decide +kernel
theorem dX0_march_45 : decode cX0_march 45 = .ok (.dup, 1) := by decide +kernel
theorem dX0_march_46 : decode cX0_march 46 = .ok (.getfield 23, 3) := by decide +kernel
theorem dX0_march_49 : decode cX0_march 49 = .ok (.iconst 1, 1) := by decide +kernel
theorem dX0_march_50 : decode cX0_march 50 = .ok (.iadd, 1) := by decide +kernel
theorem dX0_march_51 : decode cX0_march 51 = .ok (.putfield 23, 3) := by decide +kernel
theorem dX0_march_54 : decode cX0_march 54 = .ok (.aload_n 0, 1) := by decide +kernel
theorem dX0_march_55 : decode cX0_march 55 = .ok (.getfield 23, 3) := by decide +kernel
theorem dX0_march_58 : decode cX0_march 58 = .ok (.iconst 1, 1) := by decide +kernel
theorem dX0_march_59 : decode cX0_march 59 = .ok (.isub, 1) := by decide +kernel
theorem dX0_march_60 : decode cX0_march 60 = .ok (.ireturn, 1) := by decide +kernel
abbrev cX0_op : ByteArray := prog_1_method_3_code
def yX0_op : MethodName := ⟨RX0, "op", "(I)I"⟩
theorem dX0_op_0 : decode cX0_op 0 = .ok (.iload_n 1, 1) := by decide +kernel
theorem dX0_op_1 : decode cX0_op 1 = .ok (.ifCond .lt 15, 3) := by decide +kernel
theorem dX0_op_4 : decode cX0_op 4 = .ok (.iload_n 1, 1) := by decide +kernel
theorem dX0_op_5 : decode cX0_op 5 = .ok (.iconst 3, 1) := by decide +kernel
theorem dX0_op_6 : decode cX0_op 6 = .ok (.if_icmp .gt 10, 3) := by decide +kernel
theorem dX0_op_9 : decode cX0_op 9 = .ok (.aload_n 0, 1) := by decide +kernel
theorem dX0_op_10 : decode cX0_op 10 = .ok (.getfield 23, 3) := by decide +kernel
theorem dX0_op_13 : decode cX0_op 13 = .ok (.ifCond .ne 5, 3) := by decide +kernel
theorem dX0_op_16 : decode cX0_op 16 = .ok (.iconst (-1), 1) := by decide +kernel
theorem dX0_op_17 : decode cX0_op 17 = .ok (.ireturn, 1) := by decide +kernel
theorem dX0_op_18 : decode cX0_op 18 = .ok (.aload_n 0, 1) := by decide +kernel
theorem dX0_op_19 : decode cX0_op 19 = .ok (.getfield 23, 3) := by decide +kernel
theorem dX0_op_22 : decode cX0_op 22 = .ok (.iconst 1, 1) := by decide +kernel
theorem dX0_op_23 : decode cX0_op 23 = .ok (.isub, 1) := by decide +kernel
theorem dX0_op_24 : decode cX0_op 24 = .ok (.istore_n 2, 1) := by decide +kernel
theorem dX0_op_25 : decode cX0_op 25 = .ok (.aload_n 0, 1) := by decide +kernel
theorem dX0_op_26 : decode cX0_op 26 = .ok (.getfield 13, 3) := by decide +kernel
theorem dX0_op_29 : decode cX0_op 29 = .ok (.iload_n 2, 1) := by decide +kernel
theorem dX0_op_30 : decode cX0_op 30 = .ok (.baload, 1) := by decide +kernel
theorem dX0_op_31 : decode cX0_op 31 = .ok (.iconst 4, 1) := by decide +kernel
theorem dX0_op_32 : decode cX0_op 32 = .ok (.if_icmp .lt 6, 3) := by decide +kernel
theorem dX0_op_35 : decode cX0_op 35 = .ok (.bipush (-2), 2) := by decide +kernel
theorem dX0_op_37 : decode cX0_op 37 = .ok (.ireturn, 1) := by decide +kernel
theorem dX0_op_38 : decode cX0_op 38 = .ok (.aload_n 0, 1) := by decide +kernel
theorem dX0_op_39 : decode cX0_op 39 = .ok (.getfield 16, 3) := by decide +kernel
theorem dX0_op_42 : decode cX0_op 42 = .ok (.iload_n 2, 1) := by decide +kernel
theorem dX0_op_43 : decode cX0_op 43 = .ok (.iconst 4, 1) := by decide +kernel
theorem dX0_op_44 : decode cX0_op 44 = .ok (.imul, 1) := by decide +kernel
theorem dX0_op_45 : decode cX0_op 45 = .ok (.aload_n 0, 1) := by decide +kernel
theorem dX0_op_46 : decode cX0_op 46 = .ok (.getfield 13, 3) := by decide +kernel
theorem dX0_op_49 : decode cX0_op 49 = .ok (.iload_n 2, 1) := by decide +kernel
theorem dX0_op_50 : decode cX0_op 50 = .ok (.baload, 1) := by decide +kernel
theorem dX0_op_51 : decode cX0_op 51 = .ok (.iadd, 1) := by decide +kernel
theorem dX0_op_52 : decode cX0_op 52 = .ok (.iload_n 1, 1) := by decide +kernel
theorem dX0_op_53 : decode cX0_op 53 = .ok (.i2b, 1) := by decide +kernel
theorem dX0_op_54 : decode cX0_op 54 = .ok (.bastore, 1) := by decide +kernel
theorem dX0_op_55 : decode cX0_op 55 = .ok (.aload_n 0, 1) := by decide +kernel
theorem dX0_op_56 : decode cX0_op 56 = .ok (.getfield 13, 3) := by decide +kernel
theorem dX0_op_59 : decode cX0_op 59 = .ok (.iload_n 2, 1) := by decide +kernel
theorem dX0_op_60 : decode cX0_op 60 = .ok (.dup2, 1) := by decide +kernel
theorem dX0_op_61 : decode cX0_op 61 = .ok (.baload, 1) := by decide +kernel
theorem dX0_op_62 : decode cX0_op 62 = .ok (.iconst 1, 1) := by decide +kernel
theorem dX0_op_63 : decode cX0_op 63 = .ok (.iadd, 1) := by decide +kernel
theorem dX0_op_64 : decode cX0_op 64 = .ok (.i2b, 1) := by decide +kernel
theorem dX0_op_65 : decode cX0_op 65 = .ok (.bastore, 1) := by decide +kernel
theorem dX0_op_66 : decode cX0_op 66 = .ok (.aload_n 0, 1) := by decide +kernel
theorem dX0_op_67 : decode cX0_op 67 = .ok (.getfield 13, 3) := by decide +kernel
theorem dX0_op_70 : decode cX0_op 70 = .ok (.iload_n 2, 1) := by decide +kernel
theorem dX0_op_71 : decode cX0_op 71 = .ok (.baload, 1) := by decide +kernel
theorem dX0_op_72 : decode cX0_op 72 = .ok (.ireturn, 1) := by decide +kernel
abbrev cX0_drop : ByteArray := prog_1_method_4_code
def yX0_drop : MethodName := ⟨RX0, "drop", "()I"⟩
theorem dX0_drop_0 : decode cX0_drop 0 = .ok (.aload_n 0, 1) := by decide +kernel
theorem dX0_drop_1 : decode cX0_drop 1 = .ok (.getfield 23, 3) := by decide +kernel
theorem dX0_drop_4 : decode cX0_drop 4 = .ok (.ifCond .ne 5, 3) := by decide +kernel
theorem dX0_drop_7 : decode cX0_drop 7 = .ok (.iconst (-1), 1) := by decide +kernel
theorem dX0_drop_8 : decode cX0_drop 8 = .ok (.ireturn, 1) := by decide +kernel
theorem dX0_drop_9 : decode cX0_drop 9 = .ok (.aload_n 0, 1) := by decide +kernel
theorem dX0_drop_10 : decode cX0_drop 10 = .ok (.getfield 13, 3) := by decide +kernel
theorem dX0_drop_13 : decode cX0_drop 13 = .ok (.aload_n 0, 1) := by decide +kernel
theorem dX0_drop_14 : decode cX0_drop 14 = .ok (.getfield 23, 3) := by decide +kernel
theorem dX0_drop_17 : decode cX0_drop 17 = .ok (.iconst 1, 1) := by decide +kernel
theorem dX0_drop_18 : decode cX0_drop 18 = .ok (.isub, 1) := by decide +kernel
theorem dX0_drop_19 : decode cX0_drop 19 = .ok (.baload, 1) := by decide +kernel
theorem dX0_drop_20 : decode cX0_drop 20 = .ok (.ifCond .le 22, 3) := by decide +kernel
theorem dX0_drop_23 : decode cX0_drop 23 = .ok (.aload_n 0, 1) := by decide +kernel
theorem dX0_drop_24 : decode cX0_drop 24 = .ok (.getfield 13, 3) := by decide +kernel
theorem dX0_drop_27 : decode cX0_drop 27 = .ok (.aload_n 0, 1) := by decide +kernel
theorem dX0_drop_28 : decode cX0_drop 28 = .ok (.getfield 23, 3) := by decide +kernel
theorem dX0_drop_31 : decode cX0_drop 31 = .ok (.iconst 1, 1) := by decide +kernel
theorem dX0_drop_32 : decode cX0_drop 32 = .ok (.isub, 1) := by decide +kernel
theorem dX0_drop_33 : decode cX0_drop 33 = .ok (.dup2, 1) := by decide +kernel
theorem dX0_drop_34 : decode cX0_drop 34 = .ok (.baload, 1) := by decide +kernel
theorem dX0_drop_35 : decode cX0_drop 35 = .ok (.iconst 1, 1) := by decide +kernel
theorem dX0_drop_36 : decode cX0_drop 36 = .ok (.isub, 1) := by decide +kernel
theorem dX0_drop_37 : decode cX0_drop 37 = .ok (.i2b, 1) := by decide +kernel
theorem dX0_drop_38 : decode cX0_drop 38 = .ok (.bastore, 1) := by decide +kernel
theorem dX0_drop_39 : decode cX0_drop 39 = .ok (.goto 13, 3) := by decide +kernel
theorem dX0_drop_42 : decode cX0_drop 42 = .ok (.aload_n 0, 1) := by decide +kernel
theorem dX0_drop_43 : decode cX0_drop 43 = .ok (.dup, 1) := by decide +kernel
theorem dX0_drop_44 : decode cX0_drop 44 = .ok (.getfield 23, 3) := by decide +kernel
theorem dX0_drop_47 : decode cX0_drop 47 = .ok (.iconst 1, 1) := by decide +kernel
theorem dX0_drop_48 : decode cX0_drop 48 = .ok (.isub, 1) := by decide +kernel
theorem dX0_drop_49 : decode cX0_drop 49 = .ok (.putfield 23, 3) := by decide +kernel
theorem dX0_drop_52 : decode cX0_drop 52 = .ok (.aload_n 0, 1) := by decide +kernel
theorem dX0_drop_53 : decode cX0_drop 53 = .ok (.getfield 23, 3) := by decide +kernel
theorem dX0_drop_56 : decode cX0_drop 56 = .ok (.ireturn, 1) := by decide +kernel
abbrev cX0_turn : ByteArray := prog_1_method_5_code
def yX0_turn : MethodName := ⟨RX0, "turn", "(I)Z"⟩
theorem dX0_turn_0 : decode cX0_turn 0 = .ok (.iload_n 1, 1) := by decide +kernel
theorem dX0_turn_1 : decode cX0_turn 1 = .ok (.ifCond .lt 11, 3) := by decide +kernel
theorem dX0_turn_4 : decode cX0_turn 4 = .ok (.iload_n 1, 1) := by decide +kernel
theorem dX0_turn_5 : decode cX0_turn 5 = .ok (.aload_n 0, 1) := by decide +kernel
theorem dX0_turn_6 : decode cX0_turn 6 = .ok (.getfield 23, 3) := by decide +kernel
theorem dX0_turn_9 : decode cX0_turn 9 = .ok (.if_icmp .lt 5, 3) := by decide +kernel
theorem dX0_turn_12 : decode cX0_turn 12 = .ok (.iconst 0, 1) := by decide +kernel
theorem dX0_turn_13 : decode cX0_turn 13 = .ok (.ireturn, 1) := by decide +kernel
theorem dX0_turn_14 : decode cX0_turn 14 = .ok (.aload_n 0, 1) := by decide +kernel
theorem dX0_turn_15 : decode cX0_turn 15 = .ok (.getfield 7, 3) := by decide +kernel
theorem dX0_turn_18 : decode cX0_turn 18 = .ok (.iload_n 1, 1) := by decide +kernel
theorem dX0_turn_19 : decode cX0_turn 19 = .ok (.iconst 1, 1) := by decide +kernel
theorem dX0_turn_20 : decode cX0_turn 20 = .ok (.aload_n 0, 1) := by decide +kernel
theorem dX0_turn_21 : decode cX0_turn 21 = .ok (.getfield 7, 3) := by decide +kernel
theorem dX0_turn_24 : decode cX0_turn 24 = .ok (.iload_n 1, 1) := by decide +kernel
theorem dX0_turn_25 : decode cX0_turn 25 = .ok (.baload, 1) := by decide +kernel
theorem dX0_turn_26 : decode cX0_turn 26 = .ok (.isub, 1) := by decide +kernel
theorem dX0_turn_27 : decode cX0_turn 27 = .ok (.i2b, 1) := by decide +kernel
theorem dX0_turn_28 : decode cX0_turn 28 = .ok (.bastore, 1) := by decide +kernel
theorem dX0_turn_29 : decode cX0_turn 29 = .ok (.iconst 1, 1) := by decide +kernel
theorem dX0_turn_30 : decode cX0_turn 30 = .ok (.ireturn, 1) := by decide +kernel
abbrev cX0_marches : ByteArray := prog_1_method_6_code
def yX0_marches : MethodName := ⟨RX0, "marches", "()I"⟩
theorem dX0_marches_0 : decode cX0_marches 0 = .ok (.aload_n 0, 1) := by decide +kernel
theorem dX0_marches_1 : decode cX0_marches 1 = .ok (.getfield 23, 3) := by decide +kernel
theorem dX0_marches_4 : decode cX0_marches 4 = .ok (.ireturn, 1) := by decide +kernel
abbrev cX0_sound : ByteArray := prog_1_method_7_code
def yX0_sound : MethodName := ⟨RX0, "sound", "()Z"⟩
theorem dX0_sound_0 : decode cX0_sound 0 = .ok (.aload_n 0, 1) := by decide +kernel
theorem dX0_sound_1 : decode cX0_sound 1 = .ok (.invokevirtual 26, 3) := by decide +kernel
theorem dX0_sound_4 : decode cX0_sound 4 = .ok (.iconst 2, 1) := by decide +kernel
theorem dX0_sound_5 : decode cX0_sound 5 = .ok (.if_icmp .ne 7, 3) := by decide +kernel
theorem dX0_sound_8 : decode cX0_sound 8 = .ok (.iconst 1, 1) := by decide +kernel
theorem dX0_sound_9 : decode cX0_sound 9 = .ok (.goto 4, 3) := by decide +kernel
theorem dX0_sound_12 : decode cX0_sound 12 = .ok (.iconst 0, 1) := by decide +kernel
theorem dX0_sound_13 : decode cX0_sound 13 = .ok (.ireturn, 1) := by decide +kernel
abbrev cX0_quiet : ByteArray := prog_1_method_13_code
def yX0_quiet : MethodName := ⟨RX0, "quiet", "()I"⟩
theorem dX0_quiet_0 : decode cX0_quiet 0 = .ok (.iconst 0, 1) := by decide +kernel
theorem dX0_quiet_1 : decode cX0_quiet 1 = .ok (.istore_n 1, 1) := by decide +kernel
theorem dX0_quiet_2 : decode cX0_quiet 2 = .ok (.iconst 0, 1) := by decide +kernel
theorem dX0_quiet_3 : decode cX0_quiet 3 = .ok (.istore_n 2, 1) := by decide +kernel
theorem dX0_quiet_4 : decode cX0_quiet 4 = .ok (.iload_n 2, 1) := by decide +kernel
theorem dX0_quiet_5 : decode cX0_quiet 5 = .ok (.iconst 2, 1) := by decide +kernel
theorem dX0_quiet_6 : decode cX0_quiet 6 = .ok (.if_icmp .ge 28, 3) := by decide +kernel
theorem dX0_quiet_9 : decode cX0_quiet 9 = .ok (.iload_n 1, 1) := by decide +kernel
theorem dX0_quiet_10 : decode cX0_quiet 10 = .ok (.aload_n 0, 1) := by decide +kernel
theorem dX0_quiet_11 : decode cX0_quiet 11 = .ok (.iconst (-1), 1) := by decide +kernel
theorem dX0_quiet_12 : decode cX0_quiet 12 = .ok (.iconst 1, 1) := by decide +kernel
theorem dX0_quiet_13 : decode cX0_quiet 13 = .ok (.iload_n 2, 1) := by decide +kernel
theorem dX0_quiet_14 : decode cX0_quiet 14 = .ok (.iconst 0, 1) := by decide +kernel
theorem dX0_quiet_15 : decode cX0_quiet 15 = .ok (.invokevirtual 57, 3) := by decide +kernel
theorem dX0_quiet_18 : decode cX0_quiet 18 = .ok (.ifCond .eq 7, 3) := by decide +kernel
theorem dX0_quiet_21 : decode cX0_quiet 21 = .ok (.iconst 0, 1) := by decide +kernel
theorem dX0_quiet_22 : decode cX0_quiet 22 = .ok (.goto 4, 3) := by decide +kernel
theorem dX0_quiet_25 : decode cX0_quiet 25 = .ok (.iconst 1, 1) := by decide +kernel
theorem dX0_quiet_26 : decode cX0_quiet 26 = .ok (.iadd, 1) := by decide +kernel
theorem dX0_quiet_27 : decode cX0_quiet 27 = .ok (.istore_n 1, 1) := by decide +kernel
theorem dX0_quiet_28 : decode cX0_quiet 28 = .ok (.iinc 2 1, 3) := by decide +kernel
theorem dX0_quiet_31 : decode cX0_quiet 31 = .ok (.goto (-27), 3) := by decide +kernel
theorem dX0_quiet_34 : decode cX0_quiet 34 = .ok (.iload_n 1, 1) := by decide +kernel
theorem dX0_quiet_35 : decode cX0_quiet 35 = .ok (.ireturn, 1) := by decide +kernel
abbrev cX0_runs : ByteArray := prog_1_method_12_code
def yX0_runs : MethodName := ⟨RX0, "runs", "(IZII)Z"⟩
theorem dX0_runs_0 : decode cX0_runs 0 = .ok (.aload_n 0, 1) := by decide +kernel
theorem dX0_runs_1 : decode cX0_runs 1 = .ok (.iload_n 1, 1) := by decide +kernel
theorem dX0_runs_2 : decode cX0_runs 2 = .ok (.putfield 30, 3) := by decide +kernel
theorem dX0_runs_5 : decode cX0_runs 5 = .ok (.aload_n 0, 1) := by decide +kernel
theorem dX0_runs_6 : decode cX0_runs 6 = .ok (.iload_n 3, 1) := by decide +kernel
theorem dX0_runs_7 : decode cX0_runs 7 = .ok (.putfield 33, 3) := by decide +kernel
theorem dX0_runs_10 : decode cX0_runs 10 = .ok (.aload_n 0, 1) := by decide +kernel
theorem dX0_runs_11 : decode cX0_runs 11 = .ok (.iload 4, 2) := by decide +kernel
theorem dX0_runs_13 : decode cX0_runs 13 = .ok (.putfield 36, 3) := by decide +kernel
theorem dX0_runs_16 : decode cX0_runs 16 = .ok (.aload_n 0, 1) := by decide +kernel
theorem dX0_runs_17 : decode cX0_runs 17 = .ok (.iconst 0, 1) := by decide +kernel
theorem dX0_runs_18 : decode cX0_runs 18 = .ok (.putfield 42, 3) := by decide +kernel
theorem dX0_runs_21 : decode cX0_runs 21 = .ok (.aload_n 0, 1) := by decide +kernel
theorem dX0_runs_22 : decode cX0_runs 22 = .ok (.invokevirtual 39, 3) := by decide +kernel
theorem dX0_runs_25 : decode cX0_runs 25 = .ok (.iconst 0, 1) := by decide +kernel
theorem dX0_runs_26 : decode cX0_runs 26 = .ok (.istore 5, 2) := by decide +kernel
theorem dX0_runs_28 : decode cX0_runs 28 = .ok (.iload 5, 2) := by decide +kernel
theorem dX0_runs_30 : decode cX0_runs 30 = .ok (.aload_n 0, 1) := by decide +kernel
theorem dX0_runs_31 : decode cX0_runs 31 = .ok (.getfield 23, 3) := by decide +kernel
theorem dX0_runs_34 : decode cX0_runs 34 = .ok (.if_icmp .ge 92, 3) := by decide +kernel
theorem dX0_runs_37 : decode cX0_runs 37 = .ok (.iload_n 2, 1) := by decide +kernel
theorem dX0_runs_38 : decode cX0_runs 38 = .ok (.aload_n 0, 1) := by decide +kernel
theorem dX0_runs_39 : decode cX0_runs 39 = .ok (.getfield 7, 3) := by decide +kernel
theorem dX0_runs_42 : decode cX0_runs 42 = .ok (.iload 5, 2) := by decide +kernel
theorem dX0_runs_44 : decode cX0_runs 44 = .ok (.baload, 1) := by decide +kernel
theorem dX0_runs_45 : decode cX0_runs 45 = .ok (.ifCond .ne 7, 3) := by decide +kernel
theorem dX0_runs_48 : decode cX0_runs 48 = .ok (.iconst 1, 1) := by decide +kernel
theorem dX0_runs_49 : decode cX0_runs 49 = .ok (.goto 4, 3) := by decide +kernel
theorem dX0_runs_52 : decode cX0_runs 52 = .ok (.iconst 0, 1) := by decide +kernel
theorem dX0_runs_53 : decode cX0_runs 53 = .ok (.if_icmp .ne 7, 3) := by decide +kernel
theorem dX0_runs_56 : decode cX0_runs 56 = .ok (.iconst 1, 1) := by decide +kernel
theorem dX0_runs_57 : decode cX0_runs 57 = .ok (.goto 4, 3) := by decide +kernel
theorem dX0_runs_60 : decode cX0_runs 60 = .ok (.iconst 0, 1) := by decide +kernel
theorem dX0_runs_61 : decode cX0_runs 61 = .ok (.istore 6, 2) := by decide +kernel
theorem dX0_runs_63 : decode cX0_runs 63 = .ok (.iload 5, 2) := by decide +kernel
theorem dX0_runs_65 : decode cX0_runs 65 = .ok (.aload_n 0, 1) := by decide +kernel
theorem dX0_runs_66 : decode cX0_runs 66 = .ok (.getfield 19, 3) := by decide +kernel
theorem dX0_runs_69 : decode cX0_runs 69 = .ok (.if_icmp .eq 18, 3) := by decide +kernel
theorem dX0_runs_72 : decode cX0_runs 72 = .ok (.iload_n 1, 1) := by decide +kernel
theorem dX0_runs_73 : decode cX0_runs 73 = .ok (.iconst 4, 1) := by decide +kernel
theorem dX0_runs_74 : decode cX0_runs 74 = .ok (.if_icmp .ge 13, 3) := by decide +kernel
theorem dX0_runs_77 : decode cX0_runs 77 = .ok (.aload_n 0, 1) := by decide +kernel
theorem dX0_runs_78 : decode cX0_runs 78 = .ok (.iload 5, 2) := by decide +kernel
theorem dX0_runs_80 : decode cX0_runs 80 = .ok (.iconst 1, 1) := by decide +kernel
theorem dX0_runs_81 : decode cX0_runs 81 = .ok (.invokevirtual 53, 3) := by decide +kernel
theorem dX0_runs_84 : decode cX0_runs 84 = .ok (.goto 36, 3) := by decide +kernel
theorem dX0_runs_87 : decode cX0_runs 87 = .ok (.iload 5, 2) := by decide +kernel
theorem dX0_runs_89 : decode cX0_runs 89 = .ok (.aload_n 0, 1) := by decide +kernel
theorem dX0_runs_90 : decode cX0_runs 90 = .ok (.getfield 19, 3) := by decide +kernel
theorem dX0_runs_93 : decode cX0_runs 93 = .ok (.if_icmp .eq 27, 3) := by decide +kernel
theorem dX0_runs_96 : decode cX0_runs 96 = .ok (.aload_n 0, 1) := by decide +kernel
theorem dX0_runs_97 : decode cX0_runs 97 = .ok (.iload 5, 2) := by decide +kernel
theorem dX0_runs_99 : decode cX0_runs 99 = .ok (.iload 6, 2) := by decide +kernel
theorem dX0_runs_101 : decode cX0_runs 101 = .ok (.invokevirtual 53, 3) := by decide +kernel
theorem dX0_runs_104 : decode cX0_runs 104 = .ok (.aload_n 0, 1) := by decide +kernel
theorem dX0_runs_105 : decode cX0_runs 105 = .ok (.iload 5, 2) := by decide +kernel
theorem dX0_runs_107 : decode cX0_runs 107 = .ok (.iload 6, 2) := by decide +kernel
theorem dX0_runs_109 : decode cX0_runs 109 = .ok (.ifCond .ne 7, 3) := by decide +kernel
theorem dX0_runs_112 : decode cX0_runs 112 = .ok (.iconst 1, 1) := by decide +kernel
theorem dX0_runs_113 : decode cX0_runs 113 = .ok (.goto 4, 3) := by decide +kernel
theorem dX0_runs_116 : decode cX0_runs 116 = .ok (.iconst 0, 1) := by decide +kernel
theorem dX0_runs_117 : decode cX0_runs 117 = .ok (.invokevirtual 53, 3) := by decide +kernel
theorem dX0_runs_120 : decode cX0_runs 120 = .ok (.iinc 5 1, 3) := by decide +kernel
theorem dX0_runs_123 : decode cX0_runs 123 = .ok (.goto (-95), 3) := by decide +kernel
theorem dX0_runs_126 : decode cX0_runs 126 = .ok (.aload_n 0, 1) := by decide +kernel
theorem dX0_runs_127 : decode cX0_runs 127 = .ok (.getfield 42, 3) := by decide +kernel
theorem dX0_runs_130 : decode cX0_runs 130 = .ok (.ireturn, 1) := by decide +kernel
abbrev cX0_hold : ByteArray := prog_1_method_8_code
def yX0_hold : MethodName := ⟨RX0, "hold", "()V"⟩
theorem dX0_hold_0 : decode cX0_hold 0 = .ok (.aload_n 0, 1) := by decide +kernel
theorem dX0_hold_1 : decode cX0_hold 1 = .ok (.getfield 30, 3) := by decide +kernel
theorem dX0_hold_4 : decode cX0_hold 4 = .ok (.ifCond .eq 11, 3) := by decide +kernel
theorem dX0_hold_7 : decode cX0_hold 7 = .ok (.aload_n 0, 1) := by decide +kernel
theorem dX0_hold_8 : decode cX0_hold 8 = .ok (.getfield 30, 3) := by decide +kernel
theorem dX0_hold_11 : decode cX0_hold 11 = .ok (.iconst 1, 1) := by decide +kernel
theorem dX0_hold_12 : decode cX0_hold 12 = .ok (.if_icmp .ne 11, 3) := by decide +kernel
theorem dX0_hold_15 : decode cX0_hold 15 = .ok (.aload_n 0, 1) := by decide +kernel
theorem dX0_hold_16 : decode cX0_hold 16 = .ok (.aload_n 0, 1) := by decide +kernel
theorem dX0_hold_17 : decode cX0_hold 17 = .ok (.getfield 30, 3) := by decide +kernel
theorem dX0_hold_20 : decode cX0_hold 20 = .ok (.putfield 33, 3) := by decide +kernel
theorem dX0_hold_23 : decode cX0_hold 23 = .ok (.aload_n 0, 1) := by decide +kernel
theorem dX0_hold_24 : decode cX0_hold 24 = .ok (.getfield 30, 3) := by decide +kernel
theorem dX0_hold_27 : decode cX0_hold 27 = .ok (.bipush 10, 2) := by decide +kernel
theorem dX0_hold_29 : decode cX0_hold 29 = .ok (.if_icmp .lt 32, 3) := by decide +kernel
theorem dX0_hold_32 : decode cX0_hold 32 = .ok (.aload_n 0, 1) := by decide +kernel
theorem dX0_hold_33 : decode cX0_hold 33 = .ok (.getfield 36, 3) := by decide +kernel
theorem dX0_hold_36 : decode cX0_hold 36 = .ok (.aload_n 0, 1) := by decide +kernel
theorem dX0_hold_37 : decode cX0_hold 37 = .ok (.getfield 30, 3) := by decide +kernel
theorem dX0_hold_40 : decode cX0_hold 40 = .ok (.bipush 10, 2) := by decide +kernel
theorem dX0_hold_42 : decode cX0_hold 42 = .ok (.isub, 1) := by decide +kernel
theorem dX0_hold_43 : decode cX0_hold 43 = .ok (.iconst 2, 1) := by decide +kernel
theorem dX0_hold_44 : decode cX0_hold 44 = .ok (.idiv, 1) := by decide +kernel
theorem dX0_hold_45 : decode cX0_hold 45 = .ok (.if_icmp .ne 16, 3) := by decide +kernel
theorem dX0_hold_48 : decode cX0_hold 48 = .ok (.aload_n 0, 1) := by decide +kernel
theorem dX0_hold_49 : decode cX0_hold 49 = .ok (.aload_n 0, 1) := by decide +kernel
theorem dX0_hold_50 : decode cX0_hold 50 = .ok (.getfield 30, 3) := by decide +kernel
theorem dX0_hold_53 : decode cX0_hold 53 = .ok (.bipush 10, 2) := by decide +kernel
theorem dX0_hold_55 : decode cX0_hold 55 = .ok (.isub, 1) := by decide +kernel
theorem dX0_hold_56 : decode cX0_hold 56 = .ok (.iconst 1, 1) := by decide +kernel
theorem dX0_hold_57 : decode cX0_hold 57 = .ok (.iand, 1) := by decide +kernel
theorem dX0_hold_58 : decode cX0_hold 58 = .ok (.putfield 33, 3) := by decide +kernel
theorem dX0_hold_61 : decode cX0_hold 61 = .ok (.return_, 1) := by decide +kernel
abbrev cX0_visit : ByteArray := prog_1_method_11_code
def yX0_visit : MethodName := ⟨RX0, "visit", "(IZ)V"⟩
theorem dX0_visit_0 : decode cX0_visit 0 = .ok (.iconst 0, 1) := by decide +kernel
theorem dX0_visit_1 : decode cX0_visit 1 = .ok (.istore_n 3, 1) := by decide +kernel
theorem dX0_visit_2 : decode cX0_visit 2 = .ok (.iload_n 3, 1) := by decide +kernel
theorem dX0_visit_3 : decode cX0_visit 3 = .ok (.aload_n 0, 1) := by decide +kernel
theorem dX0_visit_4 : decode cX0_visit 4 = .ok (.getfield 13, 3) := by decide +kernel
theorem dX0_visit_7 : decode cX0_visit 7 = .ok (.iload_n 1, 1) := by decide +kernel
theorem dX0_visit_8 : decode cX0_visit 8 = .ok (.baload, 1) := by decide +kernel
theorem dX0_visit_9 : decode cX0_visit 9 = .ok (.if_icmp .ge 85, 3) := by decide +kernel
theorem dX0_visit_12 : decode cX0_visit 12 = .ok (.aload_n 0, 1) := by decide +kernel
theorem dX0_visit_13 : decode cX0_visit 13 = .ok (.getfield 16, 3) := by decide +kernel
theorem dX0_visit_16 : decode cX0_visit 16 = .ok (.iload_n 1, 1) := by decide +kernel
theorem dX0_visit_17 : decode cX0_visit 17 = .ok (.iconst 4, 1) := by decide +kernel
theorem dX0_visit_18 : decode cX0_visit 18 = .ok (.imul, 1) := by decide +kernel
theorem dX0_visit_19 : decode cX0_visit 19 = .ok (.iload_n 3, 1) := by decide +kernel
theorem dX0_visit_20 : decode cX0_visit 20 = .ok (.iadd, 1) := by decide +kernel
theorem dX0_visit_21 : decode cX0_visit 21 = .ok (.baload, 1) := by decide +kernel
theorem dX0_visit_22 : decode cX0_visit 22 = .ok (.istore 4, 2) := by decide +kernel
theorem dX0_visit_24 : decode cX0_visit 24 = .ok (.iload 4, 2) := by decide +kernel
theorem dX0_visit_26 : decode cX0_visit 26 = .ok (.iconst 2, 1) := by decide +kernel
theorem dX0_visit_27 : decode cX0_visit 27 = .ok (.if_icmp .lt 42, 3) := by decide +kernel
theorem dX0_visit_30 : decode cX0_visit 30 = .ok (.aload_n 0, 1) := by decide +kernel
theorem dX0_visit_31 : decode cX0_visit 31 = .ok (.dup, 1) := by decide +kernel
theorem dX0_visit_32 : decode cX0_visit 32 = .ok (.getfield 42, 3) := by decide +kernel
theorem dX0_visit_35 : decode cX0_visit 35 = .ok (.iload_n 2, 1) := by decide +kernel
theorem dX0_visit_36 : decode cX0_visit 36 = .ok (.ifCond .eq 10, 3) := by decide +kernel
theorem dX0_visit_39 : decode cX0_visit 39 = .ok (.aload_n 0, 1) := by decide +kernel
theorem dX0_visit_40 : decode cX0_visit 40 = .ok (.getfield 33, 3) := by decide +kernel
theorem dX0_visit_43 : decode cX0_visit 43 = .ok (.goto 7, 3) := by decide +kernel
theorem dX0_visit_46 : decode cX0_visit 46 = .ok (.aload_n 0, 1) := by decide +kernel
theorem dX0_visit_47 : decode cX0_visit 47 = .ok (.getfield 36, 3) := by decide +kernel
theorem dX0_visit_50 : decode cX0_visit 50 = .ok (.iload 4, 2) := by decide +kernel
theorem dX0_visit_52 : decode cX0_visit 52 = .ok (.iconst 2, 1) := by decide +kernel
theorem dX0_visit_53 : decode cX0_visit 53 = .ok (.isub, 1) := by decide +kernel
theorem dX0_visit_54 : decode cX0_visit 54 = .ok (.if_icmp .eq 7, 3) := by decide +kernel
theorem dX0_visit_57 : decode cX0_visit 57 = .ok (.iconst 1, 1) := by decide +kernel
theorem dX0_visit_58 : decode cX0_visit 58 = .ok (.goto 4, 3) := by decide +kernel
theorem dX0_visit_61 : decode cX0_visit 61 = .ok (.iconst 0, 1) := by decide +kernel
theorem dX0_visit_62 : decode cX0_visit 62 = .ok (.ior, 1) := by decide +kernel
theorem dX0_visit_63 : decode cX0_visit 63 = .ok (.putfield 42, 3) := by decide +kernel
theorem dX0_visit_66 : decode cX0_visit 66 = .ok (.goto 22, 3) := by decide +kernel
theorem dX0_visit_69 : decode cX0_visit 69 = .ok (.iload_n 2, 1) := by decide +kernel
theorem dX0_visit_70 : decode cX0_visit 70 = .ok (.ifCond .eq 12, 3) := by decide +kernel
theorem dX0_visit_73 : decode cX0_visit 73 = .ok (.aload_n 0, 1) := by decide +kernel
theorem dX0_visit_74 : decode cX0_visit 74 = .ok (.iload 4, 2) := by decide +kernel
theorem dX0_visit_76 : decode cX0_visit 76 = .ok (.invokevirtual 46, 3) := by decide +kernel
theorem dX0_visit_79 : decode cX0_visit 79 = .ok (.goto 9, 3) := by decide +kernel
theorem dX0_visit_82 : decode cX0_visit 82 = .ok (.aload_n 0, 1) := by decide +kernel
theorem dX0_visit_83 : decode cX0_visit 83 = .ok (.iload 4, 2) := by decide +kernel
theorem dX0_visit_85 : decode cX0_visit 85 = .ok (.invokevirtual 50, 3) := by decide +kernel
theorem dX0_visit_88 : decode cX0_visit 88 = .ok (.iinc 3 1, 3) := by decide +kernel
theorem dX0_visit_91 : decode cX0_visit 91 = .ok (.goto (-89), 3) := by decide +kernel
theorem dX0_visit_94 : decode cX0_visit 94 = .ok (.return_, 1) := by decide +kernel
abbrev cX0_writeOwn : ByteArray := prog_1_method_9_code
def yX0_writeOwn : MethodName := ⟨RX0, "writeOwn", "(I)V"⟩
theorem dX0_writeOwn_0 : decode cX0_writeOwn 0 = .ok (.aload_n 0, 1) := by decide +kernel
theorem dX0_writeOwn_1 : decode cX0_writeOwn 1 = .ok (.getfield 30, 3) := by decide +kernel
theorem dX0_writeOwn_4 : decode cX0_writeOwn 4 = .ok (.iconst 2, 1) := by decide +kernel
theorem dX0_writeOwn_5 : decode cX0_writeOwn 5 = .ok (.if_icmp .ne 8, 3) := by decide +kernel
theorem dX0_writeOwn_8 : decode cX0_writeOwn 8 = .ok (.iload_n 1, 1) := by decide +kernel
theorem dX0_writeOwn_9 : decode cX0_writeOwn 9 = .ok (.iconst 1, 1) := by decide +kernel
theorem dX0_writeOwn_10 : decode cX0_writeOwn 10 = .ok (.if_icmp .eq 15, 3) := by decide +kernel
theorem dX0_writeOwn_13 : decode cX0_writeOwn 13 = .ok (.aload_n 0, 1) := by decide +kernel
theorem dX0_writeOwn_14 : decode cX0_writeOwn 14 = .ok (.getfield 30, 3) := by decide +kernel
theorem dX0_writeOwn_17 : decode cX0_writeOwn 17 = .ok (.iconst 3, 1) := by decide +kernel
theorem dX0_writeOwn_18 : decode cX0_writeOwn 18 = .ok (.if_icmp .ne 11, 3) := by decide +kernel
theorem dX0_writeOwn_21 : decode cX0_writeOwn 21 = .ok (.iload_n 1, 1) := by decide +kernel
theorem dX0_writeOwn_22 : decode cX0_writeOwn 22 = .ok (.ifCond .ne 7, 3) := by decide +kernel
theorem dX0_writeOwn_25 : decode cX0_writeOwn 25 = .ok (.iconst 1, 1) := by decide +kernel
theorem dX0_writeOwn_26 : decode cX0_writeOwn 26 = .ok (.goto 4, 3) := by decide +kernel
theorem dX0_writeOwn_29 : decode cX0_writeOwn 29 = .ok (.iconst 0, 1) := by decide +kernel
theorem dX0_writeOwn_30 : decode cX0_writeOwn 30 = .ok (.istore_n 2, 1) := by decide +kernel
theorem dX0_writeOwn_31 : decode cX0_writeOwn 31 = .ok (.aload_n 0, 1) := by decide +kernel
theorem dX0_writeOwn_32 : decode cX0_writeOwn 32 = .ok (.iload_n 2, 1) := by decide +kernel
theorem dX0_writeOwn_33 : decode cX0_writeOwn 33 = .ok (.ifCond .eq 18, 3) := by decide +kernel
theorem dX0_writeOwn_36 : decode cX0_writeOwn 36 = .ok (.aload_n 0, 1) := by decide +kernel
theorem dX0_writeOwn_37 : decode cX0_writeOwn 37 = .ok (.getfield 33, 3) := by decide +kernel
theorem dX0_writeOwn_40 : decode cX0_writeOwn 40 = .ok (.iload_n 1, 1) := by decide +kernel
theorem dX0_writeOwn_41 : decode cX0_writeOwn 41 = .ok (.if_icmp .eq 10, 3) := by decide +kernel
theorem dX0_writeOwn_44 : decode cX0_writeOwn 44 = .ok (.aload_n 0, 1) := by decide +kernel
theorem dX0_writeOwn_45 : decode cX0_writeOwn 45 = .ok (.getfield 33, 3) := by decide +kernel
theorem dX0_writeOwn_48 : decode cX0_writeOwn 48 = .ok (.goto 4, 3) := by decide +kernel
theorem dX0_writeOwn_51 : decode cX0_writeOwn 51 = .ok (.iload_n 1, 1) := by decide +kernel
theorem dX0_writeOwn_52 : decode cX0_writeOwn 52 = .ok (.putfield 33, 3) := by decide +kernel
theorem dX0_writeOwn_55 : decode cX0_writeOwn 55 = .ok (.aload_n 0, 1) := by decide +kernel
theorem dX0_writeOwn_56 : decode cX0_writeOwn 56 = .ok (.invokevirtual 39, 3) := by decide +kernel
theorem dX0_writeOwn_59 : decode cX0_writeOwn 59 = .ok (.return_, 1) := by decide +kernel
abbrev cX0_writeOther : ByteArray := prog_1_method_10_code
def yX0_writeOther : MethodName := ⟨RX0, "writeOther", "(I)V"⟩
theorem dX0_writeOther_0 : decode cX0_writeOther 0 = .ok (.aload_n 0, 1) := by decide +kernel
theorem dX0_writeOther_1 : decode cX0_writeOther 1 = .ok (.getfield 36, 3) := by decide +kernel
theorem dX0_writeOther_4 : decode cX0_writeOther 4 = .ok (.iload_n 1, 1) := by decide +kernel
theorem dX0_writeOther_5 : decode cX0_writeOther 5 = .ok (.if_icmp .eq 7, 3) := by decide +kernel
theorem dX0_writeOther_8 : decode cX0_writeOther 8 = .ok (.iconst 1, 1) := by decide +kernel
theorem dX0_writeOther_9 : decode cX0_writeOther 9 = .ok (.goto 4, 3) := by decide +kernel
theorem dX0_writeOther_12 : decode cX0_writeOther 12 = .ok (.iconst 0, 1) := by decide +kernel
theorem dX0_writeOther_13 : decode cX0_writeOther 13 = .ok (.istore_n 2, 1) := by decide +kernel
theorem dX0_writeOther_14 : decode cX0_writeOther 14 = .ok (.aload_n 0, 1) := by decide +kernel
theorem dX0_writeOther_15 : decode cX0_writeOther 15 = .ok (.iload_n 1, 1) := by decide +kernel
theorem dX0_writeOther_16 : decode cX0_writeOther 16 = .ok (.putfield 36, 3) := by decide +kernel
theorem dX0_writeOther_19 : decode cX0_writeOther 19 = .ok (.iload_n 2, 1) := by decide +kernel
theorem dX0_writeOther_20 : decode cX0_writeOther 20 = .ok (.ifCond .eq 12, 3) := by decide +kernel
theorem dX0_writeOther_23 : decode cX0_writeOther 23 = .ok (.iload_n 1, 1) := by decide +kernel
theorem dX0_writeOther_24 : decode cX0_writeOther 24 = .ok (.iconst 1, 1) := by decide +kernel
theorem dX0_writeOther_25 : decode cX0_writeOther 25 = .ok (.if_icmp .ne 7, 3) := by decide +kernel
theorem dX0_writeOther_28 : decode cX0_writeOther 28 = .ok (.iconst 1, 1) := by decide +kernel
theorem dX0_writeOther_29 : decode cX0_writeOther 29 = .ok (.goto 4, 3) := by decide +kernel
theorem dX0_writeOther_32 : decode cX0_writeOther 32 = .ok (.iconst 0, 1) := by decide +kernel
theorem dX0_writeOther_33 : decode cX0_writeOther 33 = .ok (.istore_n 3, 1) := by decide +kernel
theorem dX0_writeOther_34 : decode cX0_writeOther 34 = .ok (.iload_n 2, 1) := by decide +kernel
theorem dX0_writeOther_35 : decode cX0_writeOther 35 = .ok (.ifCond .eq 11, 3) := by decide +kernel
theorem dX0_writeOther_38 : decode cX0_writeOther 38 = .ok (.iload_n 1, 1) := by decide +kernel
theorem dX0_writeOther_39 : decode cX0_writeOther 39 = .ok (.ifCond .ne 7, 3) := by decide +kernel
theorem dX0_writeOther_42 : decode cX0_writeOther 42 = .ok (.iconst 1, 1) := by decide +kernel
theorem dX0_writeOther_43 : decode cX0_writeOther 43 = .ok (.goto 4, 3) := by decide +kernel
theorem dX0_writeOther_46 : decode cX0_writeOther 46 = .ok (.iconst 0, 1) := by decide +kernel
theorem dX0_writeOther_47 : decode cX0_writeOther 47 = .ok (.istore 4, 2) := by decide +kernel
theorem dX0_writeOther_49 : decode cX0_writeOther 49 = .ok (.iload_n 3, 1) := by decide +kernel
theorem dX0_writeOther_50 : decode cX0_writeOther 50 = .ok (.ifCond .eq 11, 3) := by decide +kernel
theorem dX0_writeOther_53 : decode cX0_writeOther 53 = .ok (.aload_n 0, 1) := by decide +kernel
theorem dX0_writeOther_54 : decode cX0_writeOther 54 = .ok (.getfield 30, 3) := by decide +kernel
theorem dX0_writeOther_57 : decode cX0_writeOther 57 = .ok (.iconst 4, 1) := by decide +kernel
theorem dX0_writeOther_58 : decode cX0_writeOther 58 = .ok (.if_icmp .eq 16, 3) := by decide +kernel
theorem dX0_writeOther_61 : decode cX0_writeOther 61 = .ok (.iload 4, 2) := by decide +kernel
theorem dX0_writeOther_63 : decode cX0_writeOther 63 = .ok (.ifCond .eq 21, 3) := by decide +kernel
theorem dX0_writeOther_66 : decode cX0_writeOther 66 = .ok (.aload_n 0, 1) := by decide +kernel
theorem dX0_writeOther_67 : decode cX0_writeOther 67 = .ok (.getfield 30, 3) := by decide +kernel
theorem dX0_writeOther_70 : decode cX0_writeOther 70 = .ok (.iconst 5, 1) := by decide +kernel
theorem dX0_writeOther_71 : decode cX0_writeOther 71 = .ok (.if_icmp .ne 13, 3) := by decide +kernel
theorem dX0_writeOther_74 : decode cX0_writeOther 74 = .ok (.aload_n 0, 1) := by decide +kernel
theorem dX0_writeOther_75 : decode cX0_writeOther 75 = .ok (.iconst 1, 1) := by decide +kernel
theorem dX0_writeOther_76 : decode cX0_writeOther 76 = .ok (.aload_n 0, 1) := by decide +kernel
theorem dX0_writeOther_77 : decode cX0_writeOther 77 = .ok (.getfield 33, 3) := by decide +kernel
theorem dX0_writeOther_80 : decode cX0_writeOther 80 = .ok (.isub, 1) := by decide +kernel
theorem dX0_writeOther_81 : decode cX0_writeOther 81 = .ok (.putfield 33, 3) := by decide +kernel
theorem dX0_writeOther_84 : decode cX0_writeOther 84 = .ok (.aload_n 0, 1) := by decide +kernel
theorem dX0_writeOther_85 : decode cX0_writeOther 85 = .ok (.getfield 30, 3) := by decide +kernel
theorem dX0_writeOther_88 : decode cX0_writeOther 88 = .ok (.bipush 6, 2) := by decide +kernel
theorem dX0_writeOther_90 : decode cX0_writeOther 90 = .ok (.if_icmp .lt 37, 3) := by decide +kernel
theorem dX0_writeOther_93 : decode cX0_writeOther 93 = .ok (.aload_n 0, 1) := by decide +kernel
theorem dX0_writeOther_94 : decode cX0_writeOther 94 = .ok (.getfield 30, 3) := by decide +kernel
theorem dX0_writeOther_97 : decode cX0_writeOther 97 = .ok (.bipush 10, 2) := by decide +kernel
theorem dX0_writeOther_99 : decode cX0_writeOther 99 = .ok (.if_icmp .ge 28, 3) := by decide +kernel
theorem dX0_writeOther_102 : decode cX0_writeOther 102 = .ok (.aload_n 0, 1) := by decide +kernel
theorem dX0_writeOther_103 : decode cX0_writeOther 103 = .ok (.getfield 30, 3) := by decide +kernel
theorem dX0_writeOther_106 : decode cX0_writeOther 106 = .ok (.bipush 8, 2) := by decide +kernel
theorem dX0_writeOther_108 : decode cX0_writeOther 108 = .ok (.if_icmp .ge 10, 3) := by decide +kernel
theorem dX0_writeOther_111 : decode cX0_writeOther 111 = .ok (.iload_n 3, 1) := by decide +kernel
theorem dX0_writeOther_112 : decode cX0_writeOther 112 = .ok (.ifCond .eq 15, 3) := by decide +kernel
theorem dX0_writeOther_115 : decode cX0_writeOther 115 = .ok (.goto 8, 3) := by decide +kernel
theorem dX0_writeOther_118 : decode cX0_writeOther 118 = .ok (.iload 4, 2) := by decide +kernel
theorem dX0_writeOther_120 : decode cX0_writeOther 120 = .ok (.ifCond .eq 7, 3) := by decide +kernel
theorem dX0_writeOther_123 : decode cX0_writeOther 123 = .ok (.iconst 1, 1) := by decide +kernel
theorem dX0_writeOther_124 : decode cX0_writeOther 124 = .ok (.goto 4, 3) := by decide +kernel
theorem dX0_writeOther_127 : decode cX0_writeOther 127 = .ok (.iconst 0, 1) := by decide +kernel
theorem dX0_writeOther_128 : decode cX0_writeOther 128 = .ok (.istore 5, 2) := by decide +kernel
theorem dX0_writeOther_130 : decode cX0_writeOther 130 = .ok (.iload 5, 2) := by decide +kernel
theorem dX0_writeOther_132 : decode cX0_writeOther 132 = .ok (.ifCond .eq 16, 3) := by decide +kernel
theorem dX0_writeOther_135 : decode cX0_writeOther 135 = .ok (.aload_n 0, 1) := by decide +kernel
theorem dX0_writeOther_136 : decode cX0_writeOther 136 = .ok (.aload_n 0, 1) := by decide +kernel
theorem dX0_writeOther_137 : decode cX0_writeOther 137 = .ok (.getfield 30, 3) := by decide +kernel
theorem dX0_writeOther_140 : decode cX0_writeOther 140 = .ok (.bipush 6, 2) := by decide +kernel
theorem dX0_writeOther_142 : decode cX0_writeOther 142 = .ok (.isub, 1) := by decide +kernel
theorem dX0_writeOther_143 : decode cX0_writeOther 143 = .ok (.iconst 1, 1) := by decide +kernel
theorem dX0_writeOther_144 : decode cX0_writeOther 144 = .ok (.iand, 1) := by decide +kernel
theorem dX0_writeOther_145 : decode cX0_writeOther 145 = .ok (.putfield 33, 3) := by decide +kernel
theorem dX0_writeOther_148 : decode cX0_writeOther 148 = .ok (.aload_n 0, 1) := by decide +kernel
theorem dX0_writeOther_149 : decode cX0_writeOther 149 = .ok (.invokevirtual 39, 3) := by decide +kernel
theorem dX0_writeOther_152 : decode cX0_writeOther 152 = .ok (.return_, 1) := by decide +kernel
abbrev cX0_steps : ByteArray := prog_1_method_17_code
def yX0_steps : MethodName := ⟨RX0, "steps", "()I"⟩
theorem dX0_steps_0 : decode cX0_steps 0 = .ok (.iconst 0, 1) := by decide +kernel
theorem dX0_steps_1 : decode cX0_steps 1 = .ok (.istore_n 1, 1) := by decide +kernel
theorem dX0_steps_2 : decode cX0_steps 2 = .ok (.iconst 0, 1) := by decide +kernel
theorem dX0_steps_3 : decode cX0_steps 3 = .ok (.istore_n 2, 1) := by decide +kernel
theorem dX0_steps_4 : decode cX0_steps 4 = .ok (.iload_n 2, 1) := by decide +kernel
theorem dX0_steps_5 : decode cX0_steps 5 = .ok (.aload_n 0, 1) := by decide +kernel
theorem dX0_steps_6 : decode cX0_steps 6 = .ok (.getfield 23, 3) := by decide +kernel
theorem dX0_steps_9 : decode cX0_steps 9 = .ok (.if_icmp .ge 20, 3) := by decide +kernel
theorem dX0_steps_12 : decode cX0_steps 12 = .ok (.iload_n 1, 1) := by decide +kernel
theorem dX0_steps_13 : decode cX0_steps 13 = .ok (.iconst 5, 1) := by decide +kernel
theorem dX0_steps_14 : decode cX0_steps 14 = .ok (.aload_n 0, 1) := by decide +kernel
theorem dX0_steps_15 : decode cX0_steps 15 = .ok (.getfield 13, 3) := by decide +kernel
theorem dX0_steps_18 : decode cX0_steps 18 = .ok (.iload_n 2, 1) := by decide +kernel
theorem dX0_steps_19 : decode cX0_steps 19 = .ok (.baload, 1) := by decide +kernel
theorem dX0_steps_20 : decode cX0_steps 20 = .ok (.imul, 1) := by decide +kernel
theorem dX0_steps_21 : decode cX0_steps 21 = .ok (.iadd, 1) := by decide +kernel
theorem dX0_steps_22 : decode cX0_steps 22 = .ok (.istore_n 1, 1) := by decide +kernel
theorem dX0_steps_23 : decode cX0_steps 23 = .ok (.iinc 2 1, 3) := by decide +kernel
theorem dX0_steps_26 : decode cX0_steps 26 = .ok (.goto (-22), 3) := by decide +kernel
theorem dX0_steps_29 : decode cX0_steps 29 = .ok (.iload_n 1, 1) := by decide +kernel
theorem dX0_steps_30 : decode cX0_steps 30 = .ok (.ireturn, 1) := by decide +kernel
abbrev cX0_finds : ByteArray := prog_1_method_18_code
def yX0_finds : MethodName := ⟨RX0, "finds", "(III)Z"⟩
theorem dX0_finds_0 : decode cX0_finds 0 = .ok (.iload_n 1, 1) := by decide +kernel
theorem dX0_finds_1 : decode cX0_finds 1 = .ok (.iload_n 2, 1) := by decide +kernel
theorem dX0_finds_2 : decode cX0_finds 2 = .ok (.iload_n 3, 1) := by decide +kernel
theorem dX0_finds_3 : decode cX0_finds 3 = .ok (.invokestatic 65, 3) := by decide +kernel
theorem dX0_finds_6 : decode cX0_finds 6 = .ok (.ifCond .eq 25, 3) := by decide +kernel
theorem dX0_finds_9 : decode cX0_finds 9 = .ok (.aload_n 0, 1) := by decide +kernel
theorem dX0_finds_10 : decode cX0_finds 10 = .ok (.iload_n 1, 1) := by decide +kernel
theorem dX0_finds_11 : decode cX0_finds 11 = .ok (.iload_n 2, 1) := by decide +kernel
theorem dX0_finds_12 : decode cX0_finds 12 = .ok (.iload_n 3, 1) := by decide +kernel
theorem dX0_finds_13 : decode cX0_finds 13 = .ok (.if_icmp .ge 7, 3) := by decide +kernel
theorem dX0_finds_16 : decode cX0_finds 16 = .ok (.iconst 1, 1) := by decide +kernel
theorem dX0_finds_17 : decode cX0_finds 17 = .ok (.goto 4, 3) := by decide +kernel
theorem dX0_finds_20 : decode cX0_finds 20 = .ok (.iconst 0, 1) := by decide +kernel
theorem dX0_finds_21 : decode cX0_finds 21 = .ok (.invokevirtual 69, 3) := by decide +kernel
theorem dX0_finds_24 : decode cX0_finds 24 = .ok (.ifCond .eq 7, 3) := by decide +kernel
theorem dX0_finds_27 : decode cX0_finds 27 = .ok (.iconst 1, 1) := by decide +kernel
theorem dX0_finds_28 : decode cX0_finds 28 = .ok (.goto 4, 3) := by decide +kernel
theorem dX0_finds_31 : decode cX0_finds 31 = .ok (.iconst 0, 1) := by decide +kernel
theorem dX0_finds_32 : decode cX0_finds 32 = .ok (.ireturn, 1) := by decide +kernel
abbrev cX0_isFault : ByteArray := prog_1_method_16_code
def yX0_isFault : MethodName := ⟨RX0, "isFault", "(III)Z"⟩
theorem dX0_isFault_0 : decode cX0_isFault 0 = .ok (.iload_n 0, 1) := by decide +kernel
theorem dX0_isFault_1 : decode cX0_isFault 1 = .ok (.ifCond .lt 22, 3) := by decide +kernel
theorem dX0_isFault_4 : decode cX0_isFault 4 = .ok (.iload_n 0, 1) := by decide +kernel
theorem dX0_isFault_5 : decode cX0_isFault 5 = .ok (.bipush 14, 2) := by decide +kernel
theorem dX0_isFault_7 : decode cX0_isFault 7 = .ok (.if_icmp .ge 16, 3) := by decide +kernel
theorem dX0_isFault_10 : decode cX0_isFault 10 = .ok (.iload_n 1, 1) := by decide +kernel
theorem dX0_isFault_11 : decode cX0_isFault 11 = .ok (.ifCond .lt 12, 3) := by decide +kernel
theorem dX0_isFault_14 : decode cX0_isFault 14 = .ok (.iload_n 1, 1) := by decide +kernel
theorem dX0_isFault_15 : decode cX0_isFault 15 = .ok (.iconst 5, 1) := by decide +kernel
theorem dX0_isFault_16 : decode cX0_isFault 16 = .ok (.if_icmp .ge 7, 3) := by decide +kernel
theorem dX0_isFault_19 : decode cX0_isFault 19 = .ok (.iconst 1, 1) := by decide +kernel
theorem dX0_isFault_20 : decode cX0_isFault 20 = .ok (.goto 4, 3) := by decide +kernel
theorem dX0_isFault_23 : decode cX0_isFault 23 = .ok (.iconst 0, 1) := by decide +kernel
theorem dX0_isFault_24 : decode cX0_isFault 24 = .ok (.istore_n 3, 1) := by decide +kernel
theorem dX0_isFault_25 : decode cX0_isFault 25 = .ok (.iload_n 3, 1) := by decide +kernel
theorem dX0_isFault_26 : decode cX0_isFault 26 = .ok (.ifCond .eq 26, 3) := by decide +kernel
theorem dX0_isFault_29 : decode cX0_isFault 29 = .ok (.iload_n 0, 1) := by decide +kernel
theorem dX0_isFault_30 : decode cX0_isFault 30 = .ok (.iconst 4, 1) := by decide +kernel
theorem dX0_isFault_31 : decode cX0_isFault 31 = .ok (.if_icmp .lt 17, 3) := by decide +kernel
theorem dX0_isFault_34 : decode cX0_isFault 34 = .ok (.iload_n 2, 1) := by decide +kernel
theorem dX0_isFault_35 : decode cX0_isFault 35 = .ok (.ifCond .lt 17, 3) := by decide +kernel
theorem dX0_isFault_38 : decode cX0_isFault 38 = .ok (.iload_n 2, 1) := by decide +kernel
theorem dX0_isFault_39 : decode cX0_isFault 39 = .ok (.iconst 5, 1) := by decide +kernel
theorem dX0_isFault_40 : decode cX0_isFault 40 = .ok (.if_icmp .ge 12, 3) := by decide +kernel
theorem dX0_isFault_43 : decode cX0_isFault 43 = .ok (.iload_n 2, 1) := by decide +kernel
theorem dX0_isFault_44 : decode cX0_isFault 44 = .ok (.iload_n 1, 1) := by decide +kernel
theorem dX0_isFault_45 : decode cX0_isFault 45 = .ok (.if_icmp .eq 7, 3) := by decide +kernel
theorem dX0_isFault_48 : decode cX0_isFault 48 = .ok (.iconst 1, 1) := by decide +kernel
theorem dX0_isFault_49 : decode cX0_isFault 49 = .ok (.goto 4, 3) := by decide +kernel
theorem dX0_isFault_52 : decode cX0_isFault 52 = .ok (.iconst 0, 1) := by decide +kernel
theorem dX0_isFault_53 : decode cX0_isFault 53 = .ok (.ireturn, 1) := by decide +kernel
abbrev cX0_isFound : ByteArray := prog_1_method_15_code
def yX0_isFound : MethodName := ⟨RX0, "isFound", "(IZ)Z"⟩
theorem dX0_isFound_0 : decode cX0_isFound 0 = .ok (.aload_n 0, 1) := by decide +kernel
theorem dX0_isFound_1 : decode cX0_isFound 1 = .ok (.iload_n 1, 1) := by decide +kernel
theorem dX0_isFound_2 : decode cX0_isFound 2 = .ok (.iload_n 2, 1) := by decide +kernel
theorem dX0_isFound_3 : decode cX0_isFound 3 = .ok (.invokevirtual 61, 3) := by decide +kernel
theorem dX0_isFound_6 : decode cX0_isFound 6 = .ok (.ifCond .ne 7, 3) := by decide +kernel
theorem dX0_isFound_9 : decode cX0_isFound 9 = .ok (.iconst 1, 1) := by decide +kernel
theorem dX0_isFound_10 : decode cX0_isFound 10 = .ok (.goto 4, 3) := by decide +kernel
theorem dX0_isFound_13 : decode cX0_isFound 13 = .ok (.iconst 0, 1) := by decide +kernel
theorem dX0_isFound_14 : decode cX0_isFound 14 = .ok (.ireturn, 1) := by decide +kernel
abbrev cX0_silent : ByteArray := prog_1_method_14_code
def yX0_silent : MethodName := ⟨RX0, "silent", "(IZ)I"⟩
theorem dX0_silent_0 : decode cX0_silent 0 = .ok (.iconst 0, 1) := by decide +kernel
theorem dX0_silent_1 : decode cX0_silent 1 = .ok (.istore_n 3, 1) := by decide +kernel
theorem dX0_silent_2 : decode cX0_silent 2 = .ok (.iconst 0, 1) := by decide +kernel
theorem dX0_silent_3 : decode cX0_silent 3 = .ok (.istore 4, 2) := by decide +kernel
theorem dX0_silent_5 : decode cX0_silent 5 = .ok (.iload 4, 2) := by decide +kernel
theorem dX0_silent_7 : decode cX0_silent 7 = .ok (.iconst 4, 1) := by decide +kernel
theorem dX0_silent_8 : decode cX0_silent 8 = .ok (.if_icmp .ge 57, 3) := by decide +kernel
theorem dX0_silent_11 : decode cX0_silent 11 = .ok (.iload_n 1, 1) := by decide +kernel
theorem dX0_silent_12 : decode cX0_silent 12 = .ok (.iconst 4, 1) := by decide +kernel
theorem dX0_silent_13 : decode cX0_silent 13 = .ok (.if_icmp .ge 9, 3) := by decide +kernel
theorem dX0_silent_16 : decode cX0_silent 16 = .ok (.iload 4, 2) := by decide +kernel
theorem dX0_silent_18 : decode cX0_silent 18 = .ok (.iconst 2, 1) := by decide +kernel
theorem dX0_silent_19 : decode cX0_silent 19 = .ok (.if_icmp .ge 7, 3) := by decide +kernel
theorem dX0_silent_22 : decode cX0_silent 22 = .ok (.iconst 1, 1) := by decide +kernel
theorem dX0_silent_23 : decode cX0_silent 23 = .ok (.goto 4, 3) := by decide +kernel
theorem dX0_silent_26 : decode cX0_silent 26 = .ok (.iconst 0, 1) := by decide +kernel
theorem dX0_silent_27 : decode cX0_silent 27 = .ok (.istore 5, 2) := by decide +kernel
theorem dX0_silent_29 : decode cX0_silent 29 = .ok (.iload_n 3, 1) := by decide +kernel
theorem dX0_silent_30 : decode cX0_silent 30 = .ok (.iload 5, 2) := by decide +kernel
theorem dX0_silent_32 : decode cX0_silent 32 = .ok (.ifCond .eq 24, 3) := by decide +kernel
theorem dX0_silent_35 : decode cX0_silent 35 = .ok (.aload_n 0, 1) := by decide +kernel
theorem dX0_silent_36 : decode cX0_silent 36 = .ok (.iload_n 1, 1) := by decide +kernel
theorem dX0_silent_37 : decode cX0_silent 37 = .ok (.iload_n 2, 1) := by decide +kernel
theorem dX0_silent_38 : decode cX0_silent 38 = .ok (.iload 4, 2) := by decide +kernel
theorem dX0_silent_40 : decode cX0_silent 40 = .ok (.iconst 1, 1) := by decide +kernel
theorem dX0_silent_41 : decode cX0_silent 41 = .ok (.iand, 1) := by decide +kernel
theorem dX0_silent_42 : decode cX0_silent 42 = .ok (.iload 4, 2) := by decide +kernel
theorem dX0_silent_44 : decode cX0_silent 44 = .ok (.iconst 1, 1) := by decide +kernel
theorem dX0_silent_45 : decode cX0_silent 45 = .ok (.ishr, 1) := by decide +kernel
theorem dX0_silent_46 : decode cX0_silent 46 = .ok (.invokevirtual 57, 3) := by decide +kernel
theorem dX0_silent_49 : decode cX0_silent 49 = .ok (.ifCond .ne 7, 3) := by decide +kernel
theorem dX0_silent_52 : decode cX0_silent 52 = .ok (.iconst 1, 1) := by decide +kernel
theorem dX0_silent_53 : decode cX0_silent 53 = .ok (.goto 4, 3) := by decide +kernel
theorem dX0_silent_56 : decode cX0_silent 56 = .ok (.iconst 0, 1) := by decide +kernel
theorem dX0_silent_57 : decode cX0_silent 57 = .ok (.iadd, 1) := by decide +kernel
theorem dX0_silent_58 : decode cX0_silent 58 = .ok (.istore_n 3, 1) := by decide +kernel
theorem dX0_silent_59 : decode cX0_silent 59 = .ok (.iinc 4 1, 3) := by decide +kernel
theorem dX0_silent_62 : decode cX0_silent 62 = .ok (.goto (-57), 3) := by decide +kernel
theorem dX0_silent_65 : decode cX0_silent 65 = .ok (.iload_n 1, 1) := by decide +kernel
theorem dX0_silent_66 : decode cX0_silent 66 = .ok (.iconst 4, 1) := by decide +kernel
theorem dX0_silent_67 : decode cX0_silent 67 = .ok (.if_icmp .lt 7, 3) := by decide +kernel
theorem dX0_silent_70 : decode cX0_silent 70 = .ok (.iconst 3, 1) := by decide +kernel
theorem dX0_silent_71 : decode cX0_silent 71 = .ok (.goto 4, 3) := by decide +kernel
theorem dX0_silent_74 : decode cX0_silent 74 = .ok (.iconst 4, 1) := by decide +kernel
theorem dX0_silent_75 : decode cX0_silent 75 = .ok (.istore 4, 2) := by decide +kernel
theorem dX0_silent_77 : decode cX0_silent 77 = .ok (.aload_n 0, 1) := by decide +kernel
theorem dX0_silent_78 : decode cX0_silent 78 = .ok (.invokevirtual 26, 3) := by decide +kernel
theorem dX0_silent_81 : decode cX0_silent 81 = .ok (.istore 5, 2) := by decide +kernel
theorem dX0_silent_83 : decode cX0_silent 83 = .ok (.iconst 0, 1) := by decide +kernel
theorem dX0_silent_84 : decode cX0_silent 84 = .ok (.istore 6, 2) := by decide +kernel
theorem dX0_silent_86 : decode cX0_silent 86 = .ok (.iload 6, 2) := by decide +kernel
theorem dX0_silent_88 : decode cX0_silent 88 = .ok (.iload 4, 2) := by decide +kernel
theorem dX0_silent_90 : decode cX0_silent 90 = .ok (.if_icmp .ge 14, 3) := by decide +kernel
theorem dX0_silent_93 : decode cX0_silent 93 = .ok (.iload_n 3, 1) := by decide +kernel
theorem dX0_silent_94 : decode cX0_silent 94 = .ok (.iload 5, 2) := by decide +kernel
theorem dX0_silent_96 : decode cX0_silent 96 = .ok (.imul, 1) := by decide +kernel
theorem dX0_silent_97 : decode cX0_silent 97 = .ok (.istore_n 3, 1) := by decide +kernel
theorem dX0_silent_98 : decode cX0_silent 98 = .ok (.iinc 6 1, 3) := by decide +kernel
theorem dX0_silent_101 : decode cX0_silent 101 = .ok (.goto (-15), 3) := by decide +kernel
theorem dX0_silent_104 : decode cX0_silent 104 = .ok (.iload_n 3, 1) := by decide +kernel
theorem dX0_silent_105 : decode cX0_silent 105 = .ok (.ireturn, 1) := by decide +kernel
abbrev cX0_found : ByteArray := prog_1_method_19_code
def yX0_found : MethodName := ⟨RX0, "found", "(I)I"⟩
theorem dX0_found_0 : decode cX0_found 0 = .ok (.iload_n 1, 1) := by decide +kernel
theorem dX0_found_1 : decode cX0_found 1 = .ok (.ifCond .lt 9, 3) := by decide +kernel
theorem dX0_found_4 : decode cX0_found 4 = .ok (.iload_n 1, 1) := by decide +kernel
theorem dX0_found_5 : decode cX0_found 5 = .ok (.bipush 14, 2) := by decide +kernel
theorem dX0_found_7 : decode cX0_found 7 = .ok (.if_icmp .lt 5, 3) := by decide +kernel
theorem dX0_found_10 : decode cX0_found 10 = .ok (.iconst (-1), 1) := by decide +kernel
theorem dX0_found_11 : decode cX0_found 11 = .ok (.ireturn, 1) := by decide +kernel
theorem dX0_found_12 : decode cX0_found 12 = .ok (.aload_n 0, 1) := by decide +kernel
theorem dX0_found_13 : decode cX0_found 13 = .ok (.iload_n 1, 1) := by decide +kernel
theorem dX0_found_14 : decode cX0_found 14 = .ok (.iconst 1, 1) := by decide +kernel
theorem dX0_found_15 : decode cX0_found 15 = .ok (.invokevirtual 69, 3) := by decide +kernel
theorem dX0_found_18 : decode cX0_found 18 = .ok (.ifCond .eq 10, 3) := by decide +kernel
theorem dX0_found_21 : decode cX0_found 21 = .ok (.iload_n 1, 1) := by decide +kernel
theorem dX0_found_22 : decode cX0_found 22 = .ok (.invokestatic 73, 3) := by decide +kernel
theorem dX0_found_25 : decode cX0_found 25 = .ok (.goto 4, 3) := by decide +kernel
theorem dX0_found_28 : decode cX0_found 28 = .ok (.iconst 0, 1) := by decide +kernel
theorem dX0_found_29 : decode cX0_found 29 = .ok (.istore_n 2, 1) := by decide +kernel
theorem dX0_found_30 : decode cX0_found 30 = .ok (.iload_n 1, 1) := by decide +kernel
theorem dX0_found_31 : decode cX0_found 31 = .ok (.iconst 4, 1) := by decide +kernel
theorem dX0_found_32 : decode cX0_found 32 = .ok (.if_icmp .lt 19, 3) := by decide +kernel
theorem dX0_found_35 : decode cX0_found 35 = .ok (.aload_n 0, 1) := by decide +kernel
theorem dX0_found_36 : decode cX0_found 36 = .ok (.iload_n 1, 1) := by decide +kernel
theorem dX0_found_37 : decode cX0_found 37 = .ok (.iconst 0, 1) := by decide +kernel
theorem dX0_found_38 : decode cX0_found 38 = .ok (.invokevirtual 69, 3) := by decide +kernel
theorem dX0_found_41 : decode cX0_found 41 = .ok (.ifCond .eq 10, 3) := by decide +kernel
theorem dX0_found_44 : decode cX0_found 44 = .ok (.iload_n 2, 1) := by decide +kernel
theorem dX0_found_45 : decode cX0_found 45 = .ok (.iload_n 1, 1) := by decide +kernel
theorem dX0_found_46 : decode cX0_found 46 = .ok (.invokestatic 73, 3) := by decide +kernel
theorem dX0_found_49 : decode cX0_found 49 = .ok (.iadd, 1) := by decide +kernel
theorem dX0_found_50 : decode cX0_found 50 = .ok (.istore_n 2, 1) := by decide +kernel
theorem dX0_found_51 : decode cX0_found 51 = .ok (.iload_n 2, 1) := by decide +kernel
theorem dX0_found_52 : decode cX0_found 52 = .ok (.ireturn, 1) := by decide +kernel
abbrev cX0_half : ByteArray := prog_1_method_20_code
def yX0_half : MethodName := ⟨RX0, "half", "(I)I"⟩
theorem dX0_half_0 : decode cX0_half 0 = .ok (.iload_n 0, 1) := by decide +kernel
theorem dX0_half_1 : decode cX0_half 1 = .ok (.iconst 4, 1) := by decide +kernel
theorem dX0_half_2 : decode cX0_half 2 = .ok (.if_icmp .ge 7, 3) := by decide +kernel
theorem dX0_half_5 : decode cX0_half 5 = .ok (.iconst 5, 1) := by decide +kernel
theorem dX0_half_6 : decode cX0_half 6 = .ok (.goto 5, 3) := by decide +kernel
theorem dX0_half_9 : decode cX0_half 9 = .ok (.bipush 10, 2) := by decide +kernel
theorem dX0_half_11 : decode cX0_half 11 = .ok (.ireturn, 1) := by decide +kernel
abbrev cX0_covered : ByteArray := prog_1_method_21_code
def yX0_covered : MethodName := ⟨RX0, "covered", "()I"⟩
theorem dX0_covered_0 : decode cX0_covered 0 = .ok (.iconst 0, 1) := by decide +kernel
theorem dX0_covered_1 : decode cX0_covered 1 = .ok (.istore_n 1, 1) := by decide +kernel
theorem dX0_covered_2 : decode cX0_covered 2 = .ok (.iconst 0, 1) := by decide +kernel
theorem dX0_covered_3 : decode cX0_covered 3 = .ok (.istore_n 2, 1) := by decide +kernel
theorem dX0_covered_4 : decode cX0_covered 4 = .ok (.iload_n 2, 1) := by decide +kernel
theorem dX0_covered_5 : decode cX0_covered 5 = .ok (.bipush 14, 2) := by decide +kernel
theorem dX0_covered_7 : decode cX0_covered 7 = .ok (.if_icmp .ge 40, 3) := by decide +kernel
theorem dX0_covered_10 : decode cX0_covered 10 = .ok (.iload_n 2, 1) := by decide +kernel
theorem dX0_covered_11 : decode cX0_covered 11 = .ok (.iconst 4, 1) := by decide +kernel
theorem dX0_covered_12 : decode cX0_covered 12 = .ok (.if_icmp .ge 7, 3) := by decide +kernel
theorem dX0_covered_15 : decode cX0_covered 15 = .ok (.iconst 5, 1) := by decide +kernel
theorem dX0_covered_16 : decode cX0_covered 16 = .ok (.goto 5, 3) := by decide +kernel
theorem dX0_covered_19 : decode cX0_covered 19 = .ok (.bipush 20, 2) := by decide +kernel
theorem dX0_covered_21 : decode cX0_covered 21 = .ok (.istore_n 3, 1) := by decide +kernel
theorem dX0_covered_22 : decode cX0_covered 22 = .ok (.iload_n 1, 1) := by decide +kernel
theorem dX0_covered_23 : decode cX0_covered 23 = .ok (.aload_n 0, 1) := by decide +kernel
theorem dX0_covered_24 : decode cX0_covered 24 = .ok (.iload_n 2, 1) := by decide +kernel
theorem dX0_covered_25 : decode cX0_covered 25 = .ok (.invokevirtual 77, 3) := by decide +kernel
theorem dX0_covered_28 : decode cX0_covered 28 = .ok (.iload_n 3, 1) := by decide +kernel
theorem dX0_covered_29 : decode cX0_covered 29 = .ok (.if_icmp .ne 9, 3) := by decide +kernel
theorem dX0_covered_32 : decode cX0_covered 32 = .ok (.iconst 1, 1) := by decide +kernel
theorem dX0_covered_33 : decode cX0_covered 33 = .ok (.iload_n 2, 1) := by decide +kernel
theorem dX0_covered_34 : decode cX0_covered 34 = .ok (.ishl, 1) := by decide +kernel
theorem dX0_covered_35 : decode cX0_covered 35 = .ok (.goto 4, 3) := by decide +kernel
theorem dX0_covered_38 : decode cX0_covered 38 = .ok (.iconst 0, 1) := by decide +kernel
theorem dX0_covered_39 : decode cX0_covered 39 = .ok (.ior, 1) := by decide +kernel
theorem dX0_covered_40 : decode cX0_covered 40 = .ok (.istore_n 1, 1) := by decide +kernel
theorem dX0_covered_41 : decode cX0_covered 41 = .ok (.iinc 2 1, 3) := by decide +kernel
theorem dX0_covered_44 : decode cX0_covered 44 = .ok (.goto (-40), 3) := by decide +kernel
theorem dX0_covered_47 : decode cX0_covered 47 = .ok (.iload_n 1, 1) := by decide +kernel
theorem dX0_covered_48 : decode cX0_covered 48 = .ok (.ireturn, 1) := by decide +kernel
abbrev cX0_foundFrom : ByteArray := prog_1_method_22_code
def yX0_foundFrom : MethodName := ⟨RX0, "foundFrom", "(III)I"⟩
theorem dX0_foundFrom_0 : decode cX0_foundFrom 0 = .ok (.iload_n 1, 1) := by decide +kernel
theorem dX0_foundFrom_1 : decode cX0_foundFrom 1 = .ok (.iload_n 2, 1) := by decide +kernel
theorem dX0_foundFrom_2 : decode cX0_foundFrom 2 = .ok (.iload_n 3, 1) := by decide +kernel
theorem dX0_foundFrom_3 : decode cX0_foundFrom 3 = .ok (.invokestatic 65, 3) := by decide +kernel
theorem dX0_foundFrom_6 : decode cX0_foundFrom 6 = .ok (.ifCond .eq 24, 3) := by decide +kernel
theorem dX0_foundFrom_9 : decode cX0_foundFrom 9 = .ok (.bipush 32, 2) := by decide +kernel
theorem dX0_foundFrom_11 : decode cX0_foundFrom 11 = .ok (.aload_n 0, 1) := by decide +kernel
theorem dX0_foundFrom_12 : decode cX0_foundFrom 12 = .ok (.iload_n 1, 1) := by decide +kernel
theorem dX0_foundFrom_13 : decode cX0_foundFrom 13 = .ok (.iload_n 2, 1) := by decide +kernel
theorem dX0_foundFrom_14 : decode cX0_foundFrom 14 = .ok (.iload_n 3, 1) := by decide +kernel
theorem dX0_foundFrom_15 : decode cX0_foundFrom 15 = .ok (.if_icmp .ge 7, 3) := by decide +kernel
theorem dX0_foundFrom_18 : decode cX0_foundFrom 18 = .ok (.iconst 1, 1) := by decide +kernel
theorem dX0_foundFrom_19 : decode cX0_foundFrom 19 = .ok (.goto 4, 3) := by decide +kernel
theorem dX0_foundFrom_22 : decode cX0_foundFrom 22 = .ok (.iconst 0, 1) := by decide +kernel
theorem dX0_foundFrom_23 : decode cX0_foundFrom 23 = .ok (.invokevirtual 61, 3) := by decide +kernel
theorem dX0_foundFrom_26 : decode cX0_foundFrom 26 = .ok (.isub, 1) := by decide +kernel
theorem dX0_foundFrom_27 : decode cX0_foundFrom 27 = .ok (.goto 4, 3) := by decide +kernel
theorem dX0_foundFrom_30 : decode cX0_foundFrom 30 = .ok (.iconst (-1), 1) := by decide +kernel
theorem dX0_foundFrom_31 : decode cX0_foundFrom 31 = .ok (.ireturn, 1) := by decide +kernel
abbrev cX0_spare : ByteArray := prog_1_method_24_code
def yX0_spare : MethodName := ⟨RX0, "spare", "()I"⟩
theorem dX0_spare_0 : decode cX0_spare 0 = .ok (.aload_n 0, 1) := by decide +kernel
theorem dX0_spare_1 : decode cX0_spare 1 = .ok (.invokevirtual 80, 3) := by decide +kernel
theorem dX0_spare_4 : decode cX0_spare 4 = .ok (.istore_n 1, 1) := by decide +kernel
theorem dX0_spare_5 : decode cX0_spare 5 = .ok (.iconst 0, 1) := by decide +kernel
theorem dX0_spare_6 : decode cX0_spare 6 = .ok (.istore_n 2, 1) := by decide +kernel
theorem dX0_spare_7 : decode cX0_spare 7 = .ok (.iconst 0, 1) := by decide +kernel
theorem dX0_spare_8 : decode cX0_spare 8 = .ok (.istore_n 3, 1) := by decide +kernel
theorem dX0_spare_9 : decode cX0_spare 9 = .ok (.iload_n 3, 1) := by decide +kernel
theorem dX0_spare_10 : decode cX0_spare 10 = .ok (.aload_n 0, 1) := by decide +kernel
theorem dX0_spare_11 : decode cX0_spare 11 = .ok (.getfield 23, 3) := by decide +kernel
theorem dX0_spare_14 : decode cX0_spare 14 = .ok (.if_icmp .ge 39, 3) := by decide +kernel
theorem dX0_spare_17 : decode cX0_spare 17 = .ok (.aload_n 0, 1) := by decide +kernel
theorem dX0_spare_18 : decode cX0_spare 18 = .ok (.iload_n 3, 1) := by decide +kernel
theorem dX0_spare_19 : decode cX0_spare 19 = .ok (.putfield 19, 3) := by decide +kernel
theorem dX0_spare_22 : decode cX0_spare 22 = .ok (.aload_n 0, 1) := by decide +kernel
theorem dX0_spare_23 : decode cX0_spare 23 = .ok (.invokevirtual 80, 3) := by decide +kernel
theorem dX0_spare_26 : decode cX0_spare 26 = .ok (.istore 4, 2) := by decide +kernel
theorem dX0_spare_28 : decode cX0_spare 28 = .ok (.iload_n 2, 1) := by decide +kernel
theorem dX0_spare_29 : decode cX0_spare 29 = .ok (.iload_n 1, 1) := by decide +kernel
theorem dX0_spare_30 : decode cX0_spare 30 = .ok (.iload 4, 2) := by decide +kernel
theorem dX0_spare_32 : decode cX0_spare 32 = .ok (.iconst (-1), 1) := by decide +kernel
theorem dX0_spare_33 : decode cX0_spare 33 = .ok (.ixor, 1) := by decide +kernel
theorem dX0_spare_34 : decode cX0_spare 34 = .ok (.iand, 1) := by decide +kernel
theorem dX0_spare_35 : decode cX0_spare 35 = .ok (.ifCond .ne 9, 3) := by decide +kernel
theorem dX0_spare_38 : decode cX0_spare 38 = .ok (.iconst 1, 1) := by decide +kernel
theorem dX0_spare_39 : decode cX0_spare 39 = .ok (.iload_n 3, 1) := by decide +kernel
theorem dX0_spare_40 : decode cX0_spare 40 = .ok (.ishl, 1) := by decide +kernel
theorem dX0_spare_41 : decode cX0_spare 41 = .ok (.goto 4, 3) := by decide +kernel
theorem dX0_spare_44 : decode cX0_spare 44 = .ok (.iconst 0, 1) := by decide +kernel
theorem dX0_spare_45 : decode cX0_spare 45 = .ok (.ior, 1) := by decide +kernel
theorem dX0_spare_46 : decode cX0_spare 46 = .ok (.istore_n 2, 1) := by decide +kernel
theorem dX0_spare_47 : decode cX0_spare 47 = .ok (.iinc 3 1, 3) := by decide +kernel
theorem dX0_spare_50 : decode cX0_spare 50 = .ok (.goto (-41), 3) := by decide +kernel
theorem dX0_spare_53 : decode cX0_spare 53 = .ok (.aload_n 0, 1) := by decide +kernel
theorem dX0_spare_54 : decode cX0_spare 54 = .ok (.iconst (-1), 1) := by decide +kernel
theorem dX0_spare_55 : decode cX0_spare 55 = .ok (.putfield 19, 3) := by decide +kernel
theorem dX0_spare_58 : decode cX0_spare 58 = .ok (.iload_n 2, 1) := by decide +kernel
theorem dX0_spare_59 : decode cX0_spare 59 = .ok (.ireturn, 1) := by decide +kernel
abbrev cX0_foundSet : ByteArray := prog_1_method_23_code
def yX0_foundSet : MethodName := ⟨RX0, "foundSet", "()I"⟩
theorem dX0_foundSet_0 : decode cX0_foundSet 0 = .ok (.iconst 0, 1) := by decide +kernel
theorem dX0_foundSet_1 : decode cX0_foundSet 1 = .ok (.istore_n 1, 1) := by decide +kernel
theorem dX0_foundSet_2 : decode cX0_foundSet 2 = .ok (.iconst 0, 1) := by decide +kernel
theorem dX0_foundSet_3 : decode cX0_foundSet 3 = .ok (.istore_n 2, 1) := by decide +kernel
theorem dX0_foundSet_4 : decode cX0_foundSet 4 = .ok (.iload_n 2, 1) := by decide +kernel
theorem dX0_foundSet_5 : decode cX0_foundSet 5 = .ok (.bipush 14, 2) := by decide +kernel
theorem dX0_foundSet_7 : decode cX0_foundSet 7 = .ok (.if_icmp .ge 51, 3) := by decide +kernel
theorem dX0_foundSet_10 : decode cX0_foundSet 10 = .ok (.iload_n 1, 1) := by decide +kernel
theorem dX0_foundSet_11 : decode cX0_foundSet 11 = .ok (.aload_n 0, 1) := by decide +kernel
theorem dX0_foundSet_12 : decode cX0_foundSet 12 = .ok (.iload_n 2, 1) := by decide +kernel
theorem dX0_foundSet_13 : decode cX0_foundSet 13 = .ok (.iconst 1, 1) := by decide +kernel
theorem dX0_foundSet_14 : decode cX0_foundSet 14 = .ok (.invokevirtual 69, 3) := by decide +kernel
theorem dX0_foundSet_17 : decode cX0_foundSet 17 = .ok (.ifCond .eq 11, 3) := by decide +kernel
theorem dX0_foundSet_20 : decode cX0_foundSet 20 = .ok (.iconst 1, 1) := by decide +kernel
theorem dX0_foundSet_21 : decode cX0_foundSet 21 = .ok (.iconst 2, 1) := by decide +kernel
theorem dX0_foundSet_22 : decode cX0_foundSet 22 = .ok (.iload_n 2, 1) := by decide +kernel
theorem dX0_foundSet_23 : decode cX0_foundSet 23 = .ok (.imul, 1) := by decide +kernel
theorem dX0_foundSet_24 : decode cX0_foundSet 24 = .ok (.ishl, 1) := by decide +kernel
theorem dX0_foundSet_25 : decode cX0_foundSet 25 = .ok (.goto 4, 3) := by decide +kernel
theorem dX0_foundSet_28 : decode cX0_foundSet 28 = .ok (.iconst 0, 1) := by decide +kernel
theorem dX0_foundSet_29 : decode cX0_foundSet 29 = .ok (.ior, 1) := by decide +kernel
theorem dX0_foundSet_30 : decode cX0_foundSet 30 = .ok (.istore_n 1, 1) := by decide +kernel
theorem dX0_foundSet_31 : decode cX0_foundSet 31 = .ok (.iload_n 1, 1) := by decide +kernel
theorem dX0_foundSet_32 : decode cX0_foundSet 32 = .ok (.aload_n 0, 1) := by decide +kernel
theorem dX0_foundSet_33 : decode cX0_foundSet 33 = .ok (.iload_n 2, 1) := by decide +kernel
theorem dX0_foundSet_34 : decode cX0_foundSet 34 = .ok (.iconst 0, 1) := by decide +kernel
theorem dX0_foundSet_35 : decode cX0_foundSet 35 = .ok (.invokevirtual 69, 3) := by decide +kernel
theorem dX0_foundSet_38 : decode cX0_foundSet 38 = .ok (.ifCond .eq 11, 3) := by decide +kernel
theorem dX0_foundSet_41 : decode cX0_foundSet 41 = .ok (.iconst 2, 1) := by decide +kernel
theorem dX0_foundSet_42 : decode cX0_foundSet 42 = .ok (.iconst 2, 1) := by decide +kernel
theorem dX0_foundSet_43 : decode cX0_foundSet 43 = .ok (.iload_n 2, 1) := by decide +kernel
theorem dX0_foundSet_44 : decode cX0_foundSet 44 = .ok (.imul, 1) := by decide +kernel
theorem dX0_foundSet_45 : decode cX0_foundSet 45 = .ok (.ishl, 1) := by decide +kernel
theorem dX0_foundSet_46 : decode cX0_foundSet 46 = .ok (.goto 4, 3) := by decide +kernel
theorem dX0_foundSet_49 : decode cX0_foundSet 49 = .ok (.iconst 0, 1) := by decide +kernel
theorem dX0_foundSet_50 : decode cX0_foundSet 50 = .ok (.ior, 1) := by decide +kernel
theorem dX0_foundSet_51 : decode cX0_foundSet 51 = .ok (.istore_n 1, 1) := by decide +kernel
theorem dX0_foundSet_52 : decode cX0_foundSet 52 = .ok (.iinc 2 1, 3) := by decide +kernel
theorem dX0_foundSet_55 : decode cX0_foundSet 55 = .ok (.goto (-51), 3) := by decide +kernel
theorem dX0_foundSet_58 : decode cX0_foundSet 58 = .ok (.iload_n 1, 1) := by decide +kernel
theorem dX0_foundSet_59 : decode cX0_foundSet 59 = .ok (.ireturn, 1) := by decide +kernel
theorem q19 : (Jvm.Cond.initialized "MarchTester") ∈ lw_all := lw_g (lw_at lw_m1 1 rfl) rfl
theorem q22 : (Jvm.Cond.instantiable "MarchTester" (9 : Nat)) ∈ lw_all := lw_g (lw_at lw_m1 4 rfl) rfl
theorem q24 : (Jvm.Cond.instanceMethod ({ cls := "MarchTester", name := "<init>", desc := "()V" } : Jvm.MethodName)) ∈ lw_all := lw_g (lw_at lw_m1 6 rfl) rfl
theorem q25 : (Jvm.Cond.code ({ cls := "MarchTester", name := "<init>", desc := "()V" } : Jvm.MethodName) prog_1_method_1_code (1 : Nat) (Option.none : Option Jvm.ClassFile.FieldType)) ∈ lw_all := lw_g (lw_at lw_m1 7 rfl) rfl
theorem q26 : (Jvm.Cond.methodLink "MarchTester" (1 : Nat) ({ cls := "java/lang/Object", name := "<init>", desc := "()V" } : Jvm.MethodName)) ∈ lw_all := lw_g (lw_at lw_m1 8 rfl) rfl
theorem q29 : (Jvm.Cond.fieldLink "MarchTester" (23 : Nat) "MarchTester" "count" "I") ∈ lw_all := lw_g (lw_at lw_m1 11 rfl) rfl
theorem q30 : (Jvm.Cond.fieldLink "MarchTester" (7 : Nat) "MarchTester" "directions" "[B") ∈ lw_all := lw_g (lw_at lw_m1 12 rfl) rfl
theorem q31 : (Jvm.Cond.fieldLink "MarchTester" (13 : Nat) "MarchTester" "sizes" "[B") ∈ lw_all := lw_g (lw_at lw_m1 13 rfl) rfl
theorem q32 : (Jvm.Cond.fieldLink "MarchTester" (16 : Nat) "MarchTester" "ops" "[B") ∈ lw_all := lw_g (lw_at lw_m1 14 rfl) rfl
theorem q33 : (Jvm.Cond.fieldLink "MarchTester" (19 : Nat) "MarchTester" "without" "I") ∈ lw_all := lw_g (lw_at lw_m1 15 rfl) rfl
theorem q34 : (Jvm.Cond.fieldLink "MarchTester" (30 : Nat) "MarchTester" "kind" "I") ∈ lw_all := lw_g (lw_at lw_m1 16 rfl) rfl
theorem q35 : (Jvm.Cond.fieldLink "MarchTester" (33 : Nat) "MarchTester" "bit" "I") ∈ lw_all := lw_g (lw_at lw_m1 17 rfl) rfl
theorem q36 : (Jvm.Cond.fieldLink "MarchTester" (36 : Nat) "MarchTester" "other" "I") ∈ lw_all := lw_g (lw_at lw_m1 18 rfl) rfl
theorem q37 : (Jvm.Cond.fieldLink "MarchTester" (42 : Nat) "MarchTester" "failed" "Z") ∈ lw_all := lw_g (lw_at lw_m1 19 rfl) rfl
theorem q38 : (Jvm.Cond.lays "MarchTester" "MarchTester" "count" "I") ∈ lw_all := lw_g (lw_at lw_m1 20 rfl) rfl
theorem q39 : (Jvm.Cond.soleField "MarchTester" "count") ∈ lw_all := lw_g (lw_at lw_m1 21 rfl) rfl
theorem q40 : (Jvm.Cond.laysFinal "MarchTester" "MarchTester" "directions" "[B") ∈ lw_all := lw_g (lw_at lw_m1 22 rfl) rfl
theorem q41 : (Jvm.Cond.soleField "MarchTester" "directions") ∈ lw_all := lw_g (lw_at lw_m1 23 rfl) rfl
theorem q42 : (Jvm.Cond.laysFinal "MarchTester" "MarchTester" "sizes" "[B") ∈ lw_all := lw_g (lw_at lw_m1 24 rfl) rfl
theorem q43 : (Jvm.Cond.soleField "MarchTester" "sizes") ∈ lw_all := lw_g (lw_at lw_m1 25 rfl) rfl
theorem q44 : (Jvm.Cond.laysFinal "MarchTester" "MarchTester" "ops" "[B") ∈ lw_all := lw_g (lw_at lw_m1 26 rfl) rfl
theorem q45 : (Jvm.Cond.soleField "MarchTester" "ops") ∈ lw_all := lw_g (lw_at lw_m1 27 rfl) rfl
theorem q46 : (Jvm.Cond.lays "MarchTester" "MarchTester" "without" "I") ∈ lw_all := lw_g (lw_at lw_m1 28 rfl) rfl
theorem q47 : (Jvm.Cond.soleField "MarchTester" "without") ∈ lw_all := lw_g (lw_at lw_m1 29 rfl) rfl
theorem q48 : (Jvm.Cond.lays "MarchTester" "MarchTester" "kind" "I") ∈ lw_all := lw_g (lw_at lw_m1 30 rfl) rfl
theorem q49 : (Jvm.Cond.soleField "MarchTester" "kind") ∈ lw_all := lw_g (lw_at lw_m1 31 rfl) rfl
theorem q50 : (Jvm.Cond.lays "MarchTester" "MarchTester" "bit" "I") ∈ lw_all := lw_g (lw_at lw_m1 32 rfl) rfl
theorem q51 : (Jvm.Cond.soleField "MarchTester" "bit") ∈ lw_all := lw_g (lw_at lw_m1 33 rfl) rfl
theorem q52 : (Jvm.Cond.lays "MarchTester" "MarchTester" "other" "I") ∈ lw_all := lw_g (lw_at lw_m1 34 rfl) rfl
theorem q53 : (Jvm.Cond.soleField "MarchTester" "other") ∈ lw_all := lw_g (lw_at lw_m1 35 rfl) rfl
theorem q54 : (Jvm.Cond.lays "MarchTester" "MarchTester" "failed" "Z") ∈ lw_all := lw_g (lw_at lw_m1 36 rfl) rfl
theorem q55 : (Jvm.Cond.soleField "MarchTester" "failed") ∈ lw_all := lw_g (lw_at lw_m1 37 rfl) rfl
theorem q56 : (Jvm.Cond.superclass "MarchTester" "java/lang/Object") ∈ lw_all := lw_g (lw_at lw_m1 38 rfl) rfl
theorem q59 : (Jvm.Cond.instanceMethod ({ cls := "MarchTester", name := "march", desc := "(I)I" } : Jvm.MethodName)) ∈ lw_all := lw_g (lw_at lw_m1 41 rfl) rfl
theorem q60 : (Jvm.Cond.selects "MarchTester" ({ cls := "MarchTester", name := "march", desc := "(I)I" } : Jvm.MethodName) ({ cls := "MarchTester", name := "march", desc := "(I)I" } : Jvm.MethodName)) ∈ lw_all := lw_g (lw_at lw_m1 42 rfl) rfl
theorem q61 : (Jvm.Cond.code ({ cls := "MarchTester", name := "march", desc := "(I)I" } : Jvm.MethodName) prog_1_method_2_code (2 : Nat) (Option.some Jvm.ClassFile.FieldType.int)) ∈ lw_all := lw_g (lw_at lw_m1 43 rfl) rfl
theorem q63 : (Jvm.Cond.instanceMethod ({ cls := "MarchTester", name := "op", desc := "(I)I" } : Jvm.MethodName)) ∈ lw_all := lw_g (lw_at lw_m1 45 rfl) rfl
theorem q64 : (Jvm.Cond.selects "MarchTester" ({ cls := "MarchTester", name := "op", desc := "(I)I" } : Jvm.MethodName) ({ cls := "MarchTester", name := "op", desc := "(I)I" } : Jvm.MethodName)) ∈ lw_all := lw_g (lw_at lw_m1 46 rfl) rfl
theorem q65 : (Jvm.Cond.code ({ cls := "MarchTester", name := "op", desc := "(I)I" } : Jvm.MethodName) prog_1_method_3_code (3 : Nat) (Option.some Jvm.ClassFile.FieldType.int)) ∈ lw_all := lw_g (lw_at lw_m1 47 rfl) rfl
theorem q67 : (Jvm.Cond.instanceMethod ({ cls := "MarchTester", name := "drop", desc := "()I" } : Jvm.MethodName)) ∈ lw_all := lw_g (lw_at lw_m1 49 rfl) rfl
theorem q68 : (Jvm.Cond.selects "MarchTester" ({ cls := "MarchTester", name := "drop", desc := "()I" } : Jvm.MethodName) ({ cls := "MarchTester", name := "drop", desc := "()I" } : Jvm.MethodName)) ∈ lw_all := lw_g (lw_at lw_m1 50 rfl) rfl
theorem q69 : (Jvm.Cond.code ({ cls := "MarchTester", name := "drop", desc := "()I" } : Jvm.MethodName) prog_1_method_4_code (1 : Nat) (Option.some Jvm.ClassFile.FieldType.int)) ∈ lw_all := lw_g (lw_at lw_m1 51 rfl) rfl
theorem q71 : (Jvm.Cond.instanceMethod ({ cls := "MarchTester", name := "turn", desc := "(I)Z" } : Jvm.MethodName)) ∈ lw_all := lw_g (lw_at lw_m1 53 rfl) rfl
theorem q72 : (Jvm.Cond.selects "MarchTester" ({ cls := "MarchTester", name := "turn", desc := "(I)Z" } : Jvm.MethodName) ({ cls := "MarchTester", name := "turn", desc := "(I)Z" } : Jvm.MethodName)) ∈ lw_all := lw_g (lw_at lw_m1 54 rfl) rfl
theorem q73 : (Jvm.Cond.code ({ cls := "MarchTester", name := "turn", desc := "(I)Z" } : Jvm.MethodName) prog_1_method_5_code (2 : Nat) (Option.some Jvm.ClassFile.FieldType.boolean)) ∈ lw_all := lw_g (lw_at lw_m1 55 rfl) rfl
theorem q75 : (Jvm.Cond.instanceMethod ({ cls := "MarchTester", name := "marches", desc := "()I" } : Jvm.MethodName)) ∈ lw_all := lw_g (lw_at lw_m1 57 rfl) rfl
theorem q76 : (Jvm.Cond.selects "MarchTester" ({ cls := "MarchTester", name := "marches", desc := "()I" } : Jvm.MethodName) ({ cls := "MarchTester", name := "marches", desc := "()I" } : Jvm.MethodName)) ∈ lw_all := lw_g (lw_at lw_m1 58 rfl) rfl
theorem q77 : (Jvm.Cond.code ({ cls := "MarchTester", name := "marches", desc := "()I" } : Jvm.MethodName) prog_1_method_6_code (1 : Nat) (Option.some Jvm.ClassFile.FieldType.int)) ∈ lw_all := lw_g (lw_at lw_m1 59 rfl) rfl
theorem q79 : (Jvm.Cond.instanceMethod ({ cls := "MarchTester", name := "sound", desc := "()Z" } : Jvm.MethodName)) ∈ lw_all := lw_g (lw_at lw_m1 61 rfl) rfl
theorem q80 : (Jvm.Cond.selects "MarchTester" ({ cls := "MarchTester", name := "sound", desc := "()Z" } : Jvm.MethodName) ({ cls := "MarchTester", name := "sound", desc := "()Z" } : Jvm.MethodName)) ∈ lw_all := lw_g (lw_at lw_m1 62 rfl) rfl
theorem q81 : (Jvm.Cond.code ({ cls := "MarchTester", name := "sound", desc := "()Z" } : Jvm.MethodName) prog_1_method_7_code (1 : Nat) (Option.some Jvm.ClassFile.FieldType.boolean)) ∈ lw_all := lw_g (lw_at lw_m1 63 rfl) rfl
theorem q82 : (Jvm.Cond.methodLink "MarchTester" (26 : Nat) ({ cls := "MarchTester", name := "quiet", desc := "()I" } : Jvm.MethodName)) ∈ lw_all := lw_g (lw_at lw_m1 64 rfl) rfl
theorem q83 : (Jvm.Cond.privateMethod ({ cls := "MarchTester", name := "quiet", desc := "()I" } : Jvm.MethodName)) ∈ lw_tbl := lw_at lw_m1 65 rfl
theorem q84 : (Jvm.Cond.instanceMethod ({ cls := "MarchTester", name := "quiet", desc := "()I" } : Jvm.MethodName)) ∈ lw_all := lw_g (lw_at lw_m1 66 rfl) rfl
theorem q85 : (Jvm.Cond.code ({ cls := "MarchTester", name := "quiet", desc := "()I" } : Jvm.MethodName) prog_1_method_13_code (3 : Nat) (Option.some Jvm.ClassFile.FieldType.int)) ∈ lw_all := lw_g (lw_at lw_m1 67 rfl) rfl
theorem q86 : (Jvm.Cond.methodLink "MarchTester" (57 : Nat) ({ cls := "MarchTester", name := "runs", desc := "(IZII)Z" } : Jvm.MethodName)) ∈ lw_all := lw_g (lw_at lw_m1 68 rfl) rfl
theorem q87 : (Jvm.Cond.privateMethod ({ cls := "MarchTester", name := "runs", desc := "(IZII)Z" } : Jvm.MethodName)) ∈ lw_tbl := lw_at lw_m1 69 rfl
theorem q88 : (Jvm.Cond.instanceMethod ({ cls := "MarchTester", name := "runs", desc := "(IZII)Z" } : Jvm.MethodName)) ∈ lw_all := lw_g (lw_at lw_m1 70 rfl) rfl
theorem q89 : (Jvm.Cond.code ({ cls := "MarchTester", name := "runs", desc := "(IZII)Z" } : Jvm.MethodName) prog_1_method_12_code (7 : Nat) (Option.some Jvm.ClassFile.FieldType.boolean)) ∈ lw_all := lw_g (lw_at lw_m1 71 rfl) rfl
theorem q90 : (Jvm.Cond.methodLink "MarchTester" (39 : Nat) ({ cls := "MarchTester", name := "hold", desc := "()V" } : Jvm.MethodName)) ∈ lw_all := lw_g (lw_at lw_m1 72 rfl) rfl
theorem q91 : (Jvm.Cond.privateMethod ({ cls := "MarchTester", name := "hold", desc := "()V" } : Jvm.MethodName)) ∈ lw_tbl := lw_at lw_m1 73 rfl
theorem q92 : (Jvm.Cond.instanceMethod ({ cls := "MarchTester", name := "hold", desc := "()V" } : Jvm.MethodName)) ∈ lw_all := lw_g (lw_at lw_m1 74 rfl) rfl
theorem q93 : (Jvm.Cond.code ({ cls := "MarchTester", name := "hold", desc := "()V" } : Jvm.MethodName) prog_1_method_8_code (1 : Nat) (Option.none : Option Jvm.ClassFile.FieldType)) ∈ lw_all := lw_g (lw_at lw_m1 75 rfl) rfl
theorem q94 : (Jvm.Cond.methodLink "MarchTester" (53 : Nat) ({ cls := "MarchTester", name := "visit", desc := "(IZ)V" } : Jvm.MethodName)) ∈ lw_all := lw_g (lw_at lw_m1 76 rfl) rfl
theorem q95 : (Jvm.Cond.privateMethod ({ cls := "MarchTester", name := "visit", desc := "(IZ)V" } : Jvm.MethodName)) ∈ lw_tbl := lw_at lw_m1 77 rfl
theorem q96 : (Jvm.Cond.instanceMethod ({ cls := "MarchTester", name := "visit", desc := "(IZ)V" } : Jvm.MethodName)) ∈ lw_all := lw_g (lw_at lw_m1 78 rfl) rfl
theorem q97 : (Jvm.Cond.code ({ cls := "MarchTester", name := "visit", desc := "(IZ)V" } : Jvm.MethodName) prog_1_method_11_code (5 : Nat) (Option.none : Option Jvm.ClassFile.FieldType)) ∈ lw_all := lw_g (lw_at lw_m1 79 rfl) rfl
theorem q98 : (Jvm.Cond.methodLink "MarchTester" (46 : Nat) ({ cls := "MarchTester", name := "writeOwn", desc := "(I)V" } : Jvm.MethodName)) ∈ lw_all := lw_g (lw_at lw_m1 80 rfl) rfl
theorem q99 : (Jvm.Cond.privateMethod ({ cls := "MarchTester", name := "writeOwn", desc := "(I)V" } : Jvm.MethodName)) ∈ lw_tbl := lw_at lw_m1 81 rfl
theorem q100 : (Jvm.Cond.instanceMethod ({ cls := "MarchTester", name := "writeOwn", desc := "(I)V" } : Jvm.MethodName)) ∈ lw_all := lw_g (lw_at lw_m1 82 rfl) rfl
theorem q101 : (Jvm.Cond.code ({ cls := "MarchTester", name := "writeOwn", desc := "(I)V" } : Jvm.MethodName) prog_1_method_9_code (3 : Nat) (Option.none : Option Jvm.ClassFile.FieldType)) ∈ lw_all := lw_g (lw_at lw_m1 83 rfl) rfl
theorem q102 : (Jvm.Cond.methodLink "MarchTester" (50 : Nat) ({ cls := "MarchTester", name := "writeOther", desc := "(I)V" } : Jvm.MethodName)) ∈ lw_all := lw_g (lw_at lw_m1 84 rfl) rfl
theorem q103 : (Jvm.Cond.privateMethod ({ cls := "MarchTester", name := "writeOther", desc := "(I)V" } : Jvm.MethodName)) ∈ lw_tbl := lw_at lw_m1 85 rfl
theorem q104 : (Jvm.Cond.instanceMethod ({ cls := "MarchTester", name := "writeOther", desc := "(I)V" } : Jvm.MethodName)) ∈ lw_all := lw_g (lw_at lw_m1 86 rfl) rfl
theorem q105 : (Jvm.Cond.code ({ cls := "MarchTester", name := "writeOther", desc := "(I)V" } : Jvm.MethodName) prog_1_method_10_code (6 : Nat) (Option.none : Option Jvm.ClassFile.FieldType)) ∈ lw_all := lw_g (lw_at lw_m1 87 rfl) rfl
theorem q107 : (Jvm.Cond.instanceMethod ({ cls := "MarchTester", name := "steps", desc := "()I" } : Jvm.MethodName)) ∈ lw_all := lw_g (lw_at lw_m1 89 rfl) rfl
theorem q108 : (Jvm.Cond.selects "MarchTester" ({ cls := "MarchTester", name := "steps", desc := "()I" } : Jvm.MethodName) ({ cls := "MarchTester", name := "steps", desc := "()I" } : Jvm.MethodName)) ∈ lw_all := lw_g (lw_at lw_m1 90 rfl) rfl
theorem q109 : (Jvm.Cond.code ({ cls := "MarchTester", name := "steps", desc := "()I" } : Jvm.MethodName) prog_1_method_17_code (3 : Nat) (Option.some Jvm.ClassFile.FieldType.int)) ∈ lw_all := lw_g (lw_at lw_m1 91 rfl) rfl
theorem q111 : (Jvm.Cond.instanceMethod ({ cls := "MarchTester", name := "finds", desc := "(III)Z" } : Jvm.MethodName)) ∈ lw_all := lw_g (lw_at lw_m1 93 rfl) rfl
theorem q112 : (Jvm.Cond.selects "MarchTester" ({ cls := "MarchTester", name := "finds", desc := "(III)Z" } : Jvm.MethodName) ({ cls := "MarchTester", name := "finds", desc := "(III)Z" } : Jvm.MethodName)) ∈ lw_all := lw_g (lw_at lw_m1 94 rfl) rfl
theorem q113 : (Jvm.Cond.code ({ cls := "MarchTester", name := "finds", desc := "(III)Z" } : Jvm.MethodName) prog_1_method_18_code (4 : Nat) (Option.some Jvm.ClassFile.FieldType.boolean)) ∈ lw_all := lw_g (lw_at lw_m1 95 rfl) rfl
theorem q114 : (Jvm.Cond.methodLink "MarchTester" (65 : Nat) ({ cls := "MarchTester", name := "isFault", desc := "(III)Z" } : Jvm.MethodName)) ∈ lw_all := lw_g (lw_at lw_m1 96 rfl) rfl
theorem q115 : (Jvm.Cond.static ({ cls := "MarchTester", name := "isFault", desc := "(III)Z" } : Jvm.MethodName)) ∈ lw_all := lw_g (lw_at lw_m1 97 rfl) rfl
theorem q116 : (Jvm.Cond.code ({ cls := "MarchTester", name := "isFault", desc := "(III)Z" } : Jvm.MethodName) prog_1_method_16_code (4 : Nat) (Option.some Jvm.ClassFile.FieldType.boolean)) ∈ lw_all := lw_g (lw_at lw_m1 98 rfl) rfl
theorem q117 : (Jvm.Cond.methodLink "MarchTester" (69 : Nat) ({ cls := "MarchTester", name := "isFound", desc := "(IZ)Z" } : Jvm.MethodName)) ∈ lw_all := lw_g (lw_at lw_m1 99 rfl) rfl
theorem q118 : (Jvm.Cond.privateMethod ({ cls := "MarchTester", name := "isFound", desc := "(IZ)Z" } : Jvm.MethodName)) ∈ lw_tbl := lw_at lw_m1 100 rfl
theorem q119 : (Jvm.Cond.instanceMethod ({ cls := "MarchTester", name := "isFound", desc := "(IZ)Z" } : Jvm.MethodName)) ∈ lw_all := lw_g (lw_at lw_m1 101 rfl) rfl
theorem q120 : (Jvm.Cond.code ({ cls := "MarchTester", name := "isFound", desc := "(IZ)Z" } : Jvm.MethodName) prog_1_method_15_code (3 : Nat) (Option.some Jvm.ClassFile.FieldType.boolean)) ∈ lw_all := lw_g (lw_at lw_m1 102 rfl) rfl
theorem q121 : (Jvm.Cond.methodLink "MarchTester" (61 : Nat) ({ cls := "MarchTester", name := "silent", desc := "(IZ)I" } : Jvm.MethodName)) ∈ lw_all := lw_g (lw_at lw_m1 103 rfl) rfl
theorem q122 : (Jvm.Cond.privateMethod ({ cls := "MarchTester", name := "silent", desc := "(IZ)I" } : Jvm.MethodName)) ∈ lw_tbl := lw_at lw_m1 104 rfl
theorem q123 : (Jvm.Cond.instanceMethod ({ cls := "MarchTester", name := "silent", desc := "(IZ)I" } : Jvm.MethodName)) ∈ lw_all := lw_g (lw_at lw_m1 105 rfl) rfl
theorem q124 : (Jvm.Cond.code ({ cls := "MarchTester", name := "silent", desc := "(IZ)I" } : Jvm.MethodName) prog_1_method_14_code (7 : Nat) (Option.some Jvm.ClassFile.FieldType.int)) ∈ lw_all := lw_g (lw_at lw_m1 106 rfl) rfl
theorem q126 : (Jvm.Cond.instanceMethod ({ cls := "MarchTester", name := "found", desc := "(I)I" } : Jvm.MethodName)) ∈ lw_all := lw_g (lw_at lw_m1 108 rfl) rfl
theorem q127 : (Jvm.Cond.selects "MarchTester" ({ cls := "MarchTester", name := "found", desc := "(I)I" } : Jvm.MethodName) ({ cls := "MarchTester", name := "found", desc := "(I)I" } : Jvm.MethodName)) ∈ lw_all := lw_g (lw_at lw_m1 109 rfl) rfl
theorem q128 : (Jvm.Cond.code ({ cls := "MarchTester", name := "found", desc := "(I)I" } : Jvm.MethodName) prog_1_method_19_code (3 : Nat) (Option.some Jvm.ClassFile.FieldType.int)) ∈ lw_all := lw_g (lw_at lw_m1 110 rfl) rfl
theorem q129 : (Jvm.Cond.methodLink "MarchTester" (73 : Nat) ({ cls := "MarchTester", name := "half", desc := "(I)I" } : Jvm.MethodName)) ∈ lw_all := lw_g (lw_at lw_m1 111 rfl) rfl
theorem q130 : (Jvm.Cond.static ({ cls := "MarchTester", name := "half", desc := "(I)I" } : Jvm.MethodName)) ∈ lw_all := lw_g (lw_at lw_m1 112 rfl) rfl
theorem q131 : (Jvm.Cond.code ({ cls := "MarchTester", name := "half", desc := "(I)I" } : Jvm.MethodName) prog_1_method_20_code (1 : Nat) (Option.some Jvm.ClassFile.FieldType.int)) ∈ lw_all := lw_g (lw_at lw_m1 113 rfl) rfl
theorem q133 : (Jvm.Cond.instanceMethod ({ cls := "MarchTester", name := "covered", desc := "()I" } : Jvm.MethodName)) ∈ lw_all := lw_g (lw_at lw_m1 115 rfl) rfl
theorem q134 : (Jvm.Cond.selects "MarchTester" ({ cls := "MarchTester", name := "covered", desc := "()I" } : Jvm.MethodName) ({ cls := "MarchTester", name := "covered", desc := "()I" } : Jvm.MethodName)) ∈ lw_all := lw_g (lw_at lw_m1 116 rfl) rfl
theorem q135 : (Jvm.Cond.code ({ cls := "MarchTester", name := "covered", desc := "()I" } : Jvm.MethodName) prog_1_method_21_code (4 : Nat) (Option.some Jvm.ClassFile.FieldType.int)) ∈ lw_all := lw_g (lw_at lw_m1 117 rfl) rfl
theorem q136 : (Jvm.Cond.methodLink "MarchTester" (77 : Nat) ({ cls := "MarchTester", name := "found", desc := "(I)I" } : Jvm.MethodName)) ∈ lw_all := lw_g (lw_at lw_m1 118 rfl) rfl
theorem q138 : (Jvm.Cond.instanceMethod ({ cls := "MarchTester", name := "foundFrom", desc := "(III)I" } : Jvm.MethodName)) ∈ lw_all := lw_g (lw_at lw_m1 120 rfl) rfl
theorem q139 : (Jvm.Cond.selects "MarchTester" ({ cls := "MarchTester", name := "foundFrom", desc := "(III)I" } : Jvm.MethodName) ({ cls := "MarchTester", name := "foundFrom", desc := "(III)I" } : Jvm.MethodName)) ∈ lw_all := lw_g (lw_at lw_m1 121 rfl) rfl
theorem q140 : (Jvm.Cond.code ({ cls := "MarchTester", name := "foundFrom", desc := "(III)I" } : Jvm.MethodName) prog_1_method_22_code (4 : Nat) (Option.some Jvm.ClassFile.FieldType.int)) ∈ lw_all := lw_g (lw_at lw_m1 122 rfl) rfl
theorem q142 : (Jvm.Cond.instanceMethod ({ cls := "MarchTester", name := "spare", desc := "()I" } : Jvm.MethodName)) ∈ lw_all := lw_g (lw_at lw_m1 124 rfl) rfl
theorem q143 : (Jvm.Cond.selects "MarchTester" ({ cls := "MarchTester", name := "spare", desc := "()I" } : Jvm.MethodName) ({ cls := "MarchTester", name := "spare", desc := "()I" } : Jvm.MethodName)) ∈ lw_all := lw_g (lw_at lw_m1 125 rfl) rfl
theorem q144 : (Jvm.Cond.code ({ cls := "MarchTester", name := "spare", desc := "()I" } : Jvm.MethodName) prog_1_method_24_code (5 : Nat) (Option.some Jvm.ClassFile.FieldType.int)) ∈ lw_all := lw_g (lw_at lw_m1 126 rfl) rfl
theorem q145 : (Jvm.Cond.methodLink "MarchTester" (80 : Nat) ({ cls := "MarchTester", name := "foundSet", desc := "()I" } : Jvm.MethodName)) ∈ lw_all := lw_g (lw_at lw_m1 127 rfl) rfl
theorem q146 : (Jvm.Cond.privateMethod ({ cls := "MarchTester", name := "foundSet", desc := "()I" } : Jvm.MethodName)) ∈ lw_tbl := lw_at lw_m1 128 rfl
theorem q147 : (Jvm.Cond.instanceMethod ({ cls := "MarchTester", name := "foundSet", desc := "()I" } : Jvm.MethodName)) ∈ lw_all := lw_g (lw_at lw_m1 129 rfl) rfl
theorem q148 : (Jvm.Cond.code ({ cls := "MarchTester", name := "foundSet", desc := "()I" } : Jvm.MethodName) prog_1_method_23_code (3 : Nat) (Option.some Jvm.ClassFile.FieldType.int)) ∈ lw_all := lw_g (lw_at lw_m1 130 rfl) rfl
theorem in_X0 : ∀ w ∈ wsX00, w ∈ lw_all := lw_in wsX00 [38, 40, 42, 44, 46, 48, 50, 52, 54] (by decide +kernel) (by decide +kernel)
end
section
/-! MarchTesterModel -/
set_option maxRecDepth 100000
def RX1 : String := "MarchTesterModel"
def TX1 : u_T := fun k => match k with
  | 0 => ("MarchTesterModel", "size", "I", false)
  | 1 => ("MarchTesterModel", "down", "[I", false)
  | 2 => ("MarchTesterModel", "many", "[I", false)
  | 3 => ("MarchTesterModel", "ops", "[I", false)
  | 4 => ("MarchTesterModel", "memory", "I", false)
  | 5 => ("MarchTesterModel", "sort", "I", false)
  | 6 => ("MarchTesterModel", "cell", "I", false)
  | _ => ("MarchTesterModel", "other", "I", false)
def tyX1 : Nat → FieldType := fun k => match k with
  | 0 => .int
  | 1 => .array .int
  | 2 => .array .int
  | 3 => .array .int
  | 4 => .int
  | 5 => .int
  | 6 => .int
  | _ => .int
abbrev wsX10 : List Cond := u_ws RX1 TX1 8
theorem nmX1 : ∀ a, a < 8 → ∀ b, b < 8 → a ≠ b → (TX1 a).2.1 ≠ (TX1 b).2.1 := by decide +kernel
theorem tyX1_ok : ∀ k, k < 8 → parseFieldDescriptor (TX1 k).2.2.1 = some (tyX1 k) := by decide +kernel
abbrev cX1_init : ByteArray := prog_3_method_1_code
def yX1_init : MethodName := ⟨RX1, "<init>", "()V"⟩
theorem dX1_init_0 : decode cX1_init 0 = .ok (.aload_n 0, 1) := by decide +kernel
theorem dX1_init_1 : decode cX1_init 1 = .ok (.invokespecial 1, 3) := by decide +kernel
theorem dX1_init_4 : decode cX1_init 4 = .ok (.aload_n 0, 1) := by decide +kernel
theorem dX1_init_5 : decode cX1_init 5 = .ok (.bipush 6, 2) := by decide +kernel
theorem dX1_init_7 : decode cX1_init 7 = .ok (.newarray .int, 2) := by decide +kernel
theorem dX1_init_9 : decode cX1_init 9 = .ok (.putfield 7, 3) := by decide +kernel
theorem dX1_init_12 : decode cX1_init 12 = .ok (.aload_n 0, 1) := by decide +kernel
theorem dX1_init_13 : decode cX1_init 13 = .ok (.bipush 6, 2) := by decide +kernel
theorem dX1_init_15 : decode cX1_init 15 = .ok (.newarray .int, 2) := by decide +kernel
theorem dX1_init_17 : decode cX1_init 17 = .ok (.putfield 13, 3) := by decide +kernel
theorem dX1_init_20 : decode cX1_init 20 = .ok (.aload_n 0, 1) := by decide +kernel
theorem dX1_init_21 : decode cX1_init 21 = .ok (.bipush 24, 2) := by decide +kernel
theorem dX1_init_23 : decode cX1_init 23 = .ok (.newarray .int, 2) := by decide +kernel
theorem dX1_init_25 : decode cX1_init 25 = .ok (.putfield 16, 3) := by decide +kernel
theorem dX1_init_28 : decode cX1_init 28 = .ok (.return_, 1) := by decide +kernel
abbrev cX1_march : ByteArray := prog_3_method_2_code
def yX1_march : MethodName := ⟨RX1, "march", "(I)I"⟩
theorem dX1_march_0 : decode cX1_march 0 = .ok (.iload_n 1, 1) := by decide +kernel
theorem dX1_march_1 : decode cX1_march 1 = .ok (.ifCond .eq 10, 3) := by decide +kernel
theorem dX1_march_4 : decode cX1_march 4 = .ok (.iload_n 1, 1) := by decide +kernel
theorem dX1_march_5 : decode cX1_march 5 = .ok (.iconst 1, 1) := by decide +kernel
theorem dX1_march_6 : decode cX1_march 6 = .ok (.if_icmp .eq 5, 3) := by decide +kernel
theorem dX1_march_9 : decode cX1_march 9 = .ok (.iconst (-1), 1) := by decide +kernel
theorem dX1_march_10 : decode cX1_march 10 = .ok (.ireturn, 1) := by decide +kernel
theorem dX1_march_11 : decode cX1_march 11 = .ok (.aload_n 0, 1) := by decide +kernel
theorem dX1_march_12 : decode cX1_march 12 = .ok (.getfield 19, 3) := by decide +kernel
theorem dX1_march_15 : decode cX1_march 15 = .ok (.bipush 6, 2) := by decide +kernel
theorem dX1_march_17 : decode cX1_march 17 = .ok (.if_icmp .lt 6, 3) := by decide +kernel
theorem dX1_march_20 : decode cX1_march 20 = .ok (.bipush (-2), 2) := by decide +kernel
theorem dX1_march_22 : decode cX1_march 22 = .ok (.ireturn, 1) := by decide +kernel
theorem dX1_march_23 : decode cX1_march 23 = .ok (.aload_n 0, 1) := by decide +kernel
theorem dX1_march_24 : decode cX1_march 24 = .ok (.getfield 7, 3) := by decide +kernel
theorem dX1_march_27 : decode cX1_march 27 = .ok (.aload_n 0, 1) := by decide +kernel
theorem dX1_march_28 : decode cX1_march 28 = .ok (.getfield 19, 3) := by decide +kernel
theorem dX1_march_31 : decode cX1_march 31 = .ok (.iload_n 1, 1) := by decide +kernel
theorem dX1_march_32 : decode cX1_march 32 = .ok (.iastore, 1) := by decide +kernel
theorem dX1_march_33 : decode cX1_march 33 = .ok (.aload_n 0, 1) := by decide +kernel
theorem dX1_march_34 : decode cX1_march 34 = .ok (.getfield 13, 3) := by decide +kernel
theorem dX1_march_37 : decode cX1_march 37 = .ok (.aload_n 0, 1) := by decide +kernel
theorem dX1_march_38 : decode cX1_march 38 = .ok (.getfield 19, 3) := by decide +kernel
theorem dX1_march_41 : decode cX1_march 41 = .ok (.iconst 0, 1) := by decide +kernel
theorem dX1_march_42 : decode cX1_march 42 = .ok (.iastore, 1) := by decide +kernel
theorem dX1_march_43 : decode cX1_march 43 = .ok (.aload_n 0, 1) := by decide +kernel
theorem dX1_march_44 : decode cX1_march 44 = .ok (.dup, 1) := by decide +kernel
theorem dX1_march_45 : decode cX1_march 45 = .ok (.getfield 19, 3) := by decide +kernel
theorem dX1_march_48 : decode cX1_march 48 = .ok (.iconst 1, 1) := by decide +kernel
theorem dX1_march_49 : decode cX1_march 49 = .ok (.iadd, 1) := by decide +kernel
theorem dX1_march_50 : decode cX1_march 50 = .ok (.putfield 19, 3) := by decide +kernel
theorem dX1_march_53 : decode cX1_march 53 = .ok (.aload_n 0, 1) := by decide +kernel
theorem dX1_march_54 : decode cX1_march 54 = .ok (.getfield 19, 3) := by decide +kernel
theorem dX1_march_57 : decode cX1_march 57 = .ok (.iconst 1, 1) := by decide +kernel
theorem dX1_march_58 : decode cX1_march 58 = .ok (.isub, 1) := by decide +kernel
theorem dX1_march_59 : decode cX1_march 59 = .ok (.ireturn, 1) := by decide +kernel
abbrev cX1_op : ByteArray := prog_3_method_3_code
def yX1_op : MethodName := ⟨RX1, "op", "(I)I"⟩
theorem dX1_op_0 : decode cX1_op 0 = .ok (.iload_n 1, 1) := by decide +kernel
theorem dX1_op_1 : decode cX1_op 1 = .ok (.ifCond .lt 15, 3) := by decide +kernel
theorem dX1_op_4 : decode cX1_op 4 = .ok (.iload_n 1, 1) := by decide +kernel
theorem dX1_op_5 : decode cX1_op 5 = .ok (.iconst 3, 1) := by decide +kernel
theorem dX1_op_6 : decode cX1_op 6 = .ok (.if_icmp .gt 10, 3) := by decide +kernel
theorem dX1_op_9 : decode cX1_op 9 = .ok (.aload_n 0, 1) := by decide +kernel
theorem dX1_op_10 : decode cX1_op 10 = .ok (.getfield 19, 3) := by decide +kernel
theorem dX1_op_13 : decode cX1_op 13 = .ok (.ifCond .ne 5, 3) := by decide +kernel
theorem dX1_op_16 : decode cX1_op 16 = .ok (.iconst (-1), 1) := by decide +kernel
theorem dX1_op_17 : decode cX1_op 17 = .ok (.ireturn, 1) := by decide +kernel
theorem dX1_op_18 : decode cX1_op 18 = .ok (.aload_n 0, 1) := by decide +kernel
theorem dX1_op_19 : decode cX1_op 19 = .ok (.getfield 19, 3) := by decide +kernel
theorem dX1_op_22 : decode cX1_op 22 = .ok (.iconst 1, 1) := by decide +kernel
theorem dX1_op_23 : decode cX1_op 23 = .ok (.isub, 1) := by decide +kernel
theorem dX1_op_24 : decode cX1_op 24 = .ok (.istore_n 2, 1) := by decide +kernel
theorem dX1_op_25 : decode cX1_op 25 = .ok (.aload_n 0, 1) := by decide +kernel
theorem dX1_op_26 : decode cX1_op 26 = .ok (.getfield 13, 3) := by decide +kernel
theorem dX1_op_29 : decode cX1_op 29 = .ok (.iload_n 2, 1) := by decide +kernel
theorem dX1_op_30 : decode cX1_op 30 = .ok (.iaload, 1) := by decide +kernel
theorem dX1_op_31 : decode cX1_op 31 = .ok (.iconst 4, 1) := by decide +kernel
theorem dX1_op_32 : decode cX1_op 32 = .ok (.if_icmp .lt 6, 3) := by decide +kernel
theorem dX1_op_35 : decode cX1_op 35 = .ok (.bipush (-2), 2) := by decide +kernel
theorem dX1_op_37 : decode cX1_op 37 = .ok (.ireturn, 1) := by decide +kernel
theorem dX1_op_38 : decode cX1_op 38 = .ok (.aload_n 0, 1) := by decide +kernel
theorem dX1_op_39 : decode cX1_op 39 = .ok (.getfield 16, 3) := by decide +kernel
theorem dX1_op_42 : decode cX1_op 42 = .ok (.iconst 4, 1) := by decide +kernel
theorem dX1_op_43 : decode cX1_op 43 = .ok (.iload_n 2, 1) := by decide +kernel
theorem dX1_op_44 : decode cX1_op 44 = .ok (.imul, 1) := by decide +kernel
theorem dX1_op_45 : decode cX1_op 45 = .ok (.aload_n 0, 1) := by decide +kernel
theorem dX1_op_46 : decode cX1_op 46 = .ok (.getfield 13, 3) := by decide +kernel
theorem dX1_op_49 : decode cX1_op 49 = .ok (.iload_n 2, 1) := by decide +kernel
theorem dX1_op_50 : decode cX1_op 50 = .ok (.iaload, 1) := by decide +kernel
theorem dX1_op_51 : decode cX1_op 51 = .ok (.iadd, 1) := by decide +kernel
theorem dX1_op_52 : decode cX1_op 52 = .ok (.iload_n 1, 1) := by decide +kernel
theorem dX1_op_53 : decode cX1_op 53 = .ok (.iastore, 1) := by decide +kernel
theorem dX1_op_54 : decode cX1_op 54 = .ok (.aload_n 0, 1) := by decide +kernel
theorem dX1_op_55 : decode cX1_op 55 = .ok (.getfield 13, 3) := by decide +kernel
theorem dX1_op_58 : decode cX1_op 58 = .ok (.iload_n 2, 1) := by decide +kernel
theorem dX1_op_59 : decode cX1_op 59 = .ok (.dup2, 1) := by decide +kernel
theorem dX1_op_60 : decode cX1_op 60 = .ok (.iaload, 1) := by decide +kernel
theorem dX1_op_61 : decode cX1_op 61 = .ok (.iconst 1, 1) := by decide +kernel
theorem dX1_op_62 : decode cX1_op 62 = .ok (.iadd, 1) := by decide +kernel
theorem dX1_op_63 : decode cX1_op 63 = .ok (.iastore, 1) := by decide +kernel
theorem dX1_op_64 : decode cX1_op 64 = .ok (.aload_n 0, 1) := by decide +kernel
theorem dX1_op_65 : decode cX1_op 65 = .ok (.getfield 13, 3) := by decide +kernel
theorem dX1_op_68 : decode cX1_op 68 = .ok (.iload_n 2, 1) := by decide +kernel
theorem dX1_op_69 : decode cX1_op 69 = .ok (.iaload, 1) := by decide +kernel
theorem dX1_op_70 : decode cX1_op 70 = .ok (.ireturn, 1) := by decide +kernel
abbrev cX1_drop : ByteArray := prog_3_method_4_code
def yX1_drop : MethodName := ⟨RX1, "drop", "()I"⟩
theorem dX1_drop_0 : decode cX1_drop 0 = .ok (.aload_n 0, 1) := by decide +kernel
theorem dX1_drop_1 : decode cX1_drop 1 = .ok (.getfield 19, 3) := by decide +kernel
theorem dX1_drop_4 : decode cX1_drop 4 = .ok (.ifCond .ne 5, 3) := by decide +kernel
theorem dX1_drop_7 : decode cX1_drop 7 = .ok (.iconst (-1), 1) := by decide +kernel
theorem dX1_drop_8 : decode cX1_drop 8 = .ok (.ireturn, 1) := by decide +kernel
theorem dX1_drop_9 : decode cX1_drop 9 = .ok (.aload_n 0, 1) := by decide +kernel
theorem dX1_drop_10 : decode cX1_drop 10 = .ok (.getfield 13, 3) := by decide +kernel
theorem dX1_drop_13 : decode cX1_drop 13 = .ok (.aload_n 0, 1) := by decide +kernel
theorem dX1_drop_14 : decode cX1_drop 14 = .ok (.getfield 19, 3) := by decide +kernel
theorem dX1_drop_17 : decode cX1_drop 17 = .ok (.iconst 1, 1) := by decide +kernel
theorem dX1_drop_18 : decode cX1_drop 18 = .ok (.isub, 1) := by decide +kernel
theorem dX1_drop_19 : decode cX1_drop 19 = .ok (.iaload, 1) := by decide +kernel
theorem dX1_drop_20 : decode cX1_drop 20 = .ok (.ifCond .le 21, 3) := by decide +kernel
theorem dX1_drop_23 : decode cX1_drop 23 = .ok (.aload_n 0, 1) := by decide +kernel
theorem dX1_drop_24 : decode cX1_drop 24 = .ok (.getfield 13, 3) := by decide +kernel
theorem dX1_drop_27 : decode cX1_drop 27 = .ok (.aload_n 0, 1) := by decide +kernel
theorem dX1_drop_28 : decode cX1_drop 28 = .ok (.getfield 19, 3) := by decide +kernel
theorem dX1_drop_31 : decode cX1_drop 31 = .ok (.iconst 1, 1) := by decide +kernel
theorem dX1_drop_32 : decode cX1_drop 32 = .ok (.isub, 1) := by decide +kernel
theorem dX1_drop_33 : decode cX1_drop 33 = .ok (.dup2, 1) := by decide +kernel
theorem dX1_drop_34 : decode cX1_drop 34 = .ok (.iaload, 1) := by decide +kernel
theorem dX1_drop_35 : decode cX1_drop 35 = .ok (.iconst 1, 1) := by decide +kernel
theorem dX1_drop_36 : decode cX1_drop 36 = .ok (.isub, 1) := by decide +kernel
theorem dX1_drop_37 : decode cX1_drop 37 = .ok (.iastore, 1) := by decide +kernel
theorem dX1_drop_38 : decode cX1_drop 38 = .ok (.goto 13, 3) := by decide +kernel
theorem dX1_drop_41 : decode cX1_drop 41 = .ok (.aload_n 0, 1) := by decide +kernel
theorem dX1_drop_42 : decode cX1_drop 42 = .ok (.dup, 1) := by decide +kernel
theorem dX1_drop_43 : decode cX1_drop 43 = .ok (.getfield 19, 3) := by decide +kernel
theorem dX1_drop_46 : decode cX1_drop 46 = .ok (.iconst 1, 1) := by decide +kernel
theorem dX1_drop_47 : decode cX1_drop 47 = .ok (.isub, 1) := by decide +kernel
theorem dX1_drop_48 : decode cX1_drop 48 = .ok (.putfield 19, 3) := by decide +kernel
theorem dX1_drop_51 : decode cX1_drop 51 = .ok (.aload_n 0, 1) := by decide +kernel
theorem dX1_drop_52 : decode cX1_drop 52 = .ok (.getfield 19, 3) := by decide +kernel
theorem dX1_drop_55 : decode cX1_drop 55 = .ok (.ireturn, 1) := by decide +kernel
abbrev cX1_turn : ByteArray := prog_3_method_5_code
def yX1_turn : MethodName := ⟨RX1, "turn", "(I)Z"⟩
theorem dX1_turn_0 : decode cX1_turn 0 = .ok (.iload_n 1, 1) := by decide +kernel
theorem dX1_turn_1 : decode cX1_turn 1 = .ok (.ifCond .lt 11, 3) := by decide +kernel
theorem dX1_turn_4 : decode cX1_turn 4 = .ok (.iload_n 1, 1) := by decide +kernel
theorem dX1_turn_5 : decode cX1_turn 5 = .ok (.aload_n 0, 1) := by decide +kernel
theorem dX1_turn_6 : decode cX1_turn 6 = .ok (.getfield 19, 3) := by decide +kernel
theorem dX1_turn_9 : decode cX1_turn 9 = .ok (.if_icmp .lt 5, 3) := by decide +kernel
theorem dX1_turn_12 : decode cX1_turn 12 = .ok (.iconst 0, 1) := by decide +kernel
theorem dX1_turn_13 : decode cX1_turn 13 = .ok (.ireturn, 1) := by decide +kernel
theorem dX1_turn_14 : decode cX1_turn 14 = .ok (.aload_n 0, 1) := by decide +kernel
theorem dX1_turn_15 : decode cX1_turn 15 = .ok (.getfield 7, 3) := by decide +kernel
theorem dX1_turn_18 : decode cX1_turn 18 = .ok (.iload_n 1, 1) := by decide +kernel
theorem dX1_turn_19 : decode cX1_turn 19 = .ok (.iconst 1, 1) := by decide +kernel
theorem dX1_turn_20 : decode cX1_turn 20 = .ok (.aload_n 0, 1) := by decide +kernel
theorem dX1_turn_21 : decode cX1_turn 21 = .ok (.getfield 7, 3) := by decide +kernel
theorem dX1_turn_24 : decode cX1_turn 24 = .ok (.iload_n 1, 1) := by decide +kernel
theorem dX1_turn_25 : decode cX1_turn 25 = .ok (.iaload, 1) := by decide +kernel
theorem dX1_turn_26 : decode cX1_turn 26 = .ok (.isub, 1) := by decide +kernel
theorem dX1_turn_27 : decode cX1_turn 27 = .ok (.iastore, 1) := by decide +kernel
theorem dX1_turn_28 : decode cX1_turn 28 = .ok (.iconst 1, 1) := by decide +kernel
theorem dX1_turn_29 : decode cX1_turn 29 = .ok (.ireturn, 1) := by decide +kernel
abbrev cX1_marches : ByteArray := prog_3_method_6_code
def yX1_marches : MethodName := ⟨RX1, "marches", "()I"⟩
theorem dX1_marches_0 : decode cX1_marches 0 = .ok (.aload_n 0, 1) := by decide +kernel
theorem dX1_marches_1 : decode cX1_marches 1 = .ok (.getfield 19, 3) := by decide +kernel
theorem dX1_marches_4 : decode cX1_marches 4 = .ok (.ireturn, 1) := by decide +kernel
abbrev cX1_sound : ByteArray := prog_3_method_14_code
def yX1_sound : MethodName := ⟨RX1, "sound", "()Z"⟩
theorem dX1_sound_0 : decode cX1_sound 0 = .ok (.aload_n 0, 1) := by decide +kernel
theorem dX1_sound_1 : decode cX1_sound 1 = .ok (.iconst (-1), 1) := by decide +kernel
theorem dX1_sound_2 : decode cX1_sound 2 = .ok (.iconst 0, 1) := by decide +kernel
theorem dX1_sound_3 : decode cX1_sound 3 = .ok (.iconst 0, 1) := by decide +kernel
theorem dX1_sound_4 : decode cX1_sound 4 = .ok (.iconst (-1), 1) := by decide +kernel
theorem dX1_sound_5 : decode cX1_sound 5 = .ok (.invokevirtual 56, 3) := by decide +kernel
theorem dX1_sound_8 : decode cX1_sound 8 = .ok (.ifCond .ne 7, 3) := by decide +kernel
theorem dX1_sound_11 : decode cX1_sound 11 = .ok (.iconst 1, 1) := by decide +kernel
theorem dX1_sound_12 : decode cX1_sound 12 = .ok (.goto 4, 3) := by decide +kernel
theorem dX1_sound_15 : decode cX1_sound 15 = .ok (.iconst 0, 1) := by decide +kernel
theorem dX1_sound_16 : decode cX1_sound 16 = .ok (.ireturn, 1) := by decide +kernel
abbrev cX1_count : ByteArray := prog_3_method_13_code
def yX1_count : MethodName := ⟨RX1, "count", "(IIII)I"⟩
theorem dX1_count_0 : decode cX1_count 0 = .ok (.aload_n 0, 1) := by decide +kernel
theorem dX1_count_1 : decode cX1_count 1 = .ok (.iload_n 1, 1) := by decide +kernel
theorem dX1_count_2 : decode cX1_count 2 = .ok (.putfield 26, 3) := by decide +kernel
theorem dX1_count_5 : decode cX1_count 5 = .ok (.aload_n 0, 1) := by decide +kernel
theorem dX1_count_6 : decode cX1_count 6 = .ok (.iload_n 2, 1) := by decide +kernel
theorem dX1_count_7 : decode cX1_count 7 = .ok (.putfield 29, 3) := by decide +kernel
theorem dX1_count_10 : decode cX1_count 10 = .ok (.aload_n 0, 1) := by decide +kernel
theorem dX1_count_11 : decode cX1_count 11 = .ok (.iload_n 3, 1) := by decide +kernel
theorem dX1_count_12 : decode cX1_count 12 = .ok (.putfield 36, 3) := by decide +kernel
theorem dX1_count_15 : decode cX1_count 15 = .ok (.iconst 0, 1) := by decide +kernel
theorem dX1_count_16 : decode cX1_count 16 = .ok (.istore 5, 2) := by decide +kernel
theorem dX1_count_18 : decode cX1_count 18 = .ok (.iconst 0, 1) := by decide +kernel
theorem dX1_count_19 : decode cX1_count 19 = .ok (.istore 6, 2) := by decide +kernel
theorem dX1_count_21 : decode cX1_count 21 = .ok (.iload 6, 2) := by decide +kernel
theorem dX1_count_23 : decode cX1_count 23 = .ok (.bipush 32, 2) := by decide +kernel
theorem dX1_count_25 : decode cX1_count 25 = .ok (.if_icmp .ge 31, 3) := by decide +kernel
theorem dX1_count_28 : decode cX1_count 28 = .ok (.aload_n 0, 1) := by decide +kernel
theorem dX1_count_29 : decode cX1_count 29 = .ok (.iload 6, 2) := by decide +kernel
theorem dX1_count_31 : decode cX1_count 31 = .ok (.iload 4, 2) := by decide +kernel
theorem dX1_count_33 : decode cX1_count 33 = .ok (.invokevirtual 53, 3) := by decide +kernel
theorem dX1_count_36 : decode cX1_count 36 = .ok (.ifCond .eq 10, 3) := by decide +kernel
theorem dX1_count_39 : decode cX1_count 39 = .ok (.iload 5, 2) := by decide +kernel
theorem dX1_count_41 : decode cX1_count 41 = .ok (.iconst 1, 1) := by decide +kernel
theorem dX1_count_42 : decode cX1_count 42 = .ok (.iadd, 1) := by decide +kernel
theorem dX1_count_43 : decode cX1_count 43 = .ok (.goto 5, 3) := by decide +kernel
theorem dX1_count_46 : decode cX1_count 46 = .ok (.iload 5, 2) := by decide +kernel
theorem dX1_count_48 : decode cX1_count 48 = .ok (.istore 5, 2) := by decide +kernel
theorem dX1_count_50 : decode cX1_count 50 = .ok (.iinc 6 1, 3) := by decide +kernel
theorem dX1_count_53 : decode cX1_count 53 = .ok (.goto (-32), 3) := by decide +kernel
theorem dX1_count_56 : decode cX1_count 56 = .ok (.iload 5, 2) := by decide +kernel
theorem dX1_count_58 : decode cX1_count 58 = .ok (.ireturn, 1) := by decide +kernel
abbrev cX1_run : ByteArray := prog_3_method_12_code
def yX1_run : MethodName := ⟨RX1, "run", "(II)Z"⟩
theorem dX1_run_0 : decode cX1_run 0 = .ok (.aload_n 0, 1) := by decide +kernel
theorem dX1_run_1 : decode cX1_run 1 = .ok (.iload_n 1, 1) := by decide +kernel
theorem dX1_run_2 : decode cX1_run 2 = .ok (.putfield 23, 3) := by decide +kernel
theorem dX1_run_5 : decode cX1_run 5 = .ok (.aload_n 0, 1) := by decide +kernel
theorem dX1_run_6 : decode cX1_run 6 = .ok (.invokevirtual 43, 3) := by decide +kernel
theorem dX1_run_9 : decode cX1_run 9 = .ok (.iconst 0, 1) := by decide +kernel
theorem dX1_run_10 : decode cX1_run 10 = .ok (.istore_n 3, 1) := by decide +kernel
theorem dX1_run_11 : decode cX1_run 11 = .ok (.iconst 0, 1) := by decide +kernel
theorem dX1_run_12 : decode cX1_run 12 = .ok (.istore 4, 2) := by decide +kernel
theorem dX1_run_14 : decode cX1_run 14 = .ok (.iload 4, 2) := by decide +kernel
theorem dX1_run_16 : decode cX1_run 16 = .ok (.aload_n 0, 1) := by decide +kernel
theorem dX1_run_17 : decode cX1_run 17 = .ok (.getfield 19, 3) := by decide +kernel
theorem dX1_run_20 : decode cX1_run 20 = .ok (.if_icmp .ge 115, 3) := by decide +kernel
theorem dX1_run_23 : decode cX1_run 23 = .ok (.iconst 0, 1) := by decide +kernel
theorem dX1_run_24 : decode cX1_run 24 = .ok (.istore 5, 2) := by decide +kernel
theorem dX1_run_26 : decode cX1_run 26 = .ok (.iload 5, 2) := by decide +kernel
theorem dX1_run_28 : decode cX1_run 28 = .ok (.iconst 5, 1) := by decide +kernel
theorem dX1_run_29 : decode cX1_run 29 = .ok (.aload_n 0, 1) := by decide +kernel
theorem dX1_run_30 : decode cX1_run 30 = .ok (.getfield 13, 3) := by decide +kernel
theorem dX1_run_33 : decode cX1_run 33 = .ok (.iload 4, 2) := by decide +kernel
theorem dX1_run_35 : decode cX1_run 35 = .ok (.iaload, 1) := by decide +kernel
theorem dX1_run_36 : decode cX1_run 36 = .ok (.imul, 1) := by decide +kernel
theorem dX1_run_37 : decode cX1_run 37 = .ok (.if_icmp .ge 92, 3) := by decide +kernel
theorem dX1_run_40 : decode cX1_run 40 = .ok (.iload 4, 2) := by decide +kernel
theorem dX1_run_42 : decode cX1_run 42 = .ok (.iload_n 2, 1) := by decide +kernel
theorem dX1_run_43 : decode cX1_run 43 = .ok (.if_icmp .eq 86, 3) := by decide +kernel
theorem dX1_run_46 : decode cX1_run 46 = .ok (.aload_n 0, 1) := by decide +kernel
theorem dX1_run_47 : decode cX1_run 47 = .ok (.getfield 7, 3) := by decide +kernel
theorem dX1_run_50 : decode cX1_run 50 = .ok (.iload 4, 2) := by decide +kernel
theorem dX1_run_52 : decode cX1_run 52 = .ok (.iaload, 1) := by decide +kernel
theorem dX1_run_53 : decode cX1_run 53 = .ok (.iconst 1, 1) := by decide +kernel
theorem dX1_run_54 : decode cX1_run 54 = .ok (.if_icmp .ne 18, 3) := by decide +kernel
theorem dX1_run_57 : decode cX1_run 57 = .ok (.iconst 4, 1) := by decide +kernel
theorem dX1_run_58 : decode cX1_run 58 = .ok (.iload 5, 2) := by decide +kernel
theorem dX1_run_60 : decode cX1_run 60 = .ok (.aload_n 0, 1) := by decide +kernel
theorem dX1_run_61 : decode cX1_run 61 = .ok (.getfield 13, 3) := by decide +kernel
theorem dX1_run_64 : decode cX1_run 64 = .ok (.iload 4, 2) := by decide +kernel
theorem dX1_run_66 : decode cX1_run 66 = .ok (.iaload, 1) := by decide +kernel
theorem dX1_run_67 : decode cX1_run 67 = .ok (.idiv, 1) := by decide +kernel
theorem dX1_run_68 : decode cX1_run 68 = .ok (.isub, 1) := by decide +kernel
theorem dX1_run_69 : decode cX1_run 69 = .ok (.goto 13, 3) := by decide +kernel
theorem dX1_run_72 : decode cX1_run 72 = .ok (.iload 5, 2) := by decide +kernel
theorem dX1_run_74 : decode cX1_run 74 = .ok (.aload_n 0, 1) := by decide +kernel
theorem dX1_run_75 : decode cX1_run 75 = .ok (.getfield 13, 3) := by decide +kernel
theorem dX1_run_78 : decode cX1_run 78 = .ok (.iload 4, 2) := by decide +kernel
theorem dX1_run_80 : decode cX1_run 80 = .ok (.iaload, 1) := by decide +kernel
theorem dX1_run_81 : decode cX1_run 81 = .ok (.idiv, 1) := by decide +kernel
theorem dX1_run_82 : decode cX1_run 82 = .ok (.istore 6, 2) := by decide +kernel
theorem dX1_run_84 : decode cX1_run 84 = .ok (.aload_n 0, 1) := by decide +kernel
theorem dX1_run_85 : decode cX1_run 85 = .ok (.aload_n 0, 1) := by decide +kernel
theorem dX1_run_86 : decode cX1_run 86 = .ok (.getfield 16, 3) := by decide +kernel
theorem dX1_run_89 : decode cX1_run 89 = .ok (.iconst 4, 1) := by decide +kernel
theorem dX1_run_90 : decode cX1_run 90 = .ok (.iload 4, 2) := by decide +kernel
theorem dX1_run_92 : decode cX1_run 92 = .ok (.imul, 1) := by decide +kernel
theorem dX1_run_93 : decode cX1_run 93 = .ok (.iload 5, 2) := by decide +kernel
theorem dX1_run_95 : decode cX1_run 95 = .ok (.aload_n 0, 1) := by decide +kernel
theorem dX1_run_96 : decode cX1_run 96 = .ok (.getfield 13, 3) := by decide +kernel
theorem dX1_run_99 : decode cX1_run 99 = .ok (.iload 4, 2) := by decide +kernel
theorem dX1_run_101 : decode cX1_run 101 = .ok (.iaload, 1) := by decide +kernel
theorem dX1_run_102 : decode cX1_run 102 = .ok (.irem, 1) := by decide +kernel
theorem dX1_run_103 : decode cX1_run 103 = .ok (.iadd, 1) := by decide +kernel
theorem dX1_run_104 : decode cX1_run 104 = .ok (.iaload, 1) := by decide +kernel
theorem dX1_run_105 : decode cX1_run 105 = .ok (.iload 6, 2) := by decide +kernel
theorem dX1_run_107 : decode cX1_run 107 = .ok (.invokevirtual 49, 3) := by decide +kernel
theorem dX1_run_110 : decode cX1_run 110 = .ok (.ifCond .ne 7, 3) := by decide +kernel
theorem dX1_run_113 : decode cX1_run 113 = .ok (.iload_n 3, 1) := by decide +kernel
theorem dX1_run_114 : decode cX1_run 114 = .ok (.ifCond .eq 7, 3) := by decide +kernel
theorem dX1_run_117 : decode cX1_run 117 = .ok (.iconst 1, 1) := by decide +kernel
theorem dX1_run_118 : decode cX1_run 118 = .ok (.goto 4, 3) := by decide +kernel
theorem dX1_run_121 : decode cX1_run 121 = .ok (.iconst 0, 1) := by decide +kernel
theorem dX1_run_122 : decode cX1_run 122 = .ok (.istore_n 3, 1) := by decide +kernel
theorem dX1_run_123 : decode cX1_run 123 = .ok (.iinc 5 1, 3) := by decide +kernel
theorem dX1_run_126 : decode cX1_run 126 = .ok (.goto (-100), 3) := by decide +kernel
theorem dX1_run_129 : decode cX1_run 129 = .ok (.iinc 4 1, 3) := by decide +kernel
theorem dX1_run_132 : decode cX1_run 132 = .ok (.goto (-118), 3) := by decide +kernel
theorem dX1_run_135 : decode cX1_run 135 = .ok (.iload_n 3, 1) := by decide +kernel
theorem dX1_run_136 : decode cX1_run 136 = .ok (.ireturn, 1) := by decide +kernel
abbrev cX1_settle : ByteArray := prog_3_method_9_code
def yX1_settle : MethodName := ⟨RX1, "settle", "()V"⟩
theorem dX1_settle_0 : decode cX1_settle 0 = .ok (.aload_n 0, 1) := by decide +kernel
theorem dX1_settle_1 : decode cX1_settle 1 = .ok (.getfield 26, 3) := by decide +kernel
theorem dX1_settle_4 : decode cX1_settle 4 = .ok (.ifCond .eq 11, 3) := by decide +kernel
theorem dX1_settle_7 : decode cX1_settle 7 = .ok (.aload_n 0, 1) := by decide +kernel
theorem dX1_settle_8 : decode cX1_settle 8 = .ok (.getfield 26, 3) := by decide +kernel
theorem dX1_settle_11 : decode cX1_settle 11 = .ok (.iconst 1, 1) := by decide +kernel
theorem dX1_settle_12 : decode cX1_settle 12 = .ok (.if_icmp .ne 15, 3) := by decide +kernel
theorem dX1_settle_15 : decode cX1_settle 15 = .ok (.aload_n 0, 1) := by decide +kernel
theorem dX1_settle_16 : decode cX1_settle 16 = .ok (.aload_n 0, 1) := by decide +kernel
theorem dX1_settle_17 : decode cX1_settle 17 = .ok (.getfield 29, 3) := by decide +kernel
theorem dX1_settle_20 : decode cX1_settle 20 = .ok (.aload_n 0, 1) := by decide +kernel
theorem dX1_settle_21 : decode cX1_settle 21 = .ok (.getfield 26, 3) := by decide +kernel
theorem dX1_settle_24 : decode cX1_settle 24 = .ok (.invokevirtual 32, 3) := by decide +kernel
theorem dX1_settle_27 : decode cX1_settle 27 = .ok (.aload_n 0, 1) := by decide +kernel
theorem dX1_settle_28 : decode cX1_settle 28 = .ok (.getfield 26, 3) := by decide +kernel
theorem dX1_settle_31 : decode cX1_settle 31 = .ok (.bipush 10, 2) := by decide +kernel
theorem dX1_settle_33 : decode cX1_settle 33 = .ok (.if_icmp .lt 37, 3) := by decide +kernel
theorem dX1_settle_36 : decode cX1_settle 36 = .ok (.aload_n 0, 1) := by decide +kernel
theorem dX1_settle_37 : decode cX1_settle 37 = .ok (.aload_n 0, 1) := by decide +kernel
theorem dX1_settle_38 : decode cX1_settle 38 = .ok (.getfield 36, 3) := by decide +kernel
theorem dX1_settle_41 : decode cX1_settle 41 = .ok (.invokevirtual 39, 3) := by decide +kernel
theorem dX1_settle_44 : decode cX1_settle 44 = .ok (.aload_n 0, 1) := by decide +kernel
theorem dX1_settle_45 : decode cX1_settle 45 = .ok (.getfield 26, 3) := by decide +kernel
theorem dX1_settle_48 : decode cX1_settle 48 = .ok (.bipush 10, 2) := by decide +kernel
theorem dX1_settle_50 : decode cX1_settle 50 = .ok (.isub, 1) := by decide +kernel
theorem dX1_settle_51 : decode cX1_settle 51 = .ok (.iconst 2, 1) := by decide +kernel
theorem dX1_settle_52 : decode cX1_settle 52 = .ok (.idiv, 1) := by decide +kernel
theorem dX1_settle_53 : decode cX1_settle 53 = .ok (.if_icmp .ne 17, 3) := by decide +kernel
theorem dX1_settle_56 : decode cX1_settle 56 = .ok (.aload_n 0, 1) := by decide +kernel
theorem dX1_settle_57 : decode cX1_settle 57 = .ok (.aload_n 0, 1) := by decide +kernel
theorem dX1_settle_58 : decode cX1_settle 58 = .ok (.getfield 29, 3) := by decide +kernel
theorem dX1_settle_61 : decode cX1_settle 61 = .ok (.aload_n 0, 1) := by decide +kernel
theorem dX1_settle_62 : decode cX1_settle 62 = .ok (.getfield 26, 3) := by decide +kernel
theorem dX1_settle_65 : decode cX1_settle 65 = .ok (.iconst 2, 1) := by decide +kernel
theorem dX1_settle_66 : decode cX1_settle 66 = .ok (.irem, 1) := by decide +kernel
theorem dX1_settle_67 : decode cX1_settle 67 = .ok (.invokevirtual 32, 3) := by decide +kernel
theorem dX1_settle_70 : decode cX1_settle 70 = .ok (.return_, 1) := by decide +kernel
abbrev cX1_put : ByteArray := prog_3_method_8_code
def yX1_put : MethodName := ⟨RX1, "put", "(II)V"⟩
theorem dX1_put_0 : decode cX1_put 0 = .ok (.aload_n 0, 1) := by decide +kernel
theorem dX1_put_1 : decode cX1_put 1 = .ok (.aload_n 0, 1) := by decide +kernel
theorem dX1_put_2 : decode cX1_put 2 = .ok (.getfield 23, 3) := by decide +kernel
theorem dX1_put_5 : decode cX1_put 5 = .ok (.iconst 1, 1) := by decide +kernel
theorem dX1_put_6 : decode cX1_put 6 = .ok (.iload_n 1, 1) := by decide +kernel
theorem dX1_put_7 : decode cX1_put 7 = .ok (.ishl, 1) := by decide +kernel
theorem dX1_put_8 : decode cX1_put 8 = .ok (.iconst (-1), 1) := by decide +kernel
theorem dX1_put_9 : decode cX1_put 9 = .ok (.ixor, 1) := by decide +kernel
theorem dX1_put_10 : decode cX1_put 10 = .ok (.iand, 1) := by decide +kernel
theorem dX1_put_11 : decode cX1_put 11 = .ok (.iload_n 2, 1) := by decide +kernel
theorem dX1_put_12 : decode cX1_put 12 = .ok (.iload_n 1, 1) := by decide +kernel
theorem dX1_put_13 : decode cX1_put 13 = .ok (.ishl, 1) := by decide +kernel
theorem dX1_put_14 : decode cX1_put 14 = .ok (.ior, 1) := by decide +kernel
theorem dX1_put_15 : decode cX1_put 15 = .ok (.putfield 23, 3) := by decide +kernel
theorem dX1_put_18 : decode cX1_put 18 = .ok (.return_, 1) := by decide +kernel
abbrev cX1_bit : ByteArray := prog_3_method_7_code
def yX1_bit : MethodName := ⟨RX1, "bit", "(I)I"⟩
theorem dX1_bit_0 : decode cX1_bit 0 = .ok (.aload_n 0, 1) := by decide +kernel
theorem dX1_bit_1 : decode cX1_bit 1 = .ok (.getfield 23, 3) := by decide +kernel
theorem dX1_bit_4 : decode cX1_bit 4 = .ok (.iload_n 1, 1) := by decide +kernel
theorem dX1_bit_5 : decode cX1_bit 5 = .ok (.ishr, 1) := by decide +kernel
theorem dX1_bit_6 : decode cX1_bit 6 = .ok (.iconst 1, 1) := by decide +kernel
theorem dX1_bit_7 : decode cX1_bit 7 = .ok (.iand, 1) := by decide +kernel
theorem dX1_bit_8 : decode cX1_bit 8 = .ok (.ireturn, 1) := by decide +kernel
abbrev cX1_fails : ByteArray := prog_3_method_11_code
def yX1_fails : MethodName := ⟨RX1, "fails", "(II)Z"⟩
theorem dX1_fails_0 : decode cX1_fails 0 = .ok (.iload_n 1, 1) := by decide +kernel
theorem dX1_fails_1 : decode cX1_fails 1 = .ok (.iconst 2, 1) := by decide +kernel
theorem dX1_fails_2 : decode cX1_fails 2 = .ok (.if_icmp .ge 11, 3) := by decide +kernel
theorem dX1_fails_5 : decode cX1_fails 5 = .ok (.aload_n 0, 1) := by decide +kernel
theorem dX1_fails_6 : decode cX1_fails 6 = .ok (.iload_n 2, 1) := by decide +kernel
theorem dX1_fails_7 : decode cX1_fails 7 = .ok (.iload_n 1, 1) := by decide +kernel
theorem dX1_fails_8 : decode cX1_fails 8 = .ok (.invokevirtual 46, 3) := by decide +kernel
theorem dX1_fails_11 : decode cX1_fails 11 = .ok (.iconst 0, 1) := by decide +kernel
theorem dX1_fails_12 : decode cX1_fails 12 = .ok (.ireturn, 1) := by decide +kernel
theorem dX1_fails_13 : decode cX1_fails 13 = .ok (.aload_n 0, 1) := by decide +kernel
theorem dX1_fails_14 : decode cX1_fails 14 = .ok (.iload_n 2, 1) := by decide +kernel
theorem dX1_fails_15 : decode cX1_fails 15 = .ok (.invokevirtual 39, 3) := by decide +kernel
theorem dX1_fails_18 : decode cX1_fails 18 = .ok (.iload_n 1, 1) := by decide +kernel
theorem dX1_fails_19 : decode cX1_fails 19 = .ok (.iconst 2, 1) := by decide +kernel
theorem dX1_fails_20 : decode cX1_fails 20 = .ok (.isub, 1) := by decide +kernel
theorem dX1_fails_21 : decode cX1_fails 21 = .ok (.if_icmp .eq 7, 3) := by decide +kernel
theorem dX1_fails_24 : decode cX1_fails 24 = .ok (.iconst 1, 1) := by decide +kernel
theorem dX1_fails_25 : decode cX1_fails 25 = .ok (.goto 4, 3) := by decide +kernel
theorem dX1_fails_28 : decode cX1_fails 28 = .ok (.iconst 0, 1) := by decide +kernel
theorem dX1_fails_29 : decode cX1_fails 29 = .ok (.ireturn, 1) := by decide +kernel
abbrev cX1_write : ByteArray := prog_3_method_10_code
def yX1_write : MethodName := ⟨RX1, "write", "(II)V"⟩
theorem dX1_write_0 : decode cX1_write 0 = .ok (.aload_n 0, 1) := by decide +kernel
theorem dX1_write_1 : decode cX1_write 1 = .ok (.iload_n 1, 1) := by decide +kernel
theorem dX1_write_2 : decode cX1_write 2 = .ok (.invokevirtual 39, 3) := by decide +kernel
theorem dX1_write_5 : decode cX1_write 5 = .ok (.istore_n 3, 1) := by decide +kernel
theorem dX1_write_6 : decode cX1_write 6 = .ok (.aload_n 0, 1) := by decide +kernel
theorem dX1_write_7 : decode cX1_write 7 = .ok (.getfield 26, 3) := by decide +kernel
theorem dX1_write_10 : decode cX1_write 10 = .ok (.iconst 2, 1) := by decide +kernel
theorem dX1_write_11 : decode cX1_write 11 = .ok (.if_icmp .eq 11, 3) := by decide +kernel
theorem dX1_write_14 : decode cX1_write 14 = .ok (.aload_n 0, 1) := by decide +kernel
theorem dX1_write_15 : decode cX1_write 15 = .ok (.getfield 26, 3) := by decide +kernel
theorem dX1_write_18 : decode cX1_write 18 = .ok (.iconst 3, 1) := by decide +kernel
theorem dX1_write_19 : decode cX1_write 19 = .ok (.if_icmp .ne 25, 3) := by decide +kernel
theorem dX1_write_22 : decode cX1_write 22 = .ok (.iload_n 1, 1) := by decide +kernel
theorem dX1_write_23 : decode cX1_write 23 = .ok (.aload_n 0, 1) := by decide +kernel
theorem dX1_write_24 : decode cX1_write 24 = .ok (.getfield 29, 3) := by decide +kernel
theorem dX1_write_27 : decode cX1_write 27 = .ok (.if_icmp .ne 17, 3) := by decide +kernel
theorem dX1_write_30 : decode cX1_write 30 = .ok (.iload_n 3, 1) := by decide +kernel
theorem dX1_write_31 : decode cX1_write 31 = .ok (.aload_n 0, 1) := by decide +kernel
theorem dX1_write_32 : decode cX1_write 32 = .ok (.getfield 26, 3) := by decide +kernel
theorem dX1_write_35 : decode cX1_write 35 = .ok (.iconst 2, 1) := by decide +kernel
theorem dX1_write_36 : decode cX1_write 36 = .ok (.isub, 1) := by decide +kernel
theorem dX1_write_37 : decode cX1_write 37 = .ok (.if_icmp .ne 7, 3) := by decide +kernel
theorem dX1_write_40 : decode cX1_write 40 = .ok (.iconst 1, 1) := by decide +kernel
theorem dX1_write_41 : decode cX1_write 41 = .ok (.goto 4, 3) := by decide +kernel
theorem dX1_write_44 : decode cX1_write 44 = .ok (.iconst 0, 1) := by decide +kernel
theorem dX1_write_45 : decode cX1_write 45 = .ok (.istore 4, 2) := by decide +kernel
theorem dX1_write_47 : decode cX1_write 47 = .ok (.iload 4, 2) := by decide +kernel
theorem dX1_write_49 : decode cX1_write 49 = .ok (.ifCond .ne 9, 3) := by decide +kernel
theorem dX1_write_52 : decode cX1_write 52 = .ok (.aload_n 0, 1) := by decide +kernel
theorem dX1_write_53 : decode cX1_write 53 = .ok (.iload_n 1, 1) := by decide +kernel
theorem dX1_write_54 : decode cX1_write 54 = .ok (.iload_n 2, 1) := by decide +kernel
theorem dX1_write_55 : decode cX1_write 55 = .ok (.invokevirtual 32, 3) := by decide +kernel
theorem dX1_write_58 : decode cX1_write 58 = .ok (.iload_n 3, 1) := by decide +kernel
theorem dX1_write_59 : decode cX1_write 59 = .ok (.ifCond .ne 12, 3) := by decide +kernel
theorem dX1_write_62 : decode cX1_write 62 = .ok (.iload_n 2, 1) := by decide +kernel
theorem dX1_write_63 : decode cX1_write 63 = .ok (.iconst 1, 1) := by decide +kernel
theorem dX1_write_64 : decode cX1_write 64 = .ok (.if_icmp .ne 7, 3) := by decide +kernel
theorem dX1_write_67 : decode cX1_write 67 = .ok (.iconst 1, 1) := by decide +kernel
theorem dX1_write_68 : decode cX1_write 68 = .ok (.goto 4, 3) := by decide +kernel
theorem dX1_write_71 : decode cX1_write 71 = .ok (.iconst 0, 1) := by decide +kernel
theorem dX1_write_72 : decode cX1_write 72 = .ok (.istore 5, 2) := by decide +kernel
theorem dX1_write_74 : decode cX1_write 74 = .ok (.iload_n 3, 1) := by decide +kernel
theorem dX1_write_75 : decode cX1_write 75 = .ok (.iconst 1, 1) := by decide +kernel
theorem dX1_write_76 : decode cX1_write 76 = .ok (.if_icmp .ne 11, 3) := by decide +kernel
theorem dX1_write_79 : decode cX1_write 79 = .ok (.iload_n 2, 1) := by decide +kernel
theorem dX1_write_80 : decode cX1_write 80 = .ok (.ifCond .ne 7, 3) := by decide +kernel
theorem dX1_write_83 : decode cX1_write 83 = .ok (.iconst 1, 1) := by decide +kernel
theorem dX1_write_84 : decode cX1_write 84 = .ok (.goto 4, 3) := by decide +kernel
theorem dX1_write_87 : decode cX1_write 87 = .ok (.iconst 0, 1) := by decide +kernel
theorem dX1_write_88 : decode cX1_write 88 = .ok (.istore 6, 2) := by decide +kernel
theorem dX1_write_90 : decode cX1_write 90 = .ok (.aload_n 0, 1) := by decide +kernel
theorem dX1_write_91 : decode cX1_write 91 = .ok (.getfield 26, 3) := by decide +kernel
theorem dX1_write_94 : decode cX1_write 94 = .ok (.iconst 4, 1) := by decide +kernel
theorem dX1_write_95 : decode cX1_write 95 = .ok (.if_icmp .lt 100, 3) := by decide +kernel
theorem dX1_write_98 : decode cX1_write 98 = .ok (.aload_n 0, 1) := by decide +kernel
theorem dX1_write_99 : decode cX1_write 99 = .ok (.getfield 26, 3) := by decide +kernel
theorem dX1_write_102 : decode cX1_write 102 = .ok (.bipush 9, 2) := by decide +kernel
theorem dX1_write_104 : decode cX1_write 104 = .ok (.if_icmp .gt 91, 3) := by decide +kernel
theorem dX1_write_107 : decode cX1_write 107 = .ok (.iload_n 1, 1) := by decide +kernel
theorem dX1_write_108 : decode cX1_write 108 = .ok (.aload_n 0, 1) := by decide +kernel
theorem dX1_write_109 : decode cX1_write 109 = .ok (.getfield 36, 3) := by decide +kernel
theorem dX1_write_112 : decode cX1_write 112 = .ok (.if_icmp .ne 83, 3) := by decide +kernel
theorem dX1_write_115 : decode cX1_write 115 = .ok (.aload_n 0, 1) := by decide +kernel
theorem dX1_write_116 : decode cX1_write 116 = .ok (.getfield 26, 3) := by decide +kernel
theorem dX1_write_119 : decode cX1_write 119 = .ok (.iconst 4, 1) := by decide +kernel
theorem dX1_write_120 : decode cX1_write 120 = .ok (.if_icmp .eq 21, 3) := by decide +kernel
theorem dX1_write_123 : decode cX1_write 123 = .ok (.aload_n 0, 1) := by decide +kernel
theorem dX1_write_124 : decode cX1_write 124 = .ok (.getfield 26, 3) := by decide +kernel
theorem dX1_write_127 : decode cX1_write 127 = .ok (.bipush 6, 2) := by decide +kernel
theorem dX1_write_129 : decode cX1_write 129 = .ok (.if_icmp .eq 12, 3) := by decide +kernel
theorem dX1_write_132 : decode cX1_write 132 = .ok (.aload_n 0, 1) := by decide +kernel
theorem dX1_write_133 : decode cX1_write 133 = .ok (.getfield 26, 3) := by decide +kernel
theorem dX1_write_136 : decode cX1_write 136 = .ok (.bipush 7, 2) := by decide +kernel
theorem dX1_write_138 : decode cX1_write 138 = .ok (.if_icmp .ne 8, 3) := by decide +kernel
theorem dX1_write_141 : decode cX1_write 141 = .ok (.iload 5, 2) := by decide +kernel
theorem dX1_write_143 : decode cX1_write 143 = .ok (.goto 5, 3) := by decide +kernel
theorem dX1_write_146 : decode cX1_write 146 = .ok (.iload 6, 2) := by decide +kernel
theorem dX1_write_148 : decode cX1_write 148 = .ok (.istore 7, 2) := by decide +kernel
theorem dX1_write_150 : decode cX1_write 150 = .ok (.aload_n 0, 1) := by decide +kernel
theorem dX1_write_151 : decode cX1_write 151 = .ok (.getfield 26, 3) := by decide +kernel
theorem dX1_write_154 : decode cX1_write 154 = .ok (.bipush 6, 2) := by decide +kernel
theorem dX1_write_156 : decode cX1_write 156 = .ok (.if_icmp .ge 16, 3) := by decide +kernel
theorem dX1_write_159 : decode cX1_write 159 = .ok (.iconst 1, 1) := by decide +kernel
theorem dX1_write_160 : decode cX1_write 160 = .ok (.aload_n 0, 1) := by decide +kernel
theorem dX1_write_161 : decode cX1_write 161 = .ok (.aload_n 0, 1) := by decide +kernel
theorem dX1_write_162 : decode cX1_write 162 = .ok (.getfield 29, 3) := by decide +kernel
theorem dX1_write_165 : decode cX1_write 165 = .ok (.invokevirtual 39, 3) := by decide +kernel
theorem dX1_write_168 : decode cX1_write 168 = .ok (.isub, 1) := by decide +kernel
theorem dX1_write_169 : decode cX1_write 169 = .ok (.goto 9, 3) := by decide +kernel
theorem dX1_write_172 : decode cX1_write 172 = .ok (.aload_n 0, 1) := by decide +kernel
theorem dX1_write_173 : decode cX1_write 173 = .ok (.getfield 26, 3) := by decide +kernel
theorem dX1_write_176 : decode cX1_write 176 = .ok (.iconst 2, 1) := by decide +kernel
theorem dX1_write_177 : decode cX1_write 177 = .ok (.irem, 1) := by decide +kernel
theorem dX1_write_178 : decode cX1_write 178 = .ok (.istore 8, 2) := by decide +kernel
theorem dX1_write_180 : decode cX1_write 180 = .ok (.iload 7, 2) := by decide +kernel
theorem dX1_write_182 : decode cX1_write 182 = .ok (.ifCond .eq 13, 3) := by decide +kernel
theorem dX1_write_185 : decode cX1_write 185 = .ok (.aload_n 0, 1) := by decide +kernel
theorem dX1_write_186 : decode cX1_write 186 = .ok (.aload_n 0, 1) := by decide +kernel
theorem dX1_write_187 : decode cX1_write 187 = .ok (.getfield 29, 3) := by decide +kernel
theorem dX1_write_190 : decode cX1_write 190 = .ok (.iload 8, 2) := by decide +kernel
theorem dX1_write_192 : decode cX1_write 192 = .ok (.invokevirtual 32, 3) := by decide +kernel
theorem dX1_write_195 : decode cX1_write 195 = .ok (.aload_n 0, 1) := by decide +kernel
theorem dX1_write_196 : decode cX1_write 196 = .ok (.invokevirtual 43, 3) := by decide +kernel
theorem dX1_write_199 : decode cX1_write 199 = .ok (.return_, 1) := by decide +kernel
abbrev cX1_steps : ByteArray := prog_3_method_15_code
def yX1_steps : MethodName := ⟨RX1, "steps", "()I"⟩
theorem dX1_steps_0 : decode cX1_steps 0 = .ok (.iconst 0, 1) := by decide +kernel
theorem dX1_steps_1 : decode cX1_steps 1 = .ok (.istore_n 1, 1) := by decide +kernel
theorem dX1_steps_2 : decode cX1_steps 2 = .ok (.iconst 0, 1) := by decide +kernel
theorem dX1_steps_3 : decode cX1_steps 3 = .ok (.istore_n 2, 1) := by decide +kernel
theorem dX1_steps_4 : decode cX1_steps 4 = .ok (.iload_n 2, 1) := by decide +kernel
theorem dX1_steps_5 : decode cX1_steps 5 = .ok (.aload_n 0, 1) := by decide +kernel
theorem dX1_steps_6 : decode cX1_steps 6 = .ok (.getfield 19, 3) := by decide +kernel
theorem dX1_steps_9 : decode cX1_steps 9 = .ok (.if_icmp .ge 20, 3) := by decide +kernel
theorem dX1_steps_12 : decode cX1_steps 12 = .ok (.iload_n 1, 1) := by decide +kernel
theorem dX1_steps_13 : decode cX1_steps 13 = .ok (.iconst 5, 1) := by decide +kernel
theorem dX1_steps_14 : decode cX1_steps 14 = .ok (.aload_n 0, 1) := by decide +kernel
theorem dX1_steps_15 : decode cX1_steps 15 = .ok (.getfield 13, 3) := by decide +kernel
theorem dX1_steps_18 : decode cX1_steps 18 = .ok (.iload_n 2, 1) := by decide +kernel
theorem dX1_steps_19 : decode cX1_steps 19 = .ok (.iaload, 1) := by decide +kernel
theorem dX1_steps_20 : decode cX1_steps 20 = .ok (.imul, 1) := by decide +kernel
theorem dX1_steps_21 : decode cX1_steps 21 = .ok (.iadd, 1) := by decide +kernel
theorem dX1_steps_22 : decode cX1_steps 22 = .ok (.istore_n 1, 1) := by decide +kernel
theorem dX1_steps_23 : decode cX1_steps 23 = .ok (.iinc 2 1, 3) := by decide +kernel
theorem dX1_steps_26 : decode cX1_steps 26 = .ok (.goto (-22), 3) := by decide +kernel
theorem dX1_steps_29 : decode cX1_steps 29 = .ok (.iload_n 1, 1) := by decide +kernel
theorem dX1_steps_30 : decode cX1_steps 30 = .ok (.ireturn, 1) := by decide +kernel
abbrev cX1_finds : ByteArray := prog_3_method_17_code
def yX1_finds : MethodName := ⟨RX1, "finds", "(III)Z"⟩
theorem dX1_finds_0 : decode cX1_finds 0 = .ok (.aload_n 0, 1) := by decide +kernel
theorem dX1_finds_1 : decode cX1_finds 1 = .ok (.iload_n 1, 1) := by decide +kernel
theorem dX1_finds_2 : decode cX1_finds 2 = .ok (.iload_n 2, 1) := by decide +kernel
theorem dX1_finds_3 : decode cX1_finds 3 = .ok (.iload_n 3, 1) := by decide +kernel
theorem dX1_finds_4 : decode cX1_finds 4 = .ok (.invokevirtual 60, 3) := by decide +kernel
theorem dX1_finds_7 : decode cX1_finds 7 = .ok (.ifCond .eq 29, 3) := by decide +kernel
theorem dX1_finds_10 : decode cX1_finds 10 = .ok (.aload_n 0, 1) := by decide +kernel
theorem dX1_finds_11 : decode cX1_finds 11 = .ok (.iload_n 1, 1) := by decide +kernel
theorem dX1_finds_12 : decode cX1_finds 12 = .ok (.iload_n 2, 1) := by decide +kernel
theorem dX1_finds_13 : decode cX1_finds 13 = .ok (.iload_n 1, 1) := by decide +kernel
theorem dX1_finds_14 : decode cX1_finds 14 = .ok (.iconst 4, 1) := by decide +kernel
theorem dX1_finds_15 : decode cX1_finds 15 = .ok (.if_icmp .ge 7, 3) := by decide +kernel
theorem dX1_finds_18 : decode cX1_finds 18 = .ok (.iconst 0, 1) := by decide +kernel
theorem dX1_finds_19 : decode cX1_finds 19 = .ok (.goto 4, 3) := by decide +kernel
theorem dX1_finds_22 : decode cX1_finds 22 = .ok (.iload_n 3, 1) := by decide +kernel
theorem dX1_finds_23 : decode cX1_finds 23 = .ok (.iconst (-1), 1) := by decide +kernel
theorem dX1_finds_24 : decode cX1_finds 24 = .ok (.invokevirtual 56, 3) := by decide +kernel
theorem dX1_finds_27 : decode cX1_finds 27 = .ok (.bipush 32, 2) := by decide +kernel
theorem dX1_finds_29 : decode cX1_finds 29 = .ok (.if_icmp .ne 7, 3) := by decide +kernel
theorem dX1_finds_32 : decode cX1_finds 32 = .ok (.iconst 1, 1) := by decide +kernel
theorem dX1_finds_33 : decode cX1_finds 33 = .ok (.goto 4, 3) := by decide +kernel
theorem dX1_finds_36 : decode cX1_finds 36 = .ok (.iconst 0, 1) := by decide +kernel
theorem dX1_finds_37 : decode cX1_finds 37 = .ok (.ireturn, 1) := by decide +kernel
abbrev cX1_fault : ByteArray := prog_3_method_16_code
def yX1_fault : MethodName := ⟨RX1, "fault", "(III)Z"⟩
theorem dX1_fault_0 : decode cX1_fault 0 = .ok (.iload_n 3, 1) := by decide +kernel
theorem dX1_fault_1 : decode cX1_fault 1 = .ok (.ifCond .lt 17, 3) := by decide +kernel
theorem dX1_fault_4 : decode cX1_fault 4 = .ok (.iload_n 3, 1) := by decide +kernel
theorem dX1_fault_5 : decode cX1_fault 5 = .ok (.iconst 4, 1) := by decide +kernel
theorem dX1_fault_6 : decode cX1_fault 6 = .ok (.if_icmp .gt 12, 3) := by decide +kernel
theorem dX1_fault_9 : decode cX1_fault 9 = .ok (.iload_n 3, 1) := by decide +kernel
theorem dX1_fault_10 : decode cX1_fault 10 = .ok (.iload_n 2, 1) := by decide +kernel
theorem dX1_fault_11 : decode cX1_fault 11 = .ok (.if_icmp .eq 7, 3) := by decide +kernel
theorem dX1_fault_14 : decode cX1_fault 14 = .ok (.iconst 1, 1) := by decide +kernel
theorem dX1_fault_15 : decode cX1_fault 15 = .ok (.goto 4, 3) := by decide +kernel
theorem dX1_fault_18 : decode cX1_fault 18 = .ok (.iconst 0, 1) := by decide +kernel
theorem dX1_fault_19 : decode cX1_fault 19 = .ok (.istore 4, 2) := by decide +kernel
theorem dX1_fault_21 : decode cX1_fault 21 = .ok (.iload_n 1, 1) := by decide +kernel
theorem dX1_fault_22 : decode cX1_fault 22 = .ok (.ifCond .lt 32, 3) := by decide +kernel
theorem dX1_fault_25 : decode cX1_fault 25 = .ok (.iload_n 1, 1) := by decide +kernel
theorem dX1_fault_26 : decode cX1_fault 26 = .ok (.bipush 13, 2) := by decide +kernel
theorem dX1_fault_28 : decode cX1_fault 28 = .ok (.if_icmp .gt 26, 3) := by decide +kernel
theorem dX1_fault_31 : decode cX1_fault 31 = .ok (.iload_n 2, 1) := by decide +kernel
theorem dX1_fault_32 : decode cX1_fault 32 = .ok (.ifCond .lt 22, 3) := by decide +kernel
theorem dX1_fault_35 : decode cX1_fault 35 = .ok (.iload_n 2, 1) := by decide +kernel
theorem dX1_fault_36 : decode cX1_fault 36 = .ok (.iconst 4, 1) := by decide +kernel
theorem dX1_fault_37 : decode cX1_fault 37 = .ok (.if_icmp .gt 17, 3) := by decide +kernel
theorem dX1_fault_40 : decode cX1_fault 40 = .ok (.iload_n 1, 1) := by decide +kernel
theorem dX1_fault_41 : decode cX1_fault 41 = .ok (.iconst 4, 1) := by decide +kernel
theorem dX1_fault_42 : decode cX1_fault 42 = .ok (.if_icmp .lt 8, 3) := by decide +kernel
theorem dX1_fault_45 : decode cX1_fault 45 = .ok (.iload 4, 2) := by decide +kernel
theorem dX1_fault_47 : decode cX1_fault 47 = .ok (.ifCond .eq 7, 3) := by decide +kernel
theorem dX1_fault_50 : decode cX1_fault 50 = .ok (.iconst 1, 1) := by decide +kernel
theorem dX1_fault_51 : decode cX1_fault 51 = .ok (.goto 4, 3) := by decide +kernel
theorem dX1_fault_54 : decode cX1_fault 54 = .ok (.iconst 0, 1) := by decide +kernel
theorem dX1_fault_55 : decode cX1_fault 55 = .ok (.ireturn, 1) := by decide +kernel
abbrev cX1_found : ByteArray := prog_3_method_18_code
def yX1_found : MethodName := ⟨RX1, "found", "(I)I"⟩
theorem dX1_found_0 : decode cX1_found 0 = .ok (.iload_n 1, 1) := by decide +kernel
theorem dX1_found_1 : decode cX1_found 1 = .ok (.ifCond .lt 9, 3) := by decide +kernel
theorem dX1_found_4 : decode cX1_found 4 = .ok (.iload_n 1, 1) := by decide +kernel
theorem dX1_found_5 : decode cX1_found 5 = .ok (.bipush 13, 2) := by decide +kernel
theorem dX1_found_7 : decode cX1_found 7 = .ok (.if_icmp .le 5, 3) := by decide +kernel
theorem dX1_found_10 : decode cX1_found 10 = .ok (.iconst (-1), 1) := by decide +kernel
theorem dX1_found_11 : decode cX1_found 11 = .ok (.ireturn, 1) := by decide +kernel
theorem dX1_found_12 : decode cX1_found 12 = .ok (.iconst 0, 1) := by decide +kernel
theorem dX1_found_13 : decode cX1_found 13 = .ok (.istore_n 2, 1) := by decide +kernel
theorem dX1_found_14 : decode cX1_found 14 = .ok (.iconst 0, 1) := by decide +kernel
theorem dX1_found_15 : decode cX1_found 15 = .ok (.istore_n 3, 1) := by decide +kernel
theorem dX1_found_16 : decode cX1_found 16 = .ok (.iload_n 3, 1) := by decide +kernel
theorem dX1_found_17 : decode cX1_found 17 = .ok (.bipush 25, 2) := by decide +kernel
theorem dX1_found_19 : decode cX1_found 19 = .ok (.if_icmp .ge 54, 3) := by decide +kernel
theorem dX1_found_22 : decode cX1_found 22 = .ok (.iload_n 1, 1) := by decide +kernel
theorem dX1_found_23 : decode cX1_found 23 = .ok (.iconst 4, 1) := by decide +kernel
theorem dX1_found_24 : decode cX1_found 24 = .ok (.if_icmp .ge 9, 3) := by decide +kernel
theorem dX1_found_27 : decode cX1_found 27 = .ok (.iload_n 3, 1) := by decide +kernel
theorem dX1_found_28 : decode cX1_found 28 = .ok (.iconst 5, 1) := by decide +kernel
theorem dX1_found_29 : decode cX1_found 29 = .ok (.irem, 1) := by decide +kernel
theorem dX1_found_30 : decode cX1_found 30 = .ok (.ifCond .ne 7, 3) := by decide +kernel
theorem dX1_found_33 : decode cX1_found 33 = .ok (.iconst 1, 1) := by decide +kernel
theorem dX1_found_34 : decode cX1_found 34 = .ok (.goto 4, 3) := by decide +kernel
theorem dX1_found_37 : decode cX1_found 37 = .ok (.iconst 0, 1) := by decide +kernel
theorem dX1_found_38 : decode cX1_found 38 = .ok (.istore 4, 2) := by decide +kernel
theorem dX1_found_40 : decode cX1_found 40 = .ok (.iload 4, 2) := by decide +kernel
theorem dX1_found_42 : decode cX1_found 42 = .ok (.ifCond .eq 23, 3) := by decide +kernel
theorem dX1_found_45 : decode cX1_found 45 = .ok (.aload_n 0, 1) := by decide +kernel
theorem dX1_found_46 : decode cX1_found 46 = .ok (.iload_n 1, 1) := by decide +kernel
theorem dX1_found_47 : decode cX1_found 47 = .ok (.iload_n 3, 1) := by decide +kernel
theorem dX1_found_48 : decode cX1_found 48 = .ok (.iconst 5, 1) := by decide +kernel
theorem dX1_found_49 : decode cX1_found 49 = .ok (.idiv, 1) := by decide +kernel
theorem dX1_found_50 : decode cX1_found 50 = .ok (.iload_n 3, 1) := by decide +kernel
theorem dX1_found_51 : decode cX1_found 51 = .ok (.iconst 5, 1) := by decide +kernel
theorem dX1_found_52 : decode cX1_found 52 = .ok (.irem, 1) := by decide +kernel
theorem dX1_found_53 : decode cX1_found 53 = .ok (.invokevirtual 64, 3) := by decide +kernel
theorem dX1_found_56 : decode cX1_found 56 = .ok (.ifCond .eq 9, 3) := by decide +kernel
theorem dX1_found_59 : decode cX1_found 59 = .ok (.iload_n 2, 1) := by decide +kernel
theorem dX1_found_60 : decode cX1_found 60 = .ok (.iconst 1, 1) := by decide +kernel
theorem dX1_found_61 : decode cX1_found 61 = .ok (.iadd, 1) := by decide +kernel
theorem dX1_found_62 : decode cX1_found 62 = .ok (.goto 4, 3) := by decide +kernel
theorem dX1_found_65 : decode cX1_found 65 = .ok (.iload_n 2, 1) := by decide +kernel
theorem dX1_found_66 : decode cX1_found 66 = .ok (.istore_n 2, 1) := by decide +kernel
theorem dX1_found_67 : decode cX1_found 67 = .ok (.iinc 3 1, 3) := by decide +kernel
theorem dX1_found_70 : decode cX1_found 70 = .ok (.goto (-54), 3) := by decide +kernel
theorem dX1_found_73 : decode cX1_found 73 = .ok (.iload_n 2, 1) := by decide +kernel
theorem dX1_found_74 : decode cX1_found 74 = .ok (.ireturn, 1) := by decide +kernel
abbrev cX1_covered : ByteArray := prog_3_method_19_code
def yX1_covered : MethodName := ⟨RX1, "covered", "()I"⟩
theorem dX1_covered_0 : decode cX1_covered 0 = .ok (.iconst 0, 1) := by decide +kernel
theorem dX1_covered_1 : decode cX1_covered 1 = .ok (.istore_n 1, 1) := by decide +kernel
theorem dX1_covered_2 : decode cX1_covered 2 = .ok (.iconst 0, 1) := by decide +kernel
theorem dX1_covered_3 : decode cX1_covered 3 = .ok (.istore_n 2, 1) := by decide +kernel
theorem dX1_covered_4 : decode cX1_covered 4 = .ok (.iload_n 2, 1) := by decide +kernel
theorem dX1_covered_5 : decode cX1_covered 5 = .ok (.bipush 14, 2) := by decide +kernel
theorem dX1_covered_7 : decode cX1_covered 7 = .ok (.if_icmp .ge 38, 3) := by decide +kernel
theorem dX1_covered_10 : decode cX1_covered 10 = .ok (.aload_n 0, 1) := by decide +kernel
theorem dX1_covered_11 : decode cX1_covered 11 = .ok (.iload_n 2, 1) := by decide +kernel
theorem dX1_covered_12 : decode cX1_covered 12 = .ok (.invokevirtual 67, 3) := by decide +kernel
theorem dX1_covered_15 : decode cX1_covered 15 = .ok (.iload_n 2, 1) := by decide +kernel
theorem dX1_covered_16 : decode cX1_covered 16 = .ok (.iconst 4, 1) := by decide +kernel
theorem dX1_covered_17 : decode cX1_covered 17 = .ok (.if_icmp .ge 7, 3) := by decide +kernel
theorem dX1_covered_20 : decode cX1_covered 20 = .ok (.iconst 5, 1) := by decide +kernel
theorem dX1_covered_21 : decode cX1_covered 21 = .ok (.goto 5, 3) := by decide +kernel
theorem dX1_covered_24 : decode cX1_covered 24 = .ok (.bipush 20, 2) := by decide +kernel
theorem dX1_covered_26 : decode cX1_covered 26 = .ok (.if_icmp .ne 11, 3) := by decide +kernel
theorem dX1_covered_29 : decode cX1_covered 29 = .ok (.iload_n 1, 1) := by decide +kernel
theorem dX1_covered_30 : decode cX1_covered 30 = .ok (.iconst 1, 1) := by decide +kernel
theorem dX1_covered_31 : decode cX1_covered 31 = .ok (.iload_n 2, 1) := by decide +kernel
theorem dX1_covered_32 : decode cX1_covered 32 = .ok (.ishl, 1) := by decide +kernel
theorem dX1_covered_33 : decode cX1_covered 33 = .ok (.ior, 1) := by decide +kernel
theorem dX1_covered_34 : decode cX1_covered 34 = .ok (.goto 4, 3) := by decide +kernel
theorem dX1_covered_37 : decode cX1_covered 37 = .ok (.iload_n 1, 1) := by decide +kernel
theorem dX1_covered_38 : decode cX1_covered 38 = .ok (.istore_n 1, 1) := by decide +kernel
theorem dX1_covered_39 : decode cX1_covered 39 = .ok (.iinc 2 1, 3) := by decide +kernel
theorem dX1_covered_42 : decode cX1_covered 42 = .ok (.goto (-38), 3) := by decide +kernel
theorem dX1_covered_45 : decode cX1_covered 45 = .ok (.iload_n 1, 1) := by decide +kernel
theorem dX1_covered_46 : decode cX1_covered 46 = .ok (.ireturn, 1) := by decide +kernel
abbrev cX1_foundFrom : ByteArray := prog_3_method_20_code
def yX1_foundFrom : MethodName := ⟨RX1, "foundFrom", "(III)I"⟩
theorem dX1_foundFrom_0 : decode cX1_foundFrom 0 = .ok (.aload_n 0, 1) := by decide +kernel
theorem dX1_foundFrom_1 : decode cX1_foundFrom 1 = .ok (.iload_n 1, 1) := by decide +kernel
theorem dX1_foundFrom_2 : decode cX1_foundFrom 2 = .ok (.iload_n 2, 1) := by decide +kernel
theorem dX1_foundFrom_3 : decode cX1_foundFrom 3 = .ok (.iload_n 3, 1) := by decide +kernel
theorem dX1_foundFrom_4 : decode cX1_foundFrom 4 = .ok (.invokevirtual 60, 3) := by decide +kernel
theorem dX1_foundFrom_7 : decode cX1_foundFrom 7 = .ok (.ifCond .eq 23, 3) := by decide +kernel
theorem dX1_foundFrom_10 : decode cX1_foundFrom 10 = .ok (.aload_n 0, 1) := by decide +kernel
theorem dX1_foundFrom_11 : decode cX1_foundFrom 11 = .ok (.iload_n 1, 1) := by decide +kernel
theorem dX1_foundFrom_12 : decode cX1_foundFrom 12 = .ok (.iload_n 2, 1) := by decide +kernel
theorem dX1_foundFrom_13 : decode cX1_foundFrom 13 = .ok (.iload_n 1, 1) := by decide +kernel
theorem dX1_foundFrom_14 : decode cX1_foundFrom 14 = .ok (.iconst 4, 1) := by decide +kernel
theorem dX1_foundFrom_15 : decode cX1_foundFrom 15 = .ok (.if_icmp .ge 7, 3) := by decide +kernel
theorem dX1_foundFrom_18 : decode cX1_foundFrom 18 = .ok (.iconst 0, 1) := by decide +kernel
theorem dX1_foundFrom_19 : decode cX1_foundFrom 19 = .ok (.goto 4, 3) := by decide +kernel
theorem dX1_foundFrom_22 : decode cX1_foundFrom 22 = .ok (.iload_n 3, 1) := by decide +kernel
theorem dX1_foundFrom_23 : decode cX1_foundFrom 23 = .ok (.iconst (-1), 1) := by decide +kernel
theorem dX1_foundFrom_24 : decode cX1_foundFrom 24 = .ok (.invokevirtual 56, 3) := by decide +kernel
theorem dX1_foundFrom_27 : decode cX1_foundFrom 27 = .ok (.goto 4, 3) := by decide +kernel
theorem dX1_foundFrom_30 : decode cX1_foundFrom 30 = .ok (.iconst (-1), 1) := by decide +kernel
theorem dX1_foundFrom_31 : decode cX1_foundFrom 31 = .ok (.ireturn, 1) := by decide +kernel
abbrev cX1_spare : ByteArray := prog_3_method_22_code
def yX1_spare : MethodName := ⟨RX1, "spare", "()I"⟩
theorem dX1_spare_0 : decode cX1_spare 0 = .ok (.iconst 0, 1) := by decide +kernel
theorem dX1_spare_1 : decode cX1_spare 1 = .ok (.istore_n 1, 1) := by decide +kernel
theorem dX1_spare_2 : decode cX1_spare 2 = .ok (.iconst 0, 1) := by decide +kernel
theorem dX1_spare_3 : decode cX1_spare 3 = .ok (.istore_n 2, 1) := by decide +kernel
theorem dX1_spare_4 : decode cX1_spare 4 = .ok (.iload_n 2, 1) := by decide +kernel
theorem dX1_spare_5 : decode cX1_spare 5 = .ok (.aload_n 0, 1) := by decide +kernel
theorem dX1_spare_6 : decode cX1_spare 6 = .ok (.getfield 19, 3) := by decide +kernel
theorem dX1_spare_9 : decode cX1_spare 9 = .ok (.if_icmp .ge 53, 3) := by decide +kernel
theorem dX1_spare_12 : decode cX1_spare 12 = .ok (.iconst 1, 1) := by decide +kernel
theorem dX1_spare_13 : decode cX1_spare 13 = .ok (.istore_n 3, 1) := by decide +kernel
theorem dX1_spare_14 : decode cX1_spare 14 = .ok (.iconst 0, 1) := by decide +kernel
theorem dX1_spare_15 : decode cX1_spare 15 = .ok (.istore 4, 2) := by decide +kernel
theorem dX1_spare_17 : decode cX1_spare 17 = .ok (.iload 4, 2) := by decide +kernel
theorem dX1_spare_19 : decode cX1_spare 19 = .ok (.bipush 14, 2) := by decide +kernel
theorem dX1_spare_21 : decode cX1_spare 21 = .ok (.if_icmp .ge 21, 3) := by decide +kernel
theorem dX1_spare_24 : decode cX1_spare 24 = .ok (.iload_n 3, 1) := by decide +kernel
theorem dX1_spare_25 : decode cX1_spare 25 = .ok (.ifCond .eq 17, 3) := by decide +kernel
theorem dX1_spare_28 : decode cX1_spare 28 = .ok (.aload_n 0, 1) := by decide +kernel
theorem dX1_spare_29 : decode cX1_spare 29 = .ok (.iload_n 2, 1) := by decide +kernel
theorem dX1_spare_30 : decode cX1_spare 30 = .ok (.iload 4, 2) := by decide +kernel
theorem dX1_spare_32 : decode cX1_spare 32 = .ok (.invokevirtual 70, 3) := by decide +kernel
theorem dX1_spare_35 : decode cX1_spare 35 = .ok (.istore_n 3, 1) := by decide +kernel
theorem dX1_spare_36 : decode cX1_spare 36 = .ok (.iinc 4 1, 3) := by decide +kernel
theorem dX1_spare_39 : decode cX1_spare 39 = .ok (.goto (-22), 3) := by decide +kernel
theorem dX1_spare_42 : decode cX1_spare 42 = .ok (.iload_n 3, 1) := by decide +kernel
theorem dX1_spare_43 : decode cX1_spare 43 = .ok (.ifCond .eq 11, 3) := by decide +kernel
theorem dX1_spare_46 : decode cX1_spare 46 = .ok (.iload_n 1, 1) := by decide +kernel
theorem dX1_spare_47 : decode cX1_spare 47 = .ok (.iconst 1, 1) := by decide +kernel
theorem dX1_spare_48 : decode cX1_spare 48 = .ok (.iload_n 2, 1) := by decide +kernel
theorem dX1_spare_49 : decode cX1_spare 49 = .ok (.ishl, 1) := by decide +kernel
theorem dX1_spare_50 : decode cX1_spare 50 = .ok (.ior, 1) := by decide +kernel
theorem dX1_spare_51 : decode cX1_spare 51 = .ok (.goto 4, 3) := by decide +kernel
theorem dX1_spare_54 : decode cX1_spare 54 = .ok (.iload_n 1, 1) := by decide +kernel
theorem dX1_spare_55 : decode cX1_spare 55 = .ok (.istore_n 1, 1) := by decide +kernel
theorem dX1_spare_56 : decode cX1_spare 56 = .ok (.iinc 2 1, 3) := by decide +kernel
theorem dX1_spare_59 : decode cX1_spare 59 = .ok (.goto (-55), 3) := by decide +kernel
theorem dX1_spare_62 : decode cX1_spare 62 = .ok (.iload_n 1, 1) := by decide +kernel
theorem dX1_spare_63 : decode cX1_spare 63 = .ok (.ireturn, 1) := by decide +kernel
abbrev cX1_without : ByteArray := prog_3_method_21_code
def yX1_without : MethodName := ⟨RX1, "without", "(II)Z"⟩
theorem dX1_without_0 : decode cX1_without 0 = .ok (.iconst 1, 1) := by decide +kernel
theorem dX1_without_1 : decode cX1_without 1 = .ok (.istore_n 3, 1) := by decide +kernel
theorem dX1_without_2 : decode cX1_without 2 = .ok (.iconst 0, 1) := by decide +kernel
theorem dX1_without_3 : decode cX1_without 3 = .ok (.istore 4, 2) := by decide +kernel
theorem dX1_without_5 : decode cX1_without 5 = .ok (.iload 4, 2) := by decide +kernel
theorem dX1_without_7 : decode cX1_without 7 = .ok (.bipush 25, 2) := by decide +kernel
theorem dX1_without_9 : decode cX1_without 9 = .ok (.if_icmp .ge 75, 3) := by decide +kernel
theorem dX1_without_12 : decode cX1_without 12 = .ok (.iload_n 3, 1) := by decide +kernel
theorem dX1_without_13 : decode cX1_without 13 = .ok (.ifCond .eq 71, 3) := by decide +kernel
theorem dX1_without_16 : decode cX1_without 16 = .ok (.aload_n 0, 1) := by decide +kernel
theorem dX1_without_17 : decode cX1_without 17 = .ok (.iload_n 2, 1) := by decide +kernel
theorem dX1_without_18 : decode cX1_without 18 = .ok (.iload 4, 2) := by decide +kernel
theorem dX1_without_20 : decode cX1_without 20 = .ok (.iconst 5, 1) := by decide +kernel
theorem dX1_without_21 : decode cX1_without 21 = .ok (.idiv, 1) := by decide +kernel
theorem dX1_without_22 : decode cX1_without 22 = .ok (.iload 4, 2) := by decide +kernel
theorem dX1_without_24 : decode cX1_without 24 = .ok (.iconst 5, 1) := by decide +kernel
theorem dX1_without_25 : decode cX1_without 25 = .ok (.irem, 1) := by decide +kernel
theorem dX1_without_26 : decode cX1_without 26 = .ok (.invokevirtual 64, 3) := by decide +kernel
theorem dX1_without_29 : decode cX1_without 29 = .ok (.ifCond .eq 35, 3) := by decide +kernel
theorem dX1_without_32 : decode cX1_without 32 = .ok (.aload_n 0, 1) := by decide +kernel
theorem dX1_without_33 : decode cX1_without 33 = .ok (.iload_n 2, 1) := by decide +kernel
theorem dX1_without_34 : decode cX1_without 34 = .ok (.iload 4, 2) := by decide +kernel
theorem dX1_without_36 : decode cX1_without 36 = .ok (.iconst 5, 1) := by decide +kernel
theorem dX1_without_37 : decode cX1_without 37 = .ok (.idiv, 1) := by decide +kernel
theorem dX1_without_38 : decode cX1_without 38 = .ok (.iload_n 2, 1) := by decide +kernel
theorem dX1_without_39 : decode cX1_without 39 = .ok (.iconst 4, 1) := by decide +kernel
theorem dX1_without_40 : decode cX1_without 40 = .ok (.if_icmp .ge 7, 3) := by decide +kernel
theorem dX1_without_43 : decode cX1_without 43 = .ok (.iconst 0, 1) := by decide +kernel
theorem dX1_without_44 : decode cX1_without 44 = .ok (.goto 7, 3) := by decide +kernel
theorem dX1_without_47 : decode cX1_without 47 = .ok (.iload 4, 2) := by decide +kernel
theorem dX1_without_49 : decode cX1_without 49 = .ok (.iconst 5, 1) := by decide +kernel
theorem dX1_without_50 : decode cX1_without 50 = .ok (.irem, 1) := by decide +kernel
theorem dX1_without_51 : decode cX1_without 51 = .ok (.iload_n 1, 1) := by decide +kernel
theorem dX1_without_52 : decode cX1_without 52 = .ok (.invokevirtual 56, 3) := by decide +kernel
theorem dX1_without_55 : decode cX1_without 55 = .ok (.bipush 32, 2) := by decide +kernel
theorem dX1_without_57 : decode cX1_without 57 = .ok (.if_icmp .ge 7, 3) := by decide +kernel
theorem dX1_without_60 : decode cX1_without 60 = .ok (.iconst 1, 1) := by decide +kernel
theorem dX1_without_61 : decode cX1_without 61 = .ok (.goto 4, 3) := by decide +kernel
theorem dX1_without_64 : decode cX1_without 64 = .ok (.iconst 0, 1) := by decide +kernel
theorem dX1_without_65 : decode cX1_without 65 = .ok (.istore 5, 2) := by decide +kernel
theorem dX1_without_67 : decode cX1_without 67 = .ok (.iload 5, 2) := by decide +kernel
theorem dX1_without_69 : decode cX1_without 69 = .ok (.ifCond .ne 7, 3) := by decide +kernel
theorem dX1_without_72 : decode cX1_without 72 = .ok (.iconst 1, 1) := by decide +kernel
theorem dX1_without_73 : decode cX1_without 73 = .ok (.goto 4, 3) := by decide +kernel
theorem dX1_without_76 : decode cX1_without 76 = .ok (.iconst 0, 1) := by decide +kernel
theorem dX1_without_77 : decode cX1_without 77 = .ok (.istore_n 3, 1) := by decide +kernel
theorem dX1_without_78 : decode cX1_without 78 = .ok (.iinc 4 1, 3) := by decide +kernel
theorem dX1_without_81 : decode cX1_without 81 = .ok (.goto (-76), 3) := by decide +kernel
theorem dX1_without_84 : decode cX1_without 84 = .ok (.iload_n 3, 1) := by decide +kernel
theorem dX1_without_85 : decode cX1_without 85 = .ok (.ireturn, 1) := by decide +kernel
theorem q20 : (Jvm.Cond.initialized "MarchTesterModel") ∈ lw_all := lw_g (lw_at lw_m1 2 rfl) rfl
theorem q150 : (Jvm.Cond.instantiable "MarchTesterModel" (8 : Nat)) ∈ lw_all := lw_g (lw_at lw_m1 132 rfl) rfl
theorem q152 : (Jvm.Cond.instanceMethod ({ cls := "MarchTesterModel", name := "<init>", desc := "()V" } : Jvm.MethodName)) ∈ lw_all := lw_g (lw_at lw_m1 134 rfl) rfl
theorem q153 : (Jvm.Cond.code ({ cls := "MarchTesterModel", name := "<init>", desc := "()V" } : Jvm.MethodName) prog_3_method_1_code (1 : Nat) (Option.none : Option Jvm.ClassFile.FieldType)) ∈ lw_all := lw_g (lw_at lw_m1 135 rfl) rfl
theorem q154 : (Jvm.Cond.methodLink "MarchTesterModel" (1 : Nat) ({ cls := "java/lang/Object", name := "<init>", desc := "()V" } : Jvm.MethodName)) ∈ lw_all := lw_g (lw_at lw_m1 136 rfl) rfl
theorem q155 : (Jvm.Cond.fieldLink "MarchTesterModel" (19 : Nat) "MarchTesterModel" "size" "I") ∈ lw_all := lw_g (lw_at lw_m1 137 rfl) rfl
theorem q156 : (Jvm.Cond.fieldLink "MarchTesterModel" (7 : Nat) "MarchTesterModel" "down" "[I") ∈ lw_all := lw_g (lw_at lw_m1 138 rfl) rfl
theorem q157 : (Jvm.Cond.fieldLink "MarchTesterModel" (13 : Nat) "MarchTesterModel" "many" "[I") ∈ lw_all := lw_g (lw_at lw_m1 139 rfl) rfl
theorem q158 : (Jvm.Cond.fieldLink "MarchTesterModel" (16 : Nat) "MarchTesterModel" "ops" "[I") ∈ lw_all := lw_g (lw_at lw_m1 140 rfl) rfl
theorem q159 : (Jvm.Cond.fieldLink "MarchTesterModel" (23 : Nat) "MarchTesterModel" "memory" "I") ∈ lw_all := lw_g (lw_at lw_m1 141 rfl) rfl
theorem q160 : (Jvm.Cond.fieldLink "MarchTesterModel" (26 : Nat) "MarchTesterModel" "sort" "I") ∈ lw_all := lw_g (lw_at lw_m1 142 rfl) rfl
theorem q161 : (Jvm.Cond.fieldLink "MarchTesterModel" (29 : Nat) "MarchTesterModel" "cell" "I") ∈ lw_all := lw_g (lw_at lw_m1 143 rfl) rfl
theorem q162 : (Jvm.Cond.fieldLink "MarchTesterModel" (36 : Nat) "MarchTesterModel" "other" "I") ∈ lw_all := lw_g (lw_at lw_m1 144 rfl) rfl
theorem q163 : (Jvm.Cond.lays "MarchTesterModel" "MarchTesterModel" "size" "I") ∈ lw_all := lw_g (lw_at lw_m1 145 rfl) rfl
theorem q164 : (Jvm.Cond.soleField "MarchTesterModel" "size") ∈ lw_all := lw_g (lw_at lw_m1 146 rfl) rfl
theorem q165 : (Jvm.Cond.lays "MarchTesterModel" "MarchTesterModel" "down" "[I") ∈ lw_all := lw_g (lw_at lw_m1 147 rfl) rfl
theorem q166 : (Jvm.Cond.soleField "MarchTesterModel" "down") ∈ lw_all := lw_g (lw_at lw_m1 148 rfl) rfl
theorem q167 : (Jvm.Cond.lays "MarchTesterModel" "MarchTesterModel" "many" "[I") ∈ lw_all := lw_g (lw_at lw_m1 149 rfl) rfl
theorem q168 : (Jvm.Cond.soleField "MarchTesterModel" "many") ∈ lw_all := lw_g (lw_at lw_m1 150 rfl) rfl
theorem q169 : (Jvm.Cond.lays "MarchTesterModel" "MarchTesterModel" "ops" "[I") ∈ lw_all := lw_g (lw_at lw_m1 151 rfl) rfl
theorem q170 : (Jvm.Cond.soleField "MarchTesterModel" "ops") ∈ lw_all := lw_g (lw_at lw_m1 152 rfl) rfl
theorem q171 : (Jvm.Cond.lays "MarchTesterModel" "MarchTesterModel" "memory" "I") ∈ lw_all := lw_g (lw_at lw_m1 153 rfl) rfl
theorem q172 : (Jvm.Cond.soleField "MarchTesterModel" "memory") ∈ lw_all := lw_g (lw_at lw_m1 154 rfl) rfl
theorem q173 : (Jvm.Cond.lays "MarchTesterModel" "MarchTesterModel" "sort" "I") ∈ lw_all := lw_g (lw_at lw_m1 155 rfl) rfl
theorem q174 : (Jvm.Cond.soleField "MarchTesterModel" "sort") ∈ lw_all := lw_g (lw_at lw_m1 156 rfl) rfl
theorem q175 : (Jvm.Cond.lays "MarchTesterModel" "MarchTesterModel" "cell" "I") ∈ lw_all := lw_g (lw_at lw_m1 157 rfl) rfl
theorem q176 : (Jvm.Cond.soleField "MarchTesterModel" "cell") ∈ lw_all := lw_g (lw_at lw_m1 158 rfl) rfl
theorem q177 : (Jvm.Cond.lays "MarchTesterModel" "MarchTesterModel" "other" "I") ∈ lw_all := lw_g (lw_at lw_m1 159 rfl) rfl
theorem q178 : (Jvm.Cond.soleField "MarchTesterModel" "other") ∈ lw_all := lw_g (lw_at lw_m1 160 rfl) rfl
theorem q179 : (Jvm.Cond.superclass "MarchTesterModel" "java/lang/Object") ∈ lw_all := lw_g (lw_at lw_m1 161 rfl) rfl
theorem q182 : (Jvm.Cond.instanceMethod ({ cls := "MarchTesterModel", name := "march", desc := "(I)I" } : Jvm.MethodName)) ∈ lw_all := lw_g (lw_at lw_m1 164 rfl) rfl
theorem q183 : (Jvm.Cond.selects "MarchTesterModel" ({ cls := "MarchTesterModel", name := "march", desc := "(I)I" } : Jvm.MethodName) ({ cls := "MarchTesterModel", name := "march", desc := "(I)I" } : Jvm.MethodName)) ∈ lw_all := lw_g (lw_at lw_m1 165 rfl) rfl
theorem q184 : (Jvm.Cond.code ({ cls := "MarchTesterModel", name := "march", desc := "(I)I" } : Jvm.MethodName) prog_3_method_2_code (2 : Nat) (Option.some Jvm.ClassFile.FieldType.int)) ∈ lw_all := lw_g (lw_at lw_m1 166 rfl) rfl
theorem q186 : (Jvm.Cond.instanceMethod ({ cls := "MarchTesterModel", name := "op", desc := "(I)I" } : Jvm.MethodName)) ∈ lw_all := lw_g (lw_at lw_m1 168 rfl) rfl
theorem q187 : (Jvm.Cond.selects "MarchTesterModel" ({ cls := "MarchTesterModel", name := "op", desc := "(I)I" } : Jvm.MethodName) ({ cls := "MarchTesterModel", name := "op", desc := "(I)I" } : Jvm.MethodName)) ∈ lw_all := lw_g (lw_at lw_m1 169 rfl) rfl
theorem q188 : (Jvm.Cond.code ({ cls := "MarchTesterModel", name := "op", desc := "(I)I" } : Jvm.MethodName) prog_3_method_3_code (3 : Nat) (Option.some Jvm.ClassFile.FieldType.int)) ∈ lw_all := lw_g (lw_at lw_m1 170 rfl) rfl
theorem q190 : (Jvm.Cond.instanceMethod ({ cls := "MarchTesterModel", name := "drop", desc := "()I" } : Jvm.MethodName)) ∈ lw_all := lw_g (lw_at lw_m1 172 rfl) rfl
theorem q191 : (Jvm.Cond.selects "MarchTesterModel" ({ cls := "MarchTesterModel", name := "drop", desc := "()I" } : Jvm.MethodName) ({ cls := "MarchTesterModel", name := "drop", desc := "()I" } : Jvm.MethodName)) ∈ lw_all := lw_g (lw_at lw_m1 173 rfl) rfl
theorem q192 : (Jvm.Cond.code ({ cls := "MarchTesterModel", name := "drop", desc := "()I" } : Jvm.MethodName) prog_3_method_4_code (1 : Nat) (Option.some Jvm.ClassFile.FieldType.int)) ∈ lw_all := lw_g (lw_at lw_m1 174 rfl) rfl
theorem q194 : (Jvm.Cond.instanceMethod ({ cls := "MarchTesterModel", name := "turn", desc := "(I)Z" } : Jvm.MethodName)) ∈ lw_all := lw_g (lw_at lw_m1 176 rfl) rfl
theorem q195 : (Jvm.Cond.selects "MarchTesterModel" ({ cls := "MarchTesterModel", name := "turn", desc := "(I)Z" } : Jvm.MethodName) ({ cls := "MarchTesterModel", name := "turn", desc := "(I)Z" } : Jvm.MethodName)) ∈ lw_all := lw_g (lw_at lw_m1 177 rfl) rfl
theorem q196 : (Jvm.Cond.code ({ cls := "MarchTesterModel", name := "turn", desc := "(I)Z" } : Jvm.MethodName) prog_3_method_5_code (2 : Nat) (Option.some Jvm.ClassFile.FieldType.boolean)) ∈ lw_all := lw_g (lw_at lw_m1 178 rfl) rfl
theorem q198 : (Jvm.Cond.instanceMethod ({ cls := "MarchTesterModel", name := "marches", desc := "()I" } : Jvm.MethodName)) ∈ lw_all := lw_g (lw_at lw_m1 180 rfl) rfl
theorem q199 : (Jvm.Cond.selects "MarchTesterModel" ({ cls := "MarchTesterModel", name := "marches", desc := "()I" } : Jvm.MethodName) ({ cls := "MarchTesterModel", name := "marches", desc := "()I" } : Jvm.MethodName)) ∈ lw_all := lw_g (lw_at lw_m1 181 rfl) rfl
theorem q200 : (Jvm.Cond.code ({ cls := "MarchTesterModel", name := "marches", desc := "()I" } : Jvm.MethodName) prog_3_method_6_code (1 : Nat) (Option.some Jvm.ClassFile.FieldType.int)) ∈ lw_all := lw_g (lw_at lw_m1 182 rfl) rfl
theorem q202 : (Jvm.Cond.instanceMethod ({ cls := "MarchTesterModel", name := "sound", desc := "()Z" } : Jvm.MethodName)) ∈ lw_all := lw_g (lw_at lw_m1 184 rfl) rfl
theorem q203 : (Jvm.Cond.selects "MarchTesterModel" ({ cls := "MarchTesterModel", name := "sound", desc := "()Z" } : Jvm.MethodName) ({ cls := "MarchTesterModel", name := "sound", desc := "()Z" } : Jvm.MethodName)) ∈ lw_all := lw_g (lw_at lw_m1 185 rfl) rfl
theorem q204 : (Jvm.Cond.code ({ cls := "MarchTesterModel", name := "sound", desc := "()Z" } : Jvm.MethodName) prog_3_method_14_code (1 : Nat) (Option.some Jvm.ClassFile.FieldType.boolean)) ∈ lw_all := lw_g (lw_at lw_m1 186 rfl) rfl
theorem q205 : (Jvm.Cond.methodLink "MarchTesterModel" (56 : Nat) ({ cls := "MarchTesterModel", name := "count", desc := "(IIII)I" } : Jvm.MethodName)) ∈ lw_all := lw_g (lw_at lw_m1 187 rfl) rfl
theorem q206 : (Jvm.Cond.privateMethod ({ cls := "MarchTesterModel", name := "count", desc := "(IIII)I" } : Jvm.MethodName)) ∈ lw_tbl := lw_at lw_m1 188 rfl
theorem q207 : (Jvm.Cond.instanceMethod ({ cls := "MarchTesterModel", name := "count", desc := "(IIII)I" } : Jvm.MethodName)) ∈ lw_all := lw_g (lw_at lw_m1 189 rfl) rfl
theorem q208 : (Jvm.Cond.code ({ cls := "MarchTesterModel", name := "count", desc := "(IIII)I" } : Jvm.MethodName) prog_3_method_13_code (7 : Nat) (Option.some Jvm.ClassFile.FieldType.int)) ∈ lw_all := lw_g (lw_at lw_m1 190 rfl) rfl
theorem q209 : (Jvm.Cond.methodLink "MarchTesterModel" (53 : Nat) ({ cls := "MarchTesterModel", name := "run", desc := "(II)Z" } : Jvm.MethodName)) ∈ lw_all := lw_g (lw_at lw_m1 191 rfl) rfl
theorem q210 : (Jvm.Cond.privateMethod ({ cls := "MarchTesterModel", name := "run", desc := "(II)Z" } : Jvm.MethodName)) ∈ lw_tbl := lw_at lw_m1 192 rfl
theorem q211 : (Jvm.Cond.instanceMethod ({ cls := "MarchTesterModel", name := "run", desc := "(II)Z" } : Jvm.MethodName)) ∈ lw_all := lw_g (lw_at lw_m1 193 rfl) rfl
theorem q212 : (Jvm.Cond.code ({ cls := "MarchTesterModel", name := "run", desc := "(II)Z" } : Jvm.MethodName) prog_3_method_12_code (7 : Nat) (Option.some Jvm.ClassFile.FieldType.boolean)) ∈ lw_all := lw_g (lw_at lw_m1 194 rfl) rfl
theorem q213 : (Jvm.Cond.methodLink "MarchTesterModel" (43 : Nat) ({ cls := "MarchTesterModel", name := "settle", desc := "()V" } : Jvm.MethodName)) ∈ lw_all := lw_g (lw_at lw_m1 195 rfl) rfl
theorem q214 : (Jvm.Cond.privateMethod ({ cls := "MarchTesterModel", name := "settle", desc := "()V" } : Jvm.MethodName)) ∈ lw_tbl := lw_at lw_m1 196 rfl
theorem q215 : (Jvm.Cond.instanceMethod ({ cls := "MarchTesterModel", name := "settle", desc := "()V" } : Jvm.MethodName)) ∈ lw_all := lw_g (lw_at lw_m1 197 rfl) rfl
theorem q216 : (Jvm.Cond.code ({ cls := "MarchTesterModel", name := "settle", desc := "()V" } : Jvm.MethodName) prog_3_method_9_code (1 : Nat) (Option.none : Option Jvm.ClassFile.FieldType)) ∈ lw_all := lw_g (lw_at lw_m1 198 rfl) rfl
theorem q217 : (Jvm.Cond.methodLink "MarchTesterModel" (32 : Nat) ({ cls := "MarchTesterModel", name := "put", desc := "(II)V" } : Jvm.MethodName)) ∈ lw_all := lw_g (lw_at lw_m1 199 rfl) rfl
theorem q218 : (Jvm.Cond.privateMethod ({ cls := "MarchTesterModel", name := "put", desc := "(II)V" } : Jvm.MethodName)) ∈ lw_tbl := lw_at lw_m1 200 rfl
theorem q219 : (Jvm.Cond.instanceMethod ({ cls := "MarchTesterModel", name := "put", desc := "(II)V" } : Jvm.MethodName)) ∈ lw_all := lw_g (lw_at lw_m1 201 rfl) rfl
theorem q220 : (Jvm.Cond.code ({ cls := "MarchTesterModel", name := "put", desc := "(II)V" } : Jvm.MethodName) prog_3_method_8_code (3 : Nat) (Option.none : Option Jvm.ClassFile.FieldType)) ∈ lw_all := lw_g (lw_at lw_m1 202 rfl) rfl
theorem q221 : (Jvm.Cond.methodLink "MarchTesterModel" (39 : Nat) ({ cls := "MarchTesterModel", name := "bit", desc := "(I)I" } : Jvm.MethodName)) ∈ lw_all := lw_g (lw_at lw_m1 203 rfl) rfl
theorem q222 : (Jvm.Cond.privateMethod ({ cls := "MarchTesterModel", name := "bit", desc := "(I)I" } : Jvm.MethodName)) ∈ lw_tbl := lw_at lw_m1 204 rfl
theorem q223 : (Jvm.Cond.instanceMethod ({ cls := "MarchTesterModel", name := "bit", desc := "(I)I" } : Jvm.MethodName)) ∈ lw_all := lw_g (lw_at lw_m1 205 rfl) rfl
theorem q224 : (Jvm.Cond.code ({ cls := "MarchTesterModel", name := "bit", desc := "(I)I" } : Jvm.MethodName) prog_3_method_7_code (2 : Nat) (Option.some Jvm.ClassFile.FieldType.int)) ∈ lw_all := lw_g (lw_at lw_m1 206 rfl) rfl
theorem q225 : (Jvm.Cond.methodLink "MarchTesterModel" (49 : Nat) ({ cls := "MarchTesterModel", name := "fails", desc := "(II)Z" } : Jvm.MethodName)) ∈ lw_all := lw_g (lw_at lw_m1 207 rfl) rfl
theorem q226 : (Jvm.Cond.privateMethod ({ cls := "MarchTesterModel", name := "fails", desc := "(II)Z" } : Jvm.MethodName)) ∈ lw_tbl := lw_at lw_m1 208 rfl
theorem q227 : (Jvm.Cond.instanceMethod ({ cls := "MarchTesterModel", name := "fails", desc := "(II)Z" } : Jvm.MethodName)) ∈ lw_all := lw_g (lw_at lw_m1 209 rfl) rfl
theorem q228 : (Jvm.Cond.code ({ cls := "MarchTesterModel", name := "fails", desc := "(II)Z" } : Jvm.MethodName) prog_3_method_11_code (3 : Nat) (Option.some Jvm.ClassFile.FieldType.boolean)) ∈ lw_all := lw_g (lw_at lw_m1 210 rfl) rfl
theorem q229 : (Jvm.Cond.methodLink "MarchTesterModel" (46 : Nat) ({ cls := "MarchTesterModel", name := "write", desc := "(II)V" } : Jvm.MethodName)) ∈ lw_all := lw_g (lw_at lw_m1 211 rfl) rfl
theorem q230 : (Jvm.Cond.privateMethod ({ cls := "MarchTesterModel", name := "write", desc := "(II)V" } : Jvm.MethodName)) ∈ lw_tbl := lw_at lw_m1 212 rfl
theorem q231 : (Jvm.Cond.instanceMethod ({ cls := "MarchTesterModel", name := "write", desc := "(II)V" } : Jvm.MethodName)) ∈ lw_all := lw_g (lw_at lw_m1 213 rfl) rfl
theorem q232 : (Jvm.Cond.code ({ cls := "MarchTesterModel", name := "write", desc := "(II)V" } : Jvm.MethodName) prog_3_method_10_code (9 : Nat) (Option.none : Option Jvm.ClassFile.FieldType)) ∈ lw_all := lw_g (lw_at lw_m1 214 rfl) rfl
theorem q234 : (Jvm.Cond.instanceMethod ({ cls := "MarchTesterModel", name := "steps", desc := "()I" } : Jvm.MethodName)) ∈ lw_all := lw_g (lw_at lw_m1 216 rfl) rfl
theorem q235 : (Jvm.Cond.selects "MarchTesterModel" ({ cls := "MarchTesterModel", name := "steps", desc := "()I" } : Jvm.MethodName) ({ cls := "MarchTesterModel", name := "steps", desc := "()I" } : Jvm.MethodName)) ∈ lw_all := lw_g (lw_at lw_m1 217 rfl) rfl
theorem q236 : (Jvm.Cond.code ({ cls := "MarchTesterModel", name := "steps", desc := "()I" } : Jvm.MethodName) prog_3_method_15_code (3 : Nat) (Option.some Jvm.ClassFile.FieldType.int)) ∈ lw_all := lw_g (lw_at lw_m1 218 rfl) rfl
theorem q238 : (Jvm.Cond.instanceMethod ({ cls := "MarchTesterModel", name := "finds", desc := "(III)Z" } : Jvm.MethodName)) ∈ lw_all := lw_g (lw_at lw_m1 220 rfl) rfl
theorem q239 : (Jvm.Cond.selects "MarchTesterModel" ({ cls := "MarchTesterModel", name := "finds", desc := "(III)Z" } : Jvm.MethodName) ({ cls := "MarchTesterModel", name := "finds", desc := "(III)Z" } : Jvm.MethodName)) ∈ lw_all := lw_g (lw_at lw_m1 221 rfl) rfl
theorem q240 : (Jvm.Cond.code ({ cls := "MarchTesterModel", name := "finds", desc := "(III)Z" } : Jvm.MethodName) prog_3_method_17_code (4 : Nat) (Option.some Jvm.ClassFile.FieldType.boolean)) ∈ lw_all := lw_g (lw_at lw_m1 222 rfl) rfl
theorem q241 : (Jvm.Cond.methodLink "MarchTesterModel" (60 : Nat) ({ cls := "MarchTesterModel", name := "fault", desc := "(III)Z" } : Jvm.MethodName)) ∈ lw_all := lw_g (lw_at lw_m1 223 rfl) rfl
theorem q242 : (Jvm.Cond.privateMethod ({ cls := "MarchTesterModel", name := "fault", desc := "(III)Z" } : Jvm.MethodName)) ∈ lw_tbl := lw_at lw_m1 224 rfl
theorem q243 : (Jvm.Cond.instanceMethod ({ cls := "MarchTesterModel", name := "fault", desc := "(III)Z" } : Jvm.MethodName)) ∈ lw_all := lw_g (lw_at lw_m1 225 rfl) rfl
theorem q244 : (Jvm.Cond.code ({ cls := "MarchTesterModel", name := "fault", desc := "(III)Z" } : Jvm.MethodName) prog_3_method_16_code (5 : Nat) (Option.some Jvm.ClassFile.FieldType.boolean)) ∈ lw_all := lw_g (lw_at lw_m1 226 rfl) rfl
theorem q246 : (Jvm.Cond.instanceMethod ({ cls := "MarchTesterModel", name := "found", desc := "(I)I" } : Jvm.MethodName)) ∈ lw_all := lw_g (lw_at lw_m1 228 rfl) rfl
theorem q247 : (Jvm.Cond.selects "MarchTesterModel" ({ cls := "MarchTesterModel", name := "found", desc := "(I)I" } : Jvm.MethodName) ({ cls := "MarchTesterModel", name := "found", desc := "(I)I" } : Jvm.MethodName)) ∈ lw_all := lw_g (lw_at lw_m1 229 rfl) rfl
theorem q248 : (Jvm.Cond.code ({ cls := "MarchTesterModel", name := "found", desc := "(I)I" } : Jvm.MethodName) prog_3_method_18_code (5 : Nat) (Option.some Jvm.ClassFile.FieldType.int)) ∈ lw_all := lw_g (lw_at lw_m1 230 rfl) rfl
theorem q249 : (Jvm.Cond.methodLink "MarchTesterModel" (64 : Nat) ({ cls := "MarchTesterModel", name := "finds", desc := "(III)Z" } : Jvm.MethodName)) ∈ lw_all := lw_g (lw_at lw_m1 231 rfl) rfl
theorem q251 : (Jvm.Cond.instanceMethod ({ cls := "MarchTesterModel", name := "covered", desc := "()I" } : Jvm.MethodName)) ∈ lw_all := lw_g (lw_at lw_m1 233 rfl) rfl
theorem q252 : (Jvm.Cond.selects "MarchTesterModel" ({ cls := "MarchTesterModel", name := "covered", desc := "()I" } : Jvm.MethodName) ({ cls := "MarchTesterModel", name := "covered", desc := "()I" } : Jvm.MethodName)) ∈ lw_all := lw_g (lw_at lw_m1 234 rfl) rfl
theorem q253 : (Jvm.Cond.code ({ cls := "MarchTesterModel", name := "covered", desc := "()I" } : Jvm.MethodName) prog_3_method_19_code (3 : Nat) (Option.some Jvm.ClassFile.FieldType.int)) ∈ lw_all := lw_g (lw_at lw_m1 235 rfl) rfl
theorem q254 : (Jvm.Cond.methodLink "MarchTesterModel" (67 : Nat) ({ cls := "MarchTesterModel", name := "found", desc := "(I)I" } : Jvm.MethodName)) ∈ lw_all := lw_g (lw_at lw_m1 236 rfl) rfl
theorem q256 : (Jvm.Cond.instanceMethod ({ cls := "MarchTesterModel", name := "foundFrom", desc := "(III)I" } : Jvm.MethodName)) ∈ lw_all := lw_g (lw_at lw_m1 238 rfl) rfl
theorem q257 : (Jvm.Cond.selects "MarchTesterModel" ({ cls := "MarchTesterModel", name := "foundFrom", desc := "(III)I" } : Jvm.MethodName) ({ cls := "MarchTesterModel", name := "foundFrom", desc := "(III)I" } : Jvm.MethodName)) ∈ lw_all := lw_g (lw_at lw_m1 239 rfl) rfl
theorem q258 : (Jvm.Cond.code ({ cls := "MarchTesterModel", name := "foundFrom", desc := "(III)I" } : Jvm.MethodName) prog_3_method_20_code (4 : Nat) (Option.some Jvm.ClassFile.FieldType.int)) ∈ lw_all := lw_g (lw_at lw_m2 0 rfl) rfl
theorem q260 : (Jvm.Cond.instanceMethod ({ cls := "MarchTesterModel", name := "spare", desc := "()I" } : Jvm.MethodName)) ∈ lw_all := lw_g (lw_at lw_m2 2 rfl) rfl
theorem q261 : (Jvm.Cond.selects "MarchTesterModel" ({ cls := "MarchTesterModel", name := "spare", desc := "()I" } : Jvm.MethodName) ({ cls := "MarchTesterModel", name := "spare", desc := "()I" } : Jvm.MethodName)) ∈ lw_all := lw_g (lw_at lw_m2 3 rfl) rfl
theorem q262 : (Jvm.Cond.code ({ cls := "MarchTesterModel", name := "spare", desc := "()I" } : Jvm.MethodName) prog_3_method_22_code (5 : Nat) (Option.some Jvm.ClassFile.FieldType.int)) ∈ lw_all := lw_g (lw_at lw_m2 4 rfl) rfl
theorem q263 : (Jvm.Cond.methodLink "MarchTesterModel" (70 : Nat) ({ cls := "MarchTesterModel", name := "without", desc := "(II)Z" } : Jvm.MethodName)) ∈ lw_all := lw_g (lw_at lw_m2 5 rfl) rfl
theorem q264 : (Jvm.Cond.privateMethod ({ cls := "MarchTesterModel", name := "without", desc := "(II)Z" } : Jvm.MethodName)) ∈ lw_tbl := lw_at lw_m2 6 rfl
theorem q265 : (Jvm.Cond.instanceMethod ({ cls := "MarchTesterModel", name := "without", desc := "(II)Z" } : Jvm.MethodName)) ∈ lw_all := lw_g (lw_at lw_m2 7 rfl) rfl
theorem q266 : (Jvm.Cond.code ({ cls := "MarchTesterModel", name := "without", desc := "(II)Z" } : Jvm.MethodName) prog_3_method_21_code (6 : Nat) (Option.some Jvm.ClassFile.FieldType.boolean)) ∈ lw_all := lw_g (lw_at lw_m2 8 rfl) rfl
theorem in_X1 : ∀ w ∈ wsX10, w ∈ lw_all := lw_in wsX10 [163, 165, 167, 169, 171, 173, 175, 177] (by decide +kernel) (by decide +kernel)
end
section
/-! java/lang/Object -/
set_option maxRecDepth 100000
def RJ0 : String := "java/lang/Object"
abbrev cJ0_init : ByteArray := object_method_1_code
def yJ0_init : MethodName := ⟨RJ0, "<init>", "()V"⟩
theorem dJ0_init_0 : decode cJ0_init 0 = .ok (.return_, 1) := by decide +kernel
theorem q27 : (Jvm.Cond.instanceMethod ({ cls := "java/lang/Object", name := "<init>", desc := "()V" } : Jvm.MethodName)) ∈ lw_all := lw_g (lw_at lw_m1 9 rfl) rfl
theorem q28 : (Jvm.Cond.code ({ cls := "java/lang/Object", name := "<init>", desc := "()V" } : Jvm.MethodName) object_method_1_code (1 : Nat) (Option.none : Option Jvm.ClassFile.FieldType)) ∈ lw_all := lw_g (lw_at lw_m1 10 rfl) rfl
theorem q57 : (Jvm.Cond.arrayClass Jvm.ClassFile.FieldType.byte) ∈ lw_all := lw_g (lw_at lw_m1 39 rfl) rfl
set_option maxRecDepth 100000
theorem q180 : (Jvm.Cond.arrayClass Jvm.ClassFile.FieldType.int) ∈ lw_all := lw_g (lw_at lw_m1 162 rfl) rfl
theorem q18 : (Jvm.Cond.initialized "MarchTesterLaw") ∈ lw_all := lw_g (lw_at lw_m1 0 rfl) rfl
set_option maxRecDepth 100000
theorem q21 : (Jvm.Cond.classLink "MarchTesterLaw" (7 : Nat) "MarchTester") ∈ lw_all := lw_g (lw_at lw_m1 3 rfl) rfl
theorem q23 : (Jvm.Cond.methodLink "MarchTesterLaw" (9 : Nat) ({ cls := "MarchTester", name := "<init>", desc := "()V" } : Jvm.MethodName)) ∈ lw_all := lw_g (lw_at lw_m1 5 rfl) rfl
theorem q58 : (Jvm.Cond.methodLink "MarchTesterLaw" (13 : Nat) ({ cls := "MarchTester", name := "march", desc := "(I)I" } : Jvm.MethodName)) ∈ lw_all := lw_g (lw_at lw_m1 40 rfl) rfl
theorem q62 : (Jvm.Cond.methodLink "MarchTesterLaw" (18 : Nat) ({ cls := "MarchTester", name := "op", desc := "(I)I" } : Jvm.MethodName)) ∈ lw_all := lw_g (lw_at lw_m1 44 rfl) rfl
theorem q66 : (Jvm.Cond.methodLink "MarchTesterLaw" (22 : Nat) ({ cls := "MarchTester", name := "drop", desc := "()I" } : Jvm.MethodName)) ∈ lw_all := lw_g (lw_at lw_m1 48 rfl) rfl
theorem q70 : (Jvm.Cond.methodLink "MarchTesterLaw" (27 : Nat) ({ cls := "MarchTester", name := "turn", desc := "(I)Z" } : Jvm.MethodName)) ∈ lw_all := lw_g (lw_at lw_m1 52 rfl) rfl
theorem q74 : (Jvm.Cond.methodLink "MarchTesterLaw" (32 : Nat) ({ cls := "MarchTester", name := "marches", desc := "()I" } : Jvm.MethodName)) ∈ lw_all := lw_g (lw_at lw_m1 56 rfl) rfl
theorem q78 : (Jvm.Cond.methodLink "MarchTesterLaw" (36 : Nat) ({ cls := "MarchTester", name := "sound", desc := "()Z" } : Jvm.MethodName)) ∈ lw_all := lw_g (lw_at lw_m1 60 rfl) rfl
theorem q106 : (Jvm.Cond.methodLink "MarchTesterLaw" (41 : Nat) ({ cls := "MarchTester", name := "steps", desc := "()I" } : Jvm.MethodName)) ∈ lw_all := lw_g (lw_at lw_m1 88 rfl) rfl
theorem q110 : (Jvm.Cond.methodLink "MarchTesterLaw" (45 : Nat) ({ cls := "MarchTester", name := "finds", desc := "(III)Z" } : Jvm.MethodName)) ∈ lw_all := lw_g (lw_at lw_m1 92 rfl) rfl
theorem q125 : (Jvm.Cond.methodLink "MarchTesterLaw" (50 : Nat) ({ cls := "MarchTester", name := "found", desc := "(I)I" } : Jvm.MethodName)) ∈ lw_all := lw_g (lw_at lw_m1 107 rfl) rfl
theorem q132 : (Jvm.Cond.methodLink "MarchTesterLaw" (54 : Nat) ({ cls := "MarchTester", name := "covered", desc := "()I" } : Jvm.MethodName)) ∈ lw_all := lw_g (lw_at lw_m1 114 rfl) rfl
theorem q137 : (Jvm.Cond.methodLink "MarchTesterLaw" (58 : Nat) ({ cls := "MarchTester", name := "foundFrom", desc := "(III)I" } : Jvm.MethodName)) ∈ lw_all := lw_g (lw_at lw_m1 119 rfl) rfl
theorem q141 : (Jvm.Cond.methodLink "MarchTesterLaw" (63 : Nat) ({ cls := "MarchTester", name := "spare", desc := "()I" } : Jvm.MethodName)) ∈ lw_all := lw_g (lw_at lw_m1 123 rfl) rfl
theorem q149 : (Jvm.Cond.classLink "MarchTesterLaw" (10 : Nat) "MarchTesterModel") ∈ lw_all := lw_g (lw_at lw_m1 131 rfl) rfl
theorem q151 : (Jvm.Cond.methodLink "MarchTesterLaw" (12 : Nat) ({ cls := "MarchTesterModel", name := "<init>", desc := "()V" } : Jvm.MethodName)) ∈ lw_all := lw_g (lw_at lw_m1 133 rfl) rfl
theorem q181 : (Jvm.Cond.methodLink "MarchTesterLaw" (17 : Nat) ({ cls := "MarchTesterModel", name := "march", desc := "(I)I" } : Jvm.MethodName)) ∈ lw_all := lw_g (lw_at lw_m1 163 rfl) rfl
theorem q185 : (Jvm.Cond.methodLink "MarchTesterLaw" (21 : Nat) ({ cls := "MarchTesterModel", name := "op", desc := "(I)I" } : Jvm.MethodName)) ∈ lw_all := lw_g (lw_at lw_m1 167 rfl) rfl
theorem q189 : (Jvm.Cond.methodLink "MarchTesterLaw" (26 : Nat) ({ cls := "MarchTesterModel", name := "drop", desc := "()I" } : Jvm.MethodName)) ∈ lw_all := lw_g (lw_at lw_m1 171 rfl) rfl
theorem q193 : (Jvm.Cond.methodLink "MarchTesterLaw" (31 : Nat) ({ cls := "MarchTesterModel", name := "turn", desc := "(I)Z" } : Jvm.MethodName)) ∈ lw_all := lw_g (lw_at lw_m1 175 rfl) rfl
theorem q197 : (Jvm.Cond.methodLink "MarchTesterLaw" (35 : Nat) ({ cls := "MarchTesterModel", name := "marches", desc := "()I" } : Jvm.MethodName)) ∈ lw_all := lw_g (lw_at lw_m1 179 rfl) rfl
theorem q201 : (Jvm.Cond.methodLink "MarchTesterLaw" (40 : Nat) ({ cls := "MarchTesterModel", name := "sound", desc := "()Z" } : Jvm.MethodName)) ∈ lw_all := lw_g (lw_at lw_m1 183 rfl) rfl
theorem q233 : (Jvm.Cond.methodLink "MarchTesterLaw" (44 : Nat) ({ cls := "MarchTesterModel", name := "steps", desc := "()I" } : Jvm.MethodName)) ∈ lw_all := lw_g (lw_at lw_m1 215 rfl) rfl
theorem q237 : (Jvm.Cond.methodLink "MarchTesterLaw" (49 : Nat) ({ cls := "MarchTesterModel", name := "finds", desc := "(III)Z" } : Jvm.MethodName)) ∈ lw_all := lw_g (lw_at lw_m1 219 rfl) rfl
theorem q245 : (Jvm.Cond.methodLink "MarchTesterLaw" (53 : Nat) ({ cls := "MarchTesterModel", name := "found", desc := "(I)I" } : Jvm.MethodName)) ∈ lw_all := lw_g (lw_at lw_m1 227 rfl) rfl
theorem q250 : (Jvm.Cond.methodLink "MarchTesterLaw" (57 : Nat) ({ cls := "MarchTesterModel", name := "covered", desc := "()I" } : Jvm.MethodName)) ∈ lw_all := lw_g (lw_at lw_m1 232 rfl) rfl
theorem q255 : (Jvm.Cond.methodLink "MarchTesterLaw" (62 : Nat) ({ cls := "MarchTesterModel", name := "foundFrom", desc := "(III)I" } : Jvm.MethodName)) ∈ lw_all := lw_g (lw_at lw_m1 237 rfl) rfl
theorem q259 : (Jvm.Cond.methodLink "MarchTesterLaw" (66 : Nat) ({ cls := "MarchTesterModel", name := "spare", desc := "()I" } : Jvm.MethodName)) ∈ lw_all := lw_g (lw_at lw_m2 1 rfl) rfl
/-! the law's own entry -/
set_option maxRecDepth 100000
abbrev cL_law : ByteArray := code
theorem dL_law_0 : decode cL_law 0 = .ok (.new 7, 3) := by decide +kernel
theorem dL_law_3 : decode cL_law 3 = .ok (.dup, 1) := by decide +kernel
theorem dL_law_4 : decode cL_law 4 = .ok (.invokespecial 9, 3) := by decide +kernel
theorem dL_law_7 : decode cL_law 7 = .ok (.astore_n 1, 1) := by decide +kernel
theorem dL_law_8 : decode cL_law 8 = .ok (.new 10, 3) := by decide +kernel
theorem dL_law_11 : decode cL_law 11 = .ok (.dup, 1) := by decide +kernel
theorem dL_law_12 : decode cL_law 12 = .ok (.invokespecial 12, 3) := by decide +kernel
theorem dL_law_15 : decode cL_law 15 = .ok (.astore_n 2, 1) := by decide +kernel
theorem dL_law_16 : decode cL_law 16 = .ok (.iconst 0, 1) := by decide +kernel
theorem dL_law_17 : decode cL_law 17 = .ok (.istore_n 3, 1) := by decide +kernel
theorem dL_law_18 : decode cL_law 18 = .ok (.iload_n 3, 1) := by decide +kernel
theorem dL_law_19 : decode cL_law 19 = .ok (.aload_n 0, 1) := by decide +kernel
theorem dL_law_20 : decode cL_law 20 = .ok (.arraylength, 1) := by decide +kernel
theorem dL_law_21 : decode cL_law 21 = .ok (.iconst 4, 1) := by decide +kernel
theorem dL_law_22 : decode cL_law 22 = .ok (.isub, 1) := by decide +kernel
theorem dL_law_23 : decode cL_law 23 = .ok (.if_icmp .gt 335, 3) := by decide +kernel
theorem dL_law_26 : decode cL_law 26 = .ok (.aload_n 0, 1) := by decide +kernel
theorem dL_law_27 : decode cL_law 27 = .ok (.iload_n 3, 1) := by decide +kernel
theorem dL_law_28 : decode cL_law 28 = .ok (.iaload, 1) := by decide +kernel
theorem dL_law_29 : decode cL_law 29 = .ok (.bipush 15, 2) := by decide +kernel
theorem dL_law_31 : decode cL_law 31 = .ok (.iand, 1) := by decide +kernel
theorem dL_law_32 : decode cL_law 32 = .ok (.tableswitch 320 0 11 #[64, 87, 110, 123, 146, 159, 172, 185, 228, 251, 264, 307], 64) := by decide +kernel
theorem dL_law_96 : decode cL_law 96 = .ok (.aload_n 1, 1) := by decide +kernel
theorem dL_law_97 : decode cL_law 97 = .ok (.aload_n 0, 1) := by decide +kernel
theorem dL_law_98 : decode cL_law 98 = .ok (.iload_n 3, 1) := by decide +kernel
theorem dL_law_99 : decode cL_law 99 = .ok (.iconst 1, 1) := by decide +kernel
theorem dL_law_100 : decode cL_law 100 = .ok (.iadd, 1) := by decide +kernel
theorem dL_law_101 : decode cL_law 101 = .ok (.iaload, 1) := by decide +kernel
theorem dL_law_102 : decode cL_law 102 = .ok (.invokevirtual 13, 3) := by decide +kernel
theorem dL_law_105 : decode cL_law 105 = .ok (.aload_n 2, 1) := by decide +kernel
theorem dL_law_106 : decode cL_law 106 = .ok (.aload_n 0, 1) := by decide +kernel
theorem dL_law_107 : decode cL_law 107 = .ok (.iload_n 3, 1) := by decide +kernel
theorem dL_law_108 : decode cL_law 108 = .ok (.iconst 1, 1) := by decide +kernel
theorem dL_law_109 : decode cL_law 109 = .ok (.iadd, 1) := by decide +kernel
theorem dL_law_110 : decode cL_law 110 = .ok (.iaload, 1) := by decide +kernel
theorem dL_law_111 : decode cL_law 111 = .ok (.invokevirtual 17, 3) := by decide +kernel
theorem dL_law_114 : decode cL_law 114 = .ok (.if_icmp .eq 238, 3) := by decide +kernel
theorem dL_law_117 : decode cL_law 117 = .ok (.iconst 0, 1) := by decide +kernel
theorem dL_law_118 : decode cL_law 118 = .ok (.ireturn, 1) := by decide +kernel
theorem dL_law_119 : decode cL_law 119 = .ok (.aload_n 1, 1) := by decide +kernel
theorem dL_law_120 : decode cL_law 120 = .ok (.aload_n 0, 1) := by decide +kernel
theorem dL_law_121 : decode cL_law 121 = .ok (.iload_n 3, 1) := by decide +kernel
theorem dL_law_122 : decode cL_law 122 = .ok (.iconst 1, 1) := by decide +kernel
theorem dL_law_123 : decode cL_law 123 = .ok (.iadd, 1) := by decide +kernel
theorem dL_law_124 : decode cL_law 124 = .ok (.iaload, 1) := by decide +kernel
theorem dL_law_125 : decode cL_law 125 = .ok (.invokevirtual 18, 3) := by decide +kernel
theorem dL_law_128 : decode cL_law 128 = .ok (.aload_n 2, 1) := by decide +kernel
theorem dL_law_129 : decode cL_law 129 = .ok (.aload_n 0, 1) := by decide +kernel
theorem dL_law_130 : decode cL_law 130 = .ok (.iload_n 3, 1) := by decide +kernel
theorem dL_law_131 : decode cL_law 131 = .ok (.iconst 1, 1) := by decide +kernel
theorem dL_law_132 : decode cL_law 132 = .ok (.iadd, 1) := by decide +kernel
theorem dL_law_133 : decode cL_law 133 = .ok (.iaload, 1) := by decide +kernel
theorem dL_law_134 : decode cL_law 134 = .ok (.invokevirtual 21, 3) := by decide +kernel
theorem dL_law_137 : decode cL_law 137 = .ok (.if_icmp .eq 215, 3) := by decide +kernel
theorem dL_law_140 : decode cL_law 140 = .ok (.iconst 0, 1) := by decide +kernel
theorem dL_law_141 : decode cL_law 141 = .ok (.ireturn, 1) := by decide +kernel
theorem dL_law_142 : decode cL_law 142 = .ok (.aload_n 1, 1) := by decide +kernel
theorem dL_law_143 : decode cL_law 143 = .ok (.invokevirtual 22, 3) := by decide +kernel
theorem dL_law_146 : decode cL_law 146 = .ok (.aload_n 2, 1) := by decide +kernel
theorem dL_law_147 : decode cL_law 147 = .ok (.invokevirtual 26, 3) := by decide +kernel
theorem dL_law_150 : decode cL_law 150 = .ok (.if_icmp .eq 202, 3) := by decide +kernel
theorem dL_law_153 : decode cL_law 153 = .ok (.iconst 0, 1) := by decide +kernel
theorem dL_law_154 : decode cL_law 154 = .ok (.ireturn, 1) := by decide +kernel
theorem dL_law_155 : decode cL_law 155 = .ok (.aload_n 1, 1) := by decide +kernel
theorem dL_law_156 : decode cL_law 156 = .ok (.aload_n 0, 1) := by decide +kernel
theorem dL_law_157 : decode cL_law 157 = .ok (.iload_n 3, 1) := by decide +kernel
theorem dL_law_158 : decode cL_law 158 = .ok (.iconst 1, 1) := by decide +kernel
theorem dL_law_159 : decode cL_law 159 = .ok (.iadd, 1) := by decide +kernel
theorem dL_law_160 : decode cL_law 160 = .ok (.iaload, 1) := by decide +kernel
theorem dL_law_161 : decode cL_law 161 = .ok (.invokevirtual 27, 3) := by decide +kernel
theorem dL_law_164 : decode cL_law 164 = .ok (.aload_n 2, 1) := by decide +kernel
theorem dL_law_165 : decode cL_law 165 = .ok (.aload_n 0, 1) := by decide +kernel
theorem dL_law_166 : decode cL_law 166 = .ok (.iload_n 3, 1) := by decide +kernel
theorem dL_law_167 : decode cL_law 167 = .ok (.iconst 1, 1) := by decide +kernel
theorem dL_law_168 : decode cL_law 168 = .ok (.iadd, 1) := by decide +kernel
theorem dL_law_169 : decode cL_law 169 = .ok (.iaload, 1) := by decide +kernel
theorem dL_law_170 : decode cL_law 170 = .ok (.invokevirtual 31, 3) := by decide +kernel
theorem dL_law_173 : decode cL_law 173 = .ok (.if_icmp .eq 179, 3) := by decide +kernel
theorem dL_law_176 : decode cL_law 176 = .ok (.iconst 0, 1) := by decide +kernel
theorem dL_law_177 : decode cL_law 177 = .ok (.ireturn, 1) := by decide +kernel
theorem dL_law_178 : decode cL_law 178 = .ok (.aload_n 1, 1) := by decide +kernel
theorem dL_law_179 : decode cL_law 179 = .ok (.invokevirtual 32, 3) := by decide +kernel
theorem dL_law_182 : decode cL_law 182 = .ok (.aload_n 2, 1) := by decide +kernel
theorem dL_law_183 : decode cL_law 183 = .ok (.invokevirtual 35, 3) := by decide +kernel
theorem dL_law_186 : decode cL_law 186 = .ok (.if_icmp .eq 166, 3) := by decide +kernel
theorem dL_law_189 : decode cL_law 189 = .ok (.iconst 0, 1) := by decide +kernel
theorem dL_law_190 : decode cL_law 190 = .ok (.ireturn, 1) := by decide +kernel
theorem dL_law_191 : decode cL_law 191 = .ok (.aload_n 1, 1) := by decide +kernel
theorem dL_law_192 : decode cL_law 192 = .ok (.invokevirtual 36, 3) := by decide +kernel
theorem dL_law_195 : decode cL_law 195 = .ok (.aload_n 2, 1) := by decide +kernel
theorem dL_law_196 : decode cL_law 196 = .ok (.invokevirtual 40, 3) := by decide +kernel
theorem dL_law_199 : decode cL_law 199 = .ok (.if_icmp .eq 153, 3) := by decide +kernel
theorem dL_law_202 : decode cL_law 202 = .ok (.iconst 0, 1) := by decide +kernel
theorem dL_law_203 : decode cL_law 203 = .ok (.ireturn, 1) := by decide +kernel
theorem dL_law_204 : decode cL_law 204 = .ok (.aload_n 1, 1) := by decide +kernel
theorem dL_law_205 : decode cL_law 205 = .ok (.invokevirtual 41, 3) := by decide +kernel
theorem dL_law_208 : decode cL_law 208 = .ok (.aload_n 2, 1) := by decide +kernel
theorem dL_law_209 : decode cL_law 209 = .ok (.invokevirtual 44, 3) := by decide +kernel
theorem dL_law_212 : decode cL_law 212 = .ok (.if_icmp .eq 140, 3) := by decide +kernel
theorem dL_law_215 : decode cL_law 215 = .ok (.iconst 0, 1) := by decide +kernel
theorem dL_law_216 : decode cL_law 216 = .ok (.ireturn, 1) := by decide +kernel
theorem dL_law_217 : decode cL_law 217 = .ok (.aload_n 1, 1) := by decide +kernel
theorem dL_law_218 : decode cL_law 218 = .ok (.aload_n 0, 1) := by decide +kernel
theorem dL_law_219 : decode cL_law 219 = .ok (.iload_n 3, 1) := by decide +kernel
theorem dL_law_220 : decode cL_law 220 = .ok (.iconst 1, 1) := by decide +kernel
theorem dL_law_221 : decode cL_law 221 = .ok (.iadd, 1) := by decide +kernel
theorem dL_law_222 : decode cL_law 222 = .ok (.iaload, 1) := by decide +kernel
theorem dL_law_223 : decode cL_law 223 = .ok (.aload_n 0, 1) := by decide +kernel
theorem dL_law_224 : decode cL_law 224 = .ok (.iload_n 3, 1) := by decide +kernel
theorem dL_law_225 : decode cL_law 225 = .ok (.iconst 2, 1) := by decide +kernel
theorem dL_law_226 : decode cL_law 226 = .ok (.iadd, 1) := by decide +kernel
theorem dL_law_227 : decode cL_law 227 = .ok (.iaload, 1) := by decide +kernel
theorem dL_law_228 : decode cL_law 228 = .ok (.aload_n 0, 1) := by decide +kernel
theorem dL_law_229 : decode cL_law 229 = .ok (.iload_n 3, 1) := by decide +kernel
theorem dL_law_230 : decode cL_law 230 = .ok (.iconst 3, 1) := by decide +kernel
theorem dL_law_231 : decode cL_law 231 = .ok (.iadd, 1) := by decide +kernel
theorem dL_law_232 : decode cL_law 232 = .ok (.iaload, 1) := by decide +kernel
theorem dL_law_233 : decode cL_law 233 = .ok (.invokevirtual 45, 3) := by decide +kernel
theorem dL_law_236 : decode cL_law 236 = .ok (.aload_n 2, 1) := by decide +kernel
theorem dL_law_237 : decode cL_law 237 = .ok (.aload_n 0, 1) := by decide +kernel
theorem dL_law_238 : decode cL_law 238 = .ok (.iload_n 3, 1) := by decide +kernel
theorem dL_law_239 : decode cL_law 239 = .ok (.iconst 1, 1) := by decide +kernel
theorem dL_law_240 : decode cL_law 240 = .ok (.iadd, 1) := by decide +kernel
theorem dL_law_241 : decode cL_law 241 = .ok (.iaload, 1) := by decide +kernel
theorem dL_law_242 : decode cL_law 242 = .ok (.aload_n 0, 1) := by decide +kernel
theorem dL_law_243 : decode cL_law 243 = .ok (.iload_n 3, 1) := by decide +kernel
theorem dL_law_244 : decode cL_law 244 = .ok (.iconst 2, 1) := by decide +kernel
theorem dL_law_245 : decode cL_law 245 = .ok (.iadd, 1) := by decide +kernel
theorem dL_law_246 : decode cL_law 246 = .ok (.iaload, 1) := by decide +kernel
theorem dL_law_247 : decode cL_law 247 = .ok (.aload_n 0, 1) := by decide +kernel
theorem dL_law_248 : decode cL_law 248 = .ok (.iload_n 3, 1) := by decide +kernel
theorem dL_law_249 : decode cL_law 249 = .ok (.iconst 3, 1) := by decide +kernel
theorem dL_law_250 : decode cL_law 250 = .ok (.iadd, 1) := by decide +kernel
theorem dL_law_251 : decode cL_law 251 = .ok (.iaload, 1) := by decide +kernel
theorem dL_law_252 : decode cL_law 252 = .ok (.invokevirtual 49, 3) := by decide +kernel
theorem dL_law_255 : decode cL_law 255 = .ok (.if_icmp .eq 97, 3) := by decide +kernel
theorem dL_law_258 : decode cL_law 258 = .ok (.iconst 0, 1) := by decide +kernel
theorem dL_law_259 : decode cL_law 259 = .ok (.ireturn, 1) := by decide +kernel
theorem dL_law_260 : decode cL_law 260 = .ok (.aload_n 1, 1) := by decide +kernel
theorem dL_law_261 : decode cL_law 261 = .ok (.aload_n 0, 1) := by decide +kernel
theorem dL_law_262 : decode cL_law 262 = .ok (.iload_n 3, 1) := by decide +kernel
theorem dL_law_263 : decode cL_law 263 = .ok (.iconst 1, 1) := by decide +kernel
theorem dL_law_264 : decode cL_law 264 = .ok (.iadd, 1) := by decide +kernel
theorem dL_law_265 : decode cL_law 265 = .ok (.iaload, 1) := by decide +kernel
theorem dL_law_266 : decode cL_law 266 = .ok (.invokevirtual 50, 3) := by decide +kernel
theorem dL_law_269 : decode cL_law 269 = .ok (.aload_n 2, 1) := by decide +kernel
theorem dL_law_270 : decode cL_law 270 = .ok (.aload_n 0, 1) := by decide +kernel
theorem dL_law_271 : decode cL_law 271 = .ok (.iload_n 3, 1) := by decide +kernel
theorem dL_law_272 : decode cL_law 272 = .ok (.iconst 1, 1) := by decide +kernel
theorem dL_law_273 : decode cL_law 273 = .ok (.iadd, 1) := by decide +kernel
theorem dL_law_274 : decode cL_law 274 = .ok (.iaload, 1) := by decide +kernel
theorem dL_law_275 : decode cL_law 275 = .ok (.invokevirtual 53, 3) := by decide +kernel
theorem dL_law_278 : decode cL_law 278 = .ok (.if_icmp .eq 74, 3) := by decide +kernel
theorem dL_law_281 : decode cL_law 281 = .ok (.iconst 0, 1) := by decide +kernel
theorem dL_law_282 : decode cL_law 282 = .ok (.ireturn, 1) := by decide +kernel
theorem dL_law_283 : decode cL_law 283 = .ok (.aload_n 1, 1) := by decide +kernel
theorem dL_law_284 : decode cL_law 284 = .ok (.invokevirtual 54, 3) := by decide +kernel
theorem dL_law_287 : decode cL_law 287 = .ok (.aload_n 2, 1) := by decide +kernel
theorem dL_law_288 : decode cL_law 288 = .ok (.invokevirtual 57, 3) := by decide +kernel
theorem dL_law_291 : decode cL_law 291 = .ok (.if_icmp .eq 61, 3) := by decide +kernel
theorem dL_law_294 : decode cL_law 294 = .ok (.iconst 0, 1) := by decide +kernel
theorem dL_law_295 : decode cL_law 295 = .ok (.ireturn, 1) := by decide +kernel
theorem dL_law_296 : decode cL_law 296 = .ok (.aload_n 1, 1) := by decide +kernel
theorem dL_law_297 : decode cL_law 297 = .ok (.aload_n 0, 1) := by decide +kernel
theorem dL_law_298 : decode cL_law 298 = .ok (.iload_n 3, 1) := by decide +kernel
theorem dL_law_299 : decode cL_law 299 = .ok (.iconst 1, 1) := by decide +kernel
theorem dL_law_300 : decode cL_law 300 = .ok (.iadd, 1) := by decide +kernel
theorem dL_law_301 : decode cL_law 301 = .ok (.iaload, 1) := by decide +kernel
theorem dL_law_302 : decode cL_law 302 = .ok (.aload_n 0, 1) := by decide +kernel
theorem dL_law_303 : decode cL_law 303 = .ok (.iload_n 3, 1) := by decide +kernel
theorem dL_law_304 : decode cL_law 304 = .ok (.iconst 2, 1) := by decide +kernel
theorem dL_law_305 : decode cL_law 305 = .ok (.iadd, 1) := by decide +kernel
theorem dL_law_306 : decode cL_law 306 = .ok (.iaload, 1) := by decide +kernel
theorem dL_law_307 : decode cL_law 307 = .ok (.aload_n 0, 1) := by decide +kernel
theorem dL_law_308 : decode cL_law 308 = .ok (.iload_n 3, 1) := by decide +kernel
theorem dL_law_309 : decode cL_law 309 = .ok (.iconst 3, 1) := by decide +kernel
theorem dL_law_310 : decode cL_law 310 = .ok (.iadd, 1) := by decide +kernel
theorem dL_law_311 : decode cL_law 311 = .ok (.iaload, 1) := by decide +kernel
theorem dL_law_312 : decode cL_law 312 = .ok (.invokevirtual 58, 3) := by decide +kernel
theorem dL_law_315 : decode cL_law 315 = .ok (.aload_n 2, 1) := by decide +kernel
theorem dL_law_316 : decode cL_law 316 = .ok (.aload_n 0, 1) := by decide +kernel
theorem dL_law_317 : decode cL_law 317 = .ok (.iload_n 3, 1) := by decide +kernel
theorem dL_law_318 : decode cL_law 318 = .ok (.iconst 1, 1) := by decide +kernel
theorem dL_law_319 : decode cL_law 319 = .ok (.iadd, 1) := by decide +kernel
theorem dL_law_320 : decode cL_law 320 = .ok (.iaload, 1) := by decide +kernel
theorem dL_law_321 : decode cL_law 321 = .ok (.aload_n 0, 1) := by decide +kernel
theorem dL_law_322 : decode cL_law 322 = .ok (.iload_n 3, 1) := by decide +kernel
theorem dL_law_323 : decode cL_law 323 = .ok (.iconst 2, 1) := by decide +kernel
theorem dL_law_324 : decode cL_law 324 = .ok (.iadd, 1) := by decide +kernel
theorem dL_law_325 : decode cL_law 325 = .ok (.iaload, 1) := by decide +kernel
theorem dL_law_326 : decode cL_law 326 = .ok (.aload_n 0, 1) := by decide +kernel
theorem dL_law_327 : decode cL_law 327 = .ok (.iload_n 3, 1) := by decide +kernel
theorem dL_law_328 : decode cL_law 328 = .ok (.iconst 3, 1) := by decide +kernel
theorem dL_law_329 : decode cL_law 329 = .ok (.iadd, 1) := by decide +kernel
theorem dL_law_330 : decode cL_law 330 = .ok (.iaload, 1) := by decide +kernel
theorem dL_law_331 : decode cL_law 331 = .ok (.invokevirtual 62, 3) := by decide +kernel
theorem dL_law_334 : decode cL_law 334 = .ok (.if_icmp .eq 18, 3) := by decide +kernel
theorem dL_law_337 : decode cL_law 337 = .ok (.iconst 0, 1) := by decide +kernel
theorem dL_law_338 : decode cL_law 338 = .ok (.ireturn, 1) := by decide +kernel
theorem dL_law_339 : decode cL_law 339 = .ok (.aload_n 1, 1) := by decide +kernel
theorem dL_law_340 : decode cL_law 340 = .ok (.invokevirtual 63, 3) := by decide +kernel
theorem dL_law_343 : decode cL_law 343 = .ok (.aload_n 2, 1) := by decide +kernel
theorem dL_law_344 : decode cL_law 344 = .ok (.invokevirtual 66, 3) := by decide +kernel
theorem dL_law_347 : decode cL_law 347 = .ok (.if_icmp .eq 5, 3) := by decide +kernel
theorem dL_law_350 : decode cL_law 350 = .ok (.iconst 0, 1) := by decide +kernel
theorem dL_law_351 : decode cL_law 351 = .ok (.ireturn, 1) := by decide +kernel
theorem dL_law_352 : decode cL_law 352 = .ok (.iinc 3 4, 3) := by decide +kernel
theorem dL_law_355 : decode cL_law 355 = .ok (.goto (-337), 3) := by decide +kernel
theorem dL_law_358 : decode cL_law 358 = .ok (.iconst 1, 1) := by decide +kernel
theorem dL_law_359 : decode cL_law 359 = .ok (.ireturn, 1) := by decide +kernel
end
section
/-! the worlds of MarchTester (mt_w0) and MarchTesterModel (mt_w1), bundles, contract shapes, rows -/
abbrev vwCl : List vw_C := [(RX0, TX0, 9), (RX1, TX1, 8)]
/-- a boolean as the machine holds it -/
def mt_b (b : Bool) : Int32 := if b = true then 1 else 0
theorem mt_b_n (b : Bool) : narrow .boolean (.int (mt_b b)) = .int (mt_b b) := by cases b <;> rfl
theorem mt_b_f (b : Bool) : fits .boolean (.int (mt_b b)) = true := by cases b <;> rfl
theorem mt_b0 {b : Bool} (h : mt_b b = 0) : b = false := by cases b with | false => rfl | true => exact absurd h (by decide)
theorem mt_b1 {b : Bool} (h : ¬ mt_b b = 0) : b = true := by cases b with | true => rfl | false => exact absurd rfl h
theorem mt_b_or (a b : Bool) : mt_b a ||| mt_b b = mt_b (a || b) := by cases a <;> cases b <;> decide
theorem mt_b_inj {a b : Bool} : mt_b a = mt_b b ↔ a = b := by cases a <;> cases b <;> decide
def mt_F (f : Nat → Nat) : Nat → Int32 := fun j => nI (f j)
def mt_u (f : Nat → Nat) (k v : Nat) : Nat → Nat := fun j => if j = k then v else f j
/-- the test: how many marches, their directions, their sizes, the operations -/
abbrev mt_T : Type := Nat × (Nat → Nat) × (Nat → Nat) × (Nat → Nat)
/-- the tables' numbers: classes and slots, the class of byte arrays, that of int arrays -/
abbrev mt_G : Type := va_G × ClassId × ClassId
def mt_w0 (G : mt_G) (q : Nat → Nat) (T : mt_T) (wo kd bt ot : Int32) (fl : Bool) (wr : va_W) : va_W :=
  (q 0, .inr (0, [.int (nI T.1), .ref (q 1), .ref (q 2), .ref (q 3), .int wo, .int kd, .int bt, .int ot, .int (mt_b fl)])) :: (q 1, .inl (G.2.1, 6, .inl (mt_F T.2.1))) :: (q 2, .inl (G.2.1, 6, .inl (mt_F T.2.2.1))) :: (q 3, .inl (G.2.1, 24, .inl (mt_F T.2.2.2))) :: wr
def mt_w1 (G : mt_G) (q : Nat → Nat) (T : mt_T) (me so ce ot : Int32) (wr : va_W) : va_W :=
  (q 0, .inr (1, [.int (nI T.1), .ref (q 1), .ref (q 2), .ref (q 3), .int me, .int so, .int ce, .int ot])) :: (q 1, .inl (G.2.2, 6, .inl (mt_F T.2.1))) :: (q 2, .inl (G.2.2, 6, .inl (mt_F T.2.2.1))) :: (q 3, .inl (G.2.2, 24, .inl (mt_F T.2.2.2))) :: wr
abbrev mt_ty (G : mt_G) : List (ClassId × FieldType) := [(G.2.1, .byte), (G.2.2, .int)]
def mt_Cx (G : mt_G) (p : Program) (s : State) (m : MethodId) (args : Array Value) (c : Code) (cc : ByteArray) (nL : Nat) (own : String) : Prop :=
  p.tables.exec = Jvm.exec ∧ c.code = cc ∧ c.maxLocals = nL ∧ s.vm.findClass own = some m.cls ∧ (∀ w ∈ lw_all, w.before args s = true) ∧ va_K G.1 vwCl (mt_ty G) s
def mt_Hw (G : mt_G) (A : Nat → Prop) (s : State) (w : va_W) (H : Heap) (locs : List Loc) : Prop :=
  va_P G.1 vwCl w H ∧ va_D A w ∧ va_S A s.heap H locs ∧ ∀ q : Nat, s.heap.size ≤ q → A q
abbrev mt_rm (f lo : Nat) : Room := { frames := f, cells := 0, slots := 0, locals := lo }
/-- a contract: an instance or static method with an int (or boolean) answer; world w before, w' u behind -/
def mt_Mi (l : Launch) (y : MethodName) (b : ByteArray) (L : Nat) (r : FieldType) (f lo : Nat) (G : mt_G) (As : List Value) (w : va_W) {S : Type} (post : Int32 → S → Prop) (w' : S → va_W) : Prop :=
  ∀ sz : Nat, Met l y (ws_ y b L (some r)) (mt_rm f lo) (va_Pc As (fun U => U.heap.size = sz ∧ va_P G.1 vwCl w U.heap ∧ va_K G.1 vwCl (mt_ty G) U ∧ va_D (fun _ => True) w)) (va_Qi post (fun u t => va_P G.1 vwCl (w' u) t.heap ∧ va_K G.1 vwCl (mt_ty G) t ∧ va_D (va_A w sz) (w' u)) (va_A w sz)) 0 0 (va_A w sz)
/-- the same for a method without an answer -/
def mt_Mv (l : Launch) (y : MethodName) (b : ByteArray) (L : Nat) (f lo : Nat) (G : mt_G) (As : List Value) (w : va_W) {S : Type} (post : S → Prop) (w' : S → va_W) : Prop :=
  ∀ sz : Nat, Met l y (ws_ y b L none) (mt_rm f lo) (va_Pc As (fun U => U.heap.size = sz ∧ va_P G.1 vwCl w U.heap ∧ va_K G.1 vwCl (mt_ty G) U ∧ va_D (fun _ => True) w)) (va_Qv post (fun u t => va_P G.1 vwCl (w' u) t.heap ∧ va_K G.1 vwCl (mt_ty G) t ∧ va_D (va_A w sz) (w' u)) (va_A w sz)) 0 0 (va_A w sz)
theorem mt_Mi_of {l : Launch} {y : MethodName} {b : ByteArray} {L : Nat} {r : FieldType} {f lo : Nat} {G : mt_G} {As : List Value} {w : va_W} {S : Type} {post : Int32 → S → Prop} {w' : S → va_W} (own : String) (hown : y.cls = own) (hy : plainName y.cls = true) (hn : (lg_sl As).length ≤ L)
    (body : ∀ (p : Program) (e : Env) (s : State) (m : MethodId) (args : Array Value) (below : List Frame) (meth : Method) (c : Code) (A : Nat → Prop) (ls : Array Slot) (Q : State → Prop), mt_Cx G p s m args c b L own → mt_Hw G A s w s.heap [] → lv_has ls L (lv_args 0 As) →
      (∀ {H : Heap} {locs : List Loc} {v : Int32} (u : S) {ls : Array Slot} {pc : Nat}, decode b pc = .ok (.ireturn, 1) → narrow r (.int v) = .int v → post v u → mt_Hw G A s (w' u) H locs → W p l e (mt_rm f lo) s m args below meth c H locs 0 0 Q (F0 m pc ls [.int v])) →
      W p l e (mt_rm f lo) s m args below meth c s.heap [] 0 0 Q (F0 m 0 ls [])) : mt_Mi l y b L r f lo G As w post w' := by
  subst hown
  intro sz
  refine Met.ofW (cc := b) (maxL := L) (ret := some r) hy rfl ?_
  intro p e s m args below meth c s₁ B hml hv
  obtain ⟨rfl, hsz, hP, hK, hD0⟩ := hv
  subst hsz
  have hts := atoms_spec (ws := ws_ y b L (some r)) B.pre
  have hts : ∀ w ∈ lw_all, w.before _ s = true := fun w h => hts w (List.mem_cons_of_mem _ h)
  have hl := lv_entry As (n := L) hn
  rw [lg_entry_eq]
  refine body p e s m _ below meth c (va_A w s.heap.size) _ _ ⟨B.exec, B.bytes, hml, findClass_of_methodNamed B.named, hts, hK⟩ ⟨hP, hD0.self, va_S.rf, fun q h => Or.inr h⟩ hl ?_
  intro H locs v u ls pc hd hn hp hw
  exact W.zret B.exec B.bytes B.returns hn (fun t ht hW => ⟨⟨v, u, rfl, hp, by rw [ht]; exact hw.1, va_K.moved hW.alike hK, hw.2.1⟩, hw.2.2.1.F ht⟩) hw.2.2.1.2.2 hd B.notSynchronized
theorem mt_Mv_of {l : Launch} {y : MethodName} {b : ByteArray} {L : Nat} {f lo : Nat} {G : mt_G} {As : List Value} {w : va_W} {S : Type} {post : S → Prop} {w' : S → va_W} (own : String) (hown : y.cls = own) (hy : plainName y.cls = true) (hn : (lg_sl As).length ≤ L)
    (body : ∀ (p : Program) (e : Env) (s : State) (m : MethodId) (args : Array Value) (below : List Frame) (meth : Method) (c : Code) (A : Nat → Prop) (ls : Array Slot) (Q : State → Prop), mt_Cx G p s m args c b L own → mt_Hw G A s w s.heap [] → lv_has ls L (lv_args 0 As) →
      (∀ {H : Heap} {locs : List Loc} (u : S) {ls : Array Slot} {pc : Nat}, decode b pc = .ok (.return_, 1) → post u → mt_Hw G A s (w' u) H locs → W p l e (mt_rm f lo) s m args below meth c H locs 0 0 Q (F0 m pc ls [])) →
      W p l e (mt_rm f lo) s m args below meth c s.heap [] 0 0 Q (F0 m 0 ls [])) : mt_Mv l y b L f lo G As w post w' := by
  subst hown
  intro sz
  refine Met.ofW (cc := b) (maxL := L) (ret := none) hy rfl ?_
  intro p e s m args below meth c s₁ B hml hv
  obtain ⟨rfl, hsz, hP, hK, hD0⟩ := hv
  subst hsz
  have hts := atoms_spec (ws := ws_ y b L none) B.pre
  have hts : ∀ w ∈ lw_all, w.before _ s = true := fun w h => hts w (List.mem_cons_of_mem _ h)
  have hl := lv_entry As (n := L) hn
  rw [lg_entry_eq]
  refine body p e s m _ below meth c (va_A w s.heap.size) _ _ ⟨B.exec, B.bytes, hml, findClass_of_methodNamed B.named, hts, hK⟩ ⟨hP, hD0.self, va_S.rf, fun q h => Or.inr h⟩ hl ?_
  intro H locs u ls pc hd hp hw
  exact W.vret B.exec B.bytes B.returns (fun t ht hW => ⟨⟨u, rfl, hp, by rw [ht]; exact hw.1, va_K.moved hW.alike hK, hw.2.1⟩, hw.2.2.1.F ht⟩) hw.2.2.1.2.2 hd B.notSynchronized
section MB
variable {p : Program} {l : Launch} {e : Env} {R : Room} {s : State} {m : MethodId} {args : Array Value} {below : List Frame} {meth : Method} {c : Code} {H : Heap} {locs : List Loc} {cells slots : Nat} {Q : State → Prop}
variable {cc : ByteArray} {nL pc : Nat} {ls : Array Slot} {rest : List Value} {G : mt_G} {A : Nat → Prop} {q : Nat → Nat} {T : mt_T}
theorem mt_free {w : va_W} (hw : mt_Hw G A s w H locs) : ∀ x, va_A w H.size x → A x := by
  intro x h
  rcases h with ⟨k, e, h⟩ | h
  · exact hw.2.1.2 k (x, e) h
  · exact hw.2.2.2 x (Nat.le_trans hw.2.2.1.1 h)
/-- a call through an object, with an int answer -/
theorem mt_calli {own : String} (K : mt_Cx G p s m args c cc nL own) {w : va_W} (hw : mt_Hw G A s w H locs) (hls : ls.size = nL) {y : MethodName} {b : ByteArray} {L n f lo idx : Nat} {r : FieldType} {a : Nat} {As st : List Value} {S : Type} {post : Int32 → S → Prop} {w' : S → va_W} {C : String} {TT : u_T} {NN ci : Nat} {fs : List Value}
    (hM : mt_Mi l y b L r f lo G (.ref a :: As) w post w') (hG : GoodIn lw_all (wsV own idx C y (ws_ y b L (some r)))) (hdsc : y.cls = C ∧ y.cls ≠ "java/lang/invoke/MethodHandle" ∧ y.cls ≠ "java/lang/invoke/VarHandle" ∧ (parseMethodDescriptor y.desc).map (fun d => d.parameters.length) = some n) (he : w[0]? = some (a, .inr (ci, fs))) (hcl : vwCl[ci]? = some (C, TT, NN))
    (hR : f + 1 ≤ R.frames ∧ 8 + (L + 11) + lo ≤ R.locals) (hcs : cells ≤ R.cells ∧ slots ≤ R.slots) (hn : As.length = n) (hst : st = As.reverse ++ .ref a :: rest) (hcat : (rest.map fun v => v.category).sum ≤ 8) (hd : decode cc pc = .ok (.invokevirtual idx, 3))
    (kk : ∀ (v : Int32) (u : S) (H1 : Heap) (locs1 : List Loc), post v u → mt_Hw G A s (w' u) H1 locs1 → W p l e R s m args below meth c H1 locs1 cells slots Q (F0 m (pc + 3) ls (.int v :: rest))) : W p l e R s m args below meth c H locs cells slots Q (F0 m pc ls st) := by
  have hFc := mt_free hw
  refine va_calli (va_runV (As := As) (rest := rest) (g := F0 m pc ls st) ⟨K.1, K.2.1, K.2.2.1, K.2.2.2.1, K.2.2.2.2.1⟩ (hM H.size) (cwV (bytes := b) (maxL := L) (ret := some r) n K.2.2.2.2.1 hG rfl rfl rfl hdsc hR) ⟨fun a U g mk q => by obtain ⟨q0, q1, qP, qK, qD⟩ := q; exact ⟨q0, q1, qP, va_K.moved (u := U) (U := U.calling g mk a) (Vm.Alike.refl U.vm) qK, qD⟩, va_recv K.2.2.2.2.2 hw.1 hcl he, fun U hU hW => ⟨rfl, by rw [hU], by rw [hU]; exact hw.1, va_K.moved hW.alike K.2.2.2.2.2, hw.2.1.weaken (fun _ _ _ _ => trivial)⟩⟩ rfl hn hls hst (lv_room hcat) hd hcs) hw.2.2.1 (fun x _ h => hFc x h) hFc (fun v u t H1 locs1 ht hvm hp hB hz hk hS => ?_)
  exact kk v u H1 locs1 hp ⟨by rw [← ht]; exact hB.1, hB.2.2.weaken (fun k q _ h => hFc q.1 h), hS, hw.2.2.2⟩
/-- a call through an object, without an answer -/
theorem mt_callv {own : String} (K : mt_Cx G p s m args c cc nL own) {w : va_W} (hw : mt_Hw G A s w H locs) (hls : ls.size = nL) {y : MethodName} {b : ByteArray} {L n f lo idx : Nat} {a : Nat} {As st : List Value} {S : Type} {post : S → Prop} {w' : S → va_W} {C : String} {TT : u_T} {NN ci : Nat} {fs : List Value}
    (hM : mt_Mv l y b L f lo G (.ref a :: As) w post w') (hG : GoodIn lw_all (wsV own idx C y (ws_ y b L none))) (hdsc : y.cls = C ∧ y.cls ≠ "java/lang/invoke/MethodHandle" ∧ y.cls ≠ "java/lang/invoke/VarHandle" ∧ (parseMethodDescriptor y.desc).map (fun d => d.parameters.length) = some n) (he : w[0]? = some (a, .inr (ci, fs))) (hcl : vwCl[ci]? = some (C, TT, NN))
    (hR : f + 1 ≤ R.frames ∧ 8 + (L + 11) + lo ≤ R.locals) (hcs : cells ≤ R.cells ∧ slots ≤ R.slots) (hn : As.length = n) (hst : st = As.reverse ++ .ref a :: rest) (hcat : (rest.map fun v => v.category).sum ≤ 8) (hd : decode cc pc = .ok (.invokevirtual idx, 3))
    (kk : ∀ (u : S) (H1 : Heap) (locs1 : List Loc), post u → mt_Hw G A s (w' u) H1 locs1 → W p l e R s m args below meth c H1 locs1 cells slots Q (F0 m (pc + 3) ls rest)) : W p l e R s m args below meth c H locs cells slots Q (F0 m pc ls st) := by
  have hFc := mt_free hw
  refine va_callv (va_runV (As := As) (rest := rest) (g := F0 m pc ls st) ⟨K.1, K.2.1, K.2.2.1, K.2.2.2.1, K.2.2.2.2.1⟩ (hM H.size) (cwV (bytes := b) (maxL := L) (ret := none) n K.2.2.2.2.1 hG rfl rfl rfl hdsc hR) ⟨fun a U g mk q => by obtain ⟨q0, q1, qP, qK, qD⟩ := q; exact ⟨q0, q1, qP, va_K.moved (u := U) (U := U.calling g mk a) (Vm.Alike.refl U.vm) qK, qD⟩, va_recv K.2.2.2.2.2 hw.1 hcl he, fun U hU hW => ⟨rfl, by rw [hU], by rw [hU]; exact hw.1, va_K.moved hW.alike K.2.2.2.2.2, hw.2.1.weaken (fun _ _ _ _ => trivial)⟩⟩ rfl hn hls hst (lv_room hcat) hd hcs) hw.2.2.1 (fun x _ h => hFc x h) hFc (fun u t H1 locs1 ht hvm hp hB hz hk hS => ?_)
  exact kk u H1 locs1 hp ⟨by rw [← ht]; exact hB.1, hB.2.2.weaken (fun k q _ h => hFc q.1 h), hS, hw.2.2.2⟩
/-- a static call, with an int answer -/
theorem mt_calls {own : String} (K : mt_Cx G p s m args c cc nL own) {w : va_W} (hw : mt_Hw G A s w H locs) (hls : ls.size = nL) {y : MethodName} {b : ByteArray} {L n f lo idx : Nat} {r : FieldType} {As st : List Value} {S : Type} {post : Int32 → S → Prop} {w' : S → va_W}
    (hM : mt_Mi l y b L r f lo G As w post w') (hG : GoodIn lw_all (va_wsS own idx y (ws_ y b L (some r)))) (hdsc : y.cls ≠ "java/lang/invoke/MethodHandle" ∧ y.cls ≠ "java/lang/invoke/VarHandle" ∧ (parseMethodDescriptor y.desc).map (fun d => d.parameters.length) = some n)
    (hR : f + 1 ≤ R.frames ∧ 8 + (L + 11) + lo ≤ R.locals) (hcs : cells ≤ R.cells ∧ slots ≤ R.slots) (hn : As.length = n) (hst : st = As.reverse ++ rest) (hcat : (rest.map fun v => v.category).sum ≤ 8) (hd : decode cc pc = .ok (.invokestatic idx, 3))
    (kk : ∀ (v : Int32) (u : S) (H1 : Heap) (locs1 : List Loc), post v u → mt_Hw G A s (w' u) H1 locs1 → W p l e R s m args below meth c H1 locs1 cells slots Q (F0 m (pc + 3) ls (.int v :: rest))) : W p l e R s m args below meth c H locs cells slots Q (F0 m pc ls st) := by
  have hFc := mt_free hw
  refine va_calli (va_runS (As := As) (rest := rest) (g := F0 m pc ls st) ⟨K.1, K.2.1, K.2.2.1, K.2.2.2.1, K.2.2.2.2.1⟩ (hM H.size) (va_cwS (bytes := b) (maxL := L) (ret := some r) n K.2.2.2.2.1 hG rfl rfl rfl hdsc hR) ⟨fun a U g mk q => by obtain ⟨q0, q1, qP, qK, qD⟩ := q; exact ⟨q0, q1, qP, va_K.moved (u := U) (U := U.calling g mk a) (Vm.Alike.refl U.vm) qK, qD⟩, fun U hU hW => ⟨rfl, by rw [hU], by rw [hU]; exact hw.1, va_K.moved hW.alike K.2.2.2.2.2, hw.2.1.weaken (fun _ _ _ _ => trivial)⟩⟩ rfl hn hls hst (lv_room hcat) hd hcs) hw.2.2.1 (fun x _ h => hFc x h) hFc (fun v u t H1 locs1 ht hvm hp hB hz hk hS => ?_)
  exact kk v u H1 locs1 hp ⟨by rw [← ht]; exact hB.1, hB.2.2.weaken (fun k q _ h => hFc q.1 h), hS, hw.2.2.2⟩
/-- the number on top by another name -/
theorem mt_top {x y : Int32} (h : x = y) (k : W p l e R s m args below meth c H locs cells slots Q (F0 m pc ls (.int y :: rest))) : W p l e R s m args below meth c H locs cells slots Q (F0 m pc ls (.int x :: rest)) := by rw [h]; exact k
theorem mt_i8 : ∀ v : Nat, v < 128 → (nI v).toInt8.toInt32 = nI v := by decide +kernel
theorem mt_updB {f : Nat → Nat} {k v : Nat} (hk : k < 2 ^ 31) (hv : v < 128) : upd (mt_F f) (nI k).toNatClampNeg (vp_nar .byte (nI v)) = mt_F (mt_u f k v) := by
  rw [nI_clamp hk, vp_nar_byte, mt_i8 v hv]
  funext j
  unfold upd mt_F mt_u
  by_cases h : j = k
  · rw [if_pos h, if_pos h]
  · rw [if_neg h, if_neg h]
theorem mt_updI {f : Nat → Nat} {k v : Nat} (hk : k < 2 ^ 31) : upd (mt_F f) (nI k).toNatClampNeg (nI v) = mt_F (mt_u f k v) := by
  rw [nI_clamp hk]
  funext j
  unfold upd mt_F mt_u
  by_cases h : j = k
  · rw [if_pos h, if_pos h]
  · rw [if_neg h, if_neg h]

section MF0
variable {wo kd bt ot : Int32} {fl : Bool} {wr : va_W}
theorem g0_n (K : mt_Cx G p s m args c cc nL RX0) (hw : mt_Hw G A s (mt_w0 G q T wo kd bt ot fl wr) H locs) (hd : decode cc pc = .ok (.getfield 23, 3)) (kk : W p l e R s m args below meth c H locs cells slots Q (F0 m (pc + 3) ls (.int (nI T.1) :: rest))) : W p l e R s m args below meth c H locs cells slots Q (F0 m pc ls (.ref (q 0) :: rest)) :=
  va_get (D := G.1) (ci := 0) (v := .int (nI T.1)) (C := RX0) (T := TX0) (N := 9) K.1 K.2.1 K.2.2.2.2.1 in_X0 K.2.2.2.1 K.2.2.2.2.2 hw.1 0 rfl rfl 0 (by decide) (K.2.2.2.2.1 _ q29) (fun _ h9 => h9) rfl hd kk
theorem p0_n (K : mt_Cx G p s m args c cc nL RX0) (hw : mt_Hw G A s (mt_w0 G q T wo kd bt ot fl wr) H locs) {v : Nat} (hd : decode cc pc = .ok (.putfield 23, 3)) (kk : ∀ (H1 : Heap) (locs1 : List Loc), mt_Hw G A s (mt_w0 G q (v, T.2.1, T.2.2.1, T.2.2.2) wo kd bt ot fl wr) H1 locs1 → W p l e R s m args below meth c H1 locs1 cells slots Q (F0 m (pc + 3) ls (rest))) : W p l e R s m args below meth c H locs cells slots Q (F0 m pc ls (.int (nI v) :: .ref (q 0) :: rest)) :=
  va_put (D := G.1) (ci := 0) (v := .int (nI v)) (ty := .int) (C := RX0) (T := TX0) (N := 9) K.1 K.2.1 K.2.2.2.2.1 in_X0 tyX0 tyX0_ok nmX0 K.2.2.2.1 K.2.2.2.2.2 hw.1 hw.2.1 hw.2.2.1 0 rfl rfl 0 (by decide) (K.2.2.2.2.1 _ q29) (fun _ h9 => h9) rfl (by decide +kernel) rfl rfl (Nat.le_of_ble_eq_true rfl) hd (fun H1 locs1 h1 h2 h3 => kk H1 locs1 ⟨h1, h2, h3, hw.2.2.2⟩)
theorem g0_d (K : mt_Cx G p s m args c cc nL RX0) (hw : mt_Hw G A s (mt_w0 G q T wo kd bt ot fl wr) H locs) (hd : decode cc pc = .ok (.getfield 7, 3)) (kk : W p l e R s m args below meth c H locs cells slots Q (F0 m (pc + 3) ls (.ref (q 1) :: rest))) : W p l e R s m args below meth c H locs cells slots Q (F0 m pc ls (.ref (q 0) :: rest)) :=
  va_get (D := G.1) (ci := 0) (v := .ref (q 1)) (C := RX0) (T := TX0) (N := 9) K.1 K.2.1 K.2.2.2.2.1 in_X0 K.2.2.2.1 K.2.2.2.2.2 hw.1 0 rfl rfl 1 (by decide) (K.2.2.2.2.1 _ q30) (fun _ h9 => h9) rfl hd kk
theorem g0_z (K : mt_Cx G p s m args c cc nL RX0) (hw : mt_Hw G A s (mt_w0 G q T wo kd bt ot fl wr) H locs) (hd : decode cc pc = .ok (.getfield 13, 3)) (kk : W p l e R s m args below meth c H locs cells slots Q (F0 m (pc + 3) ls (.ref (q 2) :: rest))) : W p l e R s m args below meth c H locs cells slots Q (F0 m pc ls (.ref (q 0) :: rest)) :=
  va_get (D := G.1) (ci := 0) (v := .ref (q 2)) (C := RX0) (T := TX0) (N := 9) K.1 K.2.1 K.2.2.2.2.1 in_X0 K.2.2.2.1 K.2.2.2.2.2 hw.1 0 rfl rfl 2 (by decide) (K.2.2.2.2.1 _ q31) (fun _ h9 => h9) rfl hd kk
theorem g0_o (K : mt_Cx G p s m args c cc nL RX0) (hw : mt_Hw G A s (mt_w0 G q T wo kd bt ot fl wr) H locs) (hd : decode cc pc = .ok (.getfield 16, 3)) (kk : W p l e R s m args below meth c H locs cells slots Q (F0 m (pc + 3) ls (.ref (q 3) :: rest))) : W p l e R s m args below meth c H locs cells slots Q (F0 m pc ls (.ref (q 0) :: rest)) :=
  va_get (D := G.1) (ci := 0) (v := .ref (q 3)) (C := RX0) (T := TX0) (N := 9) K.1 K.2.1 K.2.2.2.2.1 in_X0 K.2.2.2.1 K.2.2.2.2.2 hw.1 0 rfl rfl 3 (by decide) (K.2.2.2.2.1 _ q32) (fun _ h9 => h9) rfl hd kk
theorem g0_wo (K : mt_Cx G p s m args c cc nL RX0) (hw : mt_Hw G A s (mt_w0 G q T wo kd bt ot fl wr) H locs) (hd : decode cc pc = .ok (.getfield 19, 3)) (kk : W p l e R s m args below meth c H locs cells slots Q (F0 m (pc + 3) ls (.int wo :: rest))) : W p l e R s m args below meth c H locs cells slots Q (F0 m pc ls (.ref (q 0) :: rest)) :=
  va_get (D := G.1) (ci := 0) (v := .int wo) (C := RX0) (T := TX0) (N := 9) K.1 K.2.1 K.2.2.2.2.1 in_X0 K.2.2.2.1 K.2.2.2.2.2 hw.1 0 rfl rfl 4 (by decide) (K.2.2.2.2.1 _ q33) (fun _ h9 => h9) rfl hd kk
theorem p0_wo (K : mt_Cx G p s m args c cc nL RX0) (hw : mt_Hw G A s (mt_w0 G q T wo kd bt ot fl wr) H locs) {v : Int32} (hd : decode cc pc = .ok (.putfield 19, 3)) (kk : ∀ (H1 : Heap) (locs1 : List Loc), mt_Hw G A s (mt_w0 G q T v kd bt ot fl wr) H1 locs1 → W p l e R s m args below meth c H1 locs1 cells slots Q (F0 m (pc + 3) ls (rest))) : W p l e R s m args below meth c H locs cells slots Q (F0 m pc ls (.int v :: .ref (q 0) :: rest)) :=
  va_put (D := G.1) (ci := 0) (v := .int v) (ty := .int) (C := RX0) (T := TX0) (N := 9) K.1 K.2.1 K.2.2.2.2.1 in_X0 tyX0 tyX0_ok nmX0 K.2.2.2.1 K.2.2.2.2.2 hw.1 hw.2.1 hw.2.2.1 0 rfl rfl 4 (by decide) (K.2.2.2.2.1 _ q33) (fun _ h9 => h9) rfl (by decide +kernel) rfl rfl (Nat.le_of_ble_eq_true rfl) hd (fun H1 locs1 h1 h2 h3 => kk H1 locs1 ⟨h1, h2, h3, hw.2.2.2⟩)
theorem g0_kd (K : mt_Cx G p s m args c cc nL RX0) (hw : mt_Hw G A s (mt_w0 G q T wo kd bt ot fl wr) H locs) (hd : decode cc pc = .ok (.getfield 30, 3)) (kk : W p l e R s m args below meth c H locs cells slots Q (F0 m (pc + 3) ls (.int kd :: rest))) : W p l e R s m args below meth c H locs cells slots Q (F0 m pc ls (.ref (q 0) :: rest)) :=
  va_get (D := G.1) (ci := 0) (v := .int kd) (C := RX0) (T := TX0) (N := 9) K.1 K.2.1 K.2.2.2.2.1 in_X0 K.2.2.2.1 K.2.2.2.2.2 hw.1 0 rfl rfl 5 (by decide) (K.2.2.2.2.1 _ q34) (fun _ h9 => h9) rfl hd kk
theorem p0_kd (K : mt_Cx G p s m args c cc nL RX0) (hw : mt_Hw G A s (mt_w0 G q T wo kd bt ot fl wr) H locs) {v : Int32} (hd : decode cc pc = .ok (.putfield 30, 3)) (kk : ∀ (H1 : Heap) (locs1 : List Loc), mt_Hw G A s (mt_w0 G q T wo v bt ot fl wr) H1 locs1 → W p l e R s m args below meth c H1 locs1 cells slots Q (F0 m (pc + 3) ls (rest))) : W p l e R s m args below meth c H locs cells slots Q (F0 m pc ls (.int v :: .ref (q 0) :: rest)) :=
  va_put (D := G.1) (ci := 0) (v := .int v) (ty := .int) (C := RX0) (T := TX0) (N := 9) K.1 K.2.1 K.2.2.2.2.1 in_X0 tyX0 tyX0_ok nmX0 K.2.2.2.1 K.2.2.2.2.2 hw.1 hw.2.1 hw.2.2.1 0 rfl rfl 5 (by decide) (K.2.2.2.2.1 _ q34) (fun _ h9 => h9) rfl (by decide +kernel) rfl rfl (Nat.le_of_ble_eq_true rfl) hd (fun H1 locs1 h1 h2 h3 => kk H1 locs1 ⟨h1, h2, h3, hw.2.2.2⟩)
theorem g0_bt (K : mt_Cx G p s m args c cc nL RX0) (hw : mt_Hw G A s (mt_w0 G q T wo kd bt ot fl wr) H locs) (hd : decode cc pc = .ok (.getfield 33, 3)) (kk : W p l e R s m args below meth c H locs cells slots Q (F0 m (pc + 3) ls (.int bt :: rest))) : W p l e R s m args below meth c H locs cells slots Q (F0 m pc ls (.ref (q 0) :: rest)) :=
  va_get (D := G.1) (ci := 0) (v := .int bt) (C := RX0) (T := TX0) (N := 9) K.1 K.2.1 K.2.2.2.2.1 in_X0 K.2.2.2.1 K.2.2.2.2.2 hw.1 0 rfl rfl 6 (by decide) (K.2.2.2.2.1 _ q35) (fun _ h9 => h9) rfl hd kk
theorem p0_bt (K : mt_Cx G p s m args c cc nL RX0) (hw : mt_Hw G A s (mt_w0 G q T wo kd bt ot fl wr) H locs) {v : Int32} (hd : decode cc pc = .ok (.putfield 33, 3)) (kk : ∀ (H1 : Heap) (locs1 : List Loc), mt_Hw G A s (mt_w0 G q T wo kd v ot fl wr) H1 locs1 → W p l e R s m args below meth c H1 locs1 cells slots Q (F0 m (pc + 3) ls (rest))) : W p l e R s m args below meth c H locs cells slots Q (F0 m pc ls (.int v :: .ref (q 0) :: rest)) :=
  va_put (D := G.1) (ci := 0) (v := .int v) (ty := .int) (C := RX0) (T := TX0) (N := 9) K.1 K.2.1 K.2.2.2.2.1 in_X0 tyX0 tyX0_ok nmX0 K.2.2.2.1 K.2.2.2.2.2 hw.1 hw.2.1 hw.2.2.1 0 rfl rfl 6 (by decide) (K.2.2.2.2.1 _ q35) (fun _ h9 => h9) rfl (by decide +kernel) rfl rfl (Nat.le_of_ble_eq_true rfl) hd (fun H1 locs1 h1 h2 h3 => kk H1 locs1 ⟨h1, h2, h3, hw.2.2.2⟩)
theorem g0_ot (K : mt_Cx G p s m args c cc nL RX0) (hw : mt_Hw G A s (mt_w0 G q T wo kd bt ot fl wr) H locs) (hd : decode cc pc = .ok (.getfield 36, 3)) (kk : W p l e R s m args below meth c H locs cells slots Q (F0 m (pc + 3) ls (.int ot :: rest))) : W p l e R s m args below meth c H locs cells slots Q (F0 m pc ls (.ref (q 0) :: rest)) :=
  va_get (D := G.1) (ci := 0) (v := .int ot) (C := RX0) (T := TX0) (N := 9) K.1 K.2.1 K.2.2.2.2.1 in_X0 K.2.2.2.1 K.2.2.2.2.2 hw.1 0 rfl rfl 7 (by decide) (K.2.2.2.2.1 _ q36) (fun _ h9 => h9) rfl hd kk
theorem p0_ot (K : mt_Cx G p s m args c cc nL RX0) (hw : mt_Hw G A s (mt_w0 G q T wo kd bt ot fl wr) H locs) {v : Int32} (hd : decode cc pc = .ok (.putfield 36, 3)) (kk : ∀ (H1 : Heap) (locs1 : List Loc), mt_Hw G A s (mt_w0 G q T wo kd bt v fl wr) H1 locs1 → W p l e R s m args below meth c H1 locs1 cells slots Q (F0 m (pc + 3) ls (rest))) : W p l e R s m args below meth c H locs cells slots Q (F0 m pc ls (.int v :: .ref (q 0) :: rest)) :=
  va_put (D := G.1) (ci := 0) (v := .int v) (ty := .int) (C := RX0) (T := TX0) (N := 9) K.1 K.2.1 K.2.2.2.2.1 in_X0 tyX0 tyX0_ok nmX0 K.2.2.2.1 K.2.2.2.2.2 hw.1 hw.2.1 hw.2.2.1 0 rfl rfl 7 (by decide) (K.2.2.2.2.1 _ q36) (fun _ h9 => h9) rfl (by decide +kernel) rfl rfl (Nat.le_of_ble_eq_true rfl) hd (fun H1 locs1 h1 h2 h3 => kk H1 locs1 ⟨h1, h2, h3, hw.2.2.2⟩)
theorem g0_fl (K : mt_Cx G p s m args c cc nL RX0) (hw : mt_Hw G A s (mt_w0 G q T wo kd bt ot fl wr) H locs) (hd : decode cc pc = .ok (.getfield 42, 3)) (kk : W p l e R s m args below meth c H locs cells slots Q (F0 m (pc + 3) ls (.int (mt_b fl) :: rest))) : W p l e R s m args below meth c H locs cells slots Q (F0 m pc ls (.ref (q 0) :: rest)) :=
  va_get (D := G.1) (ci := 0) (v := .int (mt_b fl)) (C := RX0) (T := TX0) (N := 9) K.1 K.2.1 K.2.2.2.2.1 in_X0 K.2.2.2.1 K.2.2.2.2.2 hw.1 0 rfl rfl 8 (by decide) (K.2.2.2.2.1 _ q37) (fun _ h9 => h9) rfl hd kk
theorem p0_fl (K : mt_Cx G p s m args c cc nL RX0) (hw : mt_Hw G A s (mt_w0 G q T wo kd bt ot fl wr) H locs) {v : Bool} (hd : decode cc pc = .ok (.putfield 42, 3)) (kk : ∀ (H1 : Heap) (locs1 : List Loc), mt_Hw G A s (mt_w0 G q T wo kd bt ot v wr) H1 locs1 → W p l e R s m args below meth c H1 locs1 cells slots Q (F0 m (pc + 3) ls (rest))) : W p l e R s m args below meth c H locs cells slots Q (F0 m pc ls (.int (mt_b v) :: .ref (q 0) :: rest)) :=
  va_put (D := G.1) (ci := 0) (v := .int (mt_b v)) (ty := .boolean) (C := RX0) (T := TX0) (N := 9) K.1 K.2.1 K.2.2.2.2.1 in_X0 tyX0 tyX0_ok nmX0 K.2.2.2.1 K.2.2.2.2.2 hw.1 hw.2.1 hw.2.2.1 0 rfl rfl 8 (by decide) (K.2.2.2.2.1 _ q37) (fun _ h9 => h9) rfl (by decide +kernel) (mt_b_n v) (mt_b_f v) (Nat.le_of_ble_eq_true rfl) hd (fun H1 locs1 h1 h2 h3 => kk H1 locs1 ⟨h1, h2, h3, hw.2.2.2⟩)
theorem r0_d (K : mt_Cx G p s m args c cc nL RX0) (hw : mt_Hw G A s (mt_w0 G q T wo kd bt ot fl wr) H locs) {k : Nat} (hk : k < 6) (hd : decode cc pc = .ok (.baload, 1)) (kk : W p l e R s m args below meth c H locs cells slots Q (F0 m (pc + 1) ls (.int (nI (T.2.1 k)) :: rest))) : W p l e R s m args below meth c H locs cells slots Q (F0 m pc ls (.int (nI k) :: .ref (q 1) :: rest)) := by
  refine va_bald K.1 K.2.1 K.2.2.2.2.2 hw.1 1 0 rfl rfl (vp_in_nI hk (by decide)) hd ?_
  rw [nI_clamp (show k < 2 ^ 31 by omega)]
  exact kk
theorem s0_d (K : mt_Cx G p s m args c cc nL RX0) (hw : mt_Hw G A s (mt_w0 G q T wo kd bt ot fl wr) H locs) {k v : Nat} (hk : k < 6) (hv : v < 128) (hd : decode cc pc = .ok (.bastore, 1)) (kk : ∀ (H1 : Heap) (locs1 : List Loc), mt_Hw G A s (mt_w0 G q (T.1, mt_u T.2.1 k v, T.2.2.1, T.2.2.2) wo kd bt ot fl wr) H1 locs1 → W p l e R s m args below meth c H1 locs1 cells slots Q (F0 m (pc + 1) ls (rest))) : W p l e R s m args below meth c H locs cells slots Q (F0 m pc ls (.int (nI v) :: .int (nI k) :: .ref (q 1) :: rest)) := by
  refine va_bast K.1 K.2.1 K.2.2.2.2.2 hw.1 hw.2.1 hw.2.2.1 1 0 rfl rfl (vp_in_nI hk (by decide)) hd (fun H1 locs1 h1 h2 h3 => kk H1 locs1 ?_)
  rw [mt_updB (show k < 2 ^ 31 by omega) hv] at h1 h2
  exact ⟨h1, h2, h3, hw.2.2.2⟩
theorem r0_z (K : mt_Cx G p s m args c cc nL RX0) (hw : mt_Hw G A s (mt_w0 G q T wo kd bt ot fl wr) H locs) {k : Nat} (hk : k < 6) (hd : decode cc pc = .ok (.baload, 1)) (kk : W p l e R s m args below meth c H locs cells slots Q (F0 m (pc + 1) ls (.int (nI (T.2.2.1 k)) :: rest))) : W p l e R s m args below meth c H locs cells slots Q (F0 m pc ls (.int (nI k) :: .ref (q 2) :: rest)) := by
  refine va_bald K.1 K.2.1 K.2.2.2.2.2 hw.1 2 0 rfl rfl (vp_in_nI hk (by decide)) hd ?_
  rw [nI_clamp (show k < 2 ^ 31 by omega)]
  exact kk
theorem s0_z (K : mt_Cx G p s m args c cc nL RX0) (hw : mt_Hw G A s (mt_w0 G q T wo kd bt ot fl wr) H locs) {k v : Nat} (hk : k < 6) (hv : v < 128) (hd : decode cc pc = .ok (.bastore, 1)) (kk : ∀ (H1 : Heap) (locs1 : List Loc), mt_Hw G A s (mt_w0 G q (T.1, T.2.1, mt_u T.2.2.1 k v, T.2.2.2) wo kd bt ot fl wr) H1 locs1 → W p l e R s m args below meth c H1 locs1 cells slots Q (F0 m (pc + 1) ls (rest))) : W p l e R s m args below meth c H locs cells slots Q (F0 m pc ls (.int (nI v) :: .int (nI k) :: .ref (q 2) :: rest)) := by
  refine va_bast K.1 K.2.1 K.2.2.2.2.2 hw.1 hw.2.1 hw.2.2.1 2 0 rfl rfl (vp_in_nI hk (by decide)) hd (fun H1 locs1 h1 h2 h3 => kk H1 locs1 ?_)
  rw [mt_updB (show k < 2 ^ 31 by omega) hv] at h1 h2
  exact ⟨h1, h2, h3, hw.2.2.2⟩
theorem r0_o (K : mt_Cx G p s m args c cc nL RX0) (hw : mt_Hw G A s (mt_w0 G q T wo kd bt ot fl wr) H locs) {k : Nat} (hk : k < 24) (hd : decode cc pc = .ok (.baload, 1)) (kk : W p l e R s m args below meth c H locs cells slots Q (F0 m (pc + 1) ls (.int (nI (T.2.2.2 k)) :: rest))) : W p l e R s m args below meth c H locs cells slots Q (F0 m pc ls (.int (nI k) :: .ref (q 3) :: rest)) := by
  refine va_bald K.1 K.2.1 K.2.2.2.2.2 hw.1 3 0 rfl rfl (vp_in_nI hk (by decide)) hd ?_
  rw [nI_clamp (show k < 2 ^ 31 by omega)]
  exact kk
theorem s0_o (K : mt_Cx G p s m args c cc nL RX0) (hw : mt_Hw G A s (mt_w0 G q T wo kd bt ot fl wr) H locs) {k v : Nat} (hk : k < 24) (hv : v < 128) (hd : decode cc pc = .ok (.bastore, 1)) (kk : ∀ (H1 : Heap) (locs1 : List Loc), mt_Hw G A s (mt_w0 G q (T.1, T.2.1, T.2.2.1, mt_u T.2.2.2 k v) wo kd bt ot fl wr) H1 locs1 → W p l e R s m args below meth c H1 locs1 cells slots Q (F0 m (pc + 1) ls (rest))) : W p l e R s m args below meth c H locs cells slots Q (F0 m pc ls (.int (nI v) :: .int (nI k) :: .ref (q 3) :: rest)) := by
  refine va_bast K.1 K.2.1 K.2.2.2.2.2 hw.1 hw.2.1 hw.2.2.1 3 0 rfl rfl (vp_in_nI hk (by decide)) hd (fun H1 locs1 h1 h2 h3 => kk H1 locs1 ?_)
  rw [mt_updB (show k < 2 ^ 31 by omega) hv] at h1 h2
  exact ⟨h1, h2, h3, hw.2.2.2⟩
end MF0
section MF1
variable {me so ce ot : Int32} {wr : va_W}
theorem g1_n (K : mt_Cx G p s m args c cc nL RX1) (hw : mt_Hw G A s (mt_w1 G q T me so ce ot wr) H locs) (hd : decode cc pc = .ok (.getfield 19, 3)) (kk : W p l e R s m args below meth c H locs cells slots Q (F0 m (pc + 3) ls (.int (nI T.1) :: rest))) : W p l e R s m args below meth c H locs cells slots Q (F0 m pc ls (.ref (q 0) :: rest)) :=
  va_get (D := G.1) (ci := 1) (v := .int (nI T.1)) (C := RX1) (T := TX1) (N := 8) K.1 K.2.1 K.2.2.2.2.1 in_X1 K.2.2.2.1 K.2.2.2.2.2 hw.1 0 rfl rfl 0 (by decide) (K.2.2.2.2.1 _ q155) (fun _ h9 => h9) rfl hd kk
theorem p1_n (K : mt_Cx G p s m args c cc nL RX1) (hw : mt_Hw G A s (mt_w1 G q T me so ce ot wr) H locs) {v : Nat} (hd : decode cc pc = .ok (.putfield 19, 3)) (kk : ∀ (H1 : Heap) (locs1 : List Loc), mt_Hw G A s (mt_w1 G q (v, T.2.1, T.2.2.1, T.2.2.2) me so ce ot wr) H1 locs1 → W p l e R s m args below meth c H1 locs1 cells slots Q (F0 m (pc + 3) ls (rest))) : W p l e R s m args below meth c H locs cells slots Q (F0 m pc ls (.int (nI v) :: .ref (q 0) :: rest)) :=
  va_put (D := G.1) (ci := 1) (v := .int (nI v)) (ty := .int) (C := RX1) (T := TX1) (N := 8) K.1 K.2.1 K.2.2.2.2.1 in_X1 tyX1 tyX1_ok nmX1 K.2.2.2.1 K.2.2.2.2.2 hw.1 hw.2.1 hw.2.2.1 0 rfl rfl 0 (by decide) (K.2.2.2.2.1 _ q155) (fun _ h9 => h9) rfl (by decide +kernel) rfl rfl (Nat.le_of_ble_eq_true rfl) hd (fun H1 locs1 h1 h2 h3 => kk H1 locs1 ⟨h1, h2, h3, hw.2.2.2⟩)
theorem g1_d (K : mt_Cx G p s m args c cc nL RX1) (hw : mt_Hw G A s (mt_w1 G q T me so ce ot wr) H locs) (hd : decode cc pc = .ok (.getfield 7, 3)) (kk : W p l e R s m args below meth c H locs cells slots Q (F0 m (pc + 3) ls (.ref (q 1) :: rest))) : W p l e R s m args below meth c H locs cells slots Q (F0 m pc ls (.ref (q 0) :: rest)) :=
  va_get (D := G.1) (ci := 1) (v := .ref (q 1)) (C := RX1) (T := TX1) (N := 8) K.1 K.2.1 K.2.2.2.2.1 in_X1 K.2.2.2.1 K.2.2.2.2.2 hw.1 0 rfl rfl 1 (by decide) (K.2.2.2.2.1 _ q156) (fun _ h9 => h9) rfl hd kk
theorem g1_z (K : mt_Cx G p s m args c cc nL RX1) (hw : mt_Hw G A s (mt_w1 G q T me so ce ot wr) H locs) (hd : decode cc pc = .ok (.getfield 13, 3)) (kk : W p l e R s m args below meth c H locs cells slots Q (F0 m (pc + 3) ls (.ref (q 2) :: rest))) : W p l e R s m args below meth c H locs cells slots Q (F0 m pc ls (.ref (q 0) :: rest)) :=
  va_get (D := G.1) (ci := 1) (v := .ref (q 2)) (C := RX1) (T := TX1) (N := 8) K.1 K.2.1 K.2.2.2.2.1 in_X1 K.2.2.2.1 K.2.2.2.2.2 hw.1 0 rfl rfl 2 (by decide) (K.2.2.2.2.1 _ q157) (fun _ h9 => h9) rfl hd kk
theorem g1_o (K : mt_Cx G p s m args c cc nL RX1) (hw : mt_Hw G A s (mt_w1 G q T me so ce ot wr) H locs) (hd : decode cc pc = .ok (.getfield 16, 3)) (kk : W p l e R s m args below meth c H locs cells slots Q (F0 m (pc + 3) ls (.ref (q 3) :: rest))) : W p l e R s m args below meth c H locs cells slots Q (F0 m pc ls (.ref (q 0) :: rest)) :=
  va_get (D := G.1) (ci := 1) (v := .ref (q 3)) (C := RX1) (T := TX1) (N := 8) K.1 K.2.1 K.2.2.2.2.1 in_X1 K.2.2.2.1 K.2.2.2.2.2 hw.1 0 rfl rfl 3 (by decide) (K.2.2.2.2.1 _ q158) (fun _ h9 => h9) rfl hd kk
theorem g1_me (K : mt_Cx G p s m args c cc nL RX1) (hw : mt_Hw G A s (mt_w1 G q T me so ce ot wr) H locs) (hd : decode cc pc = .ok (.getfield 23, 3)) (kk : W p l e R s m args below meth c H locs cells slots Q (F0 m (pc + 3) ls (.int me :: rest))) : W p l e R s m args below meth c H locs cells slots Q (F0 m pc ls (.ref (q 0) :: rest)) :=
  va_get (D := G.1) (ci := 1) (v := .int me) (C := RX1) (T := TX1) (N := 8) K.1 K.2.1 K.2.2.2.2.1 in_X1 K.2.2.2.1 K.2.2.2.2.2 hw.1 0 rfl rfl 4 (by decide) (K.2.2.2.2.1 _ q159) (fun _ h9 => h9) rfl hd kk
theorem p1_me (K : mt_Cx G p s m args c cc nL RX1) (hw : mt_Hw G A s (mt_w1 G q T me so ce ot wr) H locs) {v : Int32} (hd : decode cc pc = .ok (.putfield 23, 3)) (kk : ∀ (H1 : Heap) (locs1 : List Loc), mt_Hw G A s (mt_w1 G q T v so ce ot wr) H1 locs1 → W p l e R s m args below meth c H1 locs1 cells slots Q (F0 m (pc + 3) ls (rest))) : W p l e R s m args below meth c H locs cells slots Q (F0 m pc ls (.int v :: .ref (q 0) :: rest)) :=
  va_put (D := G.1) (ci := 1) (v := .int v) (ty := .int) (C := RX1) (T := TX1) (N := 8) K.1 K.2.1 K.2.2.2.2.1 in_X1 tyX1 tyX1_ok nmX1 K.2.2.2.1 K.2.2.2.2.2 hw.1 hw.2.1 hw.2.2.1 0 rfl rfl 4 (by decide) (K.2.2.2.2.1 _ q159) (fun _ h9 => h9) rfl (by decide +kernel) rfl rfl (Nat.le_of_ble_eq_true rfl) hd (fun H1 locs1 h1 h2 h3 => kk H1 locs1 ⟨h1, h2, h3, hw.2.2.2⟩)
theorem g1_so (K : mt_Cx G p s m args c cc nL RX1) (hw : mt_Hw G A s (mt_w1 G q T me so ce ot wr) H locs) (hd : decode cc pc = .ok (.getfield 26, 3)) (kk : W p l e R s m args below meth c H locs cells slots Q (F0 m (pc + 3) ls (.int so :: rest))) : W p l e R s m args below meth c H locs cells slots Q (F0 m pc ls (.ref (q 0) :: rest)) :=
  va_get (D := G.1) (ci := 1) (v := .int so) (C := RX1) (T := TX1) (N := 8) K.1 K.2.1 K.2.2.2.2.1 in_X1 K.2.2.2.1 K.2.2.2.2.2 hw.1 0 rfl rfl 5 (by decide) (K.2.2.2.2.1 _ q160) (fun _ h9 => h9) rfl hd kk
theorem p1_so (K : mt_Cx G p s m args c cc nL RX1) (hw : mt_Hw G A s (mt_w1 G q T me so ce ot wr) H locs) {v : Int32} (hd : decode cc pc = .ok (.putfield 26, 3)) (kk : ∀ (H1 : Heap) (locs1 : List Loc), mt_Hw G A s (mt_w1 G q T me v ce ot wr) H1 locs1 → W p l e R s m args below meth c H1 locs1 cells slots Q (F0 m (pc + 3) ls (rest))) : W p l e R s m args below meth c H locs cells slots Q (F0 m pc ls (.int v :: .ref (q 0) :: rest)) :=
  va_put (D := G.1) (ci := 1) (v := .int v) (ty := .int) (C := RX1) (T := TX1) (N := 8) K.1 K.2.1 K.2.2.2.2.1 in_X1 tyX1 tyX1_ok nmX1 K.2.2.2.1 K.2.2.2.2.2 hw.1 hw.2.1 hw.2.2.1 0 rfl rfl 5 (by decide) (K.2.2.2.2.1 _ q160) (fun _ h9 => h9) rfl (by decide +kernel) rfl rfl (Nat.le_of_ble_eq_true rfl) hd (fun H1 locs1 h1 h2 h3 => kk H1 locs1 ⟨h1, h2, h3, hw.2.2.2⟩)
theorem g1_ce (K : mt_Cx G p s m args c cc nL RX1) (hw : mt_Hw G A s (mt_w1 G q T me so ce ot wr) H locs) (hd : decode cc pc = .ok (.getfield 29, 3)) (kk : W p l e R s m args below meth c H locs cells slots Q (F0 m (pc + 3) ls (.int ce :: rest))) : W p l e R s m args below meth c H locs cells slots Q (F0 m pc ls (.ref (q 0) :: rest)) :=
  va_get (D := G.1) (ci := 1) (v := .int ce) (C := RX1) (T := TX1) (N := 8) K.1 K.2.1 K.2.2.2.2.1 in_X1 K.2.2.2.1 K.2.2.2.2.2 hw.1 0 rfl rfl 6 (by decide) (K.2.2.2.2.1 _ q161) (fun _ h9 => h9) rfl hd kk
theorem p1_ce (K : mt_Cx G p s m args c cc nL RX1) (hw : mt_Hw G A s (mt_w1 G q T me so ce ot wr) H locs) {v : Int32} (hd : decode cc pc = .ok (.putfield 29, 3)) (kk : ∀ (H1 : Heap) (locs1 : List Loc), mt_Hw G A s (mt_w1 G q T me so v ot wr) H1 locs1 → W p l e R s m args below meth c H1 locs1 cells slots Q (F0 m (pc + 3) ls (rest))) : W p l e R s m args below meth c H locs cells slots Q (F0 m pc ls (.int v :: .ref (q 0) :: rest)) :=
  va_put (D := G.1) (ci := 1) (v := .int v) (ty := .int) (C := RX1) (T := TX1) (N := 8) K.1 K.2.1 K.2.2.2.2.1 in_X1 tyX1 tyX1_ok nmX1 K.2.2.2.1 K.2.2.2.2.2 hw.1 hw.2.1 hw.2.2.1 0 rfl rfl 6 (by decide) (K.2.2.2.2.1 _ q161) (fun _ h9 => h9) rfl (by decide +kernel) rfl rfl (Nat.le_of_ble_eq_true rfl) hd (fun H1 locs1 h1 h2 h3 => kk H1 locs1 ⟨h1, h2, h3, hw.2.2.2⟩)
theorem g1_ot (K : mt_Cx G p s m args c cc nL RX1) (hw : mt_Hw G A s (mt_w1 G q T me so ce ot wr) H locs) (hd : decode cc pc = .ok (.getfield 36, 3)) (kk : W p l e R s m args below meth c H locs cells slots Q (F0 m (pc + 3) ls (.int ot :: rest))) : W p l e R s m args below meth c H locs cells slots Q (F0 m pc ls (.ref (q 0) :: rest)) :=
  va_get (D := G.1) (ci := 1) (v := .int ot) (C := RX1) (T := TX1) (N := 8) K.1 K.2.1 K.2.2.2.2.1 in_X1 K.2.2.2.1 K.2.2.2.2.2 hw.1 0 rfl rfl 7 (by decide) (K.2.2.2.2.1 _ q162) (fun _ h9 => h9) rfl hd kk
theorem p1_ot (K : mt_Cx G p s m args c cc nL RX1) (hw : mt_Hw G A s (mt_w1 G q T me so ce ot wr) H locs) {v : Int32} (hd : decode cc pc = .ok (.putfield 36, 3)) (kk : ∀ (H1 : Heap) (locs1 : List Loc), mt_Hw G A s (mt_w1 G q T me so ce v wr) H1 locs1 → W p l e R s m args below meth c H1 locs1 cells slots Q (F0 m (pc + 3) ls (rest))) : W p l e R s m args below meth c H locs cells slots Q (F0 m pc ls (.int v :: .ref (q 0) :: rest)) :=
  va_put (D := G.1) (ci := 1) (v := .int v) (ty := .int) (C := RX1) (T := TX1) (N := 8) K.1 K.2.1 K.2.2.2.2.1 in_X1 tyX1 tyX1_ok nmX1 K.2.2.2.1 K.2.2.2.2.2 hw.1 hw.2.1 hw.2.2.1 0 rfl rfl 7 (by decide) (K.2.2.2.2.1 _ q162) (fun _ h9 => h9) rfl (by decide +kernel) rfl rfl (Nat.le_of_ble_eq_true rfl) hd (fun H1 locs1 h1 h2 h3 => kk H1 locs1 ⟨h1, h2, h3, hw.2.2.2⟩)
theorem r1_d (K : mt_Cx G p s m args c cc nL RX1) (hw : mt_Hw G A s (mt_w1 G q T me so ce ot wr) H locs) {k : Nat} (hk : k < 6) (hd : decode cc pc = .ok (.iaload, 1)) (kk : W p l e R s m args below meth c H locs cells slots Q (F0 m (pc + 1) ls (.int (nI (T.2.1 k)) :: rest))) : W p l e R s m args below meth c H locs cells slots Q (F0 m pc ls (.int (nI k) :: .ref (q 1) :: rest)) := by
  refine va_iald K.1 K.2.1 K.2.2.2.2.2 hw.1 1 1 rfl rfl (vp_in_nI hk (by decide)) hd ?_
  rw [nI_clamp (show k < 2 ^ 31 by omega)]
  exact kk
theorem s1_d (K : mt_Cx G p s m args c cc nL RX1) (hw : mt_Hw G A s (mt_w1 G q T me so ce ot wr) H locs) {k v : Nat} (hk : k < 6) (hd : decode cc pc = .ok (.iastore, 1)) (kk : ∀ (H1 : Heap) (locs1 : List Loc), mt_Hw G A s (mt_w1 G q (T.1, mt_u T.2.1 k v, T.2.2.1, T.2.2.2) me so ce ot wr) H1 locs1 → W p l e R s m args below meth c H1 locs1 cells slots Q (F0 m (pc + 1) ls (rest))) : W p l e R s m args below meth c H locs cells slots Q (F0 m pc ls (.int (nI v) :: .int (nI k) :: .ref (q 1) :: rest)) := by
  refine va_iast K.1 K.2.1 K.2.2.2.2.2 hw.1 hw.2.1 hw.2.2.1 1 1 rfl rfl (vp_in_nI hk (by decide)) hd (fun H1 locs1 h1 h2 h3 => kk H1 locs1 ?_)
  rw [mt_updI (show k < 2 ^ 31 by omega)] at h1 h2
  exact ⟨h1, h2, h3, hw.2.2.2⟩
theorem r1_z (K : mt_Cx G p s m args c cc nL RX1) (hw : mt_Hw G A s (mt_w1 G q T me so ce ot wr) H locs) {k : Nat} (hk : k < 6) (hd : decode cc pc = .ok (.iaload, 1)) (kk : W p l e R s m args below meth c H locs cells slots Q (F0 m (pc + 1) ls (.int (nI (T.2.2.1 k)) :: rest))) : W p l e R s m args below meth c H locs cells slots Q (F0 m pc ls (.int (nI k) :: .ref (q 2) :: rest)) := by
  refine va_iald K.1 K.2.1 K.2.2.2.2.2 hw.1 2 1 rfl rfl (vp_in_nI hk (by decide)) hd ?_
  rw [nI_clamp (show k < 2 ^ 31 by omega)]
  exact kk
theorem s1_z (K : mt_Cx G p s m args c cc nL RX1) (hw : mt_Hw G A s (mt_w1 G q T me so ce ot wr) H locs) {k v : Nat} (hk : k < 6) (hd : decode cc pc = .ok (.iastore, 1)) (kk : ∀ (H1 : Heap) (locs1 : List Loc), mt_Hw G A s (mt_w1 G q (T.1, T.2.1, mt_u T.2.2.1 k v, T.2.2.2) me so ce ot wr) H1 locs1 → W p l e R s m args below meth c H1 locs1 cells slots Q (F0 m (pc + 1) ls (rest))) : W p l e R s m args below meth c H locs cells slots Q (F0 m pc ls (.int (nI v) :: .int (nI k) :: .ref (q 2) :: rest)) := by
  refine va_iast K.1 K.2.1 K.2.2.2.2.2 hw.1 hw.2.1 hw.2.2.1 2 1 rfl rfl (vp_in_nI hk (by decide)) hd (fun H1 locs1 h1 h2 h3 => kk H1 locs1 ?_)
  rw [mt_updI (show k < 2 ^ 31 by omega)] at h1 h2
  exact ⟨h1, h2, h3, hw.2.2.2⟩
theorem r1_o (K : mt_Cx G p s m args c cc nL RX1) (hw : mt_Hw G A s (mt_w1 G q T me so ce ot wr) H locs) {k : Nat} (hk : k < 24) (hd : decode cc pc = .ok (.iaload, 1)) (kk : W p l e R s m args below meth c H locs cells slots Q (F0 m (pc + 1) ls (.int (nI (T.2.2.2 k)) :: rest))) : W p l e R s m args below meth c H locs cells slots Q (F0 m pc ls (.int (nI k) :: .ref (q 3) :: rest)) := by
  refine va_iald K.1 K.2.1 K.2.2.2.2.2 hw.1 3 1 rfl rfl (vp_in_nI hk (by decide)) hd ?_
  rw [nI_clamp (show k < 2 ^ 31 by omega)]
  exact kk
theorem s1_o (K : mt_Cx G p s m args c cc nL RX1) (hw : mt_Hw G A s (mt_w1 G q T me so ce ot wr) H locs) {k v : Nat} (hk : k < 24) (hd : decode cc pc = .ok (.iastore, 1)) (kk : ∀ (H1 : Heap) (locs1 : List Loc), mt_Hw G A s (mt_w1 G q (T.1, T.2.1, T.2.2.1, mt_u T.2.2.2 k v) me so ce ot wr) H1 locs1 → W p l e R s m args below meth c H1 locs1 cells slots Q (F0 m (pc + 1) ls (rest))) : W p l e R s m args below meth c H locs cells slots Q (F0 m pc ls (.int (nI v) :: .int (nI k) :: .ref (q 3) :: rest)) := by
  refine va_iast K.1 K.2.1 K.2.2.2.2.2 hw.1 hw.2.1 hw.2.2.1 3 1 rfl rfl (vp_in_nI hk (by decide)) hd (fun H1 locs1 h1 h2 h3 => kk H1 locs1 ?_)
  rw [mt_updI (show k < 2 ^ 31 by omega)] at h1 h2
  exact ⟨h1, h2, h3, hw.2.2.2⟩
end MF1
end MB
end
section
/-! what the two classes compute, as plain functions: MarchTester's side (mt_h .. mt_spr) and MarchTesterModel's side (mt_bit .. mt_msp) -/
abbrev mt_S : Type := Int32 × Int32 × Bool
/-- hold: the fault's bit, of kind k, beside the other's bit -/
def mt_h (k b o : Int32) : Int32 := if 10 ≤ k ∧ o = (k - 10) / 2 then (k - 10) &&& 1 else if k = 0 ∨ k = 1 then k else b
def mt_own (k b o v : Int32) : Int32 := mt_h k (if ((k = 2 ∧ v = 1) ∨ (k = 3 ∧ v = 0)) ∧ ¬ b = v then b else v) o
def mt_oth1 (k b o v : Int32) : Int32 := if ((¬ o = v ∧ v = 1) ∧ k = 4) ∨ ((¬ o = v ∧ v = 0) ∧ k = 5) then 1 - b else b
def mt_oth2 (k b o v : Int32) : Int32 := if 6 ≤ k ∧ k < 10 ∧ ((k < 8 ∧ ¬ o = v ∧ v = 1) ∨ (¬ k < 8 ∧ ¬ o = v ∧ v = 0)) then (k - 6) &&& 1 else mt_oth1 k b o v
def mt_oth (k b o v : Int32) : Int32 := mt_h k (mt_oth2 k b o v) v
/-- one operation at the fault's cell (own) or at the other one -/
def mt_st (k : Int32) (own : Bool) (op : Nat) (σ : mt_S) : mt_S :=
  if 2 ≤ op then (σ.1, σ.2.1, σ.2.2 || decide (¬ (if own = true then σ.1 else σ.2.1) = nI op - 2))
  else if own = true then (mt_own k σ.1 σ.2.1 (nI op), σ.2.1, σ.2.2) else (mt_oth k σ.1 σ.2.1 (nI op), nI op, σ.2.2)
def mt_vis (k : Int32) (own : Bool) (f : Nat → Nat) (σ : mt_S) : Nat → mt_S
  | 0 => σ
  | j + 1 => mt_st k own (f j) (mt_vis k own f σ j)
def mt_vi (T : mt_T) (k : Int32) (M : Nat) (own : Bool) (σ : mt_S) : mt_S := mt_vis k own (fun j => T.2.2.2 (M * 4 + j)) σ (T.2.2.1 M)
def mt_ms (T : mt_T) (wo k : Int32) (be : Bool) (i : Nat) (σ : mt_S) : mt_S :=
  if nI i = wo then σ else if k < 4 then mt_vi T k i true σ else mt_vi T k i (!(be == decide (T.2.1 i = 0))) (mt_vi T k i (be == decide (T.2.1 i = 0)) σ)
def mt_mar (T : mt_T) (wo k : Int32) (be : Bool) (σ : mt_S) : Nat → mt_S
  | 0 => σ
  | i + 1 => mt_ms T wo k be i (mt_mar T wo k be σ i)
def mt_runs (T : mt_T) (wo k : Int32) (be : Bool) (f g : Int32) : mt_S := mt_mar T wo k be (mt_h k f g, g, false) T.1
def mt_cnt (P : Nat → Bool) : Nat → Nat
  | 0 => 0
  | j + 1 => mt_cnt P j + (if P j = true then 1 else 0)
def mt_quiet (T : mt_T) (wo : Int32) : Nat := mt_cnt (fun b => !(mt_runs T wo (-1) true (nI b) 0).2.2) 2
def mt_si4 (T : mt_T) (wo k : Int32) (be : Bool) : Nat := mt_cnt (fun f => (decide (4 ≤ k) || decide (f < 2)) && !(mt_runs T wo k be (nI f &&& 1) (nI f >>> ((1 : Int32) &&& 31))).2.2) 4
def mt_sil (T : mt_T) (wo k : Int32) (be : Bool) : Nat := mt_si4 T wo k be * mt_quiet T wo ^ (if 4 ≤ k then 3 else 4)
def mt_isF (T : mt_T) (wo k : Int32) (be : Bool) : Bool := decide (mt_sil T wo k be = 0)
def mt_flt (k v a : Int32) : Bool := decide (0 ≤ k ∧ k < 14 ∧ 0 ≤ v ∧ v < 5 ∧ (k < 4 ∨ (0 ≤ a ∧ a < 5 ∧ ¬ a = v)))
def mt_half (k : Int32) : Int32 := if k < 4 then 5 else 10
def mt_fnd (T : mt_T) (wo k : Int32) : Int32 := if k < 0 ∨ 14 ≤ k then -1 else (if mt_isF T wo k true = true then mt_half k else 0) + (if 4 ≤ k ∧ mt_isF T wo k false = true then mt_half k else 0)
def mt_set (P : Nat → Bool) : Nat → Int32
  | 0 => 0
  | j + 1 => mt_set P j ||| (if P j = true then (1 : Int32) <<< (nI j &&& 31) else 0)
def mt_cov (T : mt_T) (wo : Int32) : Int32 := mt_set (fun j => decide (mt_fnd T wo (nI j) = (if nI j < 4 then 5 else 20))) 14
def mt_fs (P P' : Nat → Bool) : Nat → Int32
  | 0 => 0
  | j + 1 => (mt_fs P P' j ||| (if P j = true then (1 : Int32) <<< (((2 : Int32) * nI j) &&& 31) else 0)) ||| (if P' j = true then (2 : Int32) <<< (((2 : Int32) * nI j) &&& 31) else 0)
def mt_fst (T : mt_T) (wo : Int32) : Int32 := mt_fs (fun j => mt_isF T wo (nI j) true) (fun j => mt_isF T wo (nI j) false) 14
def mt_spr (T : mt_T) (wo : Int32) : Int32 := mt_set (fun j => decide ((mt_fst T wo &&& (mt_fst T (nI j) ^^^ (-1))) = 0)) T.1
def mt_stp (f : Nat → Nat) : Nat → Nat
  | 0 => 0
  | j + 1 => mt_stp f j + 5 * f j
/-- the test is well formed -/
def mt_ok (T : mt_T) : Prop := T.1 ≤ 6 ∧ (∀ j, T.2.1 j ≤ 1) ∧ (∀ j, T.2.2.1 j ≤ 4) ∧ ∀ j, T.2.2.2 j ≤ 3
-- the four methods that change the test: the answer, and the test behind it
def mt_maR (T : mt_T) (x : Int32) : Int32 := if ¬ x = 0 ∧ ¬ x = 1 then -1 else if 6 ≤ T.1 then -2 else nI T.1
def mt_maT (T : mt_T) (x : Int32) : mt_T := if ¬ x = 0 ∧ ¬ x = 1 then T else if 6 ≤ T.1 then T else (T.1 + 1, mt_u T.2.1 T.1 x.toNatClampNeg, mt_u T.2.2.1 T.1 0, T.2.2.2)
def mt_opR (T : mt_T) (x : Int32) : Int32 := if x < 0 ∨ 3 < x ∨ T.1 = 0 then -1 else if 4 ≤ T.2.2.1 (T.1 - 1) then -2 else nI (T.2.2.1 (T.1 - 1) + 1)
def mt_opT (T : mt_T) (x : Int32) : mt_T := if x < 0 ∨ 3 < x ∨ T.1 = 0 then T else if 4 ≤ T.2.2.1 (T.1 - 1) then T else (T.1, T.2.1, mt_u T.2.2.1 (T.1 - 1) (T.2.2.1 (T.1 - 1) + 1), mt_u T.2.2.2 ((T.1 - 1) * 4 + T.2.2.1 (T.1 - 1)) x.toNatClampNeg)
def mt_drT (T : mt_T) : mt_T := if T.1 = 0 then T else if 0 < T.2.2.1 (T.1 - 1) then (T.1, T.2.1, mt_u T.2.2.1 (T.1 - 1) (T.2.2.1 (T.1 - 1) - 1), T.2.2.2) else (T.1 - 1, T.2.1, T.2.2.1, T.2.2.2)
def mt_drR (T : mt_T) : Int32 := if T.1 = 0 then -1 else nI (mt_drT T).1
def mt_tuR (T : mt_T) (x : Int32) : Bool := decide (¬ x < 0 ∧ x < nI T.1)
def mt_tuT (T : mt_T) (x : Int32) : mt_T := if ¬ x < 0 ∧ x < nI T.1 then (T.1, mt_u T.2.1 x.toNatClampNeg (1 - T.2.1 x.toNatClampNeg), T.2.2.1, T.2.2.2) else T
-- the model's side
def mt_bit (me c : Int32) : Int32 := (me >>> (c &&& 31)) &&& 1
def mt_put (me c b : Int32) : Int32 := (me &&& (((1 : Int32) <<< (c &&& 31)) ^^^ (-1))) ||| (b <<< (c &&& 31))
def mt_sl1 (so ce me : Int32) : Int32 := if so = 0 ∨ so = 1 then mt_put me ce so else me
def mt_sl2 (so ce ot me : Int32) : Int32 := if 10 ≤ so ∧ mt_bit me ot = (so - 10) / 2 then mt_put me ce (so - so / 2 * 2) else me
def mt_stl (so ce ot me : Int32) : Int32 := mt_sl2 so ce ot (mt_sl1 so ce me)
def mt_wr1 (so ce me c b : Int32) : Int32 := if (so = 2 ∨ so = 3) ∧ c = ce ∧ mt_bit me c = so - 2 then me else mt_put me c b
def mt_on (so old b : Int32) : Bool := decide (((so = 4 ∨ so = 6 ∨ so = 7) ∧ old = 0 ∧ b = 1) ∨ (¬ (so = 4 ∨ so = 6 ∨ so = 7) ∧ old = 1 ∧ b = 0))
def mt_now (so ce me : Int32) : Int32 := if so < 6 then 1 - mt_bit me ce else so - so / 2 * 2
def mt_wr2 (so ce ot old me c b : Int32) : Int32 := if 4 ≤ so ∧ ¬ 9 < so ∧ c = ot ∧ mt_on so old b = true then mt_put me ce (mt_now so ce me) else me
def mt_wr (so ce ot me c b : Int32) : Int32 := mt_stl so ce ot (mt_wr2 so ce ot (mt_bit me c) (mt_wr1 so ce me c b) c b)
def mt_fb (me : Int32) (op : Nat) (c : Int32) : Bool := decide (2 ≤ op) && decide (¬ mt_bit me c = nI op - 2)
def mt_fm (so ce ot me : Int32) (op : Nat) (c : Int32) : Int32 := if 2 ≤ op then me else mt_wr so ce ot me c (nI op)
def mt_ci (T : mt_T) (M k : Nat) : Nat := if T.2.1 M = 1 then 4 - k / T.2.2.1 M else k / T.2.2.1 M
def mt_in (T : mt_T) (so ce ot : Int32) (M : Nat) (σ : Int32 × Bool) : Nat → Int32 × Bool
  | 0 => σ
  | k + 1 => (mt_fm so ce ot (mt_in T so ce ot M σ k).1 (T.2.2.2 (4 * M + k % T.2.2.1 M)) (nI (mt_ci T M k)), mt_fb (mt_in T so ce ot M σ k).1 (T.2.2.2 (4 * M + k % T.2.2.1 M)) (nI (mt_ci T M k)) || (mt_in T so ce ot M σ k).2)
def mt_ru (T : mt_T) (so ce ot sk : Int32) (σ : Int32 × Bool) : Nat → Int32 × Bool
  | 0 => σ
  | M + 1 => if nI M = sk then mt_ru T so ce ot sk σ M else mt_in T so ce ot M (mt_ru T so ce ot sk σ M) (5 * T.2.2.1 M)
def mt_run (T : mt_T) (so ce ot f sk : Int32) : Int32 × Bool := mt_ru T so ce ot sk (mt_stl so ce ot f, false) T.1
def mt_ct (T : mt_T) (k v a sk : Int32) : Nat := mt_cnt (fun f => (mt_run T k v a (nI f) sk).2) 32
def mt_flm (k v a : Int32) : Bool := decide (¬ k < 0 ∧ ¬ 13 < k ∧ ¬ v < 0 ∧ ¬ 4 < v ∧ (k < 4 ∨ (¬ a < 0 ∧ ¬ 4 < a ∧ ¬ a = v)))
def mt_ctA (T : mt_T) (k v a sk : Int32) : Nat := mt_ct T k v (if k < 4 then 0 else a) sk
def mt_mfi (T : mt_T) (k v a : Int32) : Bool := mt_flm k v a && decide (mt_ctA T k v a (-1) = 32)
def mt_mfn (T : mt_T) (k : Int32) : Int32 := if k < 0 ∨ 13 < k then -1 else nI (mt_cnt (fun c => (decide (4 ≤ k) || decide (c % 5 = 0)) && mt_mfi T k (nI (c / 5)) (nI (c % 5))) 25)
def mt_mcv (T : mt_T) : Int32 := mt_set (fun j => decide (mt_mfn T (nI j) = (if nI j < 4 then 5 else 20))) 14
def mt_all (P : Nat → Bool) : Nat → Bool
  | 0 => true
  | j + 1 => mt_all P j && P j
def mt_mwo (T : mt_T) (m k : Int32) : Bool := mt_all (fun c => !(mt_mfi T k (nI (c / 5)) (nI (c % 5)) && decide (mt_ctA T k (nI (c / 5)) (nI (c % 5)) m < 32))) 25
def mt_msp (T : mt_T) : Int32 := mt_set (fun j => mt_all (fun k => mt_mwo T (nI j) (nI k)) 14) T.1
-- small facts for the walks
theorem mt_cnt_le (P : Nat → Bool) : ∀ n, mt_cnt P n ≤ n := by
  intro n
  induction n with
  | zero => exact Nat.le_refl 0
  | succ n ih =>
    show mt_cnt P n + (if P n = true then 1 else 0) ≤ n + 1
    split <;> omega
theorem mt_quiet_le (T : mt_T) (wo : Int32) : mt_quiet T wo ≤ 2 := mt_cnt_le _ 2
theorem mt_pow_le {q : Nat} (h : q ≤ 2) {e : Nat} (he : e ≤ 4) : q ^ e ≤ 16 := Nat.le_trans (Nat.pow_le_pow_left h e) (Nat.le_trans (Nat.pow_le_pow_right (by decide) he) (by decide))
theorem mt_sil_le (T : mt_T) (wo k : Int32) (be : Bool) : mt_sil T wo k be ≤ 64 := by
  have h1 : mt_si4 T wo k be ≤ 4 := mt_cnt_le _ 4
  have h2 : mt_quiet T wo ^ (if 4 ≤ k then 3 else 4) ≤ 16 := mt_pow_le (mt_quiet_le T wo) (by split <;> decide)
  exact Nat.mul_le_mul h1 h2
theorem mt_ct_le (T : mt_T) (k v a sk : Int32) : mt_ct T k v a sk ≤ 32 := mt_cnt_le _ 32
theorem mt_inc (j : Nat) : nI j + Int32.ofInt 1 = nI (j + 1) := nI_1 j
theorem mt_eq0 {b : Bool} (h : b = false) : (0 : Int32) = mt_b b := by rw [h]; rfl
theorem mt_eq1 {b : Bool} (h : b = true) : (1 : Int32) = mt_b b := by rw [h]; rfl
end
section
theorem mt_nle {a b : Nat} (ha : a < 2 ^ 31) (hb : b < 2 ^ 31) (h : ¬ nI b ≤ nI a) : a < b := Nat.lt_of_not_le (fun q => h (nI_le q ha))
theorem mt_nlt {a b : Nat} (ha : a < 2 ^ 31) (hb : b < 2 ^ 31) (h : ¬ nI a < nI b) : b ≤ a := Nat.le_of_not_lt (fun q => h (nI_lt q hb))
theorem lk0_39 : GoodIn lw_all (wsV RX0 39 RX0 yX0_hold (ws_ yX0_hold cX0_hold 1 none)) := lw_V q90 q92 qs2 q19 q93
theorem lk0_46 : GoodIn lw_all (wsV RX0 46 RX0 yX0_writeOwn (ws_ yX0_writeOwn cX0_writeOwn 3 none)) := lw_V q98 q100 qs4 q19 q101
theorem lk0_50 : GoodIn lw_all (wsV RX0 50 RX0 yX0_writeOther (ws_ yX0_writeOther cX0_writeOther 6 none)) := lw_V q102 q104 qs5 q19 q105
theorem lk0_53 : GoodIn lw_all (wsV RX0 53 RX0 yX0_visit (ws_ yX0_visit cX0_visit 5 none)) := lw_V q94 q96 qs3 q19 q97
set_option maxHeartbeats 4000000 in
set_option maxRecDepth 100000 in
/-- hold() -/
theorem m0_hold (l : Launch) (G : mt_G) (q : Nat → Nat) (wr : va_W) (T : mt_T) (wo kd bt ot : Int32) (fl : Bool)   : mt_Mv l yX0_hold cX0_hold 1 0 0 G [.ref (q 0)] (mt_w0 G q T wo kd bt ot fl wr) (fun (u : Int32) => u = mt_h kd bt ot) (fun u => mt_w0 G q T wo kd u ot fl wr) := by
  refine mt_Mv_of RX0 rfl (by decide) (Nat.le_of_ble_eq_true rfl) ?_
  intro p e s m args below meth c A ls Q K hw hl hret
  have hx := K.1
  have hb := K.2.1
  have hl : lv_has ls 1 [(0, .ref (q 0))] := hl
  have J23 : ∀ (b1 : Int32), (b1 = if kd = 0 ∨ kd = 1 then kd else bt) → ∀ (H : Heap) (locs : List Loc), mt_Hw G A s (mt_w0 G q T wo kd b1 ot fl wr) H locs → ∀ (ls : Array Slot), lv_has ls 1 [(0, .ref (q 0))] → W p l e (mt_rm 0 0) s m args below meth c H locs 0 0 Q (F0 m 23 ls []) := by
    intro b1 e1 H locs hw ls hl
    refine lv_aload_n hx hb dX0_hold_23 rfl (lv_at hl 0 rfl) ?_
    refine g0_kd K hw dX0_hold_24 ?_
    refine lv_bipush (v := 10) hx hb dX0_hold_27 (by decide) ?_
    refine lv_icmp_lt (tgt := 61) hx hb dX0_hold_29 (by decide) (fun c29 => ?_) (fun c29 => ?_)
    · exact hret b1 dX0_hold_61 (by grind [mt_h]) hw
    · refine lv_aload_n hx hb dX0_hold_32 rfl (lv_at hl 0 rfl) ?_
      refine g0_ot K hw dX0_hold_33 ?_
      refine lv_aload_n hx hb dX0_hold_36 rfl (lv_at hl 0 rfl) ?_
      refine g0_kd K hw dX0_hold_37 ?_
      refine lv_bipush (v := 10) hx hb dX0_hold_40 (by decide) ?_
      refine lv_isub hx hb dX0_hold_42 ?_
      refine lv_iconst (v := 2) hx hb dX0_hold_43 (by decide) ?_
      refine lv_idiv hx hb dX0_hold_44 (by decide) ?_
      refine lv_icmp_ne (tgt := 61) hx hb dX0_hold_45 (by decide) (fun c45 => ?_) (fun c45 => ?_)
      · exact hret b1 dX0_hold_61 (by grind [mt_h]) hw
      · refine lv_aload_n hx hb dX0_hold_48 rfl (lv_at hl 0 rfl) ?_
        refine lv_aload_n hx hb dX0_hold_49 rfl (lv_at hl 0 rfl) ?_
        refine g0_kd K hw dX0_hold_50 ?_
        refine lv_bipush (v := 10) hx hb dX0_hold_53 (by decide) ?_
        refine lv_isub hx hb dX0_hold_55 ?_
        refine lv_iconst (v := 1) hx hb dX0_hold_56 (by decide) ?_
        refine lv_iand hx hb dX0_hold_57 ?_
        refine p0_bt K hw dX0_hold_58 (fun H locs hw => ?_)
        exact hret ((kd - 10) &&& 1) dX0_hold_61 (by grind [mt_h]) hw
  refine lv_aload_n hx hb dX0_hold_0 rfl (lv_at hl 0 rfl) ?_
  refine g0_kd K hw dX0_hold_1 ?_
  refine lv_if_eq (tgt := 15) hx hb dX0_hold_4 (by decide) (fun c4 => ?_) (fun c4 => ?_)
  · refine lv_aload_n hx hb dX0_hold_15 rfl (lv_at hl 0 rfl) ?_
    refine lv_aload_n hx hb dX0_hold_16 rfl (lv_at hl 0 rfl) ?_
    refine g0_kd K hw dX0_hold_17 ?_
    refine p0_bt K hw dX0_hold_20 (fun H locs hw => ?_)
    exact J23 kd (by grind) _ _ hw ls (lv_sub hl [0] rfl)
  · refine lv_aload_n hx hb dX0_hold_7 rfl (lv_at hl 0 rfl) ?_
    refine g0_kd K hw dX0_hold_8 ?_
    refine lv_iconst (v := 1) hx hb dX0_hold_11 (by decide) ?_
    refine lv_icmp_ne (tgt := 23) hx hb dX0_hold_12 (by decide) (fun c12 => ?_) (fun c12 => ?_)
    · exact J23 bt (by grind) _ _ hw ls (lv_sub hl [0] rfl)
    · refine lv_aload_n hx hb dX0_hold_15 rfl (lv_at hl 0 rfl) ?_
      refine lv_aload_n hx hb dX0_hold_16 rfl (lv_at hl 0 rfl) ?_
      refine g0_kd K hw dX0_hold_17 ?_
      refine p0_bt K hw dX0_hold_20 (fun H locs hw => ?_)
      exact J23 kd (by grind) _ _ hw ls (lv_sub hl [0] rfl)
set_option maxHeartbeats 4000000 in
set_option maxRecDepth 100000 in
/-- writeOwn(v) -/
theorem m0_writeOwn (l : Launch) (G : mt_G) (q : Nat → Nat) (wr : va_W) (T : mt_T) (wo kd bt ot : Int32) (fl : Bool) (v : Int32)  : mt_Mv l yX0_writeOwn cX0_writeOwn 3 1 20 G [.ref (q 0), .int v] (mt_w0 G q T wo kd bt ot fl wr) (fun (u : Int32) => u = mt_own kd bt ot v) (fun u => mt_w0 G q T wo kd u ot fl wr) := by
  refine mt_Mv_of RX0 rfl (by decide) (Nat.le_of_ble_eq_true rfl) ?_
  intro p e s m args below meth c A ls Q K hw hl hret
  have hx := K.1
  have hb := K.2.1
  have hl : lv_has ls 3 [(0, .ref (q 0)), (1, .int v)] := hl
  have J52 : ∀ (x : Int32), (x = if ((kd = 2 ∧ v = 1) ∨ (kd = 3 ∧ v = 0)) ∧ ¬ bt = v then bt else v) → ∀ (H : Heap) (locs : List Loc), mt_Hw G A s (mt_w0 G q T wo kd bt ot fl wr) H locs → ∀ (ls : Array Slot), lv_has ls 3 [(0, .ref (q 0))] → W p l e (mt_rm 1 20) s m args below meth c H locs 0 0 Q (F0 m 52 ls [.int x, .ref (q 0)]) := by
    intro x ex H locs hw ls hl
    refine p0_bt K hw dX0_writeOwn_52 (fun H locs hw => ?_)
    refine lv_aload_n hx hb dX0_writeOwn_55 rfl (lv_at hl 0 rfl) ?_
    refine mt_callv (n := 0) (As := []) (rest := []) K hw hl.1 (m0_hold l G q wr T wo kd x ot fl ) lk0_39 (by decide +kernel) rfl rfl ⟨Nat.le_of_ble_eq_true rfl, Nat.le_of_ble_eq_true rfl⟩ ⟨Nat.le_of_ble_eq_true rfl, Nat.le_of_ble_eq_true rfl⟩ rfl rfl (Nat.le_of_ble_eq_true rfl) dX0_writeOwn_56 (fun u56 H locs p56 hw => ?_)
    exact hret u56 dX0_writeOwn_59 (by rw [p56, ex]; rfl) hw
  have J30 : ∀ (b1 : Bool), (b1 = decide ((kd = 2 ∧ v = 1) ∨ (kd = 3 ∧ v = 0))) → ∀ (H : Heap) (locs : List Loc), mt_Hw G A s (mt_w0 G q T wo kd bt ot fl wr) H locs → ∀ (ls : Array Slot), lv_has ls 3 [(0, .ref (q 0)), (1, .int v)] → W p l e (mt_rm 1 20) s m args below meth c H locs 0 0 Q (F0 m 30 ls [.int (mt_b b1)]) := by
    intro b1 e1 H locs hw ls hl
    refine lv_istore_n (lv' := [(2, .int (mt_b b1)), (0, .ref (q 0)), (1, .int v)]) hx hb dX0_writeOwn_30 rfl hl (by decide) rfl (fun ls hl => ?_)
    refine lv_aload_n hx hb dX0_writeOwn_31 rfl (lv_at hl 1 rfl) ?_
    refine lv_iload_n hx hb dX0_writeOwn_32 rfl (lv_at hl 0 rfl) ?_
    refine lv_if_eq (tgt := 51) hx hb dX0_writeOwn_33 (by decide) (fun c33 => ?_) (fun c33 => ?_)
    · replace c33 := mt_b0 c33
      refine lv_iload_n hx hb dX0_writeOwn_51 rfl (lv_at hl 2 rfl) ?_
      exact J52 v (by grind) _ _ hw ls (lv_sub hl [1] rfl)
    · replace c33 := mt_b1 c33
      refine lv_aload_n hx hb dX0_writeOwn_36 rfl (lv_at hl 1 rfl) ?_
      refine g0_bt K hw dX0_writeOwn_37 ?_
      refine lv_iload_n hx hb dX0_writeOwn_40 rfl (lv_at hl 2 rfl) ?_
      refine lv_icmp_eq (tgt := 51) hx hb dX0_writeOwn_41 (by decide) (fun c41 => ?_) (fun c41 => ?_)
      · refine lv_iload_n hx hb dX0_writeOwn_51 rfl (lv_at hl 2 rfl) ?_
        exact J52 v (by grind) _ _ hw ls (lv_sub hl [1] rfl)
      · refine lv_aload_n hx hb dX0_writeOwn_44 rfl (lv_at hl 1 rfl) ?_
        refine g0_bt K hw dX0_writeOwn_45 ?_
        refine lv_goto (tgt := 52) hx hb dX0_writeOwn_48 (by decide) ?_
        exact J52 bt (by grind) _ _ hw ls (lv_sub hl [1] rfl)
  refine lv_aload_n hx hb dX0_writeOwn_0 rfl (lv_at hl 0 rfl) ?_
  refine g0_kd K hw dX0_writeOwn_1 ?_
  refine lv_iconst (v := 2) hx hb dX0_writeOwn_4 (by decide) ?_
  refine lv_icmp_ne (tgt := 13) hx hb dX0_writeOwn_5 (by decide) (fun c5 => ?_) (fun c5 => ?_)
  · refine lv_aload_n hx hb dX0_writeOwn_13 rfl (lv_at hl 0 rfl) ?_
    refine g0_kd K hw dX0_writeOwn_14 ?_
    refine lv_iconst (v := 3) hx hb dX0_writeOwn_17 (by decide) ?_
    refine lv_icmp_ne (tgt := 29) hx hb dX0_writeOwn_18 (by decide) (fun c18 => ?_) (fun c18 => ?_)
    · refine lv_iconst (v := 0) hx hb dX0_writeOwn_29 (by decide) ?_
      exact J30 false (by grind) _ _ hw ls (lv_sub hl [0, 1] rfl)
    · refine lv_iload_n hx hb dX0_writeOwn_21 rfl (lv_at hl 1 rfl) ?_
      refine lv_if_ne (tgt := 29) hx hb dX0_writeOwn_22 (by decide) (fun c22 => ?_) (fun c22 => ?_)
      · refine lv_iconst (v := 0) hx hb dX0_writeOwn_29 (by decide) ?_
        exact J30 false (by grind) _ _ hw ls (lv_sub hl [0, 1] rfl)
      · refine lv_iconst (v := 1) hx hb dX0_writeOwn_25 (by decide) ?_
        refine lv_goto (tgt := 30) hx hb dX0_writeOwn_26 (by decide) ?_
        exact J30 true (by grind) _ _ hw ls (lv_sub hl [0, 1] rfl)
  · refine lv_iload_n hx hb dX0_writeOwn_8 rfl (lv_at hl 1 rfl) ?_
    refine lv_iconst (v := 1) hx hb dX0_writeOwn_9 (by decide) ?_
    refine lv_icmp_eq (tgt := 25) hx hb dX0_writeOwn_10 (by decide) (fun c10 => ?_) (fun c10 => ?_)
    · refine lv_iconst (v := 1) hx hb dX0_writeOwn_25 (by decide) ?_
      refine lv_goto (tgt := 30) hx hb dX0_writeOwn_26 (by decide) ?_
      exact J30 true (by grind) _ _ hw ls (lv_sub hl [0, 1] rfl)
    · refine lv_aload_n hx hb dX0_writeOwn_13 rfl (lv_at hl 0 rfl) ?_
      refine g0_kd K hw dX0_writeOwn_14 ?_
      refine lv_iconst (v := 3) hx hb dX0_writeOwn_17 (by decide) ?_
      refine lv_icmp_ne (tgt := 29) hx hb dX0_writeOwn_18 (by decide) (fun c18 => ?_) (fun c18 => ?_)
      · refine lv_iconst (v := 0) hx hb dX0_writeOwn_29 (by decide) ?_
        exact J30 false (by grind) _ _ hw ls (lv_sub hl [0, 1] rfl)
      · refine lv_iload_n hx hb dX0_writeOwn_21 rfl (lv_at hl 1 rfl) ?_
        refine lv_if_ne (tgt := 29) hx hb dX0_writeOwn_22 (by decide) (fun c22 => ?_) (fun c22 => ?_)
        · refine lv_iconst (v := 0) hx hb dX0_writeOwn_29 (by decide) ?_
          exact J30 false (by grind) _ _ hw ls (lv_sub hl [0, 1] rfl)
        · refine lv_iconst (v := 1) hx hb dX0_writeOwn_25 (by decide) ?_
          refine lv_goto (tgt := 30) hx hb dX0_writeOwn_26 (by decide) ?_
          exact J30 true (by grind) _ _ hw ls (lv_sub hl [0, 1] rfl)
set_option maxHeartbeats 4000000 in
set_option maxRecDepth 100000 in
/-- writeOther(v) -/
theorem m0_writeOther (l : Launch) (G : mt_G) (q : Nat → Nat) (wr : va_W) (T : mt_T) (wo kd bt ot : Int32) (fl : Bool) (v : Int32)  : mt_Mv l yX0_writeOther cX0_writeOther 6 1 20 G [.ref (q 0), .int v] (mt_w0 G q T wo kd bt ot fl wr) (fun (u : Int32) => u = mt_oth kd bt ot v) (fun u => mt_w0 G q T wo kd u v fl wr) := by
  refine mt_Mv_of RX0 rfl (by decide) (Nat.le_of_ble_eq_true rfl) ?_
  intro p e s m args below meth c A ls Q K hw hl hret
  have hx := K.1
  have hb := K.2.1
  have hl : lv_has ls 6 [(0, .ref (q 0)), (1, .int v)] := hl
  have J148 : ∀ (b2 : Int32), (b2 = mt_oth2 kd bt ot v) → ∀ (H : Heap) (locs : List Loc), mt_Hw G A s (mt_w0 G q T wo kd b2 v fl wr) H locs → ∀ (ls : Array Slot), lv_has ls 6 [(0, .ref (q 0))] → W p l e (mt_rm 1 20) s m args below meth c H locs 0 0 Q (F0 m 148 ls []) := by
    intro b2 e2 H locs hw ls hl
    refine lv_aload_n hx hb dX0_writeOther_148 rfl (lv_at hl 0 rfl) ?_
    refine mt_callv (n := 0) (As := []) (rest := []) K hw hl.1 (m0_hold l G q wr T wo kd b2 v fl ) lk0_39 (by decide +kernel) rfl rfl ⟨Nat.le_of_ble_eq_true rfl, Nat.le_of_ble_eq_true rfl⟩ ⟨Nat.le_of_ble_eq_true rfl, Nat.le_of_ble_eq_true rfl⟩ rfl rfl (Nat.le_of_ble_eq_true rfl) dX0_writeOther_149 (fun u149 H locs p149 hw => ?_)
    exact hret u149 dX0_writeOther_152 (by rw [p149, e2]; rfl) hw
  have J128 : ∀ (b1 : Int32) (x : Bool), (b1 = mt_oth1 kd bt ot v) → (x = decide (6 ≤ kd ∧ kd < 10 ∧ ((kd < 8 ∧ ¬ ot = v ∧ v = 1) ∨ (¬ kd < 8 ∧ ¬ ot = v ∧ v = 0)))) → ∀ (H : Heap) (locs : List Loc), mt_Hw G A s (mt_w0 G q T wo kd b1 v fl wr) H locs → ∀ (ls : Array Slot), lv_has ls 6 [(0, .ref (q 0))] → W p l e (mt_rm 1 20) s m args below meth c H locs 0 0 Q (F0 m 128 ls [.int (mt_b x)]) := by
    intro b1 x e1 ex H locs hw ls hl
    refine lv_istore (lv' := [(5, .int (mt_b x)), (0, .ref (q 0))]) hx hb dX0_writeOther_128 hl (by decide) rfl (fun ls hl => ?_)
    refine lv_iload hx hb dX0_writeOther_130 (lv_at hl 0 rfl) ?_
    refine lv_if_eq (tgt := 148) hx hb dX0_writeOther_132 (by decide) (fun c132 => ?_) (fun c132 => ?_)
    · replace c132 := mt_b0 c132
      exact J148 b1 (by grind [mt_oth2]) _ _ hw ls (lv_sub hl [1] rfl)
    · replace c132 := mt_b1 c132
      refine lv_aload_n hx hb dX0_writeOther_135 rfl (lv_at hl 1 rfl) ?_
      refine lv_aload_n hx hb dX0_writeOther_136 rfl (lv_at hl 1 rfl) ?_
      refine g0_kd K hw dX0_writeOther_137 ?_
      refine lv_bipush (v := 6) hx hb dX0_writeOther_140 (by decide) ?_
      refine lv_isub hx hb dX0_writeOther_142 ?_
      refine lv_iconst (v := 1) hx hb dX0_writeOther_143 (by decide) ?_
      refine lv_iand hx hb dX0_writeOther_144 ?_
      refine p0_bt K hw dX0_writeOther_145 (fun H locs hw => ?_)
      exact J148 ((kd - 6) &&& 1) (by grind [mt_oth2]) _ _ hw ls (lv_sub hl [1] rfl)
  have J84 : ∀ (b1 : Int32) (r f : Bool), (b1 = mt_oth1 kd bt ot v) → (r = decide (¬ ot = v ∧ v = 1)) → (f = decide (¬ ot = v ∧ v = 0)) → ∀ (H : Heap) (locs : List Loc), mt_Hw G A s (mt_w0 G q T wo kd b1 v fl wr) H locs → ∀ (ls : Array Slot), lv_has ls 6 [(0, .ref (q 0)), (3, .int (mt_b r)), (4, .int (mt_b f))] → W p l e (mt_rm 1 20) s m args below meth c H locs 0 0 Q (F0 m 84 ls []) := by
    intro b1 r f e1 er ef H locs hw ls hl
    refine lv_aload_n hx hb dX0_writeOther_84 rfl (lv_at hl 0 rfl) ?_
    refine g0_kd K hw dX0_writeOther_85 ?_
    refine lv_bipush (v := 6) hx hb dX0_writeOther_88 (by decide) ?_
    refine lv_icmp_lt (tgt := 127) hx hb dX0_writeOther_90 (by decide) (fun c90 => ?_) (fun c90 => ?_)
    · refine lv_iconst (v := 0) hx hb dX0_writeOther_127 (by decide) ?_
      exact J128 b1 false e1 (by grind) _ _ hw ls (lv_sub hl [0] rfl)
    · refine lv_aload_n hx hb dX0_writeOther_93 rfl (lv_at hl 0 rfl) ?_
      refine g0_kd K hw dX0_writeOther_94 ?_
      refine lv_bipush (v := 10) hx hb dX0_writeOther_97 (by decide) ?_
      refine lv_icmp_ge (tgt := 127) hx hb dX0_writeOther_99 (by decide) (fun c99 => ?_) (fun c99 => ?_)
      · refine lv_iconst (v := 0) hx hb dX0_writeOther_127 (by decide) ?_
        exact J128 b1 false e1 (by grind) _ _ hw ls (lv_sub hl [0] rfl)
      · refine lv_aload_n hx hb dX0_writeOther_102 rfl (lv_at hl 0 rfl) ?_
        refine g0_kd K hw dX0_writeOther_103 ?_
        refine lv_bipush (v := 8) hx hb dX0_writeOther_106 (by decide) ?_
        refine lv_icmp_ge (tgt := 118) hx hb dX0_writeOther_108 (by decide) (fun c108 => ?_) (fun c108 => ?_)
        · refine lv_iload hx hb dX0_writeOther_118 (lv_at hl 2 rfl) ?_
          refine lv_if_eq (tgt := 127) hx hb dX0_writeOther_120 (by decide) (fun c120 => ?_) (fun c120 => ?_)
          · replace c120 := mt_b0 c120
            refine lv_iconst (v := 0) hx hb dX0_writeOther_127 (by decide) ?_
            exact J128 b1 false e1 (by grind) _ _ hw ls (lv_sub hl [0] rfl)
          · replace c120 := mt_b1 c120
            refine lv_iconst (v := 1) hx hb dX0_writeOther_123 (by decide) ?_
            refine lv_goto (tgt := 128) hx hb dX0_writeOther_124 (by decide) ?_
            exact J128 b1 true e1 (by grind) _ _ hw ls (lv_sub hl [0] rfl)
        · refine lv_iload_n hx hb dX0_writeOther_111 rfl (lv_at hl 1 rfl) ?_
          refine lv_if_eq (tgt := 127) hx hb dX0_writeOther_112 (by decide) (fun c112 => ?_) (fun c112 => ?_)
          · replace c112 := mt_b0 c112
            refine lv_iconst (v := 0) hx hb dX0_writeOther_127 (by decide) ?_
            exact J128 b1 false e1 (by grind) _ _ hw ls (lv_sub hl [0] rfl)
          · replace c112 := mt_b1 c112
            refine lv_goto (tgt := 123) hx hb dX0_writeOther_115 (by decide) ?_
            refine lv_iconst (v := 1) hx hb dX0_writeOther_123 (by decide) ?_
            refine lv_goto (tgt := 128) hx hb dX0_writeOther_124 (by decide) ?_
            exact J128 b1 true e1 (by grind) _ _ hw ls (lv_sub hl [0] rfl)
  have J47 : ∀ (r f : Bool), (r = decide (¬ ot = v ∧ v = 1)) → (f = decide (¬ ot = v ∧ v = 0)) → ∀ (H : Heap) (locs : List Loc), mt_Hw G A s (mt_w0 G q T wo kd bt v fl wr) H locs → ∀ (ls : Array Slot), lv_has ls 6 [(0, .ref (q 0)), (3, .int (mt_b r))] → W p l e (mt_rm 1 20) s m args below meth c H locs 0 0 Q (F0 m 47 ls [.int (mt_b f)]) := by
    intro r f er ef H locs hw ls hl
    refine lv_istore (lv' := [(4, .int (mt_b f)), (0, .ref (q 0)), (3, .int (mt_b r))]) hx hb dX0_writeOther_47 hl (by decide) rfl (fun ls hl => ?_)
    refine lv_iload_n hx hb dX0_writeOther_49 rfl (lv_at hl 2 rfl) ?_
    refine lv_if_eq (tgt := 61) hx hb dX0_writeOther_50 (by decide) (fun c50 => ?_) (fun c50 => ?_)
    · replace c50 := mt_b0 c50
      refine lv_iload hx hb dX0_writeOther_61 (lv_at hl 0 rfl) ?_
      refine lv_if_eq (tgt := 84) hx hb dX0_writeOther_63 (by decide) (fun c63 => ?_) (fun c63 => ?_)
      · replace c63 := mt_b0 c63
        exact J84 bt r f (by grind [mt_oth1]) er ef _ _ hw ls (lv_sub hl [1, 2, 0] rfl)
      · replace c63 := mt_b1 c63
        refine lv_aload_n hx hb dX0_writeOther_66 rfl (lv_at hl 1 rfl) ?_
        refine g0_kd K hw dX0_writeOther_67 ?_
        refine lv_iconst (v := 5) hx hb dX0_writeOther_70 (by decide) ?_
        refine lv_icmp_ne (tgt := 84) hx hb dX0_writeOther_71 (by decide) (fun c71 => ?_) (fun c71 => ?_)
        · exact J84 bt r f (by grind [mt_oth1]) er ef _ _ hw ls (lv_sub hl [1, 2, 0] rfl)
        · refine lv_aload_n hx hb dX0_writeOther_74 rfl (lv_at hl 1 rfl) ?_
          refine lv_iconst (v := 1) hx hb dX0_writeOther_75 (by decide) ?_
          refine lv_aload_n hx hb dX0_writeOther_76 rfl (lv_at hl 1 rfl) ?_
          refine g0_bt K hw dX0_writeOther_77 ?_
          refine lv_isub hx hb dX0_writeOther_80 ?_
          refine p0_bt K hw dX0_writeOther_81 (fun H locs hw => ?_)
          exact J84 (1 - bt) r f (by grind [mt_oth1]) er ef _ _ hw ls (lv_sub hl [1, 2, 0] rfl)
    · replace c50 := mt_b1 c50
      refine lv_aload_n hx hb dX0_writeOther_53 rfl (lv_at hl 1 rfl) ?_
      refine g0_kd K hw dX0_writeOther_54 ?_
      refine lv_iconst (v := 4) hx hb dX0_writeOther_57 (by decide) ?_
      refine lv_icmp_eq (tgt := 74) hx hb dX0_writeOther_58 (by decide) (fun c58 => ?_) (fun c58 => ?_)
      · refine lv_aload_n hx hb dX0_writeOther_74 rfl (lv_at hl 1 rfl) ?_
        refine lv_iconst (v := 1) hx hb dX0_writeOther_75 (by decide) ?_
        refine lv_aload_n hx hb dX0_writeOther_76 rfl (lv_at hl 1 rfl) ?_
        refine g0_bt K hw dX0_writeOther_77 ?_
        refine lv_isub hx hb dX0_writeOther_80 ?_
        refine p0_bt K hw dX0_writeOther_81 (fun H locs hw => ?_)
        exact J84 (1 - bt) r f (by grind [mt_oth1]) er ef _ _ hw ls (lv_sub hl [1, 2, 0] rfl)
      · refine lv_iload hx hb dX0_writeOther_61 (lv_at hl 0 rfl) ?_
        refine lv_if_eq (tgt := 84) hx hb dX0_writeOther_63 (by decide) (fun c63 => ?_) (fun c63 => ?_)
        · replace c63 := mt_b0 c63
          exact J84 bt r f (by grind [mt_oth1]) er ef _ _ hw ls (lv_sub hl [1, 2, 0] rfl)
        · replace c63 := mt_b1 c63
          refine lv_aload_n hx hb dX0_writeOther_66 rfl (lv_at hl 1 rfl) ?_
          refine g0_kd K hw dX0_writeOther_67 ?_
          refine lv_iconst (v := 5) hx hb dX0_writeOther_70 (by decide) ?_
          refine lv_icmp_ne (tgt := 84) hx hb dX0_writeOther_71 (by decide) (fun c71 => ?_) (fun c71 => ?_)
          · exact J84 bt r f (by grind [mt_oth1]) er ef _ _ hw ls (lv_sub hl [1, 2, 0] rfl)
          · refine lv_aload_n hx hb dX0_writeOther_74 rfl (lv_at hl 1 rfl) ?_
            refine lv_iconst (v := 1) hx hb dX0_writeOther_75 (by decide) ?_
            refine lv_aload_n hx hb dX0_writeOther_76 rfl (lv_at hl 1 rfl) ?_
            refine g0_bt K hw dX0_writeOther_77 ?_
            refine lv_isub hx hb dX0_writeOther_80 ?_
            refine p0_bt K hw dX0_writeOther_81 (fun H locs hw => ?_)
            exact J84 (1 - bt) r f (by grind [mt_oth1]) er ef _ _ hw ls (lv_sub hl [1, 2, 0] rfl)
  have J33 : ∀ (g r : Bool), (g = decide (¬ ot = v)) → (r = decide (¬ ot = v ∧ v = 1)) → ∀ (H : Heap) (locs : List Loc), mt_Hw G A s (mt_w0 G q T wo kd bt v fl wr) H locs → ∀ (ls : Array Slot), lv_has ls 6 [(0, .ref (q 0)), (1, .int v), (2, .int (mt_b g))] → W p l e (mt_rm 1 20) s m args below meth c H locs 0 0 Q (F0 m 33 ls [.int (mt_b r)]) := by
    intro g r eg er H locs hw ls hl
    refine lv_istore_n (lv' := [(3, .int (mt_b r)), (0, .ref (q 0)), (1, .int v), (2, .int (mt_b g))]) hx hb dX0_writeOther_33 rfl hl (by decide) rfl (fun ls hl => ?_)
    refine lv_iload_n hx hb dX0_writeOther_34 rfl (lv_at hl 3 rfl) ?_
    refine lv_if_eq (tgt := 46) hx hb dX0_writeOther_35 (by decide) (fun c35 => ?_) (fun c35 => ?_)
    · replace c35 := mt_b0 c35
      refine lv_iconst (v := 0) hx hb dX0_writeOther_46 (by decide) ?_
      exact J47 r false er (by grind) _ _ hw ls (lv_sub hl [1, 0] rfl)
    · replace c35 := mt_b1 c35
      refine lv_iload_n hx hb dX0_writeOther_38 rfl (lv_at hl 2 rfl) ?_
      refine lv_if_ne (tgt := 46) hx hb dX0_writeOther_39 (by decide) (fun c39 => ?_) (fun c39 => ?_)
      · refine lv_iconst (v := 0) hx hb dX0_writeOther_46 (by decide) ?_
        exact J47 r false er (by grind) _ _ hw ls (lv_sub hl [1, 0] rfl)
      · refine lv_iconst (v := 1) hx hb dX0_writeOther_42 (by decide) ?_
        refine lv_goto (tgt := 47) hx hb dX0_writeOther_43 (by decide) ?_
        exact J47 r true er (by grind) _ _ hw ls (lv_sub hl [1, 0] rfl)
  have J13 : ∀ (g : Bool), (g = decide (¬ ot = v)) → ∀ (H : Heap) (locs : List Loc), mt_Hw G A s (mt_w0 G q T wo kd bt ot fl wr) H locs → ∀ (ls : Array Slot), lv_has ls 6 [(0, .ref (q 0)), (1, .int v)] → W p l e (mt_rm 1 20) s m args below meth c H locs 0 0 Q (F0 m 13 ls [.int (mt_b g)]) := by
    intro g eg H locs hw ls hl
    refine lv_istore_n (lv' := [(2, .int (mt_b g)), (0, .ref (q 0)), (1, .int v)]) hx hb dX0_writeOther_13 rfl hl (by decide) rfl (fun ls hl => ?_)
    refine lv_aload_n hx hb dX0_writeOther_14 rfl (lv_at hl 1 rfl) ?_
    refine lv_iload_n hx hb dX0_writeOther_15 rfl (lv_at hl 2 rfl) ?_
    refine p0_ot K hw dX0_writeOther_16 (fun H locs hw => ?_)
    refine lv_iload_n hx hb dX0_writeOther_19 rfl (lv_at hl 0 rfl) ?_
    refine lv_if_eq (tgt := 32) hx hb dX0_writeOther_20 (by decide) (fun c20 => ?_) (fun c20 => ?_)
    · replace c20 := mt_b0 c20
      refine lv_iconst (v := 0) hx hb dX0_writeOther_32 (by decide) ?_
      exact J33 g false eg (by grind) _ _ hw ls (lv_sub hl [1, 2, 0] rfl)
    · replace c20 := mt_b1 c20
      refine lv_iload_n hx hb dX0_writeOther_23 rfl (lv_at hl 2 rfl) ?_
      refine lv_iconst (v := 1) hx hb dX0_writeOther_24 (by decide) ?_
      refine lv_icmp_ne (tgt := 32) hx hb dX0_writeOther_25 (by decide) (fun c25 => ?_) (fun c25 => ?_)
      · refine lv_iconst (v := 0) hx hb dX0_writeOther_32 (by decide) ?_
        exact J33 g false eg (by grind) _ _ hw ls (lv_sub hl [1, 2, 0] rfl)
      · refine lv_iconst (v := 1) hx hb dX0_writeOther_28 (by decide) ?_
        refine lv_goto (tgt := 33) hx hb dX0_writeOther_29 (by decide) ?_
        exact J33 g true eg (by grind) _ _ hw ls (lv_sub hl [1, 2, 0] rfl)
  refine lv_aload_n hx hb dX0_writeOther_0 rfl (lv_at hl 0 rfl) ?_
  refine g0_ot K hw dX0_writeOther_1 ?_
  refine lv_iload_n hx hb dX0_writeOther_4 rfl (lv_at hl 1 rfl) ?_
  refine lv_icmp_eq (tgt := 12) hx hb dX0_writeOther_5 (by decide) (fun c5 => ?_) (fun c5 => ?_)
  · refine lv_iconst (v := 0) hx hb dX0_writeOther_12 (by decide) ?_
    exact J13 false (by grind) _ _ hw ls (lv_sub hl [0, 1] rfl)
  · refine lv_iconst (v := 1) hx hb dX0_writeOther_8 (by decide) ?_
    refine lv_goto (tgt := 13) hx hb dX0_writeOther_9 (by decide) ?_
    exact J13 true (by grind) _ _ hw ls (lv_sub hl [0, 1] rfl)
set_option maxHeartbeats 4000000 in
set_option maxRecDepth 100000 in
/-- visit(m, own) -/
theorem m0_visit (l : Launch) (G : mt_G) (q : Nat → Nat) (wr : va_W) (T : mt_T) (wo kd bt ot : Int32) (fl : Bool) (M : Nat) (own : Bool) (hT : mt_ok T) (hM : M < 6) : mt_Mv l yX0_visit cX0_visit 5 2 45 G [.ref (q 0), .int (nI M), .int (mt_b own)] (mt_w0 G q T wo kd bt ot fl wr) (fun (u : mt_S) => u = mt_vi T kd M own (bt, ot, fl)) (fun u => mt_w0 G q T wo kd u.1 u.2.1 u.2.2 wr) := by
  refine mt_Mv_of RX0 rfl (by decide) (Nat.le_of_ble_eq_true rfl) ?_
  intro p e s m args below meth c A ls Q K hw hl hret
  have hx := K.1
  have hb := K.2.1
  have hl : lv_has ls 5 [(0, .ref (q 0)), (1, .int (nI M)), (2, .int (mt_b own))] := hl
  have J2 : ∀ (k2 : Nat) (j : Nat) (bt1 ot1 : Int32) (fl1 : Bool), (j ≤ T.2.2.1 M) → (T.2.2.1 M + 1 ≤ j + k2) → ((bt1, ot1, fl1) = mt_vis kd own (fun j => T.2.2.2 (M * 4 + j)) (bt, ot, fl) j) → ∀ (H : Heap) (locs : List Loc), mt_Hw G A s (mt_w0 G q T wo kd bt1 ot1 fl1 wr) H locs → ∀ (ls : Array Slot), lv_has ls 5 [(0, .ref (q 0)), (1, .int (nI M)), (2, .int (mt_b own)), (3, .int (nI j))] → W p l e (mt_rm 2 45) s m args below meth c H locs 0 0 Q (F0 m 2 ls []) := by
    intro k2
    induction k2 with
    | zero =>
      intro j bt1 ot1 fl1 h1 h2
      exact absurd h2 (by omega)
    | succ k2 ih2 =>
      intro j bt1 ot1 fl1 hj2 hk2 hs H locs hw ls hl
      have hz := hT.2.2.1 M
      have ho := hT.2.2.2 (M * 4 + j)
      have J88 : ∀ (bt2 ot2 : Int32) (fl2 : Bool), ((bt2, ot2, fl2) = mt_vis kd own (fun j => T.2.2.2 (M * 4 + j)) (bt, ot, fl) (j + 1)) → (j < T.2.2.1 M) → ∀ (H : Heap) (locs : List Loc), mt_Hw G A s (mt_w0 G q T wo kd bt2 ot2 fl2 wr) H locs → ∀ (ls : Array Slot), lv_has ls 5 [(0, .ref (q 0)), (1, .int (nI M)), (2, .int (mt_b own)), (3, .int (nI j))] → W p l e (mt_rm 2 45) s m args below meth c H locs 0 0 Q (F0 m 88 ls []) := by
        intro bt2 ot2 fl2 h2 hlt H locs hw ls hl
        refine lv_iinc (v := nI (j + 1)) (lv' := [(3, .int (nI (j + 1))), (0, .ref (q 0)), (1, .int (nI M)), (2, .int (mt_b own))]) hx hb dX0_visit_88 hl (k := 3) rfl (mt_inc j) (by decide) rfl (fun ls hl => ?_)
        refine lv_goto (tgt := 2) hx hb dX0_visit_91 (by decide) ?_
        exact ih2 (j + 1) bt2 ot2 fl2 (by omega) (by omega) h2 _ _ hw ls (lv_sub hl [1, 2, 3, 0] rfl)
      have J62 : ∀ (x : Bool), (x = decide (¬ (if own = true then bt1 else ot1) = nI (T.2.2.2 (M * 4 + j)) - 2)) → (j < T.2.2.1 M) → (2 ≤ T.2.2.2 (M * 4 + j)) → ∀ (H : Heap) (locs : List Loc), mt_Hw G A s (mt_w0 G q T wo kd bt1 ot1 fl1 wr) H locs → ∀ (ls : Array Slot), lv_has ls 5 [(0, .ref (q 0)), (1, .int (nI M)), (2, .int (mt_b own)), (3, .int (nI j))] → W p l e (mt_rm 2 45) s m args below meth c H locs 0 0 Q (F0 m 62 ls [.int (mt_b x), .int (mt_b fl1), .ref (q 0)]) := by
        intro x ex hlt h2o H locs hw ls hl
        refine lv_ior hx hb dX0_visit_62 ?_
        refine mt_top (y := mt_b (fl1 || x)) (mt_b_or fl1 x) ?_
        refine p0_fl (v := (fl1 || x)) K hw dX0_visit_63 (fun H locs hw => ?_)
        refine lv_goto (tgt := 88) hx hb dX0_visit_66 (by decide) ?_
        exact J88 bt1 ot1 (fl1 || x) (by show _ = mt_st kd own (T.2.2.2 (M * 4 + j)) _; rw [← hs]; grind [mt_st]) hlt _ _ hw ls (lv_sub hl [0, 1, 2, 3] rfl)
      have J50 : ∀ (x : Int32), (x = if own = true then bt1 else ot1) → (j < T.2.2.1 M) → (2 ≤ T.2.2.2 (M * 4 + j)) → ∀ (H : Heap) (locs : List Loc), mt_Hw G A s (mt_w0 G q T wo kd bt1 ot1 fl1 wr) H locs → ∀ (ls : Array Slot), lv_has ls 5 [(0, .ref (q 0)), (1, .int (nI M)), (2, .int (mt_b own)), (3, .int (nI j)), (4, .int (nI (T.2.2.2 (M * 4 + j))))] → W p l e (mt_rm 2 45) s m args below meth c H locs 0 0 Q (F0 m 50 ls [.int x, .int (mt_b fl1), .ref (q 0)]) := by
        intro x ex hlt h2o H locs hw ls hl
        refine lv_iload hx hb dX0_visit_50 (lv_at hl 4 rfl) ?_
        refine lv_iconst (v := 2) hx hb dX0_visit_52 (by decide) ?_
        refine lv_isub hx hb dX0_visit_53 ?_
        refine lv_icmp_eq (tgt := 61) hx hb dX0_visit_54 (by decide) (fun c54 => ?_) (fun c54 => ?_)
        · refine lv_iconst (v := 0) hx hb dX0_visit_61 (by decide) ?_
          exact J62 false (by grind) hlt h2o _ _ hw ls (lv_sub hl [0, 1, 2, 3] rfl)
        · refine lv_iconst (v := 1) hx hb dX0_visit_57 (by decide) ?_
          refine lv_goto (tgt := 62) hx hb dX0_visit_58 (by decide) ?_
          exact J62 true (by grind) hlt h2o _ _ hw ls (lv_sub hl [0, 1, 2, 3] rfl)
      refine lv_iload_n hx hb dX0_visit_2 rfl (lv_at hl 3 rfl) ?_
      refine lv_aload_n hx hb dX0_visit_3 rfl (lv_at hl 0 rfl) ?_
      refine g0_z K hw dX0_visit_4 ?_
      refine lv_iload_n hx hb dX0_visit_7 rfl (lv_at hl 1 rfl) ?_
      refine r0_z (k := M) K hw hM dX0_visit_8 ?_
      refine lv_icmp_ge (tgt := 94) hx hb dX0_visit_9 (by decide) (fun c9 => ?_) (fun c9 => ?_)
      · have hjj : j = T.2.2.1 M := by have := (nI_leI (by omega) (by omega)).mp c9; omega
        exact hret (bt1, ot1, fl1) dX0_visit_94 (by rw [hs, hjj]; rfl) hw
      · have hlt : j < T.2.2.1 M := by have := mt_nle (show j < 2 ^ 31 by omega) (show T.2.2.1 M < 2 ^ 31 by omega) c9; omega
        refine lv_aload_n hx hb dX0_visit_12 rfl (lv_at hl 0 rfl) ?_
        refine g0_o K hw dX0_visit_13 ?_
        refine lv_iload_n hx hb dX0_visit_16 rfl (lv_at hl 1 rfl) ?_
        refine lv_iconst (v := 4) hx hb dX0_visit_17 (by decide) ?_
        refine lv_imul hx hb dX0_visit_18 ?_
        refine mt_top (y := nI (M * 4)) (pk_mul M 4) ?_
        refine lv_iload_n hx hb dX0_visit_19 rfl (lv_at hl 3 rfl) ?_
        refine lv_iadd hx hb dX0_visit_20 ?_
        refine mt_top (y := nI (M * 4 + j)) (nI_add (M * 4) j) ?_
        refine r0_o (k := M * 4 + j) K hw (by omega) dX0_visit_21 ?_
        refine lv_istore (lv' := [(4, .int (nI (T.2.2.2 (M * 4 + j)))), (0, .ref (q 0)), (1, .int (nI M)), (2, .int (mt_b own)), (3, .int (nI j))]) hx hb dX0_visit_22 hl (by decide) rfl (fun ls hl => ?_)
        refine lv_iload hx hb dX0_visit_24 (lv_at hl 0 rfl) ?_
        refine lv_iconst (v := 2) hx hb dX0_visit_26 (by decide) ?_
        refine lv_icmp_lt (tgt := 69) hx hb dX0_visit_27 (by decide) (fun c27 => ?_) (fun c27 => ?_)
        · have h2o : ¬ 2 ≤ T.2.2.2 (M * 4 + j) := by have := (nI_ltI (b := 2) (show T.2.2.2 (M * 4 + j) < 2 ^ 31 by omega) (by decide)).mp c27; omega
          refine lv_iload_n hx hb dX0_visit_69 rfl (lv_at hl 3 rfl) ?_
          refine lv_if_eq (tgt := 82) hx hb dX0_visit_70 (by decide) (fun c70 => ?_) (fun c70 => ?_)
          · replace c70 := mt_b0 c70
            refine lv_aload_n hx hb dX0_visit_82 rfl (lv_at hl 1 rfl) ?_
            refine lv_iload hx hb dX0_visit_83 (lv_at hl 0 rfl) ?_
            refine mt_callv (n := 1) (As := [.int (nI (T.2.2.2 (M * 4 + j)))]) (rest := []) K hw hl.1 (m0_writeOther l G q wr T wo kd bt1 ot1 fl1 (nI (T.2.2.2 (M * 4 + j))) ) lk0_50 (by decide +kernel) rfl rfl ⟨Nat.le_of_ble_eq_true rfl, Nat.le_of_ble_eq_true rfl⟩ ⟨Nat.le_of_ble_eq_true rfl, Nat.le_of_ble_eq_true rfl⟩ rfl rfl (Nat.le_of_ble_eq_true rfl) dX0_visit_85 (fun u85 H locs p85 hw => ?_)
            exact J88 u85 (nI (T.2.2.2 (M * 4 + j))) fl1 (by show _ = mt_st kd own (T.2.2.2 (M * 4 + j)) _; rw [← hs]; grind [mt_st]) hlt _ _ hw ls (lv_sub hl [1, 2, 3, 4] rfl)
          · replace c70 := mt_b1 c70
            refine lv_aload_n hx hb dX0_visit_73 rfl (lv_at hl 1 rfl) ?_
            refine lv_iload hx hb dX0_visit_74 (lv_at hl 0 rfl) ?_
            refine mt_callv (n := 1) (As := [.int (nI (T.2.2.2 (M * 4 + j)))]) (rest := []) K hw hl.1 (m0_writeOwn l G q wr T wo kd bt1 ot1 fl1 (nI (T.2.2.2 (M * 4 + j))) ) lk0_46 (by decide +kernel) rfl rfl ⟨Nat.le_of_ble_eq_true rfl, Nat.le_of_ble_eq_true rfl⟩ ⟨Nat.le_of_ble_eq_true rfl, Nat.le_of_ble_eq_true rfl⟩ rfl rfl (Nat.le_of_ble_eq_true rfl) dX0_visit_76 (fun u76 H locs p76 hw => ?_)
            refine lv_goto (tgt := 88) hx hb dX0_visit_79 (by decide) ?_
            exact J88 u76 ot1 fl1 (by show _ = mt_st kd own (T.2.2.2 (M * 4 + j)) _; rw [← hs]; grind [mt_st]) hlt _ _ hw ls (lv_sub hl [1, 2, 3, 4] rfl)
        · have h2o : 2 ≤ T.2.2.2 (M * 4 + j) := by have := mt_nlt (b := 2) (show T.2.2.2 (M * 4 + j) < 2 ^ 31 by omega) (by decide) c27; omega
          refine lv_aload_n hx hb dX0_visit_30 rfl (lv_at hl 1 rfl) ?_
          refine lv_dup hx hb dX0_visit_31 rfl ?_
          refine g0_fl K hw dX0_visit_32 ?_
          refine lv_iload_n hx hb dX0_visit_35 rfl (lv_at hl 3 rfl) ?_
          refine lv_if_eq (tgt := 46) hx hb dX0_visit_36 (by decide) (fun c36 => ?_) (fun c36 => ?_)
          · replace c36 := mt_b0 c36
            refine lv_aload_n hx hb dX0_visit_46 rfl (lv_at hl 1 rfl) ?_
            refine g0_ot K hw dX0_visit_47 ?_
            exact J50 ot1 (by grind) hlt h2o _ _ hw ls (lv_sub hl [1, 2, 3, 4, 0] rfl)
          · replace c36 := mt_b1 c36
            refine lv_aload_n hx hb dX0_visit_39 rfl (lv_at hl 1 rfl) ?_
            refine g0_bt K hw dX0_visit_40 ?_
            refine lv_goto (tgt := 50) hx hb dX0_visit_43 (by decide) ?_
            exact J50 bt1 (by grind) hlt h2o _ _ hw ls (lv_sub hl [1, 2, 3, 4, 0] rfl)
  refine lv_iconst (v := 0) hx hb dX0_visit_0 (by decide) ?_
  refine lv_istore_n (lv' := [(3, .int 0), (0, .ref (q 0)), (1, .int (nI M)), (2, .int (mt_b own))]) hx hb dX0_visit_1 rfl hl (by decide) rfl (fun ls hl => ?_)
  exact J2 (T.2.2.1 M + 1) 0 bt ot fl (by omega) (by omega) rfl _ _ hw ls (lv_sub hl [1, 2, 3, 0] rfl)
end
section
theorem lk0_26 : GoodIn lw_all (wsV RX0 26 RX0 yX0_quiet (ws_ yX0_quiet cX0_quiet 3 (some .int))) := lw_V q82 q84 qs0 q19 q85
theorem lk0_57 : GoodIn lw_all (wsV RX0 57 RX0 yX0_runs (ws_ yX0_runs cX0_runs 7 (some .boolean))) := lw_V q86 q88 qs1 q19 q89
theorem lk0_61 : GoodIn lw_all (wsV RX0 61 RX0 yX0_silent (ws_ yX0_silent cX0_silent 7 (some .int))) := lw_V q121 q123 qs7 q19 q124
theorem lk0_69 : GoodIn lw_all (wsV RX0 69 RX0 yX0_isFound (ws_ yX0_isFound cX0_isFound 3 (some .boolean))) := lw_V q117 q119 qs6 q19 q120
set_option maxHeartbeats 4000000 in
set_option maxRecDepth 100000 in
/-- runs(kind, below, filled, otherFilled) -/
theorem m0_runs (l : Launch) (G : mt_G) (q : Nat → Nat) (wr : va_W) (T : mt_T) (wo kd bt ot : Int32) (fl : Bool) (k : Int32) (be : Bool) (f : Int32) (g : Int32) (hT : mt_ok T) : mt_Mi l yX0_runs cX0_runs 7 .boolean 3 69 G [.ref (q 0), .int k, .int (mt_b be), .int f, .int g] (mt_w0 G q T wo kd bt ot fl wr) (fun (v : Int32) (u : mt_S) => v = mt_b (mt_runs T wo k be f g).2.2) (fun u => mt_w0 G q T wo k u.1 u.2.1 u.2.2 wr) := by
  refine mt_Mi_of RX0 rfl (by decide) (Nat.le_of_ble_eq_true rfl) ?_
  intro p e s m args below meth c A ls Q K hw hl hret
  have hx := K.1
  have hb := K.2.1
  have hl : lv_has ls 7 [(0, .ref (q 0)), (1, .int k), (2, .int (mt_b be)), (3, .int f), (4, .int g)] := hl
  have J28 : ∀ (k28 : Nat) (i : Nat) (bt1 ot1 : Int32) (fl1 : Bool), (i ≤ T.1) → (T.1 + 1 ≤ i + k28) → ((bt1, ot1, fl1) = mt_mar T wo k be (mt_h k f g, g, false) i) → ∀ (H : Heap) (locs : List Loc), mt_Hw G A s (mt_w0 G q T wo k bt1 ot1 fl1 wr) H locs → ∀ (ls : Array Slot), lv_has ls 7 [(0, .ref (q 0)), (1, .int k), (2, .int (mt_b be)), (5, .int (nI i))] → W p l e (mt_rm 3 69) s m args below meth c H locs 0 0 Q (F0 m 28 ls []) := by
    intro k28
    induction k28 with
    | zero =>
      intro i bt1 ot1 fl1 h1 h2
      exact absurd h2 (by omega)
    | succ k28 ih28 =>
      intro i bt1 ot1 fl1 hj28 hk28 hs H locs hw ls hl
      have hn := hT.1
      have hd := hT.2.1 i
      have J120 : ∀ (bt2 ot2 : Int32) (fl2 : Bool), ((bt2, ot2, fl2) = mt_mar T wo k be (mt_h k f g, g, false) (i + 1)) → (i < T.1) → ∀ (H : Heap) (locs : List Loc), mt_Hw G A s (mt_w0 G q T wo k bt2 ot2 fl2 wr) H locs → ∀ (ls : Array Slot), lv_has ls 7 [(0, .ref (q 0)), (1, .int k), (2, .int (mt_b be)), (5, .int (nI i))] → W p l e (mt_rm 3 69) s m args below meth c H locs 0 0 Q (F0 m 120 ls []) := by
        intro bt2 ot2 fl2 h2 hlt H locs hw ls hl
        refine lv_iinc (v := nI (i + 1)) (lv' := [(5, .int (nI (i + 1))), (0, .ref (q 0)), (1, .int k), (2, .int (mt_b be))]) hx hb dX0_runs_120 hl (k := 3) rfl (mt_inc i) (by decide) rfl (fun ls hl => ?_)
        refine lv_goto (tgt := 28) hx hb dX0_runs_123 (by decide) ?_
        exact ih28 (i + 1) bt2 ot2 fl2 (by omega) (by omega) h2 _ _ hw ls (lv_sub hl [1, 2, 3, 0] rfl)
      have J117 : ∀ (bt2 ot2 : Int32) (fl2 x : Bool), ((bt2, ot2, fl2) = mt_vi T k i (be == decide (T.2.1 i = 0)) (bt1, ot1, fl1)) → (x = !(be == decide (T.2.1 i = 0))) → (i < T.1) → (i < 6) → (¬ nI i = wo) → (¬ k < 4) → ∀ (H : Heap) (locs : List Loc), mt_Hw G A s (mt_w0 G q T wo k bt2 ot2 fl2 wr) H locs → ∀ (ls : Array Slot), lv_has ls 7 [(0, .ref (q 0)), (1, .int k), (2, .int (mt_b be)), (5, .int (nI i))] → W p l e (mt_rm 3 69) s m args below meth c H locs 0 0 Q (F0 m 117 ls [.int (mt_b x), .int (nI i), .ref (q 0)]) := by
        intro bt2 ot2 fl2 x h2 ex hlt hi6 cw ck H locs hw ls hl
        refine mt_callv (n := 2) (As := [.int (nI i), .int (mt_b x)]) (rest := []) K hw hl.1 (m0_visit l G q wr T wo k bt2 ot2 fl2 i x hT hi6) lk0_53 (by decide +kernel) rfl rfl ⟨Nat.le_of_ble_eq_true rfl, Nat.le_of_ble_eq_true rfl⟩ ⟨Nat.le_of_ble_eq_true rfl, Nat.le_of_ble_eq_true rfl⟩ rfl rfl (Nat.le_of_ble_eq_true rfl) dX0_runs_117 (fun u117 H locs p117 hw => ?_)
        exact J120 u117.1 u117.2.1 u117.2.2 (by show _ = mt_ms T wo k be i _; rw [← hs]; grind [mt_ms]) hlt _ _ hw ls (lv_sub hl [0, 1, 2, 3] rfl)
      have J87 : ∀ (x : Bool), (x = (be == decide (T.2.1 i = 0))) → (i < T.1) → (i < 6) → (nI i = wo ∨ ¬ k < 4) → ∀ (H : Heap) (locs : List Loc), mt_Hw G A s (mt_w0 G q T wo k bt1 ot1 fl1 wr) H locs → ∀ (ls : Array Slot), lv_has ls 7 [(0, .ref (q 0)), (1, .int k), (2, .int (mt_b be)), (5, .int (nI i)), (6, .int (mt_b x))] → W p l e (mt_rm 3 69) s m args below meth c H locs 0 0 Q (F0 m 87 ls []) := by
        intro x ex hlt hi6 h87 H locs hw ls hl
        refine lv_iload hx hb dX0_runs_87 (lv_at hl 3 rfl) ?_
        refine lv_aload_n hx hb dX0_runs_89 rfl (lv_at hl 0 rfl) ?_
        refine g0_wo K hw dX0_runs_90 ?_
        refine lv_icmp_eq (tgt := 120) hx hb dX0_runs_93 (by decide) (fun c93 => ?_) (fun c93 => ?_)
        · exact J120 bt1 ot1 fl1 (by show _ = mt_ms T wo k be i _; rw [← hs]; grind [mt_ms]) hlt _ _ hw ls (lv_sub hl [0, 1, 2, 3] rfl)
        · refine lv_aload_n hx hb dX0_runs_96 rfl (lv_at hl 0 rfl) ?_
          refine lv_iload hx hb dX0_runs_97 (lv_at hl 3 rfl) ?_
          refine lv_iload hx hb dX0_runs_99 (lv_at hl 4 rfl) ?_
          refine mt_callv (n := 2) (As := [.int (nI i), .int (mt_b x)]) (rest := []) K hw hl.1 (m0_visit l G q wr T wo k bt1 ot1 fl1 i x hT hi6) lk0_53 (by decide +kernel) rfl rfl ⟨Nat.le_of_ble_eq_true rfl, Nat.le_of_ble_eq_true rfl⟩ ⟨Nat.le_of_ble_eq_true rfl, Nat.le_of_ble_eq_true rfl⟩ rfl rfl (Nat.le_of_ble_eq_true rfl) dX0_runs_101 (fun u101 H locs p101 hw => ?_)
          refine lv_aload_n hx hb dX0_runs_104 rfl (lv_at hl 0 rfl) ?_
          refine lv_iload hx hb dX0_runs_105 (lv_at hl 3 rfl) ?_
          refine lv_iload hx hb dX0_runs_107 (lv_at hl 4 rfl) ?_
          refine lv_if_ne (tgt := 116) hx hb dX0_runs_109 (by decide) (fun c109 => ?_) (fun c109 => ?_)
          · replace c109 := mt_b1 c109
            refine lv_iconst (v := 0) hx hb dX0_runs_116 (by decide) ?_
            exact J117 u101.1 u101.2.1 u101.2.2 false (by rw [← ex, ← p101]) (by grind) hlt hi6 c93 (h87.resolve_left c93) _ _ hw ls (lv_sub hl [0, 1, 2, 3] rfl)
          · replace c109 := mt_b0 c109
            refine lv_iconst (v := 1) hx hb dX0_runs_112 (by decide) ?_
            refine lv_goto (tgt := 117) hx hb dX0_runs_113 (by decide) ?_
            exact J117 u101.1 u101.2.1 u101.2.2 true (by rw [← ex, ← p101]) (by grind) hlt hi6 c93 (h87.resolve_left c93) _ _ hw ls (lv_sub hl [0, 1, 2, 3] rfl)
      have J61 : ∀ (x : Bool), (x = (be == decide (T.2.1 i = 0))) → (i < T.1) → (i < 6) → ∀ (H : Heap) (locs : List Loc), mt_Hw G A s (mt_w0 G q T wo k bt1 ot1 fl1 wr) H locs → ∀ (ls : Array Slot), lv_has ls 7 [(0, .ref (q 0)), (1, .int k), (2, .int (mt_b be)), (5, .int (nI i))] → W p l e (mt_rm 3 69) s m args below meth c H locs 0 0 Q (F0 m 61 ls [.int (mt_b x)]) := by
        intro x ex hlt hi6 H locs hw ls hl
        refine lv_istore (lv' := [(6, .int (mt_b x)), (0, .ref (q 0)), (1, .int k), (2, .int (mt_b be)), (5, .int (nI i))]) hx hb dX0_runs_61 hl (by decide) rfl (fun ls hl => ?_)
        refine lv_iload hx hb dX0_runs_63 (lv_at hl 4 rfl) ?_
        refine lv_aload_n hx hb dX0_runs_65 rfl (lv_at hl 1 rfl) ?_
        refine g0_wo K hw dX0_runs_66 ?_
        refine lv_icmp_eq (tgt := 87) hx hb dX0_runs_69 (by decide) (fun c69 => ?_) (fun c69 => ?_)
        · exact J87 x ex hlt hi6 (by grind) _ _ hw ls (lv_sub hl [1, 2, 3, 4, 0] rfl)
        · refine lv_iload_n hx hb dX0_runs_72 rfl (lv_at hl 2 rfl) ?_
          refine lv_iconst (v := 4) hx hb dX0_runs_73 (by decide) ?_
          refine lv_icmp_ge (tgt := 87) hx hb dX0_runs_74 (by decide) (fun c74 => ?_) (fun c74 => ?_)
          · exact J87 x ex hlt hi6 (by grind) _ _ hw ls (lv_sub hl [1, 2, 3, 4, 0] rfl)
          · refine lv_aload_n hx hb dX0_runs_77 rfl (lv_at hl 1 rfl) ?_
            refine lv_iload hx hb dX0_runs_78 (lv_at hl 4 rfl) ?_
            refine lv_iconst (v := 1) hx hb dX0_runs_80 (by decide) ?_
            refine mt_callv (n := 2) (As := [.int (nI i), .int (mt_b true)]) (rest := []) K hw hl.1 (m0_visit l G q wr T wo k bt1 ot1 fl1 i true hT hi6) lk0_53 (by decide +kernel) rfl rfl ⟨Nat.le_of_ble_eq_true rfl, Nat.le_of_ble_eq_true rfl⟩ ⟨Nat.le_of_ble_eq_true rfl, Nat.le_of_ble_eq_true rfl⟩ rfl rfl (Nat.le_of_ble_eq_true rfl) dX0_runs_81 (fun u81 H locs p81 hw => ?_)
            refine lv_goto (tgt := 120) hx hb dX0_runs_84 (by decide) ?_
            exact J120 u81.1 u81.2.1 u81.2.2 (by show _ = mt_ms T wo k be i _; rw [← hs]; grind [mt_ms]) hlt _ _ hw ls (lv_sub hl [1, 2, 3, 4] rfl)
      have J53 : ∀ (x : Bool), (x = decide (T.2.1 i = 0)) → (i < T.1) → (i < 6) → ∀ (H : Heap) (locs : List Loc), mt_Hw G A s (mt_w0 G q T wo k bt1 ot1 fl1 wr) H locs → ∀ (ls : Array Slot), lv_has ls 7 [(0, .ref (q 0)), (1, .int k), (2, .int (mt_b be)), (5, .int (nI i))] → W p l e (mt_rm 3 69) s m args below meth c H locs 0 0 Q (F0 m 53 ls [.int (mt_b x), .int (mt_b be)]) := by
        intro x ex hlt hi6 H locs hw ls hl
        refine lv_icmp_ne (tgt := 60) hx hb dX0_runs_53 (by decide) (fun c53 => ?_) (fun c53 => ?_)
        · replace c53 := fun h => c53 (mt_b_inj.mpr h)
          refine lv_iconst (v := 0) hx hb dX0_runs_60 (by decide) ?_
          exact J61 false (by grind) hlt hi6 _ _ hw ls (lv_sub hl [0, 1, 2, 3] rfl)
        · replace c53 := mt_b_inj.mp c53
          refine lv_iconst (v := 1) hx hb dX0_runs_56 (by decide) ?_
          refine lv_goto (tgt := 61) hx hb dX0_runs_57 (by decide) ?_
          exact J61 true (by grind) hlt hi6 _ _ hw ls (lv_sub hl [0, 1, 2, 3] rfl)
      refine lv_iload hx hb dX0_runs_28 (lv_at hl 3 rfl) ?_
      refine lv_aload_n hx hb dX0_runs_30 rfl (lv_at hl 0 rfl) ?_
      refine g0_n K hw dX0_runs_31 ?_
      refine lv_icmp_ge (tgt := 126) hx hb dX0_runs_34 (by decide) (fun c34 => ?_) (fun c34 => ?_)
      · have hii : i = T.1 := by have := (nI_leI (by omega) (by omega)).mp c34; omega
        refine lv_aload_n hx hb dX0_runs_126 rfl (lv_at hl 0 rfl) ?_
        refine g0_fl K hw dX0_runs_127 ?_
        exact hret (bt1, ot1, fl1) dX0_runs_130 (mt_b_n _) (by rw [show mt_runs T wo k be f g = (bt1, ot1, fl1) by rw [hs, hii]; rfl]) hw
      · have hlt : i < T.1 := by have := mt_nle (show i < 2 ^ 31 by omega) (show T.1 < 2 ^ 31 by omega) c34; omega
        have hi6 : i < 6 := by omega
        refine lv_iload_n hx hb dX0_runs_37 rfl (lv_at hl 2 rfl) ?_
        refine lv_aload_n hx hb dX0_runs_38 rfl (lv_at hl 0 rfl) ?_
        refine g0_d K hw dX0_runs_39 ?_
        refine lv_iload hx hb dX0_runs_42 (lv_at hl 3 rfl) ?_
        refine r0_d (k := i) K hw hi6 dX0_runs_44 ?_
        refine lv_if_ne (tgt := 52) hx hb dX0_runs_45 (by decide) (fun c45 => ?_) (fun c45 => ?_)
        · replace c45 : ¬ T.2.1 i = 0 := fun h => c45 (by rw [h]; rfl)
          refine lv_iconst (v := 0) hx hb dX0_runs_52 (by decide) ?_
          exact J53 false (by grind) hlt hi6 _ _ hw ls (lv_sub hl [0, 1, 2, 3] rfl)
        · replace c45 : T.2.1 i = 0 := (nI_eq (b := 0) (by omega) (by decide)).mp c45
          refine lv_iconst (v := 1) hx hb dX0_runs_48 (by decide) ?_
          refine lv_goto (tgt := 53) hx hb dX0_runs_49 (by decide) ?_
          exact J53 true (by grind) hlt hi6 _ _ hw ls (lv_sub hl [0, 1, 2, 3] rfl)
  refine lv_aload_n hx hb dX0_runs_0 rfl (lv_at hl 0 rfl) ?_
  refine lv_iload_n hx hb dX0_runs_1 rfl (lv_at hl 1 rfl) ?_
  refine p0_kd K hw dX0_runs_2 (fun H locs hw => ?_)
  refine lv_aload_n hx hb dX0_runs_5 rfl (lv_at hl 0 rfl) ?_
  refine lv_iload_n hx hb dX0_runs_6 rfl (lv_at hl 3 rfl) ?_
  refine p0_bt K hw dX0_runs_7 (fun H locs hw => ?_)
  refine lv_aload_n hx hb dX0_runs_10 rfl (lv_at hl 0 rfl) ?_
  refine lv_iload hx hb dX0_runs_11 (lv_at hl 4 rfl) ?_
  refine p0_ot K hw dX0_runs_13 (fun H locs hw => ?_)
  refine lv_aload_n hx hb dX0_runs_16 rfl (lv_at hl 0 rfl) ?_
  refine lv_iconst (v := 0) hx hb dX0_runs_17 (by decide) ?_
  refine p0_fl (v := false) K hw dX0_runs_18 (fun H locs hw => ?_)
  refine lv_aload_n hx hb dX0_runs_21 rfl (lv_at hl 0 rfl) ?_
  refine mt_callv (n := 0) (As := []) (rest := []) K hw hl.1 (m0_hold l G q wr T wo k f g false ) lk0_39 (by decide +kernel) rfl rfl ⟨Nat.le_of_ble_eq_true rfl, Nat.le_of_ble_eq_true rfl⟩ ⟨Nat.le_of_ble_eq_true rfl, Nat.le_of_ble_eq_true rfl⟩ rfl rfl (Nat.le_of_ble_eq_true rfl) dX0_runs_22 (fun u22 H locs p22 hw => ?_)
  refine lv_iconst (v := 0) hx hb dX0_runs_25 (by decide) ?_
  refine lv_istore (lv' := [(5, .int 0), (0, .ref (q 0)), (1, .int k), (2, .int (mt_b be)), (3, .int f), (4, .int g)]) hx hb dX0_runs_26 hl (by decide) rfl (fun ls hl => ?_)
  exact J28 (T.1 + 1) 0 u22 g false (by omega) (by omega) (by rw [← p22]; rfl) _ _ hw ls (lv_sub hl [1, 2, 3, 0] rfl)
set_option maxHeartbeats 4000000 in
set_option maxRecDepth 100000 in
/-- quiet() -/
theorem m0_quiet (l : Launch) (G : mt_G) (q : Nat → Nat) (wr : va_W) (T : mt_T) (wo kd bt ot : Int32) (fl : Bool)  (hT : mt_ok T) : mt_Mi l yX0_quiet cX0_quiet 3 .int 4 95 G [.ref (q 0)] (mt_w0 G q T wo kd bt ot fl wr) (fun (v : Int32) (u : Int32 × Int32 × Int32 × Bool) => v = nI (mt_quiet T wo)) (fun u => mt_w0 G q T wo u.1 u.2.1 u.2.2.1 u.2.2.2 wr) := by
  refine mt_Mi_of RX0 rfl (by decide) (Nat.le_of_ble_eq_true rfl) ?_
  intro p e s m args below meth c A ls Q K hw hl hret
  have hx := K.1
  have hb := K.2.1
  have hl : lv_has ls 3 [(0, .ref (q 0))] := hl
  have J4 : ∀ (k4 : Nat) (j n : Nat) (kd1 bt1 ot1 : Int32) (fl1 : Bool), (j ≤ 2) → (2 + 1 ≤ j + k4) → (n = mt_cnt (fun b => !(mt_runs T wo (-1) true (nI b) 0).2.2) j) → ∀ (H : Heap) (locs : List Loc), mt_Hw G A s (mt_w0 G q T wo kd1 bt1 ot1 fl1 wr) H locs → ∀ (ls : Array Slot), lv_has ls 3 [(0, .ref (q 0)), (1, .int (nI n)), (2, .int (nI j))] → W p l e (mt_rm 4 95) s m args below meth c H locs 0 0 Q (F0 m 4 ls []) := by
    intro k4
    induction k4 with
    | zero =>
      intro j n kd1 bt1 ot1 fl1 h1 h2
      exact absurd h2 (by omega)
    | succ k4 ih4 =>
      intro j n kd1 bt1 ot1 fl1 hj4 hk4 hs H locs hw ls hl
      have J26 : ∀ (x : Nat) (kd2 bt2 ot2 : Int32) (fl2 : Bool), (x = if (fun b => !(mt_runs T wo (-1) true (nI b) 0).2.2) j = true then 1 else 0) → (j < 2) → ∀ (H : Heap) (locs : List Loc), mt_Hw G A s (mt_w0 G q T wo kd2 bt2 ot2 fl2 wr) H locs → ∀ (ls : Array Slot), lv_has ls 3 [(0, .ref (q 0)), (2, .int (nI j))] → W p l e (mt_rm 4 95) s m args below meth c H locs 0 0 Q (F0 m 26 ls [.int (nI x), .int (nI n)]) := by
        intro x kd2 bt2 ot2 fl2 ex hlt H locs hw ls hl
        refine lv_iadd hx hb dX0_quiet_26 ?_
        refine mt_top (y := nI (n + x)) (nI_add n x) ?_
        refine lv_istore_n (lv' := [(1, .int (nI (n + x))), (0, .ref (q 0)), (2, .int (nI j))]) hx hb dX0_quiet_27 rfl hl (by decide) rfl (fun ls hl => ?_)
        refine lv_iinc (v := nI (j + 1)) (lv' := [(2, .int (nI (j + 1))), (1, .int (nI (n + x))), (0, .ref (q 0))]) hx hb dX0_quiet_28 hl (k := 2) rfl (mt_inc j) (by decide) rfl (fun ls hl => ?_)
        refine lv_goto (tgt := 4) hx hb dX0_quiet_31 (by decide) ?_
        exact ih4 (j + 1) (n + x) kd2 bt2 ot2 fl2 (by omega) (by omega) (by rw [hs, ex]; rfl) _ _ hw ls (lv_sub hl [2, 1, 0] rfl)
      refine lv_iload_n hx hb dX0_quiet_4 rfl (lv_at hl 2 rfl) ?_
      refine lv_iconst (v := nI 2) hx hb dX0_quiet_5 (by decide) ?_
      refine lv_icmp_ge (tgt := 34) hx hb dX0_quiet_6 (by decide) (fun c6 => ?_) (fun c6 => ?_)
      · have hjj : j = 2 := by have := (nI_leI (a := 2) (b := j) (by omega) (by omega)).mp c6; omega
        refine lv_iload_n hx hb dX0_quiet_34 rfl (lv_at hl 1 rfl) ?_
        exact hret (kd1, bt1, ot1, fl1) dX0_quiet_35 rfl (by rw [hs, hjj]; rfl) hw
      · have hlt : j < 2 := by have := mt_nle (a := j) (b := 2) (by omega) (by omega) c6; omega
        refine lv_iload_n hx hb dX0_quiet_9 rfl (lv_at hl 1 rfl) ?_
        refine lv_aload_n hx hb dX0_quiet_10 rfl (lv_at hl 0 rfl) ?_
        refine lv_iconst (v := (-1)) hx hb dX0_quiet_11 (by decide) ?_
        refine lv_iconst (v := 1) hx hb dX0_quiet_12 (by decide) ?_
        refine lv_iload_n hx hb dX0_quiet_13 rfl (lv_at hl 2 rfl) ?_
        refine lv_iconst (v := 0) hx hb dX0_quiet_14 (by decide) ?_
        refine mt_calli (n := 4) (As := [.int (-1), .int (mt_b true), .int (nI j), .int 0]) (rest := [.int (nI n)]) K hw hl.1 (m0_runs l G q wr T wo kd1 bt1 ot1 fl1 (-1) true (nI j) 0 hT) lk0_57 (by decide +kernel) rfl rfl ⟨Nat.le_of_ble_eq_true rfl, Nat.le_of_ble_eq_true rfl⟩ ⟨Nat.le_of_ble_eq_true rfl, Nat.le_of_ble_eq_true rfl⟩ rfl rfl (Nat.le_of_ble_eq_true rfl) dX0_quiet_15 (fun v15 u15 H locs p15 hw => ?_)
        obtain rfl := p15
        refine lv_if_eq (tgt := 25) hx hb dX0_quiet_18 (by decide) (fun c18 => ?_) (fun c18 => ?_)
        · replace c18 := mt_b0 c18
          refine lv_iconst (v := 1) hx hb dX0_quiet_25 (by decide) ?_
          exact J26 1 (-1) u15.1 u15.2.1 u15.2.2 (by grind) hlt _ _ hw ls (lv_sub hl [0, 2] rfl)
        · replace c18 := mt_b1 c18
          refine lv_iconst (v := 0) hx hb dX0_quiet_21 (by decide) ?_
          refine lv_goto (tgt := 26) hx hb dX0_quiet_22 (by decide) ?_
          exact J26 0 (-1) u15.1 u15.2.1 u15.2.2 (by grind) hlt _ _ hw ls (lv_sub hl [0, 2] rfl)
  refine lv_iconst (v := 0) hx hb dX0_quiet_0 (by decide) ?_
  refine lv_istore_n (lv' := [(1, .int 0), (0, .ref (q 0))]) hx hb dX0_quiet_1 rfl hl (by decide) rfl (fun ls hl => ?_)
  refine lv_iconst (v := 0) hx hb dX0_quiet_2 (by decide) ?_
  refine lv_istore_n (lv' := [(2, .int 0), (1, .int 0), (0, .ref (q 0))]) hx hb dX0_quiet_3 rfl hl (by decide) rfl (fun ls hl => ?_)
  exact J4 (2 + 1) 0 0 kd bt ot fl (by omega) (by omega) rfl _ _ hw ls (lv_sub hl [2, 1, 0] rfl)
set_option maxHeartbeats 4000000 in
set_option maxRecDepth 100000 in
/-- silent(kind, below) -/
theorem m0_silent (l : Launch) (G : mt_G) (q : Nat → Nat) (wr : va_W) (T : mt_T) (wo kd bt ot : Int32) (fl : Bool) (k : Int32) (be : Bool) (hT : mt_ok T) : mt_Mi l yX0_silent cX0_silent 7 .int 5 117 G [.ref (q 0), .int k, .int (mt_b be)] (mt_w0 G q T wo kd bt ot fl wr) (fun (v : Int32) (u : Int32 × Int32 × Int32 × Bool) => v = nI (mt_sil T wo k be)) (fun u => mt_w0 G q T wo u.1 u.2.1 u.2.2.1 u.2.2.2 wr) := by
  refine mt_Mi_of RX0 rfl (by decide) (Nat.le_of_ble_eq_true rfl) ?_
  intro p e s m args below meth c A ls Q K hw hl hret
  have hx := K.1
  have hb := K.2.1
  have hl : lv_has ls 7 [(0, .ref (q 0)), (1, .int k), (2, .int (mt_b be))] := hl
  have J86 : ∀ (k86 : Nat) (j n : Nat) (oth : Nat) (kd1 bt1 ot1 : Int32) (fl1 : Bool), (j ≤ (if 4 ≤ k then 3 else 4)) → ((if 4 ≤ k then 3 else 4) + 1 ≤ j + k86) → (n = mt_si4 T wo k be * mt_quiet T wo ^ j) → (oth = if 4 ≤ k then 3 else 4) → ∀ (H : Heap) (locs : List Loc), mt_Hw G A s (mt_w0 G q T wo kd1 bt1 ot1 fl1 wr) H locs → ∀ (ls : Array Slot), lv_has ls 7 [(0, .ref (q 0)), (3, .int (nI n)), (4, .int (nI oth)), (5, .int (nI (mt_quiet T wo))), (6, .int (nI j))] → W p l e (mt_rm 5 117) s m args below meth c H locs 0 0 Q (F0 m 86 ls []) := by
    intro k86
    induction k86 with
    | zero =>
      intro j n oth kd1 bt1 ot1 fl1 h1 h2
      exact absurd h2 (by omega)
    | succ k86 ih86 =>
      intro j n oth kd1 bt1 ot1 fl1 hj86 hk86 hs eo H locs hw ls hl
      have ho : oth ≤ 4 := by rw [eo]; split <;> decide
      rw [← eo] at hj86 hk86
      refine lv_iload hx hb dX0_silent_86 (lv_at hl 4 rfl) ?_
      refine lv_iload hx hb dX0_silent_88 (lv_at hl 2 rfl) ?_
      refine lv_icmp_ge (tgt := 104) hx hb dX0_silent_90 (by decide) (fun c90 => ?_) (fun c90 => ?_)
      · have hjj : j = oth := by have := (nI_leI (a := oth) (b := j) (by omega) (by omega)).mp c90; omega
        refine lv_iload_n hx hb dX0_silent_104 rfl (lv_at hl 1 rfl) ?_
        exact hret (kd1, bt1, ot1, fl1) dX0_silent_105 rfl (by rw [hs, hjj, eo]; rfl) hw
      · have hlt : j < oth := by have := mt_nle (a := j) (b := oth) (by omega) (by omega) c90; omega
        refine lv_iload_n hx hb dX0_silent_93 rfl (lv_at hl 1 rfl) ?_
        refine lv_iload hx hb dX0_silent_94 (lv_at hl 3 rfl) ?_
        refine lv_imul hx hb dX0_silent_96 ?_
        refine mt_top (y := nI (n * mt_quiet T wo)) (pk_mul n (mt_quiet T wo)) ?_
        refine lv_istore_n (lv' := [(3, .int (nI (n * mt_quiet T wo))), (0, .ref (q 0)), (4, .int (nI oth)), (5, .int (nI (mt_quiet T wo))), (6, .int (nI j))]) hx hb dX0_silent_97 rfl hl (by decide) rfl (fun ls hl => ?_)
        refine lv_iinc (v := nI (j + 1)) (lv' := [(6, .int (nI (j + 1))), (3, .int (nI (n * mt_quiet T wo))), (0, .ref (q 0)), (4, .int (nI oth)), (5, .int (nI (mt_quiet T wo)))]) hx hb dX0_silent_98 hl (k := 4) rfl (mt_inc j) (by decide) rfl (fun ls hl => ?_)
        refine lv_goto (tgt := 86) hx hb dX0_silent_101 (by decide) ?_
        exact ih86 (j + 1) (n * mt_quiet T wo) oth kd1 bt1 ot1 fl1 (by rw [← eo]; omega) (by rw [← eo]; omega) (by rw [hs, Nat.pow_succ, Nat.mul_assoc]) eo _ _ hw ls (lv_sub hl [2, 1, 3, 4, 0] rfl)
  have J75 : ∀ (n oth : Nat) (kd1 bt1 ot1 : Int32) (fl1 : Bool), (n = mt_si4 T wo k be) → (oth = if 4 ≤ k then 3 else 4) → ∀ (H : Heap) (locs : List Loc), mt_Hw G A s (mt_w0 G q T wo kd1 bt1 ot1 fl1 wr) H locs → ∀ (ls : Array Slot), lv_has ls 7 [(0, .ref (q 0)), (3, .int (nI n))] → W p l e (mt_rm 5 117) s m args below meth c H locs 0 0 Q (F0 m 75 ls [.int (nI oth)]) := by
    intro n oth kd1 bt1 ot1 fl1 hs eo H locs hw ls hl
    refine lv_istore (lv' := [(4, .int (nI oth)), (0, .ref (q 0)), (3, .int (nI n))]) hx hb dX0_silent_75 hl (by decide) rfl (fun ls hl => ?_)
    refine lv_aload_n hx hb dX0_silent_77 rfl (lv_at hl 1 rfl) ?_
    refine mt_calli (n := 0) (As := []) (rest := []) K hw hl.1 (m0_quiet l G q wr T wo kd1 bt1 ot1 fl1 hT) lk0_26 (by decide +kernel) rfl rfl ⟨Nat.le_of_ble_eq_true rfl, Nat.le_of_ble_eq_true rfl⟩ ⟨Nat.le_of_ble_eq_true rfl, Nat.le_of_ble_eq_true rfl⟩ rfl rfl (Nat.le_of_ble_eq_true rfl) dX0_silent_78 (fun v78 u78 H locs p78 hw => ?_)
    obtain rfl := p78
    refine lv_istore (lv' := [(5, .int (nI (mt_quiet T wo))), (4, .int (nI oth)), (0, .ref (q 0)), (3, .int (nI n))]) hx hb dX0_silent_81 hl (by decide) rfl (fun ls hl => ?_)
    refine lv_iconst (v := 0) hx hb dX0_silent_83 (by decide) ?_
    refine lv_istore (lv' := [(6, .int 0), (5, .int (nI (mt_quiet T wo))), (4, .int (nI oth)), (0, .ref (q 0)), (3, .int (nI n))]) hx hb dX0_silent_84 hl (by decide) rfl (fun ls hl => ?_)
    exact J86 ((if 4 ≤ k then 3 else 4) + 1) 0 n oth u78.1 u78.2.1 u78.2.2.1 u78.2.2.2 (Nat.zero_le _) (by omega) (by rw [Nat.pow_zero, Nat.mul_one, hs]) eo _ _ hw ls (lv_sub hl [3, 4, 2, 1, 0] rfl)
  have J5 : ∀ (k5 : Nat) (j n : Nat) (kd1 bt1 ot1 : Int32) (fl1 : Bool), (j ≤ 4) → (4 + 1 ≤ j + k5) → (n = mt_cnt (fun f => (decide (4 ≤ k) || decide (f < 2)) && !(mt_runs T wo k be (nI f &&& 1) (nI f >>> ((1 : Int32) &&& 31))).2.2) j) → ∀ (H : Heap) (locs : List Loc), mt_Hw G A s (mt_w0 G q T wo kd1 bt1 ot1 fl1 wr) H locs → ∀ (ls : Array Slot), lv_has ls 7 [(0, .ref (q 0)), (1, .int k), (2, .int (mt_b be)), (3, .int (nI n)), (4, .int (nI j))] → W p l e (mt_rm 5 117) s m args below meth c H locs 0 0 Q (F0 m 5 ls []) := by
    intro k5
    induction k5 with
    | zero =>
      intro j n kd1 bt1 ot1 fl1 h1 h2
      exact absurd h2 (by omega)
    | succ k5 ih5 =>
      intro j n kd1 bt1 ot1 fl1 hj5 hk5 hs H locs hw ls hl
      have J57 : ∀ (x : Nat) (kd2 bt2 ot2 : Int32) (fl2 : Bool), (x = if (fun f => (decide (4 ≤ k) || decide (f < 2)) && !(mt_runs T wo k be (nI f &&& 1) (nI f >>> ((1 : Int32) &&& 31))).2.2) j = true then 1 else 0) → (j < 4) → ∀ (H : Heap) (locs : List Loc), mt_Hw G A s (mt_w0 G q T wo kd2 bt2 ot2 fl2 wr) H locs → ∀ (ls : Array Slot), lv_has ls 7 [(0, .ref (q 0)), (1, .int k), (2, .int (mt_b be)), (4, .int (nI j))] → W p l e (mt_rm 5 117) s m args below meth c H locs 0 0 Q (F0 m 57 ls [.int (nI x), .int (nI n)]) := by
        intro x kd2 bt2 ot2 fl2 ex hlt H locs hw ls hl
        refine lv_iadd hx hb dX0_silent_57 ?_
        refine mt_top (y := nI (n + x)) (nI_add n x) ?_
        refine lv_istore_n (lv' := [(3, .int (nI (n + x))), (0, .ref (q 0)), (1, .int k), (2, .int (mt_b be)), (4, .int (nI j))]) hx hb dX0_silent_58 rfl hl (by decide) rfl (fun ls hl => ?_)
        refine lv_iinc (v := nI (j + 1)) (lv' := [(4, .int (nI (j + 1))), (3, .int (nI (n + x))), (0, .ref (q 0)), (1, .int k), (2, .int (mt_b be))]) hx hb dX0_silent_59 hl (k := 4) rfl (mt_inc j) (by decide) rfl (fun ls hl => ?_)
        refine lv_goto (tgt := 5) hx hb dX0_silent_62 (by decide) ?_
        exact ih5 (j + 1) (n + x) kd2 bt2 ot2 fl2 (by omega) (by omega) (by rw [hs, ex]; rfl) _ _ hw ls (lv_sub hl [2, 3, 4, 1, 0] rfl)
      have J27 : ∀ (x : Bool), (x = (decide (4 ≤ k) || decide (j < 2))) → (j < 4) → ∀ (H : Heap) (locs : List Loc), mt_Hw G A s (mt_w0 G q T wo kd1 bt1 ot1 fl1 wr) H locs → ∀ (ls : Array Slot), lv_has ls 7 [(0, .ref (q 0)), (1, .int k), (2, .int (mt_b be)), (3, .int (nI n)), (4, .int (nI j))] → W p l e (mt_rm 5 117) s m args below meth c H locs 0 0 Q (F0 m 27 ls [.int (mt_b x)]) := by
        intro x ec hlt H locs hw ls hl
        refine lv_istore (lv' := [(5, .int (mt_b x)), (0, .ref (q 0)), (1, .int k), (2, .int (mt_b be)), (3, .int (nI n)), (4, .int (nI j))]) hx hb dX0_silent_27 hl (by decide) rfl (fun ls hl => ?_)
        refine lv_iload_n hx hb dX0_silent_29 rfl (lv_at hl 4 rfl) ?_
        refine lv_iload hx hb dX0_silent_30 (lv_at hl 0 rfl) ?_
        refine lv_if_eq (tgt := 56) hx hb dX0_silent_32 (by decide) (fun c32 => ?_) (fun c32 => ?_)
        · replace c32 := mt_b0 c32
          refine lv_iconst (v := 0) hx hb dX0_silent_56 (by decide) ?_
          exact J57 0 kd1 bt1 ot1 fl1 (by grind) hlt _ _ hw ls (lv_sub hl [1, 2, 3, 5] rfl)
        · replace c32 := mt_b1 c32
          refine lv_aload_n hx hb dX0_silent_35 rfl (lv_at hl 1 rfl) ?_
          refine lv_iload_n hx hb dX0_silent_36 rfl (lv_at hl 2 rfl) ?_
          refine lv_iload_n hx hb dX0_silent_37 rfl (lv_at hl 3 rfl) ?_
          refine lv_iload hx hb dX0_silent_38 (lv_at hl 5 rfl) ?_
          refine lv_iconst (v := 1) hx hb dX0_silent_40 (by decide) ?_
          refine lv_iand hx hb dX0_silent_41 ?_
          refine lv_iload hx hb dX0_silent_42 (lv_at hl 5 rfl) ?_
          refine lv_iconst (v := 1) hx hb dX0_silent_44 (by decide) ?_
          refine lv_ishr hx hb dX0_silent_45 ?_
          refine mt_calli (n := 4) (As := [.int k, .int (mt_b be), .int ((nI j) &&& 1), .int ((nI j) >>> (1 &&& 31))]) (rest := [.int (nI n)]) K hw hl.1 (m0_runs l G q wr T wo kd1 bt1 ot1 fl1 k be ((nI j) &&& 1) ((nI j) >>> (1 &&& 31)) hT) lk0_57 (by decide +kernel) rfl rfl ⟨Nat.le_of_ble_eq_true rfl, Nat.le_of_ble_eq_true rfl⟩ ⟨Nat.le_of_ble_eq_true rfl, Nat.le_of_ble_eq_true rfl⟩ rfl rfl (Nat.le_of_ble_eq_true rfl) dX0_silent_46 (fun v46 u46 H locs p46 hw => ?_)
          obtain rfl := p46
          refine lv_if_ne (tgt := 56) hx hb dX0_silent_49 (by decide) (fun c49 => ?_) (fun c49 => ?_)
          · replace c49 := mt_b1 c49
            refine lv_iconst (v := 0) hx hb dX0_silent_56 (by decide) ?_
            exact J57 0 k u46.1 u46.2.1 u46.2.2 (by grind) hlt _ _ hw ls (lv_sub hl [1, 2, 3, 5] rfl)
          · replace c49 := mt_b0 c49
            refine lv_iconst (v := 1) hx hb dX0_silent_52 (by decide) ?_
            refine lv_goto (tgt := 57) hx hb dX0_silent_53 (by decide) ?_
            exact J57 1 k u46.1 u46.2.1 u46.2.2 (by grind) hlt _ _ hw ls (lv_sub hl [1, 2, 3, 5] rfl)
      refine lv_iload hx hb dX0_silent_5 (lv_at hl 4 rfl) ?_
      refine lv_iconst (v := nI 4) hx hb dX0_silent_7 (by decide) ?_
      refine lv_icmp_ge (tgt := 65) hx hb dX0_silent_8 (by decide) (fun c8 => ?_) (fun c8 => ?_)
      · have hjj : j = 4 := by have := (nI_leI (a := 4) (b := j) (by omega) (by omega)).mp c8; omega
        have hs : n = mt_si4 T wo k be := by rw [hs, hjj]; rfl
        refine lv_iload_n hx hb dX0_silent_65 rfl (lv_at hl 1 rfl) ?_
        refine lv_iconst (v := 4) hx hb dX0_silent_66 (by decide) ?_
        refine lv_icmp_lt (tgt := 74) hx hb dX0_silent_67 (by decide) (fun c67 => ?_) (fun c67 => ?_)
        · refine lv_iconst (v := nI 4) hx hb dX0_silent_74 (by decide) ?_
          exact J75 n 4 kd1 bt1 ot1 fl1 hs (by grind) _ _ hw ls (lv_sub hl [0, 3] rfl)
        · refine lv_iconst (v := nI 3) hx hb dX0_silent_70 (by decide) ?_
          refine lv_goto (tgt := 75) hx hb dX0_silent_71 (by decide) ?_
          exact J75 n 3 kd1 bt1 ot1 fl1 hs (by grind) _ _ hw ls (lv_sub hl [0, 3] rfl)
      · have hlt : j < 4 := by have := mt_nle (a := j) (b := 4) (by omega) (by omega) c8; omega
        refine lv_iload_n hx hb dX0_silent_11 rfl (lv_at hl 1 rfl) ?_
        refine lv_iconst (v := 4) hx hb dX0_silent_12 (by decide) ?_
        refine lv_icmp_ge (tgt := 22) hx hb dX0_silent_13 (by decide) (fun c13 => ?_) (fun c13 => ?_)
        · refine lv_iconst (v := 1) hx hb dX0_silent_22 (by decide) ?_
          refine lv_goto (tgt := 27) hx hb dX0_silent_23 (by decide) ?_
          exact J27 true (by grind) hlt _ _ hw ls (lv_sub hl [0, 1, 2, 3, 4] rfl)
        · refine lv_iload hx hb dX0_silent_16 (lv_at hl 4 rfl) ?_
          refine lv_iconst (v := nI 2) hx hb dX0_silent_18 (by decide) ?_
          refine lv_icmp_ge (tgt := 26) hx hb dX0_silent_19 (by decide) (fun c19 => ?_) (fun c19 => ?_)
          · replace c19 := (nI_leI (a := 2) (b := j) (by omega) (by omega)).mp c19
            refine lv_iconst (v := 0) hx hb dX0_silent_26 (by decide) ?_
            exact J27 false (by grind) hlt _ _ hw ls (lv_sub hl [0, 1, 2, 3, 4] rfl)
          · replace c19 := mt_nle (a := j) (b := 2) (by omega) (by omega) c19
            refine lv_iconst (v := 1) hx hb dX0_silent_22 (by decide) ?_
            refine lv_goto (tgt := 27) hx hb dX0_silent_23 (by decide) ?_
            exact J27 true (by grind) hlt _ _ hw ls (lv_sub hl [0, 1, 2, 3, 4] rfl)
  refine lv_iconst (v := 0) hx hb dX0_silent_0 (by decide) ?_
  refine lv_istore_n (lv' := [(3, .int 0), (0, .ref (q 0)), (1, .int k), (2, .int (mt_b be))]) hx hb dX0_silent_1 rfl hl (by decide) rfl (fun ls hl => ?_)
  refine lv_iconst (v := 0) hx hb dX0_silent_2 (by decide) ?_
  refine lv_istore (lv' := [(4, .int 0), (3, .int 0), (0, .ref (q 0)), (1, .int k), (2, .int (mt_b be))]) hx hb dX0_silent_3 hl (by decide) rfl (fun ls hl => ?_)
  exact J5 (4 + 1) 0 0 kd bt ot fl (by omega) (by omega) rfl _ _ hw ls (lv_sub hl [2, 3, 4, 1, 0] rfl)
set_option maxHeartbeats 4000000 in
set_option maxRecDepth 100000 in
/-- isFound(kind, below) -/
theorem m0_isFound (l : Launch) (G : mt_G) (q : Nat → Nat) (wr : va_W) (T : mt_T) (wo kd bt ot : Int32) (fl : Bool) (k : Int32) (be : Bool) (hT : mt_ok T) : mt_Mi l yX0_isFound cX0_isFound 3 .boolean 6 143 G [.ref (q 0), .int k, .int (mt_b be)] (mt_w0 G q T wo kd bt ot fl wr) (fun (v : Int32) (u : Int32 × Int32 × Int32 × Bool) => v = mt_b (mt_isF T wo k be)) (fun u => mt_w0 G q T wo u.1 u.2.1 u.2.2.1 u.2.2.2 wr) := by
  refine mt_Mi_of RX0 rfl (by decide) (Nat.le_of_ble_eq_true rfl) ?_
  intro p e s m args below meth c A ls Q K hw hl hret
  have hx := K.1
  have hb := K.2.1
  have hl : lv_has ls 3 [(0, .ref (q 0)), (1, .int k), (2, .int (mt_b be))] := hl
  refine lv_aload_n hx hb dX0_isFound_0 rfl (lv_at hl 0 rfl) ?_
  refine lv_iload_n hx hb dX0_isFound_1 rfl (lv_at hl 1 rfl) ?_
  refine lv_iload_n hx hb dX0_isFound_2 rfl (lv_at hl 2 rfl) ?_
  refine mt_calli (n := 2) (As := [.int k, .int (mt_b be)]) (rest := []) K hw hl.1 (m0_silent l G q wr T wo kd bt ot fl k be hT) lk0_61 (by decide +kernel) rfl rfl ⟨Nat.le_of_ble_eq_true rfl, Nat.le_of_ble_eq_true rfl⟩ ⟨Nat.le_of_ble_eq_true rfl, Nat.le_of_ble_eq_true rfl⟩ rfl rfl (Nat.le_of_ble_eq_true rfl) dX0_isFound_3 (fun v3 u3 H locs p3 hw => ?_)
  obtain rfl := p3
  refine lv_if_ne (tgt := 13) hx hb dX0_isFound_6 (by decide) (fun c6 => ?_) (fun c6 => ?_)
  · replace c6 : ¬ mt_sil T wo k be = 0 := fun h => c6 (by rw [h]; rfl)
    refine lv_iconst (v := 0) hx hb dX0_isFound_13 (by decide) ?_
    exact hret (u3.1, u3.2.1, u3.2.2.1, u3.2.2.2) dX0_isFound_14 rfl (by unfold mt_isF; simp only [c6]; rfl) hw
  · replace c6 : mt_sil T wo k be = 0 := (nI_eq (b := 0) (by have := mt_sil_le T wo k be; omega) (by decide)).mp c6
    refine lv_iconst (v := 1) hx hb dX0_isFound_9 (by decide) ?_
    refine lv_goto (tgt := 14) hx hb dX0_isFound_10 (by decide) ?_
    exact hret (u3.1, u3.2.1, u3.2.2.1, u3.2.2.2) dX0_isFound_14 rfl (by unfold mt_isF; simp only [c6]; rfl) hw
end
section
theorem lk0_65 : GoodIn lw_all (va_wsS RX0 65 yX0_isFault (ws_ yX0_isFault cX0_isFault 4 (some .boolean))) := lw_S q114 q115 q19 q116
theorem lk0_73 : GoodIn lw_all (va_wsS RX0 73 yX0_half (ws_ yX0_half cX0_half 1 (some .int))) := lw_S q129 q130 q19 q131
theorem lk0_77 : GoodIn lw_all (wsV RX0 77 RX0 yX0_found (ws_ yX0_found cX0_found 3 (some .int))) := lw_V q136 q126 q127 q19 q128
theorem lk0_80 : GoodIn lw_all (wsV RX0 80 RX0 yX0_foundSet (ws_ yX0_foundSet cX0_foundSet 3 (some .int))) := lw_V q145 q147 qs8 q19 q148
set_option maxHeartbeats 4000000 in
set_option maxRecDepth 100000 in
/-- isFault(kind, v, a) -/
theorem m0_isFault (l : Launch) (G : mt_G) (w : va_W) (k : Int32) (v0 : Int32) (a : Int32)  : mt_Mi l yX0_isFault cX0_isFault 4 .boolean 0 0 G [.int k, .int v0, .int a] (w) (fun (v : Int32) (u : Unit) => v = mt_b (mt_flt k v0 a)) (fun u => w) := by
  refine mt_Mi_of RX0 rfl (by decide) (Nat.le_of_ble_eq_true rfl) ?_
  intro p e s m args below meth c A ls Q K hw hl hret
  have hx := K.1
  have hb := K.2.1
  have hl : lv_has ls 4 [(0, .int k), (1, .int v0), (2, .int a)] := hl
  have J24 : ∀ (x : Bool), (x = decide (0 ≤ k ∧ k < 14 ∧ 0 ≤ v0 ∧ v0 < 5)) → ∀ (H : Heap) (locs : List Loc), mt_Hw G A s (w) H locs → ∀ (ls : Array Slot), lv_has ls 4 [(0, .int k), (1, .int v0), (2, .int a)] → W p l e (mt_rm 0 0) s m args below meth c H locs 0 0 Q (F0 m 24 ls [.int (mt_b x)]) := by
    intro x ex H locs hw ls hl
    refine lv_istore_n (lv' := [(3, .int (mt_b x)), (0, .int k), (1, .int v0), (2, .int a)]) hx hb dX0_isFault_24 rfl hl (by decide) rfl (fun ls hl => ?_)
    refine lv_iload_n hx hb dX0_isFault_25 rfl (lv_at hl 0 rfl) ?_
    refine lv_if_eq (tgt := 52) hx hb dX0_isFault_26 (by decide) (fun c26 => ?_) (fun c26 => ?_)
    · replace c26 := mt_b0 c26
      refine lv_iconst (v := 0) hx hb dX0_isFault_52 (by decide) ?_
      exact hret () dX0_isFault_53 rfl (by first | exact mt_eq0 (by grind [mt_flt]) | exact mt_eq1 (by grind [mt_flt])) hw
    · replace c26 := mt_b1 c26
      refine lv_iload_n hx hb dX0_isFault_29 rfl (lv_at hl 1 rfl) ?_
      refine lv_iconst (v := 4) hx hb dX0_isFault_30 (by decide) ?_
      refine lv_icmp_lt (tgt := 48) hx hb dX0_isFault_31 (by decide) (fun c31 => ?_) (fun c31 => ?_)
      · refine lv_iconst (v := 1) hx hb dX0_isFault_48 (by decide) ?_
        refine lv_goto (tgt := 53) hx hb dX0_isFault_49 (by decide) ?_
        exact hret () dX0_isFault_53 rfl (by first | exact mt_eq0 (by grind [mt_flt]) | exact mt_eq1 (by grind [mt_flt])) hw
      · refine lv_iload_n hx hb dX0_isFault_34 rfl (lv_at hl 3 rfl) ?_
        refine lv_if_lt (tgt := 52) hx hb dX0_isFault_35 (by decide) (fun c35 => ?_) (fun c35 => ?_)
        · refine lv_iconst (v := 0) hx hb dX0_isFault_52 (by decide) ?_
          exact hret () dX0_isFault_53 rfl (by first | exact mt_eq0 (by grind [mt_flt]) | exact mt_eq1 (by grind [mt_flt])) hw
        · refine lv_iload_n hx hb dX0_isFault_38 rfl (lv_at hl 3 rfl) ?_
          refine lv_iconst (v := 5) hx hb dX0_isFault_39 (by decide) ?_
          refine lv_icmp_ge (tgt := 52) hx hb dX0_isFault_40 (by decide) (fun c40 => ?_) (fun c40 => ?_)
          · refine lv_iconst (v := 0) hx hb dX0_isFault_52 (by decide) ?_
            exact hret () dX0_isFault_53 rfl (by first | exact mt_eq0 (by grind [mt_flt]) | exact mt_eq1 (by grind [mt_flt])) hw
          · refine lv_iload_n hx hb dX0_isFault_43 rfl (lv_at hl 3 rfl) ?_
            refine lv_iload_n hx hb dX0_isFault_44 rfl (lv_at hl 2 rfl) ?_
            refine lv_icmp_eq (tgt := 52) hx hb dX0_isFault_45 (by decide) (fun c45 => ?_) (fun c45 => ?_)
            · refine lv_iconst (v := 0) hx hb dX0_isFault_52 (by decide) ?_
              exact hret () dX0_isFault_53 rfl (by first | exact mt_eq0 (by grind [mt_flt]) | exact mt_eq1 (by grind [mt_flt])) hw
            · refine lv_iconst (v := 1) hx hb dX0_isFault_48 (by decide) ?_
              refine lv_goto (tgt := 53) hx hb dX0_isFault_49 (by decide) ?_
              exact hret () dX0_isFault_53 rfl (by first | exact mt_eq0 (by grind [mt_flt]) | exact mt_eq1 (by grind [mt_flt])) hw
  refine lv_iload_n hx hb dX0_isFault_0 rfl (lv_at hl 0 rfl) ?_
  refine lv_if_lt (tgt := 23) hx hb dX0_isFault_1 (by decide) (fun c1 => ?_) (fun c1 => ?_)
  · refine lv_iconst (v := 0) hx hb dX0_isFault_23 (by decide) ?_
    exact J24 false (by grind) _ _ hw ls (lv_sub hl [0, 1, 2] rfl)
  · refine lv_iload_n hx hb dX0_isFault_4 rfl (lv_at hl 0 rfl) ?_
    refine lv_bipush (v := 14) hx hb dX0_isFault_5 (by decide) ?_
    refine lv_icmp_ge (tgt := 23) hx hb dX0_isFault_7 (by decide) (fun c7 => ?_) (fun c7 => ?_)
    · refine lv_iconst (v := 0) hx hb dX0_isFault_23 (by decide) ?_
      exact J24 false (by grind) _ _ hw ls (lv_sub hl [0, 1, 2] rfl)
    · refine lv_iload_n hx hb dX0_isFault_10 rfl (lv_at hl 1 rfl) ?_
      refine lv_if_lt (tgt := 23) hx hb dX0_isFault_11 (by decide) (fun c11 => ?_) (fun c11 => ?_)
      · refine lv_iconst (v := 0) hx hb dX0_isFault_23 (by decide) ?_
        exact J24 false (by grind) _ _ hw ls (lv_sub hl [0, 1, 2] rfl)
      · refine lv_iload_n hx hb dX0_isFault_14 rfl (lv_at hl 1 rfl) ?_
        refine lv_iconst (v := 5) hx hb dX0_isFault_15 (by decide) ?_
        refine lv_icmp_ge (tgt := 23) hx hb dX0_isFault_16 (by decide) (fun c16 => ?_) (fun c16 => ?_)
        · refine lv_iconst (v := 0) hx hb dX0_isFault_23 (by decide) ?_
          exact J24 false (by grind) _ _ hw ls (lv_sub hl [0, 1, 2] rfl)
        · refine lv_iconst (v := 1) hx hb dX0_isFault_19 (by decide) ?_
          refine lv_goto (tgt := 24) hx hb dX0_isFault_20 (by decide) ?_
          exact J24 true (by grind) _ _ hw ls (lv_sub hl [0, 1, 2] rfl)
set_option maxHeartbeats 4000000 in
set_option maxRecDepth 100000 in
/-- half(kind) -/
theorem m0_half (l : Launch) (G : mt_G) (w : va_W) (k : Int32)  : mt_Mi l yX0_half cX0_half 1 .int 0 0 G [.int k] (w) (fun (v : Int32) (u : Unit) => v = mt_half k) (fun u => w) := by
  refine mt_Mi_of RX0 rfl (by decide) (Nat.le_of_ble_eq_true rfl) ?_
  intro p e s m args below meth c A ls Q K hw hl hret
  have hx := K.1
  have hb := K.2.1
  have hl : lv_has ls 1 [(0, .int k)] := hl
  refine lv_iload_n hx hb dX0_half_0 rfl (lv_at hl 0 rfl) ?_
  refine lv_iconst (v := 4) hx hb dX0_half_1 (by decide) ?_
  refine lv_icmp_ge (tgt := 9) hx hb dX0_half_2 (by decide) (fun c2 => ?_) (fun c2 => ?_)
  · refine lv_bipush (v := 10) hx hb dX0_half_9 (by decide) ?_
    exact hret () dX0_half_11 rfl (by grind [mt_half]) hw
  · refine lv_iconst (v := 5) hx hb dX0_half_5 (by decide) ?_
    refine lv_goto (tgt := 11) hx hb dX0_half_6 (by decide) ?_
    exact hret () dX0_half_11 rfl (by grind [mt_half]) hw
set_option maxHeartbeats 4000000 in
set_option maxRecDepth 100000 in
/-- steps() -/
theorem m0_steps (l : Launch) (G : mt_G) (q : Nat → Nat) (wr : va_W) (T : mt_T) (wo kd bt ot : Int32) (fl : Bool)  (hT : mt_ok T) : mt_Mi l yX0_steps cX0_steps 3 .int 0 0 G [.ref (q 0)] (mt_w0 G q T wo kd bt ot fl wr) (fun (v : Int32) (u : Unit) => v = nI (mt_stp T.2.2.1 T.1)) (fun u => mt_w0 G q T wo kd bt ot fl wr) := by
  refine mt_Mi_of RX0 rfl (by decide) (Nat.le_of_ble_eq_true rfl) ?_
  intro p e s m args below meth c A ls Q K hw hl hret
  have hx := K.1
  have hb := K.2.1
  have hl : lv_has ls 3 [(0, .ref (q 0))] := hl
  have J4 : ∀ (k4 : Nat) (j n : Nat), (j ≤ T.1) → (T.1 + 1 ≤ j + k4) → (n = mt_stp T.2.2.1 j) → ∀ (H : Heap) (locs : List Loc), mt_Hw G A s (mt_w0 G q T wo kd bt ot fl wr) H locs → ∀ (ls : Array Slot), lv_has ls 3 [(0, .ref (q 0)), (1, .int (nI n)), (2, .int (nI j))] → W p l e (mt_rm 0 0) s m args below meth c H locs 0 0 Q (F0 m 4 ls []) := by
    intro k4
    induction k4 with
    | zero =>
      intro j n h1 h2
      exact absurd h2 (by omega)
    | succ k4 ih4 =>
      intro j n hj4 hk4 hs H locs hw ls hl
      have hn := hT.1
      have hz := hT.2.2.1 j
      refine lv_iload_n hx hb dX0_steps_4 rfl (lv_at hl 2 rfl) ?_
      refine lv_aload_n hx hb dX0_steps_5 rfl (lv_at hl 0 rfl) ?_
      refine g0_n K hw dX0_steps_6 ?_
      refine lv_icmp_ge (tgt := 29) hx hb dX0_steps_9 (by decide) (fun c9 => ?_) (fun c9 => ?_)
      · have hjj : j = T.1 := by have := (nI_leI (a := T.1) (b := j) (by omega) (by omega)).mp c9; omega
        refine lv_iload_n hx hb dX0_steps_29 rfl (lv_at hl 1 rfl) ?_
        exact hret () dX0_steps_30 rfl (by rw [hs, hjj]) hw
      · have hlt : j < T.1 := by have := mt_nle (a := j) (b := T.1) (by omega) (by omega) c9; omega
        refine lv_iload_n hx hb dX0_steps_12 rfl (lv_at hl 1 rfl) ?_
        refine lv_iconst (v := 5) hx hb dX0_steps_13 (by decide) ?_
        refine lv_aload_n hx hb dX0_steps_14 rfl (lv_at hl 0 rfl) ?_
        refine g0_z K hw dX0_steps_15 ?_
        refine lv_iload_n hx hb dX0_steps_18 rfl (lv_at hl 2 rfl) ?_
        refine r0_z (k := j) K hw (by omega) dX0_steps_19 ?_
        refine lv_imul hx hb dX0_steps_20 ?_
        refine mt_top (y := nI (5 * T.2.2.1 j)) (pk_mul 5 (T.2.2.1 j)) ?_
        refine lv_iadd hx hb dX0_steps_21 ?_
        refine mt_top (y := nI (n + 5 * T.2.2.1 j)) (nI_add n (5 * T.2.2.1 j)) ?_
        refine lv_istore_n (lv' := [(1, .int (nI (n + 5 * T.2.2.1 j))), (0, .ref (q 0)), (2, .int (nI j))]) hx hb dX0_steps_22 rfl hl (by decide) rfl (fun ls hl => ?_)
        refine lv_iinc (v := nI (j + 1)) (lv' := [(2, .int (nI (j + 1))), (1, .int (nI (n + 5 * T.2.2.1 j))), (0, .ref (q 0))]) hx hb dX0_steps_23 hl (k := 2) rfl (mt_inc j) (by decide) rfl (fun ls hl => ?_)
        refine lv_goto (tgt := 4) hx hb dX0_steps_26 (by decide) ?_
        exact ih4 (j + 1) (n + 5 * T.2.2.1 j) (by omega) (by omega) (by rw [hs]; rfl) _ _ hw ls (lv_sub hl [2, 1, 0] rfl)
  refine lv_iconst (v := 0) hx hb dX0_steps_0 (by decide) ?_
  refine lv_istore_n (lv' := [(1, .int 0), (0, .ref (q 0))]) hx hb dX0_steps_1 rfl hl (by decide) rfl (fun ls hl => ?_)
  refine lv_iconst (v := 0) hx hb dX0_steps_2 (by decide) ?_
  refine lv_istore_n (lv' := [(2, .int 0), (1, .int 0), (0, .ref (q 0))]) hx hb dX0_steps_3 rfl hl (by decide) rfl (fun ls hl => ?_)
  exact J4 (T.1 + 1) 0 0 (by omega) (by omega) rfl _ _ hw ls (lv_sub hl [2, 1, 0] rfl)
set_option maxHeartbeats 4000000 in
set_option maxRecDepth 100000 in
/-- finds(kind, v, a) -/
theorem m0_finds (l : Launch) (G : mt_G) (q : Nat → Nat) (wr : va_W) (T : mt_T) (wo kd bt ot : Int32) (fl : Bool) (k : Int32) (v0 : Int32) (a : Int32) (hT : mt_ok T) : mt_Mi l yX0_finds cX0_finds 4 .boolean 7 165 G [.ref (q 0), .int k, .int v0, .int a] (mt_w0 G q T wo kd bt ot fl wr) (fun (v : Int32) (u : Int32 × Int32 × Int32 × Bool) => v = mt_b (mt_flt k v0 a && mt_isF T wo k (decide (v0 < a)))) (fun u => mt_w0 G q T wo u.1 u.2.1 u.2.2.1 u.2.2.2 wr) := by
  refine mt_Mi_of RX0 rfl (by decide) (Nat.le_of_ble_eq_true rfl) ?_
  intro p e s m args below meth c A ls Q K hw hl hret
  have hx := K.1
  have hb := K.2.1
  have hl : lv_has ls 4 [(0, .ref (q 0)), (1, .int k), (2, .int v0), (3, .int a)] := hl
  have J21 : ∀ (x : Bool), (x = decide (v0 < a)) → (mt_flt k v0 a = true) → ∀ (H : Heap) (locs : List Loc), mt_Hw G A s (mt_w0 G q T wo kd bt ot fl wr) H locs → ∀ (ls : Array Slot), lv_has ls 4 [(0, .ref (q 0))] → W p l e (mt_rm 7 165) s m args below meth c H locs 0 0 Q (F0 m 21 ls [.int (mt_b x), .int k, .ref (q 0)]) := by
    intro x ex hf H locs hw ls hl
    refine mt_calli (n := 2) (As := [.int k, .int (mt_b x)]) (rest := []) K hw hl.1 (m0_isFound l G q wr T wo kd bt ot fl k x hT) lk0_69 (by decide +kernel) rfl rfl ⟨Nat.le_of_ble_eq_true rfl, Nat.le_of_ble_eq_true rfl⟩ ⟨Nat.le_of_ble_eq_true rfl, Nat.le_of_ble_eq_true rfl⟩ rfl rfl (Nat.le_of_ble_eq_true rfl) dX0_finds_21 (fun v21 u21 H locs p21 hw => ?_)
    obtain rfl := p21
    refine lv_if_eq (tgt := 31) hx hb dX0_finds_24 (by decide) (fun c24 => ?_) (fun c24 => ?_)
    · replace c24 := mt_b0 c24
      refine lv_iconst (v := 0) hx hb dX0_finds_31 (by decide) ?_
      exact hret (u21.1, u21.2.1, u21.2.2.1, u21.2.2.2) dX0_finds_32 rfl (by first | exact mt_eq0 (by grind) | exact mt_eq1 (by grind)) hw
    · replace c24 := mt_b1 c24
      refine lv_iconst (v := 1) hx hb dX0_finds_27 (by decide) ?_
      refine lv_goto (tgt := 32) hx hb dX0_finds_28 (by decide) ?_
      exact hret (u21.1, u21.2.1, u21.2.2.1, u21.2.2.2) dX0_finds_32 rfl (by first | exact mt_eq0 (by grind) | exact mt_eq1 (by grind)) hw
  refine lv_iload_n hx hb dX0_finds_0 rfl (lv_at hl 1 rfl) ?_
  refine lv_iload_n hx hb dX0_finds_1 rfl (lv_at hl 2 rfl) ?_
  refine lv_iload_n hx hb dX0_finds_2 rfl (lv_at hl 3 rfl) ?_
  refine mt_calls (n := 3) (As := [.int k, .int v0, .int a]) (rest := []) K hw hl.1 (m0_isFault l G _ k v0 a ) lk0_65 (by decide +kernel) ⟨Nat.le_of_ble_eq_true rfl, Nat.le_of_ble_eq_true rfl⟩ ⟨Nat.le_of_ble_eq_true rfl, Nat.le_of_ble_eq_true rfl⟩ rfl rfl (Nat.le_of_ble_eq_true rfl) dX0_finds_3 (fun v3 u3 H locs p3 hw => ?_)
  obtain rfl := p3
  refine lv_if_eq (tgt := 31) hx hb dX0_finds_6 (by decide) (fun c6 => ?_) (fun c6 => ?_)
  · replace c6 := mt_b0 c6
    refine lv_iconst (v := 0) hx hb dX0_finds_31 (by decide) ?_
    exact hret (kd, bt, ot, fl) dX0_finds_32 rfl (by first | exact mt_eq0 (by grind) | exact mt_eq1 (by grind)) hw
  · replace c6 := mt_b1 c6
    refine lv_aload_n hx hb dX0_finds_9 rfl (lv_at hl 0 rfl) ?_
    refine lv_iload_n hx hb dX0_finds_10 rfl (lv_at hl 1 rfl) ?_
    refine lv_iload_n hx hb dX0_finds_11 rfl (lv_at hl 2 rfl) ?_
    refine lv_iload_n hx hb dX0_finds_12 rfl (lv_at hl 3 rfl) ?_
    refine lv_icmp_ge (tgt := 20) hx hb dX0_finds_13 (by decide) (fun c13 => ?_) (fun c13 => ?_)
    · refine lv_iconst (v := 0) hx hb dX0_finds_20 (by decide) ?_
      exact J21 false (by grind) c6 _ _ hw ls (lv_sub hl [0] rfl)
    · refine lv_iconst (v := 1) hx hb dX0_finds_16 (by decide) ?_
      refine lv_goto (tgt := 21) hx hb dX0_finds_17 (by decide) ?_
      exact J21 true (by grind) c6 _ _ hw ls (lv_sub hl [0] rfl)
set_option maxHeartbeats 4000000 in
set_option maxRecDepth 100000 in
/-- found(kind) -/
theorem m0_found (l : Launch) (G : mt_G) (q : Nat → Nat) (wr : va_W) (T : mt_T) (wo kd bt ot : Int32) (fl : Bool) (k : Int32) (hT : mt_ok T) : mt_Mi l yX0_found cX0_found 3 .int 7 165 G [.ref (q 0), .int k] (mt_w0 G q T wo kd bt ot fl wr) (fun (v : Int32) (u : Int32 × Int32 × Int32 × Bool) => v = mt_fnd T wo k) (fun u => mt_w0 G q T wo u.1 u.2.1 u.2.2.1 u.2.2.2 wr) := by
  refine mt_Mi_of RX0 rfl (by decide) (Nat.le_of_ble_eq_true rfl) ?_
  intro p e s m args below meth c A ls Q K hw hl hret
  have hx := K.1
  have hb := K.2.1
  have hl : lv_has ls 3 [(0, .ref (q 0)), (1, .int k)] := hl
  have J29 : ∀ (x : Int32) (kd1 bt1 ot1 : Int32) (fl1 : Bool), (x = if mt_isF T wo k true = true then mt_half k else 0) → (¬ (k < 0 ∨ 14 ≤ k)) → ∀ (H : Heap) (locs : List Loc), mt_Hw G A s (mt_w0 G q T wo kd1 bt1 ot1 fl1 wr) H locs → ∀ (ls : Array Slot), lv_has ls 3 [(0, .ref (q 0)), (1, .int k)] → W p l e (mt_rm 7 165) s m args below meth c H locs 0 0 Q (F0 m 29 ls [.int x]) := by
    intro x kd1 bt1 ot1 fl1 ex hk H locs hw ls hl
    refine lv_istore_n (lv' := [(2, .int x), (0, .ref (q 0)), (1, .int k)]) hx hb dX0_found_29 rfl hl (by decide) rfl (fun ls hl => ?_)
    refine lv_iload_n hx hb dX0_found_30 rfl (lv_at hl 2 rfl) ?_
    refine lv_iconst (v := 4) hx hb dX0_found_31 (by decide) ?_
    refine lv_icmp_lt (tgt := 51) hx hb dX0_found_32 (by decide) (fun c32 => ?_) (fun c32 => ?_)
    · refine lv_iload_n hx hb dX0_found_51 rfl (lv_at hl 0 rfl) ?_
      exact hret (kd1, bt1, ot1, fl1) dX0_found_52 rfl (by simp only [mt_fnd]; grind) hw
    · refine lv_aload_n hx hb dX0_found_35 rfl (lv_at hl 1 rfl) ?_
      refine lv_iload_n hx hb dX0_found_36 rfl (lv_at hl 2 rfl) ?_
      refine lv_iconst (v := 0) hx hb dX0_found_37 (by decide) ?_
      refine mt_calli (n := 2) (As := [.int k, .int (mt_b false)]) (rest := []) K hw hl.1 (m0_isFound l G q wr T wo kd1 bt1 ot1 fl1 k false hT) lk0_69 (by decide +kernel) rfl rfl ⟨Nat.le_of_ble_eq_true rfl, Nat.le_of_ble_eq_true rfl⟩ ⟨Nat.le_of_ble_eq_true rfl, Nat.le_of_ble_eq_true rfl⟩ rfl rfl (Nat.le_of_ble_eq_true rfl) dX0_found_38 (fun v38 u38 H locs p38 hw => ?_)
      obtain rfl := p38
      refine lv_if_eq (tgt := 51) hx hb dX0_found_41 (by decide) (fun c41 => ?_) (fun c41 => ?_)
      · replace c41 := mt_b0 c41
        refine lv_iload_n hx hb dX0_found_51 rfl (lv_at hl 0 rfl) ?_
        exact hret (u38.1, u38.2.1, u38.2.2.1, u38.2.2.2) dX0_found_52 rfl (by simp only [mt_fnd]; grind) hw
      · replace c41 := mt_b1 c41
        refine lv_iload_n hx hb dX0_found_44 rfl (lv_at hl 0 rfl) ?_
        refine lv_iload_n hx hb dX0_found_45 rfl (lv_at hl 2 rfl) ?_
        refine mt_calls (n := 1) (As := [.int k]) (rest := [.int x]) K hw hl.1 (m0_half l G _ k ) lk0_73 (by decide +kernel) ⟨Nat.le_of_ble_eq_true rfl, Nat.le_of_ble_eq_true rfl⟩ ⟨Nat.le_of_ble_eq_true rfl, Nat.le_of_ble_eq_true rfl⟩ rfl rfl (Nat.le_of_ble_eq_true rfl) dX0_found_46 (fun v46 u46 H locs p46 hw => ?_)
        obtain rfl := p46
        refine lv_iadd hx hb dX0_found_49 ?_
        refine lv_istore_n (lv' := [(2, .int (x + (mt_half k))), (0, .ref (q 0)), (1, .int k)]) hx hb dX0_found_50 rfl hl (by decide) rfl (fun ls hl => ?_)
        refine lv_iload_n hx hb dX0_found_51 rfl (lv_at hl 0 rfl) ?_
        exact hret (u38.1, u38.2.1, u38.2.2.1, u38.2.2.2) dX0_found_52 rfl (by simp only [mt_fnd]; grind) hw
  refine lv_iload_n hx hb dX0_found_0 rfl (lv_at hl 1 rfl) ?_
  refine lv_if_lt (tgt := 10) hx hb dX0_found_1 (by decide) (fun c1 => ?_) (fun c1 => ?_)
  · refine lv_iconst (v := (-1)) hx hb dX0_found_10 (by decide) ?_
    exact hret (kd, bt, ot, fl) dX0_found_11 rfl (by grind [mt_fnd]) hw
  · refine lv_iload_n hx hb dX0_found_4 rfl (lv_at hl 1 rfl) ?_
    refine lv_bipush (v := 14) hx hb dX0_found_5 (by decide) ?_
    refine lv_icmp_lt (tgt := 12) hx hb dX0_found_7 (by decide) (fun c7 => ?_) (fun c7 => ?_)
    · refine lv_aload_n hx hb dX0_found_12 rfl (lv_at hl 0 rfl) ?_
      refine lv_iload_n hx hb dX0_found_13 rfl (lv_at hl 1 rfl) ?_
      refine lv_iconst (v := 1) hx hb dX0_found_14 (by decide) ?_
      refine mt_calli (n := 2) (As := [.int k, .int (mt_b true)]) (rest := []) K hw hl.1 (m0_isFound l G q wr T wo kd bt ot fl k true hT) lk0_69 (by decide +kernel) rfl rfl ⟨Nat.le_of_ble_eq_true rfl, Nat.le_of_ble_eq_true rfl⟩ ⟨Nat.le_of_ble_eq_true rfl, Nat.le_of_ble_eq_true rfl⟩ rfl rfl (Nat.le_of_ble_eq_true rfl) dX0_found_15 (fun v15 u15 H locs p15 hw => ?_)
      obtain rfl := p15
      refine lv_if_eq (tgt := 28) hx hb dX0_found_18 (by decide) (fun c18 => ?_) (fun c18 => ?_)
      · replace c18 := mt_b0 c18
        refine lv_iconst (v := 0) hx hb dX0_found_28 (by decide) ?_
        exact J29 0 u15.1 u15.2.1 u15.2.2.1 u15.2.2.2 (by grind) (by grind) _ _ hw ls (lv_sub hl [0, 1] rfl)
      · replace c18 := mt_b1 c18
        refine lv_iload_n hx hb dX0_found_21 rfl (lv_at hl 1 rfl) ?_
        refine mt_calls (n := 1) (As := [.int k]) (rest := []) K hw hl.1 (m0_half l G _ k ) lk0_73 (by decide +kernel) ⟨Nat.le_of_ble_eq_true rfl, Nat.le_of_ble_eq_true rfl⟩ ⟨Nat.le_of_ble_eq_true rfl, Nat.le_of_ble_eq_true rfl⟩ rfl rfl (Nat.le_of_ble_eq_true rfl) dX0_found_22 (fun v22 u22 H locs p22 hw => ?_)
        obtain rfl := p22
        refine lv_goto (tgt := 29) hx hb dX0_found_25 (by decide) ?_
        exact J29 (mt_half k) u15.1 u15.2.1 u15.2.2.1 u15.2.2.2 (by grind) (by grind) _ _ hw ls (lv_sub hl [0, 1] rfl)
    · refine lv_iconst (v := (-1)) hx hb dX0_found_10 (by decide) ?_
      exact hret (kd, bt, ot, fl) dX0_found_11 rfl (by grind [mt_fnd]) hw
set_option maxHeartbeats 4000000 in
set_option maxRecDepth 100000 in
/-- covered() -/
theorem m0_covered (l : Launch) (G : mt_G) (q : Nat → Nat) (wr : va_W) (T : mt_T) (wo kd bt ot : Int32) (fl : Bool)  (hT : mt_ok T) : mt_Mi l yX0_covered cX0_covered 4 .int 8 187 G [.ref (q 0)] (mt_w0 G q T wo kd bt ot fl wr) (fun (v : Int32) (u : Int32 × Int32 × Int32 × Bool) => v = mt_cov T wo) (fun u => mt_w0 G q T wo u.1 u.2.1 u.2.2.1 u.2.2.2 wr) := by
  refine mt_Mi_of RX0 rfl (by decide) (Nat.le_of_ble_eq_true rfl) ?_
  intro p e s m args below meth c A ls Q K hw hl hret
  have hx := K.1
  have hb := K.2.1
  have hl : lv_has ls 4 [(0, .ref (q 0))] := hl
  have J4 : ∀ (k4 : Nat) (j : Nat) (n : Int32) (kd1 bt1 ot1 : Int32) (fl1 : Bool), (j ≤ 14) → (14 + 1 ≤ j + k4) → (n = mt_set (fun j => decide (mt_fnd T wo (nI j) = (if nI j < 4 then 5 else 20))) j) → ∀ (H : Heap) (locs : List Loc), mt_Hw G A s (mt_w0 G q T wo kd1 bt1 ot1 fl1 wr) H locs → ∀ (ls : Array Slot), lv_has ls 4 [(0, .ref (q 0)), (1, .int n), (2, .int (nI j))] → W p l e (mt_rm 8 187) s m args below meth c H locs 0 0 Q (F0 m 4 ls []) := by
    intro k4
    induction k4 with
    | zero =>
      intro j n kd1 bt1 ot1 fl1 h1 h2
      exact absurd h2 (by omega)
    | succ k4 ih4 =>
      intro j n kd1 bt1 ot1 fl1 hj4 hk4 hs H locs hw ls hl
      have J39 : ∀ (x : Int32) (kd2 bt2 ot2 : Int32) (fl2 : Bool), (x = if (fun j => decide (mt_fnd T wo (nI j) = (if nI j < 4 then 5 else 20))) j = true then (1 : Int32) <<< (nI j &&& 31) else 0) → (j < 14) → ∀ (H : Heap) (locs : List Loc), mt_Hw G A s (mt_w0 G q T wo kd2 bt2 ot2 fl2 wr) H locs → ∀ (ls : Array Slot), lv_has ls 4 [(0, .ref (q 0)), (2, .int (nI j))] → W p l e (mt_rm 8 187) s m args below meth c H locs 0 0 Q (F0 m 39 ls [.int x, .int n]) := by
        intro x kd2 bt2 ot2 fl2 ex hlt H locs hw ls hl
        refine lv_ior hx hb dX0_covered_39 ?_
        refine lv_istore_n (lv' := [(1, .int (n ||| x)), (0, .ref (q 0)), (2, .int (nI j))]) hx hb dX0_covered_40 rfl hl (by decide) rfl (fun ls hl => ?_)
        refine lv_iinc (v := nI (j + 1)) (lv' := [(2, .int (nI (j + 1))), (1, .int (n ||| x)), (0, .ref (q 0))]) hx hb dX0_covered_41 hl (k := 2) rfl (mt_inc j) (by decide) rfl (fun ls hl => ?_)
        refine lv_goto (tgt := 4) hx hb dX0_covered_44 (by decide) ?_
        exact ih4 (j + 1) (n ||| x) kd2 bt2 ot2 fl2 (by omega) (by omega) (by rw [hs, ex]; rfl) _ _ hw ls (lv_sub hl [2, 1, 0] rfl)
      have J21 : ∀ (x : Int32), (x = if nI j < 4 then 5 else 20) → (j < 14) → ∀ (H : Heap) (locs : List Loc), mt_Hw G A s (mt_w0 G q T wo kd1 bt1 ot1 fl1 wr) H locs → ∀ (ls : Array Slot), lv_has ls 4 [(0, .ref (q 0)), (1, .int n), (2, .int (nI j))] → W p l e (mt_rm 8 187) s m args below meth c H locs 0 0 Q (F0 m 21 ls [.int x]) := by
        intro x ex hlt H locs hw ls hl
        refine lv_istore_n (lv' := [(3, .int x), (0, .ref (q 0)), (1, .int n), (2, .int (nI j))]) hx hb dX0_covered_21 rfl hl (by decide) rfl (fun ls hl => ?_)
        refine lv_iload_n hx hb dX0_covered_22 rfl (lv_at hl 2 rfl) ?_
        refine lv_aload_n hx hb dX0_covered_23 rfl (lv_at hl 1 rfl) ?_
        refine lv_iload_n hx hb dX0_covered_24 rfl (lv_at hl 3 rfl) ?_
        refine mt_calli (n := 1) (As := [.int (nI j)]) (rest := [.int n]) K hw hl.1 (m0_found l G q wr T wo kd1 bt1 ot1 fl1 (nI j) hT) lk0_77 (by decide +kernel) rfl rfl ⟨Nat.le_of_ble_eq_true rfl, Nat.le_of_ble_eq_true rfl⟩ ⟨Nat.le_of_ble_eq_true rfl, Nat.le_of_ble_eq_true rfl⟩ rfl rfl (Nat.le_of_ble_eq_true rfl) dX0_covered_25 (fun v25 u25 H locs p25 hw => ?_)
        obtain rfl := p25
        refine lv_iload_n hx hb dX0_covered_28 rfl (lv_at hl 0 rfl) ?_
        refine lv_icmp_ne (tgt := 38) hx hb dX0_covered_29 (by decide) (fun c29 => ?_) (fun c29 => ?_)
        · refine lv_iconst (v := 0) hx hb dX0_covered_38 (by decide) ?_
          exact J39 0 u25.1 u25.2.1 u25.2.2.1 u25.2.2.2 (by grind) hlt _ _ hw ls (lv_sub hl [1, 3] rfl)
        · refine lv_iconst (v := 1) hx hb dX0_covered_32 (by decide) ?_
          refine lv_iload_n hx hb dX0_covered_33 rfl (lv_at hl 3 rfl) ?_
          refine lv_ishl hx hb dX0_covered_34 ?_
          refine lv_goto (tgt := 39) hx hb dX0_covered_35 (by decide) ?_
          exact J39 (1 <<< ((nI j) &&& 31)) u25.1 u25.2.1 u25.2.2.1 u25.2.2.2 (by grind) hlt _ _ hw ls (lv_sub hl [1, 3] rfl)
      refine lv_iload_n hx hb dX0_covered_4 rfl (lv_at hl 2 rfl) ?_
      refine lv_bipush (v := nI 14) hx hb dX0_covered_5 (by decide) ?_
      refine lv_icmp_ge (tgt := 47) hx hb dX0_covered_7 (by decide) (fun c7 => ?_) (fun c7 => ?_)
      · have hjj : j = 14 := by have := (nI_leI (a := 14) (b := j) (by omega) (by omega)).mp c7; omega
        refine lv_iload_n hx hb dX0_covered_47 rfl (lv_at hl 1 rfl) ?_
        exact hret (kd1, bt1, ot1, fl1) dX0_covered_48 rfl (by rw [hs, hjj]; rfl) hw
      · have hlt : j < 14 := by have := mt_nle (a := j) (b := 14) (by omega) (by omega) c7; omega
        refine lv_iload_n hx hb dX0_covered_10 rfl (lv_at hl 2 rfl) ?_
        refine lv_iconst (v := 4) hx hb dX0_covered_11 (by decide) ?_
        refine lv_icmp_ge (tgt := 19) hx hb dX0_covered_12 (by decide) (fun c12 => ?_) (fun c12 => ?_)
        · refine lv_bipush (v := 20) hx hb dX0_covered_19 (by decide) ?_
          exact J21 20 (by grind) hlt _ _ hw ls (lv_sub hl [0, 1, 2] rfl)
        · refine lv_iconst (v := 5) hx hb dX0_covered_15 (by decide) ?_
          refine lv_goto (tgt := 21) hx hb dX0_covered_16 (by decide) ?_
          exact J21 5 (by grind) hlt _ _ hw ls (lv_sub hl [0, 1, 2] rfl)
  refine lv_iconst (v := 0) hx hb dX0_covered_0 (by decide) ?_
  refine lv_istore_n (lv' := [(1, .int 0), (0, .ref (q 0))]) hx hb dX0_covered_1 rfl hl (by decide) rfl (fun ls hl => ?_)
  refine lv_iconst (v := 0) hx hb dX0_covered_2 (by decide) ?_
  refine lv_istore_n (lv' := [(2, .int 0), (1, .int 0), (0, .ref (q 0))]) hx hb dX0_covered_3 rfl hl (by decide) rfl (fun ls hl => ?_)
  exact J4 (14 + 1) 0 0 kd bt ot fl (by omega) (by omega) rfl _ _ hw ls (lv_sub hl [2, 1, 0] rfl)
set_option maxHeartbeats 4000000 in
set_option maxRecDepth 100000 in
/-- foundFrom(kind, v, a) -/
theorem m0_foundFrom (l : Launch) (G : mt_G) (q : Nat → Nat) (wr : va_W) (T : mt_T) (wo kd bt ot : Int32) (fl : Bool) (k : Int32) (v0 : Int32) (a : Int32) (hT : mt_ok T) : mt_Mi l yX0_foundFrom cX0_foundFrom 4 .int 6 143 G [.ref (q 0), .int k, .int v0, .int a] (mt_w0 G q T wo kd bt ot fl wr) (fun (v : Int32) (u : Int32 × Int32 × Int32 × Bool) => v = (if mt_flt k v0 a = true then 32 - nI (mt_sil T wo k (decide (v0 < a))) else -1)) (fun u => mt_w0 G q T wo u.1 u.2.1 u.2.2.1 u.2.2.2 wr) := by
  refine mt_Mi_of RX0 rfl (by decide) (Nat.le_of_ble_eq_true rfl) ?_
  intro p e s m args below meth c A ls Q K hw hl hret
  have hx := K.1
  have hb := K.2.1
  have hl : lv_has ls 4 [(0, .ref (q 0)), (1, .int k), (2, .int v0), (3, .int a)] := hl
  have J23 : ∀ (x : Bool), (x = decide (v0 < a)) → (mt_flt k v0 a = true) → ∀ (H : Heap) (locs : List Loc), mt_Hw G A s (mt_w0 G q T wo kd bt ot fl wr) H locs → ∀ (ls : Array Slot), lv_has ls 4 [(0, .ref (q 0))] → W p l e (mt_rm 6 143) s m args below meth c H locs 0 0 Q (F0 m 23 ls [.int (mt_b x), .int k, .ref (q 0), .int 32]) := by
    intro x ex hf H locs hw ls hl
    refine mt_calli (n := 2) (As := [.int k, .int (mt_b x)]) (rest := [.int 32]) K hw hl.1 (m0_silent l G q wr T wo kd bt ot fl k x hT) lk0_61 (by decide +kernel) rfl rfl ⟨Nat.le_of_ble_eq_true rfl, Nat.le_of_ble_eq_true rfl⟩ ⟨Nat.le_of_ble_eq_true rfl, Nat.le_of_ble_eq_true rfl⟩ rfl rfl (Nat.le_of_ble_eq_true rfl) dX0_foundFrom_23 (fun v23 u23 H locs p23 hw => ?_)
    obtain rfl := p23
    refine lv_isub hx hb dX0_foundFrom_26 ?_
    refine lv_goto (tgt := 31) hx hb dX0_foundFrom_27 (by decide) ?_
    exact hret (u23.1, u23.2.1, u23.2.2.1, u23.2.2.2) dX0_foundFrom_31 rfl (by grind) hw
  refine lv_iload_n hx hb dX0_foundFrom_0 rfl (lv_at hl 1 rfl) ?_
  refine lv_iload_n hx hb dX0_foundFrom_1 rfl (lv_at hl 2 rfl) ?_
  refine lv_iload_n hx hb dX0_foundFrom_2 rfl (lv_at hl 3 rfl) ?_
  refine mt_calls (n := 3) (As := [.int k, .int v0, .int a]) (rest := []) K hw hl.1 (m0_isFault l G _ k v0 a ) lk0_65 (by decide +kernel) ⟨Nat.le_of_ble_eq_true rfl, Nat.le_of_ble_eq_true rfl⟩ ⟨Nat.le_of_ble_eq_true rfl, Nat.le_of_ble_eq_true rfl⟩ rfl rfl (Nat.le_of_ble_eq_true rfl) dX0_foundFrom_3 (fun v3 u3 H locs p3 hw => ?_)
  obtain rfl := p3
  refine lv_if_eq (tgt := 30) hx hb dX0_foundFrom_6 (by decide) (fun c6 => ?_) (fun c6 => ?_)
  · replace c6 := mt_b0 c6
    refine lv_iconst (v := (-1)) hx hb dX0_foundFrom_30 (by decide) ?_
    exact hret (kd, bt, ot, fl) dX0_foundFrom_31 rfl (by grind) hw
  · replace c6 := mt_b1 c6
    refine lv_bipush (v := 32) hx hb dX0_foundFrom_9 (by decide) ?_
    refine lv_aload_n hx hb dX0_foundFrom_11 rfl (lv_at hl 0 rfl) ?_
    refine lv_iload_n hx hb dX0_foundFrom_12 rfl (lv_at hl 1 rfl) ?_
    refine lv_iload_n hx hb dX0_foundFrom_13 rfl (lv_at hl 2 rfl) ?_
    refine lv_iload_n hx hb dX0_foundFrom_14 rfl (lv_at hl 3 rfl) ?_
    refine lv_icmp_ge (tgt := 22) hx hb dX0_foundFrom_15 (by decide) (fun c15 => ?_) (fun c15 => ?_)
    · refine lv_iconst (v := 0) hx hb dX0_foundFrom_22 (by decide) ?_
      exact J23 false (by grind) c6 _ _ hw ls (lv_sub hl [0] rfl)
    · refine lv_iconst (v := 1) hx hb dX0_foundFrom_18 (by decide) ?_
      refine lv_goto (tgt := 23) hx hb dX0_foundFrom_19 (by decide) ?_
      exact J23 true (by grind) c6 _ _ hw ls (lv_sub hl [0] rfl)
set_option maxHeartbeats 4000000 in
set_option maxRecDepth 100000 in
/-- foundSet() -/
theorem m0_foundSet (l : Launch) (G : mt_G) (q : Nat → Nat) (wr : va_W) (T : mt_T) (wo kd bt ot : Int32) (fl : Bool)  (hT : mt_ok T) : mt_Mi l yX0_foundSet cX0_foundSet 3 .int 7 165 G [.ref (q 0)] (mt_w0 G q T wo kd bt ot fl wr) (fun (v : Int32) (u : Int32 × Int32 × Int32 × Bool) => v = mt_fst T wo) (fun u => mt_w0 G q T wo u.1 u.2.1 u.2.2.1 u.2.2.2 wr) := by
  refine mt_Mi_of RX0 rfl (by decide) (Nat.le_of_ble_eq_true rfl) ?_
  intro p e s m args below meth c A ls Q K hw hl hret
  have hx := K.1
  have hb := K.2.1
  have hl : lv_has ls 3 [(0, .ref (q 0))] := hl
  have J4 : ∀ (k4 : Nat) (j : Nat) (n : Int32) (kd1 bt1 ot1 : Int32) (fl1 : Bool), (j ≤ 14) → (14 + 1 ≤ j + k4) → (n = mt_fs (fun j => mt_isF T wo (nI j) true) (fun j => mt_isF T wo (nI j) false) j) → ∀ (H : Heap) (locs : List Loc), mt_Hw G A s (mt_w0 G q T wo kd1 bt1 ot1 fl1 wr) H locs → ∀ (ls : Array Slot), lv_has ls 3 [(0, .ref (q 0)), (1, .int n), (2, .int (nI j))] → W p l e (mt_rm 7 165) s m args below meth c H locs 0 0 Q (F0 m 4 ls []) := by
    intro k4
    induction k4 with
    | zero =>
      intro j n kd1 bt1 ot1 fl1 h1 h2
      exact absurd h2 (by omega)
    | succ k4 ih4 =>
      intro j n kd1 bt1 ot1 fl1 hj4 hk4 hs H locs hw ls hl
      have J50 : ∀ (y z : Int32) (kd2 bt2 ot2 : Int32) (fl2 : Bool), (y = n ||| (if mt_isF T wo (nI j) true = true then (1 : Int32) <<< (((2 : Int32) * nI j) &&& 31) else 0)) → (z = if mt_isF T wo (nI j) false = true then (2 : Int32) <<< (((2 : Int32) * nI j) &&& 31) else 0) → (j < 14) → ∀ (H : Heap) (locs : List Loc), mt_Hw G A s (mt_w0 G q T wo kd2 bt2 ot2 fl2 wr) H locs → ∀ (ls : Array Slot), lv_has ls 3 [(0, .ref (q 0)), (2, .int (nI j))] → W p l e (mt_rm 7 165) s m args below meth c H locs 0 0 Q (F0 m 50 ls [.int z, .int y]) := by
        intro y z kd2 bt2 ot2 fl2 ex ez hlt H locs hw ls hl
        refine lv_ior hx hb dX0_foundSet_50 ?_
        refine lv_istore_n (lv' := [(1, .int (y ||| z)), (0, .ref (q 0)), (2, .int (nI j))]) hx hb dX0_foundSet_51 rfl hl (by decide) rfl (fun ls hl => ?_)
        refine lv_iinc (v := nI (j + 1)) (lv' := [(2, .int (nI (j + 1))), (1, .int (y ||| z)), (0, .ref (q 0))]) hx hb dX0_foundSet_52 hl (k := 2) rfl (mt_inc j) (by decide) rfl (fun ls hl => ?_)
        refine lv_goto (tgt := 4) hx hb dX0_foundSet_55 (by decide) ?_
        exact ih4 (j + 1) (y ||| z) kd2 bt2 ot2 fl2 (by omega) (by omega) (by rw [ex, ez, hs]; rfl) _ _ hw ls (lv_sub hl [2, 1, 0] rfl)
      have J29 : ∀ (x : Int32) (kd2 bt2 ot2 : Int32) (fl2 : Bool), (x = if mt_isF T wo (nI j) true = true then (1 : Int32) <<< (((2 : Int32) * nI j) &&& 31) else 0) → (j < 14) → ∀ (H : Heap) (locs : List Loc), mt_Hw G A s (mt_w0 G q T wo kd2 bt2 ot2 fl2 wr) H locs → ∀ (ls : Array Slot), lv_has ls 3 [(0, .ref (q 0)), (2, .int (nI j))] → W p l e (mt_rm 7 165) s m args below meth c H locs 0 0 Q (F0 m 29 ls [.int x, .int n]) := by
        intro x kd2 bt2 ot2 fl2 ex hlt H locs hw ls hl
        refine lv_ior hx hb dX0_foundSet_29 ?_
        refine lv_istore_n (lv' := [(1, .int (n ||| x)), (0, .ref (q 0)), (2, .int (nI j))]) hx hb dX0_foundSet_30 rfl hl (by decide) rfl (fun ls hl => ?_)
        replace ex := congrArg (n ||| ·) ex
        refine lv_iload_n hx hb dX0_foundSet_31 rfl (lv_at hl 0 rfl) ?_
        refine lv_aload_n hx hb dX0_foundSet_32 rfl (lv_at hl 1 rfl) ?_
        refine lv_iload_n hx hb dX0_foundSet_33 rfl (lv_at hl 2 rfl) ?_
        refine lv_iconst (v := 0) hx hb dX0_foundSet_34 (by decide) ?_
        refine mt_calli (n := 2) (As := [.int (nI j), .int (mt_b false)]) (rest := [.int (n ||| x)]) K hw hl.1 (m0_isFound l G q wr T wo kd2 bt2 ot2 fl2 (nI j) false hT) lk0_69 (by decide +kernel) rfl rfl ⟨Nat.le_of_ble_eq_true rfl, Nat.le_of_ble_eq_true rfl⟩ ⟨Nat.le_of_ble_eq_true rfl, Nat.le_of_ble_eq_true rfl⟩ rfl rfl (Nat.le_of_ble_eq_true rfl) dX0_foundSet_35 (fun v35 u35 H locs p35 hw => ?_)
        obtain rfl := p35
        refine lv_if_eq (tgt := 49) hx hb dX0_foundSet_38 (by decide) (fun c38 => ?_) (fun c38 => ?_)
        · replace c38 := mt_b0 c38
          refine lv_iconst (v := 0) hx hb dX0_foundSet_49 (by decide) ?_
          exact J50 (n ||| x) 0 u35.1 u35.2.1 u35.2.2.1 u35.2.2.2 ex (by grind) hlt _ _ hw ls (lv_sub hl [1, 2] rfl)
        · replace c38 := mt_b1 c38
          refine lv_iconst (v := 2) hx hb dX0_foundSet_41 (by decide) ?_
          refine lv_iconst (v := 2) hx hb dX0_foundSet_42 (by decide) ?_
          refine lv_iload_n hx hb dX0_foundSet_43 rfl (lv_at hl 2 rfl) ?_
          refine lv_imul hx hb dX0_foundSet_44 ?_
          refine lv_ishl hx hb dX0_foundSet_45 ?_
          refine lv_goto (tgt := 50) hx hb dX0_foundSet_46 (by decide) ?_
          exact J50 (n ||| x) (2 <<< ((2 * (nI j)) &&& 31)) u35.1 u35.2.1 u35.2.2.1 u35.2.2.2 ex (by grind) hlt _ _ hw ls (lv_sub hl [1, 2] rfl)
      refine lv_iload_n hx hb dX0_foundSet_4 rfl (lv_at hl 2 rfl) ?_
      refine lv_bipush (v := nI 14) hx hb dX0_foundSet_5 (by decide) ?_
      refine lv_icmp_ge (tgt := 58) hx hb dX0_foundSet_7 (by decide) (fun c7 => ?_) (fun c7 => ?_)
      · have hjj : j = 14 := by have := (nI_leI (a := 14) (b := j) (by omega) (by omega)).mp c7; omega
        refine lv_iload_n hx hb dX0_foundSet_58 rfl (lv_at hl 1 rfl) ?_
        exact hret (kd1, bt1, ot1, fl1) dX0_foundSet_59 rfl (by rw [hs, hjj]; rfl) hw
      · have hlt : j < 14 := by have := mt_nle (a := j) (b := 14) (by omega) (by omega) c7; omega
        refine lv_iload_n hx hb dX0_foundSet_10 rfl (lv_at hl 1 rfl) ?_
        refine lv_aload_n hx hb dX0_foundSet_11 rfl (lv_at hl 0 rfl) ?_
        refine lv_iload_n hx hb dX0_foundSet_12 rfl (lv_at hl 2 rfl) ?_
        refine lv_iconst (v := 1) hx hb dX0_foundSet_13 (by decide) ?_
        refine mt_calli (n := 2) (As := [.int (nI j), .int (mt_b true)]) (rest := [.int n]) K hw hl.1 (m0_isFound l G q wr T wo kd1 bt1 ot1 fl1 (nI j) true hT) lk0_69 (by decide +kernel) rfl rfl ⟨Nat.le_of_ble_eq_true rfl, Nat.le_of_ble_eq_true rfl⟩ ⟨Nat.le_of_ble_eq_true rfl, Nat.le_of_ble_eq_true rfl⟩ rfl rfl (Nat.le_of_ble_eq_true rfl) dX0_foundSet_14 (fun v14 u14 H locs p14 hw => ?_)
        obtain rfl := p14
        refine lv_if_eq (tgt := 28) hx hb dX0_foundSet_17 (by decide) (fun c17 => ?_) (fun c17 => ?_)
        · replace c17 := mt_b0 c17
          refine lv_iconst (v := 0) hx hb dX0_foundSet_28 (by decide) ?_
          exact J29 0 u14.1 u14.2.1 u14.2.2.1 u14.2.2.2 (by grind) hlt _ _ hw ls (lv_sub hl [0, 2] rfl)
        · replace c17 := mt_b1 c17
          refine lv_iconst (v := 1) hx hb dX0_foundSet_20 (by decide) ?_
          refine lv_iconst (v := 2) hx hb dX0_foundSet_21 (by decide) ?_
          refine lv_iload_n hx hb dX0_foundSet_22 rfl (lv_at hl 2 rfl) ?_
          refine lv_imul hx hb dX0_foundSet_23 ?_
          refine lv_ishl hx hb dX0_foundSet_24 ?_
          refine lv_goto (tgt := 29) hx hb dX0_foundSet_25 (by decide) ?_
          exact J29 (1 <<< ((2 * (nI j)) &&& 31)) u14.1 u14.2.1 u14.2.2.1 u14.2.2.2 (by grind) hlt _ _ hw ls (lv_sub hl [0, 2] rfl)
  refine lv_iconst (v := 0) hx hb dX0_foundSet_0 (by decide) ?_
  refine lv_istore_n (lv' := [(1, .int 0), (0, .ref (q 0))]) hx hb dX0_foundSet_1 rfl hl (by decide) rfl (fun ls hl => ?_)
  refine lv_iconst (v := 0) hx hb dX0_foundSet_2 (by decide) ?_
  refine lv_istore_n (lv' := [(2, .int 0), (1, .int 0), (0, .ref (q 0))]) hx hb dX0_foundSet_3 rfl hl (by decide) rfl (fun ls hl => ?_)
  exact J4 (14 + 1) 0 0 kd bt ot fl (by omega) (by omega) rfl _ _ hw ls (lv_sub hl [2, 1, 0] rfl)
set_option maxHeartbeats 4000000 in
set_option maxRecDepth 100000 in
/-- spare() -/
theorem m0_spare (l : Launch) (G : mt_G) (q : Nat → Nat) (wr : va_W) (T : mt_T) (wo kd bt ot : Int32) (fl : Bool)  (hT : mt_ok T) : mt_Mi l yX0_spare cX0_spare 5 .int 8 187 G [.ref (q 0)] (mt_w0 G q T wo kd bt ot fl wr) (fun (v : Int32) (u : Int32 × Int32 × Int32 × Bool) => v = mt_spr T wo) (fun u => mt_w0 G q T (-1) u.1 u.2.1 u.2.2.1 u.2.2.2 wr) := by
  refine mt_Mi_of RX0 rfl (by decide) (Nat.le_of_ble_eq_true rfl) ?_
  intro p e s m args below meth c A ls Q K hw hl hret
  have hx := K.1
  have hb := K.2.1
  have hl : lv_has ls 5 [(0, .ref (q 0))] := hl
  have J9 : ∀ (k9 : Nat) (j : Nat) (n wo1 : Int32) (kd1 bt1 ot1 : Int32) (fl1 : Bool), (j ≤ T.1) → (T.1 + 1 ≤ j + k9) → (n = mt_set (fun j => decide ((mt_fst T wo &&& (mt_fst T (nI j) ^^^ (-1))) = 0)) j) → ∀ (H : Heap) (locs : List Loc), mt_Hw G A s (mt_w0 G q T wo1 kd1 bt1 ot1 fl1 wr) H locs → ∀ (ls : Array Slot), lv_has ls 5 [(0, .ref (q 0)), (1, .int (mt_fst T wo)), (2, .int n), (3, .int (nI j))] → W p l e (mt_rm 8 187) s m args below meth c H locs 0 0 Q (F0 m 9 ls []) := by
    intro k9
    induction k9 with
    | zero =>
      intro j n wo1 kd1 bt1 ot1 fl1 h1 h2
      exact absurd h2 (by omega)
    | succ k9 ih9 =>
      intro j n wo1 kd1 bt1 ot1 fl1 hj9 hk9 hs H locs hw ls hl
      have hn := hT.1
      have J45 : ∀ (x wo2 : Int32) (kd2 bt2 ot2 : Int32) (fl2 : Bool), (x = if (fun j => decide ((mt_fst T wo &&& (mt_fst T (nI j) ^^^ (-1))) = 0)) j = true then (1 : Int32) <<< (nI j &&& 31) else 0) → (j < T.1) → ∀ (H : Heap) (locs : List Loc), mt_Hw G A s (mt_w0 G q T wo2 kd2 bt2 ot2 fl2 wr) H locs → ∀ (ls : Array Slot), lv_has ls 5 [(0, .ref (q 0)), (1, .int (mt_fst T wo)), (3, .int (nI j))] → W p l e (mt_rm 8 187) s m args below meth c H locs 0 0 Q (F0 m 45 ls [.int x, .int n]) := by
        intro x wo2 kd2 bt2 ot2 fl2 ex hlt H locs hw ls hl
        refine lv_ior hx hb dX0_spare_45 ?_
        refine lv_istore_n (lv' := [(2, .int (n ||| x)), (0, .ref (q 0)), (1, .int (mt_fst T wo)), (3, .int (nI j))]) hx hb dX0_spare_46 rfl hl (by decide) rfl (fun ls hl => ?_)
        refine lv_iinc (v := nI (j + 1)) (lv' := [(3, .int (nI (j + 1))), (2, .int (n ||| x)), (0, .ref (q 0)), (1, .int (mt_fst T wo))]) hx hb dX0_spare_47 hl (k := 3) rfl (mt_inc j) (by decide) rfl (fun ls hl => ?_)
        refine lv_goto (tgt := 9) hx hb dX0_spare_50 (by decide) ?_
        exact ih9 (j + 1) (n ||| x) wo2 kd2 bt2 ot2 fl2 (by omega) (by omega) (by rw [hs, ex]; rfl) _ _ hw ls (lv_sub hl [2, 3, 1, 0] rfl)
      refine lv_iload_n hx hb dX0_spare_9 rfl (lv_at hl 3 rfl) ?_
      refine lv_aload_n hx hb dX0_spare_10 rfl (lv_at hl 0 rfl) ?_
      refine g0_n K hw dX0_spare_11 ?_
      refine lv_icmp_ge (tgt := 53) hx hb dX0_spare_14 (by decide) (fun c14 => ?_) (fun c14 => ?_)
      · have hjj : j = T.1 := by have := (nI_leI (a := T.1) (b := j) (by omega) (by omega)).mp c14; omega
        refine lv_aload_n hx hb dX0_spare_53 rfl (lv_at hl 0 rfl) ?_
        refine lv_iconst (v := (-1)) hx hb dX0_spare_54 (by decide) ?_
        refine p0_wo K hw dX0_spare_55 (fun H locs hw => ?_)
        refine lv_iload_n hx hb dX0_spare_58 rfl (lv_at hl 2 rfl) ?_
        exact hret (kd1, bt1, ot1, fl1) dX0_spare_59 rfl (by rw [hs, hjj]; rfl) hw
      · have hlt : j < T.1 := by have := mt_nle (a := j) (b := T.1) (by omega) (by omega) c14; omega
        refine lv_aload_n hx hb dX0_spare_17 rfl (lv_at hl 0 rfl) ?_
        refine lv_iload_n hx hb dX0_spare_18 rfl (lv_at hl 3 rfl) ?_
        refine p0_wo K hw dX0_spare_19 (fun H locs hw => ?_)
        refine lv_aload_n hx hb dX0_spare_22 rfl (lv_at hl 0 rfl) ?_
        refine mt_calli (n := 0) (As := []) (rest := []) K hw hl.1 (m0_foundSet l G q wr T (nI j) kd1 bt1 ot1 fl1 hT) lk0_80 (by decide +kernel) rfl rfl ⟨Nat.le_of_ble_eq_true rfl, Nat.le_of_ble_eq_true rfl⟩ ⟨Nat.le_of_ble_eq_true rfl, Nat.le_of_ble_eq_true rfl⟩ rfl rfl (Nat.le_of_ble_eq_true rfl) dX0_spare_23 (fun v23 u23 H locs p23 hw => ?_)
        obtain rfl := p23
        refine lv_istore (lv' := [(4, .int (mt_fst T (nI j))), (0, .ref (q 0)), (1, .int (mt_fst T wo)), (2, .int n), (3, .int (nI j))]) hx hb dX0_spare_26 hl (by decide) rfl (fun ls hl => ?_)
        refine lv_iload_n hx hb dX0_spare_28 rfl (lv_at hl 3 rfl) ?_
        refine lv_iload_n hx hb dX0_spare_29 rfl (lv_at hl 2 rfl) ?_
        refine lv_iload hx hb dX0_spare_30 (lv_at hl 0 rfl) ?_
        refine lv_iconst (v := (-1)) hx hb dX0_spare_32 (by decide) ?_
        refine lv_ixor hx hb dX0_spare_33 ?_
        refine lv_iand hx hb dX0_spare_34 ?_
        refine lv_if_ne (tgt := 44) hx hb dX0_spare_35 (by decide) (fun c35 => ?_) (fun c35 => ?_)
        · refine lv_iconst (v := 0) hx hb dX0_spare_44 (by decide) ?_
          exact J45 0 (nI j) u23.1 u23.2.1 u23.2.2.1 u23.2.2.2 (by grind) hlt _ _ hw ls (lv_sub hl [1, 2, 4] rfl)
        · refine lv_iconst (v := 1) hx hb dX0_spare_38 (by decide) ?_
          refine lv_iload_n hx hb dX0_spare_39 rfl (lv_at hl 4 rfl) ?_
          refine lv_ishl hx hb dX0_spare_40 ?_
          refine lv_goto (tgt := 45) hx hb dX0_spare_41 (by decide) ?_
          exact J45 (1 <<< ((nI j) &&& 31)) (nI j) u23.1 u23.2.1 u23.2.2.1 u23.2.2.2 (by grind) hlt _ _ hw ls (lv_sub hl [1, 2, 4] rfl)
  refine lv_aload_n hx hb dX0_spare_0 rfl (lv_at hl 0 rfl) ?_
  refine mt_calli (n := 0) (As := []) (rest := []) K hw hl.1 (m0_foundSet l G q wr T wo kd bt ot fl hT) lk0_80 (by decide +kernel) rfl rfl ⟨Nat.le_of_ble_eq_true rfl, Nat.le_of_ble_eq_true rfl⟩ ⟨Nat.le_of_ble_eq_true rfl, Nat.le_of_ble_eq_true rfl⟩ rfl rfl (Nat.le_of_ble_eq_true rfl) dX0_spare_1 (fun v1 u1 H locs p1 hw => ?_)
  obtain rfl := p1
  refine lv_istore_n (lv' := [(1, .int (mt_fst T wo)), (0, .ref (q 0))]) hx hb dX0_spare_4 rfl hl (by decide) rfl (fun ls hl => ?_)
  refine lv_iconst (v := 0) hx hb dX0_spare_5 (by decide) ?_
  refine lv_istore_n (lv' := [(2, .int 0), (1, .int (mt_fst T wo)), (0, .ref (q 0))]) hx hb dX0_spare_6 rfl hl (by decide) rfl (fun ls hl => ?_)
  refine lv_iconst (v := 0) hx hb dX0_spare_7 (by decide) ?_
  refine lv_istore_n (lv' := [(3, .int 0), (2, .int 0), (1, .int (mt_fst T wo)), (0, .ref (q 0))]) hx hb dX0_spare_8 rfl hl (by decide) rfl (fun ls hl => ?_)
  exact J9 (T.1 + 1) 0 0 wo u1.1 u1.2.1 u1.2.2.1 u1.2.2.2 (by omega) (by omega) rfl _ _ hw ls (lv_sub hl [3, 2, 1, 0] rfl)
set_option maxHeartbeats 4000000 in
set_option maxRecDepth 100000 in
/-- sound() -/
theorem m0_sound (l : Launch) (G : mt_G) (q : Nat → Nat) (wr : va_W) (T : mt_T) (wo kd bt ot : Int32) (fl : Bool)  (hT : mt_ok T) : mt_Mi l yX0_sound cX0_sound 1 .boolean 5 117 G [.ref (q 0)] (mt_w0 G q T wo kd bt ot fl wr) (fun (v : Int32) (u : Int32 × Int32 × Int32 × Bool) => v = mt_b (decide (mt_quiet T wo = 2))) (fun u => mt_w0 G q T wo u.1 u.2.1 u.2.2.1 u.2.2.2 wr) := by
  refine mt_Mi_of RX0 rfl (by decide) (Nat.le_of_ble_eq_true rfl) ?_
  intro p e s m args below meth c A ls Q K hw hl hret
  have hx := K.1
  have hb := K.2.1
  have hl : lv_has ls 1 [(0, .ref (q 0))] := hl
  refine lv_aload_n hx hb dX0_sound_0 rfl (lv_at hl 0 rfl) ?_
  refine mt_calli (n := 0) (As := []) (rest := []) K hw hl.1 (m0_quiet l G q wr T wo kd bt ot fl hT) lk0_26 (by decide +kernel) rfl rfl ⟨Nat.le_of_ble_eq_true rfl, Nat.le_of_ble_eq_true rfl⟩ ⟨Nat.le_of_ble_eq_true rfl, Nat.le_of_ble_eq_true rfl⟩ rfl rfl (Nat.le_of_ble_eq_true rfl) dX0_sound_1 (fun v1 u1 H locs p1 hw => ?_)
  obtain rfl := p1
  refine lv_iconst (v := nI 2) hx hb dX0_sound_4 (by decide) ?_
  refine lv_icmp_ne (tgt := 12) hx hb dX0_sound_5 (by decide) (fun c5 => ?_) (fun c5 => ?_)
  · replace c5 : ¬ mt_quiet T wo = 2 := fun h => c5 (by rw [h])
    refine lv_iconst (v := 0) hx hb dX0_sound_12 (by decide) ?_
    exact hret (u1.1, u1.2.1, u1.2.2.1, u1.2.2.2) dX0_sound_13 rfl (by simp only [c5]; rfl) hw
  · replace c5 : mt_quiet T wo = 2 := (nI_eq (b := 2) (by have := mt_quiet_le T wo; omega) (by decide)).mp c5
    refine lv_iconst (v := 1) hx hb dX0_sound_8 (by decide) ?_
    refine lv_goto (tgt := 13) hx hb dX0_sound_9 (by decide) ?_
    exact hret (u1.1, u1.2.1, u1.2.2.1, u1.2.2.2) dX0_sound_13 rfl (by simp only [c5]; rfl) hw
set_option maxHeartbeats 4000000 in
set_option maxRecDepth 100000 in
/-- marches() -/
theorem m0_marches (l : Launch) (G : mt_G) (q : Nat → Nat) (wr : va_W) (T : mt_T) (wo kd bt ot : Int32) (fl : Bool)   : mt_Mi l yX0_marches cX0_marches 1 .int 0 0 G [.ref (q 0)] (mt_w0 G q T wo kd bt ot fl wr) (fun (v : Int32) (u : Unit) => v = nI T.1) (fun u => mt_w0 G q T wo kd bt ot fl wr) := by
  refine mt_Mi_of RX0 rfl (by decide) (Nat.le_of_ble_eq_true rfl) ?_
  intro p e s m args below meth c A ls Q K hw hl hret
  have hx := K.1
  have hb := K.2.1
  have hl : lv_has ls 1 [(0, .ref (q 0))] := hl
  refine lv_aload_n hx hb dX0_marches_0 rfl (lv_at hl 0 rfl) ?_
  refine g0_n K hw dX0_marches_1 ?_
  exact hret () dX0_marches_4 rfl (by rfl) hw
end
section
theorem mt_pred {n : Nat} (h : 0 < n) : nI n - 1 = nI (n - 1) := by
  obtain ⟨m, rfl⟩ := Nat.exists_eq_succ_of_ne_zero (Nat.pos_iff_ne_zero.mp h)
  exact nI_pred m
theorem mt_1s {n : Nat} (h : n ≤ 1) : (1 : Int32) - nI n = nI (1 - n) := pk_sub (a := 1) h
theorem mt_x3 {x : Int32} (h : ¬ x < 0) (h3 : ¬ 3 < x) : x = nI x.toNatClampNeg ∧ x.toNatClampNeg ≤ 3 := by
  obtain ⟨j, hj, rfl⟩ := nI_of2 (M := 3) (n := 3) (by decide) h (Int32.not_lt.mp h3)
  rw [nI_clamp (by omega)]
  exact ⟨rfl, hj⟩
theorem mt_xn {x : Int32} {n : Nat} (hn : n < 2 ^ 31) (h : ¬ x < 0) (h3 : x < nI n) : x = nI x.toNatClampNeg ∧ x.toNatClampNeg < n := by
  obtain ⟨j, hj, rfl⟩ := nI_of h
  rw [nI_clamp hj]
  exact ⟨rfl, (nI_ltI hj hn).mp h3⟩

set_option maxHeartbeats 4000000 in
set_option maxRecDepth 100000 in
/-- march(direction) -/
theorem m0_march (l : Launch) (G : mt_G) (q : Nat → Nat) (wr : va_W) (T : mt_T) (wo kd bt ot : Int32) (fl : Bool) (x : Int32) (hT : mt_ok T) : mt_Mi l yX0_march cX0_march 2 .int 0 0 G [.ref (q 0), .int x] (mt_w0 G q T wo kd bt ot fl wr) (fun (v : Int32) (u : mt_T) => v = mt_maR T x ∧ u = mt_maT T x) (fun u => mt_w0 G q u wo kd bt ot fl wr) := by
  refine mt_Mi_of RX0 rfl (by decide) (Nat.le_of_ble_eq_true rfl) ?_
  intro p e s m args below meth c A ls Q K hw hl hret
  have hx := K.1
  have hb := K.2.1
  have hl : lv_has ls 2 [(0, .ref (q 0)), (1, .int x)] := hl
  have J11 : (x = 0 ∨ x = 1) → ∀ (H : Heap) (locs : List Loc), mt_Hw G A s (mt_w0 G q T wo kd bt ot fl wr) H locs → ∀ (ls : Array Slot), lv_has ls 2 [(0, .ref (q 0)), (1, .int x)] → W p l e (mt_rm 0 0) s m args below meth c H locs 0 0 Q (F0 m 11 ls []) := by
    intro  hx01 H locs hw ls hl
    have hn := hT.1
    have hxe : x = nI x.toNatClampNeg := by rcases hx01 with h | h <;> rw [h] <;> decide
    have hx1 : x.toNatClampNeg ≤ 1 := by rcases hx01 with h | h <;> rw [h] <;> decide
    have h01 : ¬ (¬ x = 0 ∧ ¬ x = 1) := by grind
    refine lv_aload_n hx hb dX0_march_11 rfl (lv_at hl 0 rfl) ?_
    refine g0_n K hw dX0_march_12 ?_
    refine lv_bipush (v := nI 6) hx hb dX0_march_15 (by decide) ?_
    refine lv_icmp_lt (tgt := 23) hx hb dX0_march_17 (by decide) (fun c17 => ?_) (fun c17 => ?_)
    · replace c17 := (nI_ltI (a := T.1) (b := 6) (by omega) (by decide)).mp c17
      refine lv_aload_n hx hb dX0_march_23 rfl (lv_at hl 0 rfl) ?_
      refine g0_d K hw dX0_march_24 ?_
      refine lv_aload_n hx hb dX0_march_27 rfl (lv_at hl 0 rfl) ?_
      refine g0_n K hw dX0_march_28 ?_
      refine lv_iload_n hx hb dX0_march_31 rfl (lv_at hl 1 rfl) ?_
      refine mt_top (y := nI x.toNatClampNeg) hxe ?_
      refine lv_i2b (v := nI x.toNatClampNeg) hx hb dX0_march_32 (mt_i8 _ (by omega)) ?_
      refine s0_d (k := T.1) (v := x.toNatClampNeg) K hw (by omega) (by omega) dX0_march_33 (fun H locs hw => ?_)
      refine lv_aload_n hx hb dX0_march_34 rfl (lv_at hl 0 rfl) ?_
      refine g0_z K hw dX0_march_35 ?_
      refine lv_aload_n hx hb dX0_march_38 rfl (lv_at hl 0 rfl) ?_
      refine g0_n K hw dX0_march_39 ?_
      refine lv_iconst (v := nI 0) hx hb dX0_march_42 (by decide) ?_
      refine s0_z (k := T.1) (v := 0) K hw (by omega) (by decide) dX0_march_43 (fun H locs hw => ?_)
      refine lv_aload_n hx hb dX0_march_44 rfl (lv_at hl 0 rfl) ?_
      refine lv_dup hx hb dX0_march_45 rfl ?_
      refine g0_n K hw dX0_march_46 ?_
      refine lv_iconst (v := 1) hx hb dX0_march_49 (by decide) ?_
      refine lv_iadd hx hb dX0_march_50 ?_
      refine mt_top (y := nI (T.1 + 1)) (nI_1 T.1) ?_
      refine p0_n (v := T.1 + 1) K hw dX0_march_51 (fun H locs hw => ?_)
      refine lv_aload_n hx hb dX0_march_54 rfl (lv_at hl 0 rfl) ?_
      refine g0_n K hw dX0_march_55 ?_
      refine lv_iconst (v := 1) hx hb dX0_march_58 (by decide) ?_
      refine lv_isub hx hb dX0_march_59 ?_
      refine mt_top (y := nI T.1) (nI_pred T.1) ?_
      exact hret (T.1 + 1, ((T.1, mt_u T.2.1 T.1 x.toNatClampNeg, T.2.2.1, T.2.2.2).1, (T.1, mt_u T.2.1 T.1 x.toNatClampNeg, T.2.2.1, T.2.2.2).2.1, mt_u (T.1, mt_u T.2.1 T.1 x.toNatClampNeg, T.2.2.1, T.2.2.2).2.2.1 T.1 0, (T.1, mt_u T.2.1 T.1 x.toNatClampNeg, T.2.2.1, T.2.2.2).2.2.2).2.1, ((T.1, mt_u T.2.1 T.1 x.toNatClampNeg, T.2.2.1, T.2.2.2).1, (T.1, mt_u T.2.1 T.1 x.toNatClampNeg, T.2.2.1, T.2.2.2).2.1, mt_u (T.1, mt_u T.2.1 T.1 x.toNatClampNeg, T.2.2.1, T.2.2.2).2.2.1 T.1 0, (T.1, mt_u T.2.1 T.1 x.toNatClampNeg, T.2.2.1, T.2.2.2).2.2.2).2.2.1, ((T.1, mt_u T.2.1 T.1 x.toNatClampNeg, T.2.2.1, T.2.2.2).1, (T.1, mt_u T.2.1 T.1 x.toNatClampNeg, T.2.2.1, T.2.2.2).2.1, mt_u (T.1, mt_u T.2.1 T.1 x.toNatClampNeg, T.2.2.1, T.2.2.2).2.2.1 T.1 0, (T.1, mt_u T.2.1 T.1 x.toNatClampNeg, T.2.2.1, T.2.2.2).2.2.2).2.2.2) dX0_march_60 rfl (by constructor <;> simp only [mt_maR, mt_maT, if_neg h01, if_neg (Nat.not_le.mpr c17)]) hw
    · replace c17 := mt_nlt (a := T.1) (b := 6) (by omega) (by decide) c17
      refine lv_bipush (v := (-2)) hx hb dX0_march_20 (by decide) ?_
      exact hret T dX0_march_22 rfl (by constructor <;> grind [mt_maR, mt_maT]) hw
  refine lv_iload_n hx hb dX0_march_0 rfl (lv_at hl 1 rfl) ?_
  refine lv_if_eq (tgt := 11) hx hb dX0_march_1 (by decide) (fun c1 => ?_) (fun c1 => ?_)
  · exact J11 (by grind) _ _ hw ls (lv_sub hl [0, 1] rfl)
  · refine lv_iload_n hx hb dX0_march_4 rfl (lv_at hl 1 rfl) ?_
    refine lv_iconst (v := 1) hx hb dX0_march_5 (by decide) ?_
    refine lv_icmp_eq (tgt := 11) hx hb dX0_march_6 (by decide) (fun c6 => ?_) (fun c6 => ?_)
    · exact J11 (by grind) _ _ hw ls (lv_sub hl [0, 1] rfl)
    · refine lv_iconst (v := (-1)) hx hb dX0_march_9 (by decide) ?_
      exact hret T dX0_march_10 rfl (by constructor <;> grind [mt_maR, mt_maT]) hw
set_option maxHeartbeats 4000000 in
set_option maxRecDepth 100000 in
/-- op(op) -/
theorem m0_op (l : Launch) (G : mt_G) (q : Nat → Nat) (wr : va_W) (T : mt_T) (wo kd bt ot : Int32) (fl : Bool) (x : Int32) (hT : mt_ok T) : mt_Mi l yX0_op cX0_op 3 .int 0 0 G [.ref (q 0), .int x] (mt_w0 G q T wo kd bt ot fl wr) (fun (v : Int32) (u : mt_T) => v = mt_opR T x ∧ u = mt_opT T x) (fun u => mt_w0 G q u wo kd bt ot fl wr) := by
  refine mt_Mi_of RX0 rfl (by decide) (Nat.le_of_ble_eq_true rfl) ?_
  intro p e s m args below meth c A ls Q K hw hl hret
  have hx := K.1
  have hb := K.2.1
  have hl : lv_has ls 3 [(0, .ref (q 0)), (1, .int x)] := hl
  have hn := hT.1
  have hz := hT.2.2.1 (T.1 - 1)
  refine lv_iload_n hx hb dX0_op_0 rfl (lv_at hl 1 rfl) ?_
  refine lv_if_lt (tgt := 16) hx hb dX0_op_1 (by decide) (fun c1 => ?_) (fun c1 => ?_)
  · refine lv_iconst (v := (-1)) hx hb dX0_op_16 (by decide) ?_
    exact hret T dX0_op_17 rfl (by constructor <;> grind [mt_opR, mt_opT]) hw
  · refine lv_iload_n hx hb dX0_op_4 rfl (lv_at hl 1 rfl) ?_
    refine lv_iconst (v := 3) hx hb dX0_op_5 (by decide) ?_
    refine lv_icmp_gt (tgt := 16) hx hb dX0_op_6 (by decide) (fun c6 => ?_) (fun c6 => ?_)
    · refine lv_iconst (v := (-1)) hx hb dX0_op_16 (by decide) ?_
      exact hret T dX0_op_17 rfl (by constructor <;> grind [mt_opR, mt_opT]) hw
    · refine lv_aload_n hx hb dX0_op_9 rfl (lv_at hl 0 rfl) ?_
      refine g0_n K hw dX0_op_10 ?_
      refine lv_if_ne (tgt := 18) hx hb dX0_op_13 (by decide) (fun c13 => ?_) (fun c13 => ?_)
      · replace c13 : ¬ T.1 = 0 := fun h => c13 (by rw [h]; rfl)
        obtain ⟨hxe, hx3⟩ := mt_x3 c1 c6
        have h1 : ¬ (x < 0 ∨ 3 < x ∨ T.1 = 0) := by grind
        refine lv_aload_n hx hb dX0_op_18 rfl (lv_at hl 0 rfl) ?_
        refine g0_n K hw dX0_op_19 ?_
        refine lv_iconst (v := 1) hx hb dX0_op_22 (by decide) ?_
        refine lv_isub hx hb dX0_op_23 ?_
        refine mt_top (y := nI (T.1 - 1)) (mt_pred (by omega)) ?_
        refine lv_istore_n (lv' := [(2, .int (nI (T.1 - 1))), (0, .ref (q 0)), (1, .int x)]) hx hb dX0_op_24 rfl hl (by decide) rfl (fun ls hl => ?_)
        refine lv_aload_n hx hb dX0_op_25 rfl (lv_at hl 1 rfl) ?_
        refine g0_z K hw dX0_op_26 ?_
        refine lv_iload_n hx hb dX0_op_29 rfl (lv_at hl 0 rfl) ?_
        refine r0_z (k := T.1 - 1) K hw (by omega) dX0_op_30 ?_
        refine lv_iconst (v := nI 4) hx hb dX0_op_31 (by decide) ?_
        refine lv_icmp_lt (tgt := 38) hx hb dX0_op_32 (by decide) (fun c32 => ?_) (fun c32 => ?_)
        · replace c32 := (nI_ltI (a := T.2.2.1 (T.1 - 1)) (b := 4) (by omega) (by decide)).mp c32
          refine lv_aload_n hx hb dX0_op_38 rfl (lv_at hl 1 rfl) ?_
          refine g0_o K hw dX0_op_39 ?_
          refine lv_iload_n hx hb dX0_op_42 rfl (lv_at hl 0 rfl) ?_
          refine lv_iconst (v := 4) hx hb dX0_op_43 (by decide) ?_
          refine lv_imul hx hb dX0_op_44 ?_
          refine mt_top (y := nI ((T.1 - 1) * 4)) (pk_mul (T.1 - 1) 4) ?_
          refine lv_aload_n hx hb dX0_op_45 rfl (lv_at hl 1 rfl) ?_
          refine g0_z K hw dX0_op_46 ?_
          refine lv_iload_n hx hb dX0_op_49 rfl (lv_at hl 0 rfl) ?_
          refine r0_z (k := T.1 - 1) K hw (by omega) dX0_op_50 ?_
          refine lv_iadd hx hb dX0_op_51 ?_
          refine mt_top (y := nI ((T.1 - 1) * 4 + T.2.2.1 (T.1 - 1))) (nI_add _ _) ?_
          refine lv_iload_n hx hb dX0_op_52 rfl (lv_at hl 2 rfl) ?_
          refine mt_top (y := nI x.toNatClampNeg) hxe ?_
          refine lv_i2b (v := nI x.toNatClampNeg) hx hb dX0_op_53 (mt_i8 _ (by omega)) ?_
          refine s0_o (k := (T.1 - 1) * 4 + T.2.2.1 (T.1 - 1)) (v := x.toNatClampNeg) K hw (by omega) (by omega) dX0_op_54 (fun H locs hw => ?_)
          refine lv_aload_n hx hb dX0_op_55 rfl (lv_at hl 1 rfl) ?_
          refine g0_z K hw dX0_op_56 ?_
          refine lv_iload_n hx hb dX0_op_59 rfl (lv_at hl 0 rfl) ?_
          refine lv_dup2_11 hx hb dX0_op_60 rfl rfl ?_
          refine r0_z (k := T.1 - 1) K hw (by omega) dX0_op_61 ?_
          refine lv_iconst (v := 1) hx hb dX0_op_62 (by decide) ?_
          refine lv_iadd hx hb dX0_op_63 ?_
          refine mt_top (y := nI (T.2.2.1 (T.1 - 1) + 1)) (nI_1 _) ?_
          refine lv_i2b (v := nI (T.2.2.1 (T.1 - 1) + 1)) hx hb dX0_op_64 (mt_i8 _ (by omega)) ?_
          refine s0_z (k := T.1 - 1) (v := T.2.2.1 (T.1 - 1) + 1) K hw (by omega) (by omega) dX0_op_65 (fun H locs hw => ?_)
          refine lv_aload_n hx hb dX0_op_66 rfl (lv_at hl 1 rfl) ?_
          refine g0_z K hw dX0_op_67 ?_
          refine lv_iload_n hx hb dX0_op_70 rfl (lv_at hl 0 rfl) ?_
          refine r0_z (k := T.1 - 1) K hw (by omega) dX0_op_71 ?_
          exact hret ((T.1, T.2.1, T.2.2.1, mt_u T.2.2.2 ((T.1 - 1) * 4 + T.2.2.1 (T.1 - 1)) x.toNatClampNeg).1, (T.1, T.2.1, T.2.2.1, mt_u T.2.2.2 ((T.1 - 1) * 4 + T.2.2.1 (T.1 - 1)) x.toNatClampNeg).2.1, mt_u (T.1, T.2.1, T.2.2.1, mt_u T.2.2.2 ((T.1 - 1) * 4 + T.2.2.1 (T.1 - 1)) x.toNatClampNeg).2.2.1 (T.1 - 1) (T.2.2.1 (T.1 - 1) + 1), (T.1, T.2.1, T.2.2.1, mt_u T.2.2.2 ((T.1 - 1) * 4 + T.2.2.1 (T.1 - 1)) x.toNatClampNeg).2.2.2) dX0_op_72 rfl (by constructor <;> simp only [mt_opR, mt_opT, if_neg h1, if_neg (Nat.not_le.mpr c32), mt_u, if_true]) hw
        · replace c32 := mt_nlt (a := T.2.2.1 (T.1 - 1)) (b := 4) (by omega) (by decide) c32
          refine lv_bipush (v := (-2)) hx hb dX0_op_35 (by decide) ?_
          exact hret T dX0_op_37 rfl (by constructor <;> grind [mt_opR, mt_opT]) hw
      · replace c13 : T.1 = 0 := (nI_eq (b := 0) (by omega) (by decide)).mp c13
        refine lv_iconst (v := (-1)) hx hb dX0_op_16 (by decide) ?_
        exact hret T dX0_op_17 rfl (by constructor <;> grind [mt_opR, mt_opT]) hw
set_option maxHeartbeats 4000000 in
set_option maxRecDepth 100000 in
/-- drop() -/
theorem m0_drop (l : Launch) (G : mt_G) (q : Nat → Nat) (wr : va_W) (T : mt_T) (wo kd bt ot : Int32) (fl : Bool)  (hT : mt_ok T) : mt_Mi l yX0_drop cX0_drop 1 .int 0 0 G [.ref (q 0)] (mt_w0 G q T wo kd bt ot fl wr) (fun (v : Int32) (u : mt_T) => v = mt_drR T ∧ u = mt_drT T) (fun u => mt_w0 G q u wo kd bt ot fl wr) := by
  refine mt_Mi_of RX0 rfl (by decide) (Nat.le_of_ble_eq_true rfl) ?_
  intro p e s m args below meth c A ls Q K hw hl hret
  have hx := K.1
  have hb := K.2.1
  have hl : lv_has ls 1 [(0, .ref (q 0))] := hl
  have hn := hT.1
  have hz := hT.2.2.1 (T.1 - 1)
  refine lv_aload_n hx hb dX0_drop_0 rfl (lv_at hl 0 rfl) ?_
  refine g0_n K hw dX0_drop_1 ?_
  refine lv_if_ne (tgt := 9) hx hb dX0_drop_4 (by decide) (fun c4 => ?_) (fun c4 => ?_)
  · replace c4 : ¬ T.1 = 0 := fun h => c4 (by rw [h]; rfl)
    refine lv_aload_n hx hb dX0_drop_9 rfl (lv_at hl 0 rfl) ?_
    refine g0_z K hw dX0_drop_10 ?_
    refine lv_aload_n hx hb dX0_drop_13 rfl (lv_at hl 0 rfl) ?_
    refine g0_n K hw dX0_drop_14 ?_
    refine lv_iconst (v := 1) hx hb dX0_drop_17 (by decide) ?_
    refine lv_isub hx hb dX0_drop_18 ?_
    refine mt_top (y := nI (T.1 - 1)) (mt_pred (by omega)) ?_
    refine r0_z (k := T.1 - 1) K hw (by omega) dX0_drop_19 ?_
    refine lv_if_le (tgt := 42) hx hb dX0_drop_20 (by decide) (fun c20 => ?_) (fun c20 => ?_)
    · replace c20 : T.2.2.1 (T.1 - 1) ≤ 0 := (nI_leI (a := T.2.2.1 (T.1 - 1)) (b := 0) (by omega) (by decide)).mp c20
      refine lv_aload_n hx hb dX0_drop_42 rfl (lv_at hl 0 rfl) ?_
      refine lv_dup hx hb dX0_drop_43 rfl ?_
      refine g0_n K hw dX0_drop_44 ?_
      refine lv_iconst (v := 1) hx hb dX0_drop_47 (by decide) ?_
      refine lv_isub hx hb dX0_drop_48 ?_
      refine mt_top (y := nI (T.1 - 1)) (mt_pred (by omega)) ?_
      refine p0_n (v := T.1 - 1) K hw dX0_drop_49 (fun H locs hw => ?_)
      refine lv_aload_n hx hb dX0_drop_52 rfl (lv_at hl 0 rfl) ?_
      refine g0_n K hw dX0_drop_53 ?_
      exact hret (T.1 - 1, T.2.1, T.2.2.1, T.2.2.2) dX0_drop_56 rfl (by constructor <;> grind [mt_drR, mt_drT]) hw
    · replace c20 : 0 < T.2.2.1 (T.1 - 1) := Nat.lt_of_not_le (fun h => c20 (nI_le (a := T.2.2.1 (T.1 - 1)) (b := 0) h (by decide)))
      refine lv_aload_n hx hb dX0_drop_23 rfl (lv_at hl 0 rfl) ?_
      refine g0_z K hw dX0_drop_24 ?_
      refine lv_aload_n hx hb dX0_drop_27 rfl (lv_at hl 0 rfl) ?_
      refine g0_n K hw dX0_drop_28 ?_
      refine lv_iconst (v := 1) hx hb dX0_drop_31 (by decide) ?_
      refine lv_isub hx hb dX0_drop_32 ?_
      refine mt_top (y := nI (T.1 - 1)) (mt_pred (by omega)) ?_
      refine lv_dup2_11 hx hb dX0_drop_33 rfl rfl ?_
      refine r0_z (k := T.1 - 1) K hw (by omega) dX0_drop_34 ?_
      refine lv_iconst (v := 1) hx hb dX0_drop_35 (by decide) ?_
      refine lv_isub hx hb dX0_drop_36 ?_
      refine mt_top (y := nI (T.2.2.1 (T.1 - 1) - 1)) (mt_pred c20) ?_
      refine lv_i2b (v := nI (T.2.2.1 (T.1 - 1) - 1)) hx hb dX0_drop_37 (mt_i8 _ (by omega)) ?_
      refine s0_z (k := T.1 - 1) (v := T.2.2.1 (T.1 - 1) - 1) K hw (by omega) (by omega) dX0_drop_38 (fun H locs hw => ?_)
      refine lv_goto (tgt := 52) hx hb dX0_drop_39 (by decide) ?_
      refine lv_aload_n hx hb dX0_drop_52 rfl (lv_at hl 0 rfl) ?_
      refine g0_n K hw dX0_drop_53 ?_
      exact hret (T.1, T.2.1, mt_u T.2.2.1 (T.1 - 1) (T.2.2.1 (T.1 - 1) - 1), T.2.2.2) dX0_drop_56 rfl (by constructor <;> grind [mt_drR, mt_drT]) hw
  · replace c4 : T.1 = 0 := (nI_eq (b := 0) (by omega) (by decide)).mp c4
    refine lv_iconst (v := (-1)) hx hb dX0_drop_7 (by decide) ?_
    exact hret T dX0_drop_8 rfl (by constructor <;> grind [mt_drR, mt_drT]) hw
set_option maxHeartbeats 4000000 in
set_option maxRecDepth 100000 in
/-- turn(m) -/
theorem m0_turn (l : Launch) (G : mt_G) (q : Nat → Nat) (wr : va_W) (T : mt_T) (wo kd bt ot : Int32) (fl : Bool) (x : Int32) (hT : mt_ok T) : mt_Mi l yX0_turn cX0_turn 2 .boolean 0 0 G [.ref (q 0), .int x] (mt_w0 G q T wo kd bt ot fl wr) (fun (v : Int32) (u : mt_T) => v = mt_b (mt_tuR T x) ∧ u = mt_tuT T x) (fun u => mt_w0 G q u wo kd bt ot fl wr) := by
  refine mt_Mi_of RX0 rfl (by decide) (Nat.le_of_ble_eq_true rfl) ?_
  intro p e s m args below meth c A ls Q K hw hl hret
  have hx := K.1
  have hb := K.2.1
  have hl : lv_has ls 2 [(0, .ref (q 0)), (1, .int x)] := hl
  have hn := hT.1
  refine lv_iload_n hx hb dX0_turn_0 rfl (lv_at hl 1 rfl) ?_
  refine lv_if_lt (tgt := 12) hx hb dX0_turn_1 (by decide) (fun c1 => ?_) (fun c1 => ?_)
  · refine lv_iconst (v := 0) hx hb dX0_turn_12 (by decide) ?_
    exact hret T dX0_turn_13 rfl ⟨mt_eq0 (by grind [mt_tuR]), by grind [mt_tuT]⟩ hw
  · refine lv_iload_n hx hb dX0_turn_4 rfl (lv_at hl 1 rfl) ?_
    refine lv_aload_n hx hb dX0_turn_5 rfl (lv_at hl 0 rfl) ?_
    refine g0_n K hw dX0_turn_6 ?_
    refine lv_icmp_lt (tgt := 14) hx hb dX0_turn_9 (by decide) (fun c9 => ?_) (fun c9 => ?_)
    · obtain ⟨hxe, hxn⟩ := mt_xn (by omega) c1 c9
      have hd := hT.2.1 x.toNatClampNeg
      have h1 : ¬ x < 0 ∧ x < nI T.1 := ⟨c1, c9⟩
      refine lv_aload_n hx hb dX0_turn_14 rfl (lv_at hl 0 rfl) ?_
      refine g0_d K hw dX0_turn_15 ?_
      refine lv_iload_n hx hb dX0_turn_18 rfl (lv_at hl 1 rfl) ?_
      refine mt_top (y := nI x.toNatClampNeg) hxe ?_
      refine lv_iconst (v := 1) hx hb dX0_turn_19 (by decide) ?_
      refine lv_aload_n hx hb dX0_turn_20 rfl (lv_at hl 0 rfl) ?_
      refine g0_d K hw dX0_turn_21 ?_
      refine lv_iload_n hx hb dX0_turn_24 rfl (lv_at hl 1 rfl) ?_
      refine mt_top (y := nI x.toNatClampNeg) hxe ?_
      refine r0_d (k := x.toNatClampNeg) K hw (by omega) dX0_turn_25 ?_
      refine lv_isub hx hb dX0_turn_26 ?_
      refine mt_top (y := nI (1 - T.2.1 x.toNatClampNeg)) (mt_1s hd) ?_
      refine lv_i2b (v := nI (1 - T.2.1 x.toNatClampNeg)) hx hb dX0_turn_27 (mt_i8 _ (by omega)) ?_
      refine s0_d (k := x.toNatClampNeg) (v := 1 - T.2.1 x.toNatClampNeg) K hw (by omega) (by omega) dX0_turn_28 (fun H locs hw => ?_)
      refine lv_iconst (v := 1) hx hb dX0_turn_29 (by decide) ?_
      exact hret (T.1, mt_u T.2.1 x.toNatClampNeg (1 - T.2.1 x.toNatClampNeg), T.2.2.1, T.2.2.2) dX0_turn_30 rfl ⟨mt_eq1 (by unfold mt_tuR; exact decide_eq_true h1), (by unfold mt_tuT; rw [if_pos h1])⟩ hw
    · refine lv_iconst (v := 0) hx hb dX0_turn_12 (by decide) ?_
      exact hret T dX0_turn_13 rfl ⟨mt_eq0 (by grind [mt_tuR]), by grind [mt_tuT]⟩ hw
end
section
theorem lk1_32 : GoodIn lw_all (wsV RX1 32 RX1 yX1_put (ws_ yX1_put cX1_put 3 none)) := lw_V q217 q219 qs12 q20 q220
theorem lk1_39 : GoodIn lw_all (wsV RX1 39 RX1 yX1_bit (ws_ yX1_bit cX1_bit 2 (some .int))) := lw_V q221 q223 qs13 q20 q224
theorem lk1_43 : GoodIn lw_all (wsV RX1 43 RX1 yX1_settle (ws_ yX1_settle cX1_settle 1 none)) := lw_V q213 q215 qs11 q20 q216
theorem lk1_46 : GoodIn lw_all (wsV RX1 46 RX1 yX1_write (ws_ yX1_write cX1_write 9 none)) := lw_V q229 q231 qs15 q20 q232
theorem lk1_49 : GoodIn lw_all (wsV RX1 49 RX1 yX1_fails (ws_ yX1_fails cX1_fails 3 (some .boolean))) := lw_V q225 q227 qs14 q20 q228
set_option maxHeartbeats 4000000 in
set_option maxRecDepth 100000 in
/-- bit(c) -/
theorem m1_bit (l : Launch) (G : mt_G) (q : Nat → Nat) (wr : va_W) (T : mt_T) (me so ce ot : Int32) (c0 : Int32)  : mt_Mi l yX1_bit cX1_bit 2 .int 0 0 G [.ref (q 0), .int c0] (mt_w1 G q T me so ce ot wr) (fun (v : Int32) (u : Unit) => v = mt_bit me c0) (fun u => mt_w1 G q T me so ce ot wr) := by
  refine mt_Mi_of RX1 rfl (by decide) (Nat.le_of_ble_eq_true rfl) ?_
  intro p e s m args below meth c A ls Q K hw hl hret
  have hx := K.1
  have hb := K.2.1
  have hl : lv_has ls 2 [(0, .ref (q 0)), (1, .int c0)] := hl
  refine lv_aload_n hx hb dX1_bit_0 rfl (lv_at hl 0 rfl) ?_
  refine g1_me K hw dX1_bit_1 ?_
  refine lv_iload_n hx hb dX1_bit_4 rfl (lv_at hl 1 rfl) ?_
  refine lv_ishr hx hb dX1_bit_5 ?_
  refine lv_iconst (v := 1) hx hb dX1_bit_6 (by decide) ?_
  refine lv_iand hx hb dX1_bit_7 ?_
  exact hret () dX1_bit_8 rfl (by rfl) hw
set_option maxHeartbeats 4000000 in
set_option maxRecDepth 100000 in
/-- put(c, b) -/
theorem m1_put (l : Launch) (G : mt_G) (q : Nat → Nat) (wr : va_W) (T : mt_T) (me so ce ot : Int32) (c0 : Int32) (b : Int32)  : mt_Mv l yX1_put cX1_put 3 0 0 G [.ref (q 0), .int c0, .int b] (mt_w1 G q T me so ce ot wr) (fun (u : Int32) => u = mt_put me c0 b) (fun u => mt_w1 G q T u so ce ot wr) := by
  refine mt_Mv_of RX1 rfl (by decide) (Nat.le_of_ble_eq_true rfl) ?_
  intro p e s m args below meth c A ls Q K hw hl hret
  have hx := K.1
  have hb := K.2.1
  have hl : lv_has ls 3 [(0, .ref (q 0)), (1, .int c0), (2, .int b)] := hl
  refine lv_aload_n hx hb dX1_put_0 rfl (lv_at hl 0 rfl) ?_
  refine lv_aload_n hx hb dX1_put_1 rfl (lv_at hl 0 rfl) ?_
  refine g1_me K hw dX1_put_2 ?_
  refine lv_iconst (v := 1) hx hb dX1_put_5 (by decide) ?_
  refine lv_iload_n hx hb dX1_put_6 rfl (lv_at hl 1 rfl) ?_
  refine lv_ishl hx hb dX1_put_7 ?_
  refine lv_iconst (v := (-1)) hx hb dX1_put_8 (by decide) ?_
  refine lv_ixor hx hb dX1_put_9 ?_
  refine lv_iand hx hb dX1_put_10 ?_
  refine lv_iload_n hx hb dX1_put_11 rfl (lv_at hl 2 rfl) ?_
  refine lv_iload_n hx hb dX1_put_12 rfl (lv_at hl 1 rfl) ?_
  refine lv_ishl hx hb dX1_put_13 ?_
  refine lv_ior hx hb dX1_put_14 ?_
  refine p1_me K hw dX1_put_15 (fun H locs hw => ?_)
  exact hret ((me &&& ((1 <<< (c0 &&& 31)) ^^^ (-1))) ||| (b <<< (c0 &&& 31))) dX1_put_18 rfl hw
set_option maxHeartbeats 4000000 in
set_option maxRecDepth 100000 in
/-- settle() -/
theorem m1_settle (l : Launch) (G : mt_G) (q : Nat → Nat) (wr : va_W) (T : mt_T) (me so ce ot : Int32)   : mt_Mv l yX1_settle cX1_settle 1 1 22 G [.ref (q 0)] (mt_w1 G q T me so ce ot wr) (fun (u : Int32) => u = mt_stl so ce ot me) (fun u => mt_w1 G q T u so ce ot wr) := by
  refine mt_Mv_of RX1 rfl (by decide) (Nat.le_of_ble_eq_true rfl) ?_
  intro p e s m args below meth c A ls Q K hw hl hret
  have hx := K.1
  have hb := K.2.1
  have hl : lv_has ls 1 [(0, .ref (q 0))] := hl
  have J27 : ∀ (me1 : Int32), (me1 = mt_sl1 so ce me) → ∀ (H : Heap) (locs : List Loc), mt_Hw G A s (mt_w1 G q T me1 so ce ot wr) H locs → ∀ (ls : Array Slot), lv_has ls 1 [(0, .ref (q 0))] → W p l e (mt_rm 1 22) s m args below meth c H locs 0 0 Q (F0 m 27 ls []) := by
    intro me1 e1 H locs hw ls hl
    refine lv_aload_n hx hb dX1_settle_27 rfl (lv_at hl 0 rfl) ?_
    refine g1_so K hw dX1_settle_28 ?_
    refine lv_bipush (v := 10) hx hb dX1_settle_31 (by decide) ?_
    refine lv_icmp_lt (tgt := 70) hx hb dX1_settle_33 (by decide) (fun c33 => ?_) (fun c33 => ?_)
    · exact hret me1 dX1_settle_70 (by grind [mt_stl, mt_sl2]) hw
    · refine lv_aload_n hx hb dX1_settle_36 rfl (lv_at hl 0 rfl) ?_
      refine lv_aload_n hx hb dX1_settle_37 rfl (lv_at hl 0 rfl) ?_
      refine g1_ot K hw dX1_settle_38 ?_
      refine mt_calli (n := 1) (As := [.int ot]) (rest := []) K hw hl.1 (m1_bit l G q wr T me1 so ce ot ot ) lk1_39 (by decide +kernel) rfl rfl ⟨Nat.le_of_ble_eq_true rfl, Nat.le_of_ble_eq_true rfl⟩ ⟨Nat.le_of_ble_eq_true rfl, Nat.le_of_ble_eq_true rfl⟩ rfl rfl (Nat.le_of_ble_eq_true rfl) dX1_settle_41 (fun v41 u41 H locs p41 hw => ?_)
      obtain rfl := p41
      refine lv_aload_n hx hb dX1_settle_44 rfl (lv_at hl 0 rfl) ?_
      refine g1_so K hw dX1_settle_45 ?_
      refine lv_bipush (v := 10) hx hb dX1_settle_48 (by decide) ?_
      refine lv_isub hx hb dX1_settle_50 ?_
      refine lv_iconst (v := 2) hx hb dX1_settle_51 (by decide) ?_
      refine lv_idiv hx hb dX1_settle_52 (by decide) ?_
      refine lv_icmp_ne (tgt := 70) hx hb dX1_settle_53 (by decide) (fun c53 => ?_) (fun c53 => ?_)
      · exact hret me1 dX1_settle_70 (by grind [mt_stl, mt_sl2]) hw
      · refine lv_aload_n hx hb dX1_settle_56 rfl (lv_at hl 0 rfl) ?_
        refine lv_aload_n hx hb dX1_settle_57 rfl (lv_at hl 0 rfl) ?_
        refine g1_ce K hw dX1_settle_58 ?_
        refine lv_aload_n hx hb dX1_settle_61 rfl (lv_at hl 0 rfl) ?_
        refine g1_so K hw dX1_settle_62 ?_
        refine lv_iconst (v := 2) hx hb dX1_settle_65 (by decide) ?_
        refine lv_irem hx hb dX1_settle_66 (by decide) ?_
        refine mt_callv (n := 2) (As := [.int ce, .int (so - so / 2 * 2)]) (rest := []) K hw hl.1 (m1_put l G q wr T me1 so ce ot ce (so - so / 2 * 2) ) lk1_32 (by decide +kernel) rfl rfl ⟨Nat.le_of_ble_eq_true rfl, Nat.le_of_ble_eq_true rfl⟩ ⟨Nat.le_of_ble_eq_true rfl, Nat.le_of_ble_eq_true rfl⟩ rfl rfl (Nat.le_of_ble_eq_true rfl) dX1_settle_67 (fun u67 H locs p67 hw => ?_)
        exact hret u67 dX1_settle_70 (by grind [mt_stl, mt_sl2]) hw
  refine lv_aload_n hx hb dX1_settle_0 rfl (lv_at hl 0 rfl) ?_
  refine g1_so K hw dX1_settle_1 ?_
  refine lv_if_eq (tgt := 15) hx hb dX1_settle_4 (by decide) (fun c4 => ?_) (fun c4 => ?_)
  · refine lv_aload_n hx hb dX1_settle_15 rfl (lv_at hl 0 rfl) ?_
    refine lv_aload_n hx hb dX1_settle_16 rfl (lv_at hl 0 rfl) ?_
    refine g1_ce K hw dX1_settle_17 ?_
    refine lv_aload_n hx hb dX1_settle_20 rfl (lv_at hl 0 rfl) ?_
    refine g1_so K hw dX1_settle_21 ?_
    refine mt_callv (n := 2) (As := [.int ce, .int so]) (rest := []) K hw hl.1 (m1_put l G q wr T me so ce ot ce so ) lk1_32 (by decide +kernel) rfl rfl ⟨Nat.le_of_ble_eq_true rfl, Nat.le_of_ble_eq_true rfl⟩ ⟨Nat.le_of_ble_eq_true rfl, Nat.le_of_ble_eq_true rfl⟩ rfl rfl (Nat.le_of_ble_eq_true rfl) dX1_settle_24 (fun u24 H locs p24 hw => ?_)
    exact J27 u24 (by grind [mt_sl1]) _ _ hw ls (lv_sub hl [0] rfl)
  · refine lv_aload_n hx hb dX1_settle_7 rfl (lv_at hl 0 rfl) ?_
    refine g1_so K hw dX1_settle_8 ?_
    refine lv_iconst (v := 1) hx hb dX1_settle_11 (by decide) ?_
    refine lv_icmp_ne (tgt := 27) hx hb dX1_settle_12 (by decide) (fun c12 => ?_) (fun c12 => ?_)
    · exact J27 me (by grind [mt_sl1]) _ _ hw ls (lv_sub hl [0] rfl)
    · refine lv_aload_n hx hb dX1_settle_15 rfl (lv_at hl 0 rfl) ?_
      refine lv_aload_n hx hb dX1_settle_16 rfl (lv_at hl 0 rfl) ?_
      refine g1_ce K hw dX1_settle_17 ?_
      refine lv_aload_n hx hb dX1_settle_20 rfl (lv_at hl 0 rfl) ?_
      refine g1_so K hw dX1_settle_21 ?_
      refine mt_callv (n := 2) (As := [.int ce, .int so]) (rest := []) K hw hl.1 (m1_put l G q wr T me so ce ot ce so ) lk1_32 (by decide +kernel) rfl rfl ⟨Nat.le_of_ble_eq_true rfl, Nat.le_of_ble_eq_true rfl⟩ ⟨Nat.le_of_ble_eq_true rfl, Nat.le_of_ble_eq_true rfl⟩ rfl rfl (Nat.le_of_ble_eq_true rfl) dX1_settle_24 (fun u24 H locs p24 hw => ?_)
      exact J27 u24 (by grind [mt_sl1]) _ _ hw ls (lv_sub hl [0] rfl)
set_option maxHeartbeats 4000000 in
set_option maxRecDepth 100000 in
/-- write(c, b) -/
theorem m1_write (l : Launch) (G : mt_G) (q : Nat → Nat) (wr : va_W) (T : mt_T) (me so ce ot : Int32) (c0 : Int32) (b : Int32)  : mt_Mv l yX1_write cX1_write 9 2 42 G [.ref (q 0), .int c0, .int b] (mt_w1 G q T me so ce ot wr) (fun (u : Int32) => u = mt_wr so ce ot me c0 b) (fun u => mt_w1 G q T u so ce ot wr) := by
  refine mt_Mv_of RX1 rfl (by decide) (Nat.le_of_ble_eq_true rfl) ?_
  intro p e s m args below meth c A ls Q K hw hl hret
  have hx := K.1
  have hb := K.2.1
  have hl : lv_has ls 9 [(0, .ref (q 0)), (1, .int c0), (2, .int b)] := hl
  have J195 : ∀ (me2 : Int32), (me2 = mt_wr2 so ce ot (mt_bit me c0) (mt_wr1 so ce me c0 b) c0 b) → ∀ (H : Heap) (locs : List Loc), mt_Hw G A s (mt_w1 G q T me2 so ce ot wr) H locs → ∀ (ls : Array Slot), lv_has ls 9 [(0, .ref (q 0))] → W p l e (mt_rm 2 42) s m args below meth c H locs 0 0 Q (F0 m 195 ls []) := by
    intro me2 e2 H locs hw ls hl
    refine lv_aload_n hx hb dX1_write_195 rfl (lv_at hl 0 rfl) ?_
    refine mt_callv (n := 0) (As := []) (rest := []) K hw hl.1 (m1_settle l G q wr T me2 so ce ot ) lk1_43 (by decide +kernel) rfl rfl ⟨Nat.le_of_ble_eq_true rfl, Nat.le_of_ble_eq_true rfl⟩ ⟨Nat.le_of_ble_eq_true rfl, Nat.le_of_ble_eq_true rfl⟩ rfl rfl (Nat.le_of_ble_eq_true rfl) dX1_write_196 (fun u196 H locs p196 hw => ?_)
    exact hret u196 dX1_write_199 (by rw [p196, e2]; rfl) hw
  have J178 : ∀ (me1 y : Int32) (x : Bool), (me1 = mt_wr1 so ce me c0 b) → (y = mt_now so ce me1) → (x = mt_on so (mt_bit me c0) b) → (4 ≤ so ∧ ¬ 9 < so ∧ c0 = ot) → ∀ (H : Heap) (locs : List Loc), mt_Hw G A s (mt_w1 G q T me1 so ce ot wr) H locs → ∀ (ls : Array Slot), lv_has ls 9 [(0, .ref (q 0)), (7, .int (mt_b x))] → W p l e (mt_rm 2 42) s m args below meth c H locs 0 0 Q (F0 m 178 ls [.int y]) := by
    intro me1 y x e1 ey ex h4 H locs hw ls hl
    refine lv_istore (lv' := [(8, .int y), (0, .ref (q 0)), (7, .int (mt_b x))]) hx hb dX1_write_178 hl (by decide) rfl (fun ls hl => ?_)
    refine lv_iload hx hb dX1_write_180 (lv_at hl 2 rfl) ?_
    refine lv_if_eq (tgt := 195) hx hb dX1_write_182 (by decide) (fun c182 => ?_) (fun c182 => ?_)
    · replace c182 := mt_b0 c182
      exact J195 me1 (by grind [mt_wr2]) _ _ hw ls (lv_sub hl [1] rfl)
    · replace c182 := mt_b1 c182
      refine lv_aload_n hx hb dX1_write_185 rfl (lv_at hl 1 rfl) ?_
      refine lv_aload_n hx hb dX1_write_186 rfl (lv_at hl 1 rfl) ?_
      refine g1_ce K hw dX1_write_187 ?_
      refine lv_iload hx hb dX1_write_190 (lv_at hl 0 rfl) ?_
      refine mt_callv (n := 2) (As := [.int ce, .int y]) (rest := []) K hw hl.1 (m1_put l G q wr T me1 so ce ot ce y ) lk1_32 (by decide +kernel) rfl rfl ⟨Nat.le_of_ble_eq_true rfl, Nat.le_of_ble_eq_true rfl⟩ ⟨Nat.le_of_ble_eq_true rfl, Nat.le_of_ble_eq_true rfl⟩ rfl rfl (Nat.le_of_ble_eq_true rfl) dX1_write_192 (fun u192 H locs p192 hw => ?_)
      exact J195 u192 (by grind [mt_wr2]) _ _ hw ls (lv_sub hl [1] rfl)
  have J148 : ∀ (me1 : Int32) (x : Bool), (me1 = mt_wr1 so ce me c0 b) → (x = mt_on so (mt_bit me c0) b) → (4 ≤ so ∧ ¬ 9 < so ∧ c0 = ot) → ∀ (H : Heap) (locs : List Loc), mt_Hw G A s (mt_w1 G q T me1 so ce ot wr) H locs → ∀ (ls : Array Slot), lv_has ls 9 [(0, .ref (q 0))] → W p l e (mt_rm 2 42) s m args below meth c H locs 0 0 Q (F0 m 148 ls [.int (mt_b x)]) := by
    intro me1 x e1 ex h4 H locs hw ls hl
    refine lv_istore (lv' := [(7, .int (mt_b x)), (0, .ref (q 0))]) hx hb dX1_write_148 hl (by decide) rfl (fun ls hl => ?_)
    refine lv_aload_n hx hb dX1_write_150 rfl (lv_at hl 1 rfl) ?_
    refine g1_so K hw dX1_write_151 ?_
    refine lv_bipush (v := 6) hx hb dX1_write_154 (by decide) ?_
    refine lv_icmp_ge (tgt := 172) hx hb dX1_write_156 (by decide) (fun c156 => ?_) (fun c156 => ?_)
    · refine lv_aload_n hx hb dX1_write_172 rfl (lv_at hl 1 rfl) ?_
      refine g1_so K hw dX1_write_173 ?_
      refine lv_iconst (v := 2) hx hb dX1_write_176 (by decide) ?_
      refine lv_irem hx hb dX1_write_177 (by decide) ?_
      exact J178 me1 (so - so / 2 * 2) x e1 (by grind [mt_now]) ex h4 _ _ hw ls (lv_sub hl [1, 0] rfl)
    · refine lv_iconst (v := 1) hx hb dX1_write_159 (by decide) ?_
      refine lv_aload_n hx hb dX1_write_160 rfl (lv_at hl 1 rfl) ?_
      refine lv_aload_n hx hb dX1_write_161 rfl (lv_at hl 1 rfl) ?_
      refine g1_ce K hw dX1_write_162 ?_
      refine mt_calli (n := 1) (As := [.int ce]) (rest := [.int 1]) K hw hl.1 (m1_bit l G q wr T me1 so ce ot ce ) lk1_39 (by decide +kernel) rfl rfl ⟨Nat.le_of_ble_eq_true rfl, Nat.le_of_ble_eq_true rfl⟩ ⟨Nat.le_of_ble_eq_true rfl, Nat.le_of_ble_eq_true rfl⟩ rfl rfl (Nat.le_of_ble_eq_true rfl) dX1_write_165 (fun v165 u165 H locs p165 hw => ?_)
      obtain rfl := p165
      refine lv_isub hx hb dX1_write_168 ?_
      refine lv_goto (tgt := 178) hx hb dX1_write_169 (by decide) ?_
      exact J178 me1 (1 - (mt_bit me1 ce)) x e1 (by grind [mt_now]) ex h4 _ _ hw ls (lv_sub hl [1, 0] rfl)
  have J88 : ∀ (me1 : Int32) (r f : Bool), (me1 = mt_wr1 so ce me c0 b) → (r = decide ((mt_bit me c0) = 0 ∧ b = 1)) → (f = decide ((mt_bit me c0) = 1 ∧ b = 0)) → ∀ (H : Heap) (locs : List Loc), mt_Hw G A s (mt_w1 G q T me1 so ce ot wr) H locs → ∀ (ls : Array Slot), lv_has ls 9 [(0, .ref (q 0)), (1, .int c0), (5, .int (mt_b r))] → W p l e (mt_rm 2 42) s m args below meth c H locs 0 0 Q (F0 m 88 ls [.int (mt_b f)]) := by
    intro me1 r f e1 er ef H locs hw ls hl
    refine lv_istore (lv' := [(6, .int (mt_b f)), (0, .ref (q 0)), (1, .int c0), (5, .int (mt_b r))]) hx hb dX1_write_88 hl (by decide) rfl (fun ls hl => ?_)
    refine lv_aload_n hx hb dX1_write_90 rfl (lv_at hl 1 rfl) ?_
    refine g1_so K hw dX1_write_91 ?_
    refine lv_iconst (v := 4) hx hb dX1_write_94 (by decide) ?_
    refine lv_icmp_lt (tgt := 195) hx hb dX1_write_95 (by decide) (fun c95 => ?_) (fun c95 => ?_)
    · exact J195 me1 (by grind [mt_wr2]) _ _ hw ls (lv_sub hl [1] rfl)
    · refine lv_aload_n hx hb dX1_write_98 rfl (lv_at hl 1 rfl) ?_
      refine g1_so K hw dX1_write_99 ?_
      refine lv_bipush (v := 9) hx hb dX1_write_102 (by decide) ?_
      refine lv_icmp_gt (tgt := 195) hx hb dX1_write_104 (by decide) (fun c104 => ?_) (fun c104 => ?_)
      · exact J195 me1 (by grind [mt_wr2]) _ _ hw ls (lv_sub hl [1] rfl)
      · refine lv_iload_n hx hb dX1_write_107 rfl (lv_at hl 2 rfl) ?_
        refine lv_aload_n hx hb dX1_write_108 rfl (lv_at hl 1 rfl) ?_
        refine g1_ot K hw dX1_write_109 ?_
        refine lv_icmp_ne (tgt := 195) hx hb dX1_write_112 (by decide) (fun c112 => ?_) (fun c112 => ?_)
        · exact J195 me1 (by grind [mt_wr2]) _ _ hw ls (lv_sub hl [1] rfl)
        · refine lv_aload_n hx hb dX1_write_115 rfl (lv_at hl 1 rfl) ?_
          refine g1_so K hw dX1_write_116 ?_
          refine lv_iconst (v := 4) hx hb dX1_write_119 (by decide) ?_
          refine lv_icmp_eq (tgt := 141) hx hb dX1_write_120 (by decide) (fun c120 => ?_) (fun c120 => ?_)
          · refine lv_iload hx hb dX1_write_141 (lv_at hl 3 rfl) ?_
            refine lv_goto (tgt := 148) hx hb dX1_write_143 (by decide) ?_
            exact J148 me1 r e1 (by grind [mt_on]) (by grind) _ _ hw ls (lv_sub hl [1] rfl)
          · refine lv_aload_n hx hb dX1_write_123 rfl (lv_at hl 1 rfl) ?_
            refine g1_so K hw dX1_write_124 ?_
            refine lv_bipush (v := 6) hx hb dX1_write_127 (by decide) ?_
            refine lv_icmp_eq (tgt := 141) hx hb dX1_write_129 (by decide) (fun c129 => ?_) (fun c129 => ?_)
            · refine lv_iload hx hb dX1_write_141 (lv_at hl 3 rfl) ?_
              refine lv_goto (tgt := 148) hx hb dX1_write_143 (by decide) ?_
              exact J148 me1 r e1 (by grind [mt_on]) (by grind) _ _ hw ls (lv_sub hl [1] rfl)
            · refine lv_aload_n hx hb dX1_write_132 rfl (lv_at hl 1 rfl) ?_
              refine g1_so K hw dX1_write_133 ?_
              refine lv_bipush (v := 7) hx hb dX1_write_136 (by decide) ?_
              refine lv_icmp_ne (tgt := 146) hx hb dX1_write_138 (by decide) (fun c138 => ?_) (fun c138 => ?_)
              · refine lv_iload hx hb dX1_write_146 (lv_at hl 0 rfl) ?_
                exact J148 me1 f e1 (by grind [mt_on]) (by grind) _ _ hw ls (lv_sub hl [1] rfl)
              · refine lv_iload hx hb dX1_write_141 (lv_at hl 3 rfl) ?_
                refine lv_goto (tgt := 148) hx hb dX1_write_143 (by decide) ?_
                exact J148 me1 r e1 (by grind [mt_on]) (by grind) _ _ hw ls (lv_sub hl [1] rfl)
  have J72 : ∀ (me1 : Int32) (r : Bool), (me1 = mt_wr1 so ce me c0 b) → (r = decide ((mt_bit me c0) = 0 ∧ b = 1)) → ∀ (H : Heap) (locs : List Loc), mt_Hw G A s (mt_w1 G q T me1 so ce ot wr) H locs → ∀ (ls : Array Slot), lv_has ls 9 [(0, .ref (q 0)), (1, .int c0), (2, .int b), (3, .int (mt_bit me c0))] → W p l e (mt_rm 2 42) s m args below meth c H locs 0 0 Q (F0 m 72 ls [.int (mt_b r)]) := by
    intro me1 r e1 er H locs hw ls hl
    refine lv_istore (lv' := [(5, .int (mt_b r)), (0, .ref (q 0)), (1, .int c0), (2, .int b), (3, .int (mt_bit me c0))]) hx hb dX1_write_72 hl (by decide) rfl (fun ls hl => ?_)
    refine lv_iload_n hx hb dX1_write_74 rfl (lv_at hl 4 rfl) ?_
    refine lv_iconst (v := 1) hx hb dX1_write_75 (by decide) ?_
    refine lv_icmp_ne (tgt := 87) hx hb dX1_write_76 (by decide) (fun c76 => ?_) (fun c76 => ?_)
    · refine lv_iconst (v := 0) hx hb dX1_write_87 (by decide) ?_
      exact J88 me1 r false e1 er (by grind) _ _ hw ls (lv_sub hl [1, 2, 0] rfl)
    · refine lv_iload_n hx hb dX1_write_79 rfl (lv_at hl 3 rfl) ?_
      refine lv_if_ne (tgt := 87) hx hb dX1_write_80 (by decide) (fun c80 => ?_) (fun c80 => ?_)
      · refine lv_iconst (v := 0) hx hb dX1_write_87 (by decide) ?_
        exact J88 me1 r false e1 er (by grind) _ _ hw ls (lv_sub hl [1, 2, 0] rfl)
      · refine lv_iconst (v := 1) hx hb dX1_write_83 (by decide) ?_
        refine lv_goto (tgt := 88) hx hb dX1_write_84 (by decide) ?_
        exact J88 me1 r true e1 er (by grind) _ _ hw ls (lv_sub hl [1, 2, 0] rfl)
  have J58 : ∀ (me1 : Int32), (me1 = mt_wr1 so ce me c0 b) → ∀ (H : Heap) (locs : List Loc), mt_Hw G A s (mt_w1 G q T me1 so ce ot wr) H locs → ∀ (ls : Array Slot), lv_has ls 9 [(0, .ref (q 0)), (1, .int c0), (2, .int b), (3, .int (mt_bit me c0))] → W p l e (mt_rm 2 42) s m args below meth c H locs 0 0 Q (F0 m 58 ls []) := by
    intro me1 e1 H locs hw ls hl
    refine lv_iload_n hx hb dX1_write_58 rfl (lv_at hl 3 rfl) ?_
    refine lv_if_ne (tgt := 71) hx hb dX1_write_59 (by decide) (fun c59 => ?_) (fun c59 => ?_)
    · refine lv_iconst (v := 0) hx hb dX1_write_71 (by decide) ?_
      exact J72 me1 false e1 (by grind) _ _ hw ls (lv_sub hl [0, 1, 2, 3] rfl)
    · refine lv_iload_n hx hb dX1_write_62 rfl (lv_at hl 2 rfl) ?_
      refine lv_iconst (v := 1) hx hb dX1_write_63 (by decide) ?_
      refine lv_icmp_ne (tgt := 71) hx hb dX1_write_64 (by decide) (fun c64 => ?_) (fun c64 => ?_)
      · refine lv_iconst (v := 0) hx hb dX1_write_71 (by decide) ?_
        exact J72 me1 false e1 (by grind) _ _ hw ls (lv_sub hl [0, 1, 2, 3] rfl)
      · refine lv_iconst (v := 1) hx hb dX1_write_67 (by decide) ?_
        refine lv_goto (tgt := 72) hx hb dX1_write_68 (by decide) ?_
        exact J72 me1 true e1 (by grind) _ _ hw ls (lv_sub hl [0, 1, 2, 3] rfl)
  have J45 : ∀ (x : Bool), (x = decide ((so = 2 ∨ so = 3) ∧ c0 = ce ∧ (mt_bit me c0) = so - 2)) → ∀ (H : Heap) (locs : List Loc), mt_Hw G A s (mt_w1 G q T me so ce ot wr) H locs → ∀ (ls : Array Slot), lv_has ls 9 [(0, .ref (q 0)), (1, .int c0), (2, .int b), (3, .int (mt_bit me c0))] → W p l e (mt_rm 2 42) s m args below meth c H locs 0 0 Q (F0 m 45 ls [.int (mt_b x)]) := by
    intro x ex H locs hw ls hl
    refine lv_istore (lv' := [(4, .int (mt_b x)), (0, .ref (q 0)), (1, .int c0), (2, .int b), (3, .int (mt_bit me c0))]) hx hb dX1_write_45 hl (by decide) rfl (fun ls hl => ?_)
    refine lv_iload hx hb dX1_write_47 (lv_at hl 0 rfl) ?_
    refine lv_if_ne (tgt := 58) hx hb dX1_write_49 (by decide) (fun c49 => ?_) (fun c49 => ?_)
    · replace c49 := mt_b1 c49
      exact J58 me (by grind [mt_wr1]) _ _ hw ls (lv_sub hl [1, 2, 3, 4] rfl)
    · replace c49 := mt_b0 c49
      refine lv_aload_n hx hb dX1_write_52 rfl (lv_at hl 1 rfl) ?_
      refine lv_iload_n hx hb dX1_write_53 rfl (lv_at hl 2 rfl) ?_
      refine lv_iload_n hx hb dX1_write_54 rfl (lv_at hl 3 rfl) ?_
      refine mt_callv (n := 2) (As := [.int c0, .int b]) (rest := []) K hw hl.1 (m1_put l G q wr T me so ce ot c0 b ) lk1_32 (by decide +kernel) rfl rfl ⟨Nat.le_of_ble_eq_true rfl, Nat.le_of_ble_eq_true rfl⟩ ⟨Nat.le_of_ble_eq_true rfl, Nat.le_of_ble_eq_true rfl⟩ rfl rfl (Nat.le_of_ble_eq_true rfl) dX1_write_55 (fun u55 H locs p55 hw => ?_)
      exact J58 u55 (by grind [mt_wr1]) _ _ hw ls (lv_sub hl [1, 2, 3, 4] rfl)
  refine lv_aload_n hx hb dX1_write_0 rfl (lv_at hl 0 rfl) ?_
  refine lv_iload_n hx hb dX1_write_1 rfl (lv_at hl 1 rfl) ?_
  refine mt_calli (n := 1) (As := [.int c0]) (rest := []) K hw hl.1 (m1_bit l G q wr T me so ce ot c0 ) lk1_39 (by decide +kernel) rfl rfl ⟨Nat.le_of_ble_eq_true rfl, Nat.le_of_ble_eq_true rfl⟩ ⟨Nat.le_of_ble_eq_true rfl, Nat.le_of_ble_eq_true rfl⟩ rfl rfl (Nat.le_of_ble_eq_true rfl) dX1_write_2 (fun v2 u2 H locs p2 hw => ?_)
  obtain rfl := p2
  refine lv_istore_n (lv' := [(3, .int (mt_bit me c0)), (0, .ref (q 0)), (1, .int c0), (2, .int b)]) hx hb dX1_write_5 rfl hl (by decide) rfl (fun ls hl => ?_)
  refine lv_aload_n hx hb dX1_write_6 rfl (lv_at hl 1 rfl) ?_
  refine g1_so K hw dX1_write_7 ?_
  refine lv_iconst (v := 2) hx hb dX1_write_10 (by decide) ?_
  refine lv_icmp_eq (tgt := 22) hx hb dX1_write_11 (by decide) (fun c11 => ?_) (fun c11 => ?_)
  · refine lv_iload_n hx hb dX1_write_22 rfl (lv_at hl 2 rfl) ?_
    refine lv_aload_n hx hb dX1_write_23 rfl (lv_at hl 1 rfl) ?_
    refine g1_ce K hw dX1_write_24 ?_
    refine lv_icmp_ne (tgt := 44) hx hb dX1_write_27 (by decide) (fun c27 => ?_) (fun c27 => ?_)
    · refine lv_iconst (v := 0) hx hb dX1_write_44 (by decide) ?_
      exact J45 false (by grind) _ _ hw ls (lv_sub hl [1, 2, 3, 0] rfl)
    · refine lv_iload_n hx hb dX1_write_30 rfl (lv_at hl 0 rfl) ?_
      refine lv_aload_n hx hb dX1_write_31 rfl (lv_at hl 1 rfl) ?_
      refine g1_so K hw dX1_write_32 ?_
      refine lv_iconst (v := 2) hx hb dX1_write_35 (by decide) ?_
      refine lv_isub hx hb dX1_write_36 ?_
      refine lv_icmp_ne (tgt := 44) hx hb dX1_write_37 (by decide) (fun c37 => ?_) (fun c37 => ?_)
      · refine lv_iconst (v := 0) hx hb dX1_write_44 (by decide) ?_
        exact J45 false (by grind) _ _ hw ls (lv_sub hl [1, 2, 3, 0] rfl)
      · refine lv_iconst (v := 1) hx hb dX1_write_40 (by decide) ?_
        refine lv_goto (tgt := 45) hx hb dX1_write_41 (by decide) ?_
        exact J45 true (by grind) _ _ hw ls (lv_sub hl [1, 2, 3, 0] rfl)
  · refine lv_aload_n hx hb dX1_write_14 rfl (lv_at hl 1 rfl) ?_
    refine g1_so K hw dX1_write_15 ?_
    refine lv_iconst (v := 3) hx hb dX1_write_18 (by decide) ?_
    refine lv_icmp_ne (tgt := 44) hx hb dX1_write_19 (by decide) (fun c19 => ?_) (fun c19 => ?_)
    · refine lv_iconst (v := 0) hx hb dX1_write_44 (by decide) ?_
      exact J45 false (by grind) _ _ hw ls (lv_sub hl [1, 2, 3, 0] rfl)
    · refine lv_iload_n hx hb dX1_write_22 rfl (lv_at hl 2 rfl) ?_
      refine lv_aload_n hx hb dX1_write_23 rfl (lv_at hl 1 rfl) ?_
      refine g1_ce K hw dX1_write_24 ?_
      refine lv_icmp_ne (tgt := 44) hx hb dX1_write_27 (by decide) (fun c27 => ?_) (fun c27 => ?_)
      · refine lv_iconst (v := 0) hx hb dX1_write_44 (by decide) ?_
        exact J45 false (by grind) _ _ hw ls (lv_sub hl [1, 2, 3, 0] rfl)
      · refine lv_iload_n hx hb dX1_write_30 rfl (lv_at hl 0 rfl) ?_
        refine lv_aload_n hx hb dX1_write_31 rfl (lv_at hl 1 rfl) ?_
        refine g1_so K hw dX1_write_32 ?_
        refine lv_iconst (v := 2) hx hb dX1_write_35 (by decide) ?_
        refine lv_isub hx hb dX1_write_36 ?_
        refine lv_icmp_ne (tgt := 44) hx hb dX1_write_37 (by decide) (fun c37 => ?_) (fun c37 => ?_)
        · refine lv_iconst (v := 0) hx hb dX1_write_44 (by decide) ?_
          exact J45 false (by grind) _ _ hw ls (lv_sub hl [1, 2, 3, 0] rfl)
        · refine lv_iconst (v := 1) hx hb dX1_write_40 (by decide) ?_
          refine lv_goto (tgt := 45) hx hb dX1_write_41 (by decide) ?_
          exact J45 true (by grind) _ _ hw ls (lv_sub hl [1, 2, 3, 0] rfl)
set_option maxHeartbeats 4000000 in
set_option maxRecDepth 100000 in
/-- fails(op, c) -/
theorem m1_fails (l : Launch) (G : mt_G) (q : Nat → Nat) (wr : va_W) (T : mt_T) (me so ce ot : Int32) (op : Nat) (c0 : Int32) (hop : op ≤ 3) : mt_Mi l yX1_fails cX1_fails 3 .boolean 3 70 G [.ref (q 0), .int (nI op), .int c0] (mt_w1 G q T me so ce ot wr) (fun (v : Int32) (u : Int32) => v = mt_b (mt_fb me op c0) ∧ u = mt_fm so ce ot me op c0) (fun u => mt_w1 G q T u so ce ot wr) := by
  refine mt_Mi_of RX1 rfl (by decide) (Nat.le_of_ble_eq_true rfl) ?_
  intro p e s m args below meth c A ls Q K hw hl hret
  have hx := K.1
  have hb := K.2.1
  have hl : lv_has ls 3 [(0, .ref (q 0)), (1, .int (nI op)), (2, .int c0)] := hl
  refine lv_iload_n hx hb dX1_fails_0 rfl (lv_at hl 1 rfl) ?_
  refine lv_iconst (v := nI 2) hx hb dX1_fails_1 (by decide) ?_
  refine lv_icmp_ge (tgt := 13) hx hb dX1_fails_2 (by decide) (fun c2 => ?_) (fun c2 => ?_)
  · replace c2 := (nI_leI (a := 2) (b := op) (by omega) (by omega)).mp c2
    refine lv_aload_n hx hb dX1_fails_13 rfl (lv_at hl 0 rfl) ?_
    refine lv_iload_n hx hb dX1_fails_14 rfl (lv_at hl 2 rfl) ?_
    refine mt_calli (n := 1) (As := [.int c0]) (rest := []) K hw hl.1 (m1_bit l G q wr T me so ce ot c0 ) lk1_39 (by decide +kernel) rfl rfl ⟨Nat.le_of_ble_eq_true rfl, Nat.le_of_ble_eq_true rfl⟩ ⟨Nat.le_of_ble_eq_true rfl, Nat.le_of_ble_eq_true rfl⟩ rfl rfl (Nat.le_of_ble_eq_true rfl) dX1_fails_15 (fun v15 u15 H locs p15 hw => ?_)
    obtain rfl := p15
    refine lv_iload_n hx hb dX1_fails_18 rfl (lv_at hl 1 rfl) ?_
    refine lv_iconst (v := 2) hx hb dX1_fails_19 (by decide) ?_
    refine lv_isub hx hb dX1_fails_20 ?_
    refine lv_icmp_eq (tgt := 28) hx hb dX1_fails_21 (by decide) (fun c21 => ?_) (fun c21 => ?_)
    · refine lv_iconst (v := 0) hx hb dX1_fails_28 (by decide) ?_
      exact hret me dX1_fails_29 rfl ⟨by first | exact mt_eq0 (by grind [mt_fb]) | exact mt_eq1 (by grind [mt_fb]), by grind [mt_fm]⟩ hw
    · refine lv_iconst (v := 1) hx hb dX1_fails_24 (by decide) ?_
      refine lv_goto (tgt := 29) hx hb dX1_fails_25 (by decide) ?_
      exact hret me dX1_fails_29 rfl ⟨by first | exact mt_eq0 (by grind [mt_fb]) | exact mt_eq1 (by grind [mt_fb]), by grind [mt_fm]⟩ hw
  · replace c2 := mt_nle (a := op) (b := 2) (by omega) (by omega) c2
    refine lv_aload_n hx hb dX1_fails_5 rfl (lv_at hl 0 rfl) ?_
    refine lv_iload_n hx hb dX1_fails_6 rfl (lv_at hl 2 rfl) ?_
    refine lv_iload_n hx hb dX1_fails_7 rfl (lv_at hl 1 rfl) ?_
    refine mt_callv (n := 2) (As := [.int c0, .int (nI op)]) (rest := []) K hw hl.1 (m1_write l G q wr T me so ce ot c0 (nI op) ) lk1_46 (by decide +kernel) rfl rfl ⟨Nat.le_of_ble_eq_true rfl, Nat.le_of_ble_eq_true rfl⟩ ⟨Nat.le_of_ble_eq_true rfl, Nat.le_of_ble_eq_true rfl⟩ rfl rfl (Nat.le_of_ble_eq_true rfl) dX1_fails_8 (fun u8 H locs p8 hw => ?_)
    refine lv_iconst (v := 0) hx hb dX1_fails_11 (by decide) ?_
    exact hret u8 dX1_fails_12 rfl ⟨mt_eq0 (by grind [mt_fb]), by grind [mt_fm]⟩ hw
end
section
theorem mt_div5 {k z : Nat} (h : k < 5 * z) : k / z ≤ 4 := Nat.le_of_lt_succ ((Nat.div_lt_iff_lt_mul (by omega)).mpr h)
theorem lk1_53 : GoodIn lw_all (wsV RX1 53 RX1 yX1_run (ws_ yX1_run cX1_run 7 (some .boolean))) := lw_V q209 q211 qs10 q20 q212
theorem lk1_56 : GoodIn lw_all (wsV RX1 56 RX1 yX1_count (ws_ yX1_count cX1_count 7 (some .int))) := lw_V q205 q207 qs9 q20 q208
set_option maxHeartbeats 4000000 in
set_option maxRecDepth 100000 in
/-- run(filling, skip) -/
theorem m1_run (l : Launch) (G : mt_G) (q : Nat → Nat) (wr : va_W) (T : mt_T) (me so ce ot : Int32) (f0 : Int32) (sk : Int32) (hT : mt_ok T) : mt_Mi l yX1_run cX1_run 7 .boolean 4 92 G [.ref (q 0), .int f0, .int sk] (mt_w1 G q T me so ce ot wr) (fun (v : Int32) (u : Int32) => v = mt_b (mt_run T so ce ot f0 sk).2) (fun u => mt_w1 G q T u so ce ot wr) := by
  refine mt_Mi_of RX1 rfl (by decide) (Nat.le_of_ble_eq_true rfl) ?_
  intro p e s m args below meth c A ls Q K hw hl hret
  have hx := K.1
  have hb := K.2.1
  have hl : lv_has ls 7 [(0, .ref (q 0)), (1, .int f0), (2, .int sk)] := hl
  have J14 : ∀ (k14 : Nat) (i : Nat) (me1 : Int32) (fl1 : Bool), (i ≤ T.1) → (T.1 + 1 ≤ i + k14) → ((me1, fl1) = mt_ru T so ce ot sk (mt_stl so ce ot f0, false) i) → ∀ (H : Heap) (locs : List Loc), mt_Hw G A s (mt_w1 G q T me1 so ce ot wr) H locs → ∀ (ls : Array Slot), lv_has ls 7 [(0, .ref (q 0)), (2, .int sk), (3, .int (mt_b fl1)), (4, .int (nI i))] → W p l e (mt_rm 4 92) s m args below meth c H locs 0 0 Q (F0 m 14 ls []) := by
    intro k14
    induction k14 with
    | zero =>
      intro i me1 fl1 h1 h2
      exact absurd h2 (by omega)
    | succ k14 ih14 =>
      intro i me1 fl1 hj14 hk14 hs H locs hw ls hl
      have hn := hT.1
      have hz := hT.2.2.1 i
      have hd := hT.2.1 i
      have J129 : ∀ (me3 : Int32) (fl3 : Bool), ((me3, fl3) = mt_ru T so ce ot sk (mt_stl so ce ot f0, false) (i + 1)) → (i < T.1) → ∀ (H : Heap) (locs : List Loc), mt_Hw G A s (mt_w1 G q T me3 so ce ot wr) H locs → ∀ (ls : Array Slot), lv_has ls 7 [(0, .ref (q 0)), (2, .int sk), (3, .int (mt_b fl3)), (4, .int (nI i))] → W p l e (mt_rm 4 92) s m args below meth c H locs 0 0 Q (F0 m 129 ls []) := by
        intro me3 fl3 h3 hlt H locs hw ls hl
        refine lv_iinc (v := nI (i + 1)) (lv' := [(4, .int (nI (i + 1))), (0, .ref (q 0)), (2, .int sk), (3, .int (mt_b fl3))]) hx hb dX1_run_129 hl (k := 3) rfl (mt_inc i) (by decide) rfl (fun ls hl => ?_)
        refine lv_goto (tgt := 14) hx hb dX1_run_132 (by decide) ?_
        exact ih14 (i + 1) me3 fl3 (by omega) (by omega) h3 _ _ hw ls (lv_sub hl [1, 2, 3, 0] rfl)
      have J26 : ∀ (k26 : Nat) (kk : Nat) (me2 : Int32) (fl2 : Bool), (kk ≤ (5 * T.2.2.1 i)) → ((5 * T.2.2.1 i) + 1 ≤ kk + k26) → ((me2, fl2) = mt_in T so ce ot i (me1, fl1) kk) → (nI i = sk → kk = 0) → (i < T.1) → ∀ (H : Heap) (locs : List Loc), mt_Hw G A s (mt_w1 G q T me2 so ce ot wr) H locs → ∀ (ls : Array Slot), lv_has ls 7 [(0, .ref (q 0)), (2, .int sk), (3, .int (mt_b fl2)), (4, .int (nI i)), (5, .int (nI kk))] → W p l e (mt_rm 4 92) s m args below meth c H locs 0 0 Q (F0 m 26 ls []) := by
        intro k26
        induction k26 with
        | zero =>
          intro kk me2 fl2 h1 h2
          exact absurd h2 (by omega)
        | succ k26 ih26 =>
          intro kk me2 fl2 hj26 hk26 h2 hsk hlt H locs hw ls hl
          have J122 : ∀ (me3 : Int32) (y : Bool), (me3 = mt_fm so ce ot me2 (T.2.2.2 (4 * i + kk % T.2.2.1 i)) (nI (mt_ci T i kk))) → (y = (mt_fb me2 (T.2.2.2 (4 * i + kk % T.2.2.1 i)) (nI (mt_ci T i kk)) || fl2)) → (kk < 5 * T.2.2.1 i) → (¬ nI i = sk) → ∀ (H : Heap) (locs : List Loc), mt_Hw G A s (mt_w1 G q T me3 so ce ot wr) H locs → ∀ (ls : Array Slot), lv_has ls 7 [(0, .ref (q 0)), (2, .int sk), (4, .int (nI i)), (5, .int (nI kk))] → W p l e (mt_rm 4 92) s m args below meth c H locs 0 0 Q (F0 m 122 ls [.int (mt_b y)]) := by
            intro me3 y e3 ey hkl hns H locs hw ls hl
            refine lv_istore_n (lv' := [(3, .int (mt_b y)), (0, .ref (q 0)), (2, .int sk), (4, .int (nI i)), (5, .int (nI kk))]) hx hb dX1_run_122 rfl hl (by decide) rfl (fun ls hl => ?_)
            refine lv_iinc (v := nI (kk + 1)) (lv' := [(5, .int (nI (kk + 1))), (3, .int (mt_b y)), (0, .ref (q 0)), (2, .int sk), (4, .int (nI i))]) hx hb dX1_run_123 hl (k := 4) rfl (mt_inc kk) (by decide) rfl (fun ls hl => ?_)
            refine lv_goto (tgt := 26) hx hb dX1_run_126 (by decide) ?_
            exact ih26 (kk + 1) me3 y (by omega) (by omega) (by rw [e3]; show _ = (mt_fm _ _ _ _ _ _, _); rw [ey, ← h2]) (fun h => absurd h hns) hlt _ _ hw ls (lv_sub hl [2, 3, 1, 4, 0] rfl)
          have J82 : ∀ (x : Nat), (x = mt_ci T i kk) → (kk < 5 * T.2.2.1 i) → (¬ nI i = sk) → (kk % T.2.2.1 i < T.2.2.1 i) → ∀ (H : Heap) (locs : List Loc), mt_Hw G A s (mt_w1 G q T me2 so ce ot wr) H locs → ∀ (ls : Array Slot), lv_has ls 7 [(0, .ref (q 0)), (2, .int sk), (3, .int (mt_b fl2)), (4, .int (nI i)), (5, .int (nI kk))] → W p l e (mt_rm 4 92) s m args below meth c H locs 0 0 Q (F0 m 82 ls [.int (nI x)]) := by
            intro x ex hkl hns hm H locs hw ls hl
            refine lv_istore (lv' := [(6, .int (nI x)), (0, .ref (q 0)), (2, .int sk), (3, .int (mt_b fl2)), (4, .int (nI i)), (5, .int (nI kk))]) hx hb dX1_run_82 hl (by decide) rfl (fun ls hl => ?_)
            refine lv_aload_n hx hb dX1_run_84 rfl (lv_at hl 1 rfl) ?_
            refine lv_aload_n hx hb dX1_run_85 rfl (lv_at hl 1 rfl) ?_
            refine g1_o K hw dX1_run_86 ?_
            refine lv_iconst (v := nI 4) hx hb dX1_run_89 (by decide) ?_
            refine lv_iload hx hb dX1_run_90 (lv_at hl 4 rfl) ?_
            refine lv_imul hx hb dX1_run_92 ?_
            refine mt_top (y := nI (4 * i)) (pk_mul 4 i) ?_
            refine lv_iload hx hb dX1_run_93 (lv_at hl 5 rfl) ?_
            refine lv_aload_n hx hb dX1_run_95 rfl (lv_at hl 1 rfl) ?_
            refine g1_z K hw dX1_run_96 ?_
            refine lv_iload hx hb dX1_run_99 (lv_at hl 4 rfl) ?_
            refine r1_z (k := i) K hw (by omega) dX1_run_101 ?_
            refine lv_irem hx hb dX1_run_102 (nI_ne0 (by omega) (by omega)) ?_
            refine mt_top (y := nI (kk % T.2.2.1 i)) (pk_rem (by omega) (by omega) (by omega)) ?_
            refine lv_iadd hx hb dX1_run_103 ?_
            refine mt_top (y := nI (4 * i + kk % T.2.2.1 i)) (nI_add _ _) ?_
            refine r1_o (k := 4 * i + kk % T.2.2.1 i) K hw (by omega) dX1_run_104 ?_
            refine lv_iload hx hb dX1_run_105 (lv_at hl 0 rfl) ?_
            refine mt_calli (n := 2) (As := [.int (nI (T.2.2.2 (4 * i + kk % T.2.2.1 i))), .int (nI x)]) (rest := []) K hw hl.1 (m1_fails l G q wr T me2 so ce ot (T.2.2.2 (4 * i + kk % T.2.2.1 i)) (nI x) (hT.2.2.2 _)) lk1_49 (by decide +kernel) rfl rfl ⟨Nat.le_of_ble_eq_true rfl, Nat.le_of_ble_eq_true rfl⟩ ⟨Nat.le_of_ble_eq_true rfl, Nat.le_of_ble_eq_true rfl⟩ rfl rfl (Nat.le_of_ble_eq_true rfl) dX1_run_107 (fun v107 u107 H locs p107 hw => ?_)
            obtain ⟨rfl, p107⟩ := p107
            refine lv_if_ne (tgt := 117) hx hb dX1_run_110 (by decide) (fun c110 => ?_) (fun c110 => ?_)
            · replace c110 := mt_b1 c110
              refine lv_iconst (v := 1) hx hb dX1_run_117 (by decide) ?_
              refine lv_goto (tgt := 122) hx hb dX1_run_118 (by decide) ?_
              exact J122 u107 true (by rw [p107, ex]) (by rw [← ex]; grind) hkl hns _ _ hw ls (lv_sub hl [1, 2, 4, 5] rfl)
            · replace c110 := mt_b0 c110
              refine lv_iload_n hx hb dX1_run_113 rfl (lv_at hl 3 rfl) ?_
              refine lv_if_eq (tgt := 121) hx hb dX1_run_114 (by decide) (fun c114 => ?_) (fun c114 => ?_)
              · replace c114 := mt_b0 c114
                refine lv_iconst (v := 0) hx hb dX1_run_121 (by decide) ?_
                exact J122 u107 false (by rw [p107, ex]) (by rw [← ex]; grind) hkl hns _ _ hw ls (lv_sub hl [1, 2, 4, 5] rfl)
              · replace c114 := mt_b1 c114
                refine lv_iconst (v := 1) hx hb dX1_run_117 (by decide) ?_
                refine lv_goto (tgt := 122) hx hb dX1_run_118 (by decide) ?_
                exact J122 u107 true (by rw [p107, ex]) (by rw [← ex]; grind) hkl hns _ _ hw ls (lv_sub hl [1, 2, 4, 5] rfl)
          refine lv_iload hx hb dX1_run_26 (lv_at hl 4 rfl) ?_
          refine lv_iconst (v := 5) hx hb dX1_run_28 (by decide) ?_
          refine lv_aload_n hx hb dX1_run_29 rfl (lv_at hl 0 rfl) ?_
          refine g1_z K hw dX1_run_30 ?_
          refine lv_iload hx hb dX1_run_33 (lv_at hl 3 rfl) ?_
          refine r1_z (k := i) K hw (by omega) dX1_run_35 ?_
          refine lv_imul hx hb dX1_run_36 ?_
          refine mt_top (y := nI (5 * T.2.2.1 i)) (pk_mul 5 (T.2.2.1 i)) ?_
          refine lv_icmp_ge (tgt := 129) hx hb dX1_run_37 (by decide) (fun c37 => ?_) (fun c37 => ?_)
          · have hkk : kk = 5 * T.2.2.1 i := by have := (nI_leI (a := 5 * T.2.2.1 i) (b := kk) (by omega) (by omega)).mp c37; omega
            exact J129 me2 fl2 (by show _ = if nI i = sk then _ else _; rw [← hs]; by_cases hq : nI i = sk; (rw [if_pos hq, h2, hsk hq]; rfl); (rw [if_neg hq, h2, hkk])) hlt _ _ hw ls (lv_sub hl [0, 1, 2, 3] rfl)
          · have hkl : kk < 5 * T.2.2.1 i := by have := mt_nle (a := kk) (b := 5 * T.2.2.1 i) (by omega) (by omega) c37; omega
            have hm : kk % T.2.2.1 i < T.2.2.1 i := Nat.mod_lt _ (by omega)
            refine lv_iload hx hb dX1_run_40 (lv_at hl 3 rfl) ?_
            refine lv_iload_n hx hb dX1_run_42 rfl (lv_at hl 1 rfl) ?_
            refine lv_icmp_eq (tgt := 129) hx hb dX1_run_43 (by decide) (fun c43 => ?_) (fun c43 => ?_)
            · exact J129 me2 fl2 (by show _ = if nI i = sk then _ else _; rw [← hs, if_pos c43, h2, hsk c43]; rfl) hlt _ _ hw ls (lv_sub hl [0, 1, 2, 3] rfl)
            · have hns := c43
              refine lv_aload_n hx hb dX1_run_46 rfl (lv_at hl 0 rfl) ?_
              refine g1_d K hw dX1_run_47 ?_
              refine lv_iload hx hb dX1_run_50 (lv_at hl 3 rfl) ?_
              refine r1_d (k := i) K hw (by omega) dX1_run_52 ?_
              refine lv_iconst (v := nI 1) hx hb dX1_run_53 (by decide) ?_
              refine lv_icmp_ne (tgt := 72) hx hb dX1_run_54 (by decide) (fun c54 => ?_) (fun c54 => ?_)
              · replace c54 : ¬ T.2.1 i = 1 := fun h => c54 (by rw [h])
                refine lv_iload hx hb dX1_run_72 (lv_at hl 4 rfl) ?_
                refine lv_aload_n hx hb dX1_run_74 rfl (lv_at hl 0 rfl) ?_
                refine g1_z K hw dX1_run_75 ?_
                refine lv_iload hx hb dX1_run_78 (lv_at hl 3 rfl) ?_
                refine r1_z (k := i) K hw (by omega) dX1_run_80 ?_
                refine lv_idiv hx hb dX1_run_81 (nI_ne0 (by omega) (by omega)) ?_
                refine mt_top (y := nI (kk / T.2.2.1 i)) (pk_div (by omega) (by omega) (by omega)) ?_
                exact J82 (kk / T.2.2.1 i) (by unfold mt_ci; simp only [c54]; rfl) hkl hns hm _ _ hw ls (lv_sub hl [0, 1, 2, 3, 4] rfl)
              · replace c54 : T.2.1 i = 1 := (nI_eq (by omega) (by decide)).mp c54
                refine lv_iconst (v := nI 4) hx hb dX1_run_57 (by decide) ?_
                refine lv_iload hx hb dX1_run_58 (lv_at hl 4 rfl) ?_
                refine lv_aload_n hx hb dX1_run_60 rfl (lv_at hl 0 rfl) ?_
                refine g1_z K hw dX1_run_61 ?_
                refine lv_iload hx hb dX1_run_64 (lv_at hl 3 rfl) ?_
                refine r1_z (k := i) K hw (by omega) dX1_run_66 ?_
                refine lv_idiv hx hb dX1_run_67 (nI_ne0 (by omega) (by omega)) ?_
                refine mt_top (y := nI (kk / T.2.2.1 i)) (pk_div (by omega) (by omega) (by omega)) ?_
                refine lv_isub hx hb dX1_run_68 ?_
                refine mt_top (y := nI (4 - kk / T.2.2.1 i)) (pk_sub (mt_div5 hkl)) ?_
                refine lv_goto (tgt := 82) hx hb dX1_run_69 (by decide) ?_
                exact J82 (4 - kk / T.2.2.1 i) (by unfold mt_ci; simp only [c54]; rfl) hkl hns hm _ _ hw ls (lv_sub hl [0, 1, 2, 3, 4] rfl)
      refine lv_iload hx hb dX1_run_14 (lv_at hl 3 rfl) ?_
      refine lv_aload_n hx hb dX1_run_16 rfl (lv_at hl 0 rfl) ?_
      refine g1_n K hw dX1_run_17 ?_
      refine lv_icmp_ge (tgt := 135) hx hb dX1_run_20 (by decide) (fun c20 => ?_) (fun c20 => ?_)
      · have hii : i = T.1 := by have := (nI_leI (a := T.1) (b := i) (by omega) (by omega)).mp c20; omega
        refine lv_iload_n hx hb dX1_run_135 rfl (lv_at hl 2 rfl) ?_
        exact hret me1 dX1_run_136 (mt_b_n _) (by rw [show mt_run T so ce ot f0 sk = (me1, fl1) by rw [hs, hii]; rfl]) hw
      · have hlt : i < T.1 := by have := mt_nle (a := i) (b := T.1) (by omega) (by omega) c20; omega
        refine lv_iconst (v := 0) hx hb dX1_run_23 (by decide) ?_
        refine lv_istore (lv' := [(5, .int 0), (0, .ref (q 0)), (2, .int sk), (3, .int (mt_b fl1)), (4, .int (nI i))]) hx hb dX1_run_24 hl (by decide) rfl (fun ls hl => ?_)
        exact J26 ((5 * T.2.2.1 i) + 1) 0 me1 fl1 (by omega) (by omega) rfl (fun _ => rfl) hlt _ _ hw ls (lv_sub hl [1, 2, 3, 4, 0] rfl)
  refine lv_aload_n hx hb dX1_run_0 rfl (lv_at hl 0 rfl) ?_
  refine lv_iload_n hx hb dX1_run_1 rfl (lv_at hl 1 rfl) ?_
  refine p1_me K hw dX1_run_2 (fun H locs hw => ?_)
  refine lv_aload_n hx hb dX1_run_5 rfl (lv_at hl 0 rfl) ?_
  refine mt_callv (n := 0) (As := []) (rest := []) K hw hl.1 (m1_settle l G q wr T f0 so ce ot ) lk1_43 (by decide +kernel) rfl rfl ⟨Nat.le_of_ble_eq_true rfl, Nat.le_of_ble_eq_true rfl⟩ ⟨Nat.le_of_ble_eq_true rfl, Nat.le_of_ble_eq_true rfl⟩ rfl rfl (Nat.le_of_ble_eq_true rfl) dX1_run_6 (fun u6 H locs p6 hw => ?_)
  refine lv_iconst (v := 0) hx hb dX1_run_9 (by decide) ?_
  refine lv_istore_n (lv' := [(3, .int 0), (0, .ref (q 0)), (1, .int f0), (2, .int sk)]) hx hb dX1_run_10 rfl hl (by decide) rfl (fun ls hl => ?_)
  refine lv_iconst (v := 0) hx hb dX1_run_11 (by decide) ?_
  refine lv_istore (lv' := [(4, .int 0), (3, .int 0), (0, .ref (q 0)), (1, .int f0), (2, .int sk)]) hx hb dX1_run_12 hl (by decide) rfl (fun ls hl => ?_)
  exact J14 (T.1 + 1) 0 u6 false (by omega) (by omega) (by rw [p6]; rfl) _ _ hw ls (lv_sub hl [2, 4, 1, 0] rfl)
set_option maxHeartbeats 4000000 in
set_option maxRecDepth 100000 in
/-- count(k, v, a, skip) -/
theorem m1_count (l : Launch) (G : mt_G) (q : Nat → Nat) (wr : va_W) (T : mt_T) (me so ce ot : Int32) (k0 : Int32) (v0 : Int32) (a0 : Int32) (sk : Int32) (hT : mt_ok T) : mt_Mi l yX1_count cX1_count 7 .int 5 118 G [.ref (q 0), .int k0, .int v0, .int a0, .int sk] (mt_w1 G q T me so ce ot wr) (fun (v : Int32) (u : Int32) => v = nI (mt_ct T k0 v0 a0 sk)) (fun u => mt_w1 G q T u k0 v0 a0 wr) := by
  refine mt_Mi_of RX1 rfl (by decide) (Nat.le_of_ble_eq_true rfl) ?_
  intro p e s m args below meth c A ls Q K hw hl hret
  have hx := K.1
  have hb := K.2.1
  have hl : lv_has ls 7 [(0, .ref (q 0)), (1, .int k0), (2, .int v0), (3, .int a0), (4, .int sk)] := hl
  have J21 : ∀ (k21 : Nat) (j n : Nat) (me1 : Int32), (j ≤ 32) → (32 + 1 ≤ j + k21) → (n = mt_cnt (fun f => (mt_run T k0 v0 a0 (nI f) sk).2) j) → ∀ (H : Heap) (locs : List Loc), mt_Hw G A s (mt_w1 G q T me1 k0 v0 a0 wr) H locs → ∀ (ls : Array Slot), lv_has ls 7 [(0, .ref (q 0)), (4, .int sk), (5, .int (nI n)), (6, .int (nI j))] → W p l e (mt_rm 5 118) s m args below meth c H locs 0 0 Q (F0 m 21 ls []) := by
    intro k21
    induction k21 with
    | zero =>
      intro j n me1 h1 h2
      exact absurd h2 (by omega)
    | succ k21 ih21 =>
      intro j n me1 hj21 hk21 hs H locs hw ls hl
      have J48 : ∀ (x : Nat) (me2 : Int32), (x = n + (if (fun f => (mt_run T k0 v0 a0 (nI f) sk).2) j = true then 1 else 0)) → (j < 32) → ∀ (H : Heap) (locs : List Loc), mt_Hw G A s (mt_w1 G q T me2 k0 v0 a0 wr) H locs → ∀ (ls : Array Slot), lv_has ls 7 [(0, .ref (q 0)), (4, .int sk), (6, .int (nI j))] → W p l e (mt_rm 5 118) s m args below meth c H locs 0 0 Q (F0 m 48 ls [.int (nI x)]) := by
        intro x me2 ex hlt H locs hw ls hl
        refine lv_istore (lv' := [(5, .int (nI x)), (0, .ref (q 0)), (4, .int sk), (6, .int (nI j))]) hx hb dX1_count_48 hl (by decide) rfl (fun ls hl => ?_)
        refine lv_iinc (v := nI (j + 1)) (lv' := [(6, .int (nI (j + 1))), (5, .int (nI x)), (0, .ref (q 0)), (4, .int sk)]) hx hb dX1_count_50 hl (k := 3) rfl (mt_inc j) (by decide) rfl (fun ls hl => ?_)
        refine lv_goto (tgt := 21) hx hb dX1_count_53 (by decide) ?_
        exact ih21 (j + 1) x me2 (by omega) (by omega) (by rw [ex, hs]; rfl) _ _ hw ls (lv_sub hl [2, 3, 1, 0] rfl)
      refine lv_iload hx hb dX1_count_21 (lv_at hl 3 rfl) ?_
      refine lv_bipush (v := nI 32) hx hb dX1_count_23 (by decide) ?_
      refine lv_icmp_ge (tgt := 56) hx hb dX1_count_25 (by decide) (fun c25 => ?_) (fun c25 => ?_)
      · have hjj : j = 32 := by have := (nI_leI (a := 32) (b := j) (by omega) (by omega)).mp c25; omega
        refine lv_iload hx hb dX1_count_56 (lv_at hl 2 rfl) ?_
        exact hret me1 dX1_count_58 rfl (by rw [hs, hjj]; rfl) hw
      · have hlt : j < 32 := by have := mt_nle (a := j) (b := 32) (by omega) (by omega) c25; omega
        refine lv_aload_n hx hb dX1_count_28 rfl (lv_at hl 0 rfl) ?_
        refine lv_iload hx hb dX1_count_29 (lv_at hl 3 rfl) ?_
        refine lv_iload hx hb dX1_count_31 (lv_at hl 1 rfl) ?_
        refine mt_calli (n := 2) (As := [.int (nI j), .int sk]) (rest := []) K hw hl.1 (m1_run l G q wr T me1 k0 v0 a0 (nI j) sk hT) lk1_53 (by decide +kernel) rfl rfl ⟨Nat.le_of_ble_eq_true rfl, Nat.le_of_ble_eq_true rfl⟩ ⟨Nat.le_of_ble_eq_true rfl, Nat.le_of_ble_eq_true rfl⟩ rfl rfl (Nat.le_of_ble_eq_true rfl) dX1_count_33 (fun v33 u33 H locs p33 hw => ?_)
        obtain rfl := p33
        refine lv_if_eq (tgt := 46) hx hb dX1_count_36 (by decide) (fun c36 => ?_) (fun c36 => ?_)
        · replace c36 := mt_b0 c36
          refine lv_iload hx hb dX1_count_46 (lv_at hl 2 rfl) ?_
          exact J48 n u33 (by grind) hlt _ _ hw ls (lv_sub hl [0, 1, 3] rfl)
        · replace c36 := mt_b1 c36
          refine lv_iload hx hb dX1_count_39 (lv_at hl 2 rfl) ?_
          refine lv_iconst (v := 1) hx hb dX1_count_41 (by decide) ?_
          refine lv_iadd hx hb dX1_count_42 ?_
          refine mt_top (y := nI (n + 1)) (nI_1 n) ?_
          refine lv_goto (tgt := 48) hx hb dX1_count_43 (by decide) ?_
          exact J48 (n + 1) u33 (by grind) hlt _ _ hw ls (lv_sub hl [0, 1, 3] rfl)
  refine lv_aload_n hx hb dX1_count_0 rfl (lv_at hl 0 rfl) ?_
  refine lv_iload_n hx hb dX1_count_1 rfl (lv_at hl 1 rfl) ?_
  refine p1_so K hw dX1_count_2 (fun H locs hw => ?_)
  refine lv_aload_n hx hb dX1_count_5 rfl (lv_at hl 0 rfl) ?_
  refine lv_iload_n hx hb dX1_count_6 rfl (lv_at hl 2 rfl) ?_
  refine p1_ce K hw dX1_count_7 (fun H locs hw => ?_)
  refine lv_aload_n hx hb dX1_count_10 rfl (lv_at hl 0 rfl) ?_
  refine lv_iload_n hx hb dX1_count_11 rfl (lv_at hl 3 rfl) ?_
  refine p1_ot K hw dX1_count_12 (fun H locs hw => ?_)
  refine lv_iconst (v := 0) hx hb dX1_count_15 (by decide) ?_
  refine lv_istore (lv' := [(5, .int 0), (0, .ref (q 0)), (1, .int k0), (2, .int v0), (3, .int a0), (4, .int sk)]) hx hb dX1_count_16 hl (by decide) rfl (fun ls hl => ?_)
  refine lv_iconst (v := 0) hx hb dX1_count_18 (by decide) ?_
  refine lv_istore (lv' := [(6, .int 0), (5, .int 0), (0, .ref (q 0)), (1, .int k0), (2, .int v0), (3, .int a0), (4, .int sk)]) hx hb dX1_count_19 hl (by decide) rfl (fun ls hl => ?_)
  exact J21 (32 + 1) 0 0 me (by omega) (by omega) rfl _ _ hw ls (lv_sub hl [2, 6, 1, 0] rfl)
end
section
theorem mt_all_f {P : Nat → Bool} {j n : Nat} (h : mt_all P j = false) (hn : j ≤ n) : mt_all P n = false := by
  induction n with
  | zero =>
    have : j = 0 := by omega
    rw [← this]; exact h
  | succ n ih =>
    by_cases e : j = n + 1
    · rw [← e]; exact h
    · show (mt_all P n && P n) = false
      rw [ih (by omega)]
      rfl
theorem lk1_60 : GoodIn lw_all (wsV RX1 60 RX1 yX1_fault (ws_ yX1_fault cX1_fault 5 (some .boolean))) := lw_V q241 q243 qs16 q20 q244
theorem lk1_64 : GoodIn lw_all (wsV RX1 64 RX1 yX1_finds (ws_ yX1_finds cX1_finds 4 (some .boolean))) := lw_V q249 q238 q239 q20 q240
theorem lk1_67 : GoodIn lw_all (wsV RX1 67 RX1 yX1_found (ws_ yX1_found cX1_found 5 (some .int))) := lw_V q254 q246 q247 q20 q248
theorem lk1_70 : GoodIn lw_all (wsV RX1 70 RX1 yX1_without (ws_ yX1_without cX1_without 6 (some .boolean))) := lw_V q263 q265 qs17 q20 q266
set_option maxHeartbeats 4000000 in
set_option maxRecDepth 100000 in
/-- sound() -/
theorem m1_sound (l : Launch) (G : mt_G) (q : Nat → Nat) (wr : va_W) (T : mt_T) (me so ce ot : Int32)  (hT : mt_ok T) : mt_Mi l yX1_sound cX1_sound 1 .boolean 6 144 G [.ref (q 0)] (mt_w1 G q T me so ce ot wr) (fun (v : Int32) (u : Int32 × Int32 × Int32 × Int32) => v = mt_b (decide (mt_ct T (-1) 0 0 (-1) = 0))) (fun u => mt_w1 G q T u.1 u.2.1 u.2.2.1 u.2.2.2 wr) := by
  refine mt_Mi_of RX1 rfl (by decide) (Nat.le_of_ble_eq_true rfl) ?_
  intro p e s m args below meth c A ls Q K hw hl hret
  have hx := K.1
  have hb := K.2.1
  have hl : lv_has ls 1 [(0, .ref (q 0))] := hl
  refine lv_aload_n hx hb dX1_sound_0 rfl (lv_at hl 0 rfl) ?_
  refine lv_iconst (v := (-1)) hx hb dX1_sound_1 (by decide) ?_
  refine lv_iconst (v := 0) hx hb dX1_sound_2 (by decide) ?_
  refine lv_iconst (v := 0) hx hb dX1_sound_3 (by decide) ?_
  refine lv_iconst (v := (-1)) hx hb dX1_sound_4 (by decide) ?_
  refine mt_calli (n := 4) (As := [.int (-1), .int 0, .int 0, .int (-1)]) (rest := []) K hw hl.1 (m1_count l G q wr T me so ce ot (-1) 0 0 (-1) hT) lk1_56 (by decide +kernel) rfl rfl ⟨Nat.le_of_ble_eq_true rfl, Nat.le_of_ble_eq_true rfl⟩ ⟨Nat.le_of_ble_eq_true rfl, Nat.le_of_ble_eq_true rfl⟩ rfl rfl (Nat.le_of_ble_eq_true rfl) dX1_sound_5 (fun v5 u5 H locs p5 hw => ?_)
  obtain rfl := p5
  refine lv_if_ne (tgt := 15) hx hb dX1_sound_8 (by decide) (fun c8 => ?_) (fun c8 => ?_)
  · replace c8 : ¬ mt_ct T (-1) 0 0 (-1) = 0 := fun h => c8 (by rw [h]; rfl)
    refine lv_iconst (v := 0) hx hb dX1_sound_15 (by decide) ?_
    exact hret (u5, (-1), 0, 0) dX1_sound_16 rfl (by simp only [c8]; rfl) hw
  · replace c8 : mt_ct T (-1) 0 0 (-1) = 0 := (nI_eq (b := 0) (by have := mt_ct_le T (-1) 0 0 (-1); omega) (by decide)).mp c8
    refine lv_iconst (v := 1) hx hb dX1_sound_11 (by decide) ?_
    refine lv_goto (tgt := 16) hx hb dX1_sound_12 (by decide) ?_
    exact hret (u5, (-1), 0, 0) dX1_sound_16 rfl (by simp only [c8]; rfl) hw
set_option maxHeartbeats 4000000 in
set_option maxRecDepth 100000 in
/-- steps() -/
theorem m1_steps (l : Launch) (G : mt_G) (q : Nat → Nat) (wr : va_W) (T : mt_T) (me so ce ot : Int32)  (hT : mt_ok T) : mt_Mi l yX1_steps cX1_steps 3 .int 0 0 G [.ref (q 0)] (mt_w1 G q T me so ce ot wr) (fun (v : Int32) (u : Unit) => v = nI (mt_stp T.2.2.1 T.1)) (fun u => mt_w1 G q T me so ce ot wr) := by
  refine mt_Mi_of RX1 rfl (by decide) (Nat.le_of_ble_eq_true rfl) ?_
  intro p e s m args below meth c A ls Q K hw hl hret
  have hx := K.1
  have hb := K.2.1
  have hl : lv_has ls 3 [(0, .ref (q 0))] := hl
  have J4 : ∀ (k4 : Nat) (j n : Nat), (j ≤ T.1) → (T.1 + 1 ≤ j + k4) → (n = mt_stp T.2.2.1 j) → ∀ (H : Heap) (locs : List Loc), mt_Hw G A s (mt_w1 G q T me so ce ot wr) H locs → ∀ (ls : Array Slot), lv_has ls 3 [(0, .ref (q 0)), (1, .int (nI n)), (2, .int (nI j))] → W p l e (mt_rm 0 0) s m args below meth c H locs 0 0 Q (F0 m 4 ls []) := by
    intro k4
    induction k4 with
    | zero =>
      intro j n h1 h2
      exact absurd h2 (by omega)
    | succ k4 ih4 =>
      intro j n hj4 hk4 hs H locs hw ls hl
      have hn := hT.1
      have hz := hT.2.2.1 j
      refine lv_iload_n hx hb dX1_steps_4 rfl (lv_at hl 2 rfl) ?_
      refine lv_aload_n hx hb dX1_steps_5 rfl (lv_at hl 0 rfl) ?_
      refine g1_n K hw dX1_steps_6 ?_
      refine lv_icmp_ge (tgt := 29) hx hb dX1_steps_9 (by decide) (fun c9 => ?_) (fun c9 => ?_)
      · have hjj : j = T.1 := by have := (nI_leI (a := T.1) (b := j) (by omega) (by omega)).mp c9; omega
        refine lv_iload_n hx hb dX1_steps_29 rfl (lv_at hl 1 rfl) ?_
        exact hret () dX1_steps_30 rfl (by rw [hs, hjj]) hw
      · have hlt : j < T.1 := by have := mt_nle (a := j) (b := T.1) (by omega) (by omega) c9; omega
        refine lv_iload_n hx hb dX1_steps_12 rfl (lv_at hl 1 rfl) ?_
        refine lv_iconst (v := 5) hx hb dX1_steps_13 (by decide) ?_
        refine lv_aload_n hx hb dX1_steps_14 rfl (lv_at hl 0 rfl) ?_
        refine g1_z K hw dX1_steps_15 ?_
        refine lv_iload_n hx hb dX1_steps_18 rfl (lv_at hl 2 rfl) ?_
        refine r1_z (k := j) K hw (by omega) dX1_steps_19 ?_
        refine lv_imul hx hb dX1_steps_20 ?_
        refine mt_top (y := nI (5 * T.2.2.1 j)) (pk_mul 5 (T.2.2.1 j)) ?_
        refine lv_iadd hx hb dX1_steps_21 ?_
        refine mt_top (y := nI (n + 5 * T.2.2.1 j)) (nI_add n (5 * T.2.2.1 j)) ?_
        refine lv_istore_n (lv' := [(1, .int (nI (n + 5 * T.2.2.1 j))), (0, .ref (q 0)), (2, .int (nI j))]) hx hb dX1_steps_22 rfl hl (by decide) rfl (fun ls hl => ?_)
        refine lv_iinc (v := nI (j + 1)) (lv' := [(2, .int (nI (j + 1))), (1, .int (nI (n + 5 * T.2.2.1 j))), (0, .ref (q 0))]) hx hb dX1_steps_23 hl (k := 2) rfl (mt_inc j) (by decide) rfl (fun ls hl => ?_)
        refine lv_goto (tgt := 4) hx hb dX1_steps_26 (by decide) ?_
        exact ih4 (j + 1) (n + 5 * T.2.2.1 j) (by omega) (by omega) (by rw [hs]; rfl) _ _ hw ls (lv_sub hl [2, 1, 0] rfl)
  refine lv_iconst (v := 0) hx hb dX1_steps_0 (by decide) ?_
  refine lv_istore_n (lv' := [(1, .int 0), (0, .ref (q 0))]) hx hb dX1_steps_1 rfl hl (by decide) rfl (fun ls hl => ?_)
  refine lv_iconst (v := 0) hx hb dX1_steps_2 (by decide) ?_
  refine lv_istore_n (lv' := [(2, .int 0), (1, .int 0), (0, .ref (q 0))]) hx hb dX1_steps_3 rfl hl (by decide) rfl (fun ls hl => ?_)
  exact J4 (T.1 + 1) 0 0 (by omega) (by omega) rfl _ _ hw ls (lv_sub hl [2, 1, 0] rfl)
set_option maxHeartbeats 4000000 in
set_option maxRecDepth 100000 in
/-- fault(kind, v, a) -/
theorem m1_fault (l : Launch) (G : mt_G) (q : Nat → Nat) (wr : va_W) (T : mt_T) (me so ce ot : Int32) (k0 : Int32) (v0 : Int32) (a0 : Int32)  : mt_Mi l yX1_fault cX1_fault 5 .boolean 0 0 G [.ref (q 0), .int k0, .int v0, .int a0] (mt_w1 G q T me so ce ot wr) (fun (v : Int32) (u : Unit) => v = mt_b (mt_flm k0 v0 a0)) (fun u => mt_w1 G q T me so ce ot wr) := by
  refine mt_Mi_of RX1 rfl (by decide) (Nat.le_of_ble_eq_true rfl) ?_
  intro p e s m args below meth c A ls Q K hw hl hret
  have hx := K.1
  have hb := K.2.1
  have hl : lv_has ls 5 [(0, .ref (q 0)), (1, .int k0), (2, .int v0), (3, .int a0)] := hl
  have J19 : ∀ (x : Bool), (x = decide (¬ a0 < 0 ∧ ¬ 4 < a0 ∧ ¬ a0 = v0)) → ∀ (H : Heap) (locs : List Loc), mt_Hw G A s (mt_w1 G q T me so ce ot wr) H locs → ∀ (ls : Array Slot), lv_has ls 5 [(0, .ref (q 0)), (1, .int k0), (2, .int v0)] → W p l e (mt_rm 0 0) s m args below meth c H locs 0 0 Q (F0 m 19 ls [.int (mt_b x)]) := by
    intro x ex H locs hw ls hl
    refine lv_istore (lv' := [(4, .int (mt_b x)), (0, .ref (q 0)), (1, .int k0), (2, .int v0)]) hx hb dX1_fault_19 hl (by decide) rfl (fun ls hl => ?_)
    refine lv_iload_n hx hb dX1_fault_21 rfl (lv_at hl 2 rfl) ?_
    refine lv_if_lt (tgt := 54) hx hb dX1_fault_22 (by decide) (fun c22 => ?_) (fun c22 => ?_)
    · refine lv_iconst (v := 0) hx hb dX1_fault_54 (by decide) ?_
      exact hret () dX1_fault_55 rfl (by first | exact mt_eq0 (by grind [mt_flm]) | exact mt_eq1 (by grind [mt_flm])) hw
    · refine lv_iload_n hx hb dX1_fault_25 rfl (lv_at hl 2 rfl) ?_
      refine lv_bipush (v := 13) hx hb dX1_fault_26 (by decide) ?_
      refine lv_icmp_gt (tgt := 54) hx hb dX1_fault_28 (by decide) (fun c28 => ?_) (fun c28 => ?_)
      · refine lv_iconst (v := 0) hx hb dX1_fault_54 (by decide) ?_
        exact hret () dX1_fault_55 rfl (by first | exact mt_eq0 (by grind [mt_flm]) | exact mt_eq1 (by grind [mt_flm])) hw
      · refine lv_iload_n hx hb dX1_fault_31 rfl (lv_at hl 3 rfl) ?_
        refine lv_if_lt (tgt := 54) hx hb dX1_fault_32 (by decide) (fun c32 => ?_) (fun c32 => ?_)
        · refine lv_iconst (v := 0) hx hb dX1_fault_54 (by decide) ?_
          exact hret () dX1_fault_55 rfl (by first | exact mt_eq0 (by grind [mt_flm]) | exact mt_eq1 (by grind [mt_flm])) hw
        · refine lv_iload_n hx hb dX1_fault_35 rfl (lv_at hl 3 rfl) ?_
          refine lv_iconst (v := 4) hx hb dX1_fault_36 (by decide) ?_
          refine lv_icmp_gt (tgt := 54) hx hb dX1_fault_37 (by decide) (fun c37 => ?_) (fun c37 => ?_)
          · refine lv_iconst (v := 0) hx hb dX1_fault_54 (by decide) ?_
            exact hret () dX1_fault_55 rfl (by first | exact mt_eq0 (by grind [mt_flm]) | exact mt_eq1 (by grind [mt_flm])) hw
          · refine lv_iload_n hx hb dX1_fault_40 rfl (lv_at hl 2 rfl) ?_
            refine lv_iconst (v := 4) hx hb dX1_fault_41 (by decide) ?_
            refine lv_icmp_lt (tgt := 50) hx hb dX1_fault_42 (by decide) (fun c42 => ?_) (fun c42 => ?_)
            · refine lv_iconst (v := 1) hx hb dX1_fault_50 (by decide) ?_
              refine lv_goto (tgt := 55) hx hb dX1_fault_51 (by decide) ?_
              exact hret () dX1_fault_55 rfl (by first | exact mt_eq0 (by grind [mt_flm]) | exact mt_eq1 (by grind [mt_flm])) hw
            · refine lv_iload hx hb dX1_fault_45 (lv_at hl 0 rfl) ?_
              refine lv_if_eq (tgt := 54) hx hb dX1_fault_47 (by decide) (fun c47 => ?_) (fun c47 => ?_)
              · replace c47 := mt_b0 c47
                refine lv_iconst (v := 0) hx hb dX1_fault_54 (by decide) ?_
                exact hret () dX1_fault_55 rfl (by first | exact mt_eq0 (by grind [mt_flm]) | exact mt_eq1 (by grind [mt_flm])) hw
              · replace c47 := mt_b1 c47
                refine lv_iconst (v := 1) hx hb dX1_fault_50 (by decide) ?_
                refine lv_goto (tgt := 55) hx hb dX1_fault_51 (by decide) ?_
                exact hret () dX1_fault_55 rfl (by first | exact mt_eq0 (by grind [mt_flm]) | exact mt_eq1 (by grind [mt_flm])) hw
  refine lv_iload_n hx hb dX1_fault_0 rfl (lv_at hl 3 rfl) ?_
  refine lv_if_lt (tgt := 18) hx hb dX1_fault_1 (by decide) (fun c1 => ?_) (fun c1 => ?_)
  · refine lv_iconst (v := 0) hx hb dX1_fault_18 (by decide) ?_
    exact J19 false (by grind) _ _ hw ls (lv_sub hl [0, 1, 2] rfl)
  · refine lv_iload_n hx hb dX1_fault_4 rfl (lv_at hl 3 rfl) ?_
    refine lv_iconst (v := 4) hx hb dX1_fault_5 (by decide) ?_
    refine lv_icmp_gt (tgt := 18) hx hb dX1_fault_6 (by decide) (fun c6 => ?_) (fun c6 => ?_)
    · refine lv_iconst (v := 0) hx hb dX1_fault_18 (by decide) ?_
      exact J19 false (by grind) _ _ hw ls (lv_sub hl [0, 1, 2] rfl)
    · refine lv_iload_n hx hb dX1_fault_9 rfl (lv_at hl 3 rfl) ?_
      refine lv_iload_n hx hb dX1_fault_10 rfl (lv_at hl 2 rfl) ?_
      refine lv_icmp_eq (tgt := 18) hx hb dX1_fault_11 (by decide) (fun c11 => ?_) (fun c11 => ?_)
      · refine lv_iconst (v := 0) hx hb dX1_fault_18 (by decide) ?_
        exact J19 false (by grind) _ _ hw ls (lv_sub hl [0, 1, 2] rfl)
      · refine lv_iconst (v := 1) hx hb dX1_fault_14 (by decide) ?_
        refine lv_goto (tgt := 19) hx hb dX1_fault_15 (by decide) ?_
        exact J19 true (by grind) _ _ hw ls (lv_sub hl [0, 1, 2] rfl)
set_option maxHeartbeats 4000000 in
set_option maxRecDepth 100000 in
/-- finds(kind, v, a) -/
theorem m1_finds (l : Launch) (G : mt_G) (q : Nat → Nat) (wr : va_W) (T : mt_T) (me so ce ot : Int32) (k0 : Int32) (v0 : Int32) (a0 : Int32) (hT : mt_ok T) : mt_Mi l yX1_finds cX1_finds 4 .boolean 6 144 G [.ref (q 0), .int k0, .int v0, .int a0] (mt_w1 G q T me so ce ot wr) (fun (v : Int32) (u : Int32 × Int32 × Int32 × Int32) => v = mt_b (mt_mfi T k0 v0 a0)) (fun u => mt_w1 G q T u.1 u.2.1 u.2.2.1 u.2.2.2 wr) := by
  refine mt_Mi_of RX1 rfl (by decide) (Nat.le_of_ble_eq_true rfl) ?_
  intro p e s m args below meth c A ls Q K hw hl hret
  have hx := K.1
  have hb := K.2.1
  have hl : lv_has ls 4 [(0, .ref (q 0)), (1, .int k0), (2, .int v0), (3, .int a0)] := hl
  have J23 : ∀ (x : Int32), (x = if k0 < 4 then 0 else a0) → (mt_flm k0 v0 a0 = true) → ∀ (H : Heap) (locs : List Loc), mt_Hw G A s (mt_w1 G q T me so ce ot wr) H locs → ∀ (ls : Array Slot), lv_has ls 4 [(0, .ref (q 0))] → W p l e (mt_rm 6 144) s m args below meth c H locs 0 0 Q (F0 m 23 ls [.int x, .int v0, .int k0, .ref (q 0)]) := by
    intro x ex hf H locs hw ls hl
    refine lv_iconst (v := (-1)) hx hb dX1_finds_23 (by decide) ?_
    refine mt_calli (n := 4) (As := [.int k0, .int v0, .int x, .int (-1)]) (rest := []) K hw hl.1 (m1_count l G q wr T me so ce ot k0 v0 x (-1) hT) lk1_56 (by decide +kernel) rfl rfl ⟨Nat.le_of_ble_eq_true rfl, Nat.le_of_ble_eq_true rfl⟩ ⟨Nat.le_of_ble_eq_true rfl, Nat.le_of_ble_eq_true rfl⟩ rfl rfl (Nat.le_of_ble_eq_true rfl) dX1_finds_24 (fun v24 u24 H locs p24 hw => ?_)
    obtain rfl := p24
    have hct : mt_ct T k0 v0 x (-1) = mt_ctA T k0 v0 a0 (-1) := by rw [ex]; rfl
    refine lv_bipush (v := nI 32) hx hb dX1_finds_27 (by decide) ?_
    refine lv_icmp_ne (tgt := 36) hx hb dX1_finds_29 (by decide) (fun c29 => ?_) (fun c29 => ?_)
    · replace c29 : ¬ mt_ctA T k0 v0 a0 (-1) = 32 := fun h => c29 (by rw [hct, h])
      refine lv_iconst (v := 0) hx hb dX1_finds_36 (by decide) ?_
      exact hret (u24, k0, v0, x) dX1_finds_37 rfl (by first | exact mt_eq0 (by grind [mt_mfi]) | exact mt_eq1 (by grind [mt_mfi])) hw
    · replace c29 : mt_ctA T k0 v0 a0 (-1) = 32 := hct ▸ (nI_eq (by have := mt_ct_le T k0 v0 x (-1); omega) (by decide)).mp c29
      refine lv_iconst (v := 1) hx hb dX1_finds_32 (by decide) ?_
      refine lv_goto (tgt := 37) hx hb dX1_finds_33 (by decide) ?_
      exact hret (u24, k0, v0, x) dX1_finds_37 rfl (by first | exact mt_eq0 (by grind [mt_mfi]) | exact mt_eq1 (by grind [mt_mfi])) hw
  refine lv_aload_n hx hb dX1_finds_0 rfl (lv_at hl 0 rfl) ?_
  refine lv_iload_n hx hb dX1_finds_1 rfl (lv_at hl 1 rfl) ?_
  refine lv_iload_n hx hb dX1_finds_2 rfl (lv_at hl 2 rfl) ?_
  refine lv_iload_n hx hb dX1_finds_3 rfl (lv_at hl 3 rfl) ?_
  refine mt_calli (n := 3) (As := [.int k0, .int v0, .int a0]) (rest := []) K hw hl.1 (m1_fault l G q wr T me so ce ot k0 v0 a0 ) lk1_60 (by decide +kernel) rfl rfl ⟨Nat.le_of_ble_eq_true rfl, Nat.le_of_ble_eq_true rfl⟩ ⟨Nat.le_of_ble_eq_true rfl, Nat.le_of_ble_eq_true rfl⟩ rfl rfl (Nat.le_of_ble_eq_true rfl) dX1_finds_4 (fun v4 u4 H locs p4 hw => ?_)
  obtain rfl := p4
  refine lv_if_eq (tgt := 36) hx hb dX1_finds_7 (by decide) (fun c7 => ?_) (fun c7 => ?_)
  · replace c7 := mt_b0 c7
    refine lv_iconst (v := 0) hx hb dX1_finds_36 (by decide) ?_
    exact hret (me, so, ce, ot) dX1_finds_37 rfl (by first | exact mt_eq0 (by grind [mt_mfi]) | exact mt_eq1 (by grind [mt_mfi])) hw
  · replace c7 := mt_b1 c7
    refine lv_aload_n hx hb dX1_finds_10 rfl (lv_at hl 0 rfl) ?_
    refine lv_iload_n hx hb dX1_finds_11 rfl (lv_at hl 1 rfl) ?_
    refine lv_iload_n hx hb dX1_finds_12 rfl (lv_at hl 2 rfl) ?_
    refine lv_iload_n hx hb dX1_finds_13 rfl (lv_at hl 1 rfl) ?_
    refine lv_iconst (v := 4) hx hb dX1_finds_14 (by decide) ?_
    refine lv_icmp_ge (tgt := 22) hx hb dX1_finds_15 (by decide) (fun c15 => ?_) (fun c15 => ?_)
    · refine lv_iload_n hx hb dX1_finds_22 rfl (lv_at hl 3 rfl) ?_
      exact J23 a0 (by grind) c7 _ _ hw ls (lv_sub hl [0] rfl)
    · refine lv_iconst (v := 0) hx hb dX1_finds_18 (by decide) ?_
      refine lv_goto (tgt := 23) hx hb dX1_finds_19 (by decide) ?_
      exact J23 0 (by grind) c7 _ _ hw ls (lv_sub hl [0] rfl)
set_option maxHeartbeats 4000000 in
set_option maxRecDepth 100000 in
/-- found(kind) -/
theorem m1_found (l : Launch) (G : mt_G) (q : Nat → Nat) (wr : va_W) (T : mt_T) (me so ce ot : Int32) (k0 : Int32) (hT : mt_ok T) : mt_Mi l yX1_found cX1_found 5 .int 7 167 G [.ref (q 0), .int k0] (mt_w1 G q T me so ce ot wr) (fun (v : Int32) (u : Int32 × Int32 × Int32 × Int32) => v = mt_mfn T k0) (fun u => mt_w1 G q T u.1 u.2.1 u.2.2.1 u.2.2.2 wr) := by
  refine mt_Mi_of RX1 rfl (by decide) (Nat.le_of_ble_eq_true rfl) ?_
  intro p e s m args below meth c A ls Q K hw hl hret
  have hx := K.1
  have hb := K.2.1
  have hl : lv_has ls 5 [(0, .ref (q 0)), (1, .int k0)] := hl
  have J16 : ∀ (k16 : Nat) (j n : Nat) (me1 so1 ce1 ot1 : Int32), (j ≤ 25) → (25 + 1 ≤ j + k16) → (n = mt_cnt (fun c => (decide (4 ≤ k0) || decide (c % 5 = 0)) && mt_mfi T k0 (nI (c / 5)) (nI (c % 5))) j) → (¬ (k0 < 0 ∨ 13 < k0)) → ∀ (H : Heap) (locs : List Loc), mt_Hw G A s (mt_w1 G q T me1 so1 ce1 ot1 wr) H locs → ∀ (ls : Array Slot), lv_has ls 5 [(0, .ref (q 0)), (1, .int k0), (2, .int (nI n)), (3, .int (nI j))] → W p l e (mt_rm 7 167) s m args below meth c H locs 0 0 Q (F0 m 16 ls []) := by
    intro k16
    induction k16 with
    | zero =>
      intro j n me1 so1 ce1 ot1 h1 h2
      exact absurd h2 (by omega)
    | succ k16 ih16 =>
      intro j n me1 so1 ce1 ot1 hj16 hk16 hs hk H locs hw ls hl
      have J66 : ∀ (x : Nat) (me2 so2 ce2 ot2 : Int32), (x = n + (if (fun c => (decide (4 ≤ k0) || decide (c % 5 = 0)) && mt_mfi T k0 (nI (c / 5)) (nI (c % 5))) j = true then 1 else 0)) → (j < 25) → ∀ (H : Heap) (locs : List Loc), mt_Hw G A s (mt_w1 G q T me2 so2 ce2 ot2 wr) H locs → ∀ (ls : Array Slot), lv_has ls 5 [(0, .ref (q 0)), (1, .int k0), (3, .int (nI j))] → W p l e (mt_rm 7 167) s m args below meth c H locs 0 0 Q (F0 m 66 ls [.int (nI x)]) := by
        intro x me2 so2 ce2 ot2 ex hlt H locs hw ls hl
        refine lv_istore_n (lv' := [(2, .int (nI x)), (0, .ref (q 0)), (1, .int k0), (3, .int (nI j))]) hx hb dX1_found_66 rfl hl (by decide) rfl (fun ls hl => ?_)
        refine lv_iinc (v := nI (j + 1)) (lv' := [(3, .int (nI (j + 1))), (2, .int (nI x)), (0, .ref (q 0)), (1, .int k0)]) hx hb dX1_found_67 hl (k := 3) rfl (mt_inc j) (by decide) rfl (fun ls hl => ?_)
        refine lv_goto (tgt := 16) hx hb dX1_found_70 (by decide) ?_
        exact ih16 (j + 1) x me2 so2 ce2 ot2 (by omega) (by omega) (by rw [ex, hs]; rfl) hk _ _ hw ls (lv_sub hl [2, 3, 1, 0] rfl)
      have J38 : ∀ (x : Bool), (x = (decide (4 ≤ k0) || decide (j % 5 = 0))) → (j < 25) → ∀ (H : Heap) (locs : List Loc), mt_Hw G A s (mt_w1 G q T me1 so1 ce1 ot1 wr) H locs → ∀ (ls : Array Slot), lv_has ls 5 [(0, .ref (q 0)), (1, .int k0), (2, .int (nI n)), (3, .int (nI j))] → W p l e (mt_rm 7 167) s m args below meth c H locs 0 0 Q (F0 m 38 ls [.int (mt_b x)]) := by
        intro x eo hlt H locs hw ls hl
        refine lv_istore (lv' := [(4, .int (mt_b x)), (0, .ref (q 0)), (1, .int k0), (2, .int (nI n)), (3, .int (nI j))]) hx hb dX1_found_38 hl (by decide) rfl (fun ls hl => ?_)
        refine lv_iload hx hb dX1_found_40 (lv_at hl 0 rfl) ?_
        refine lv_if_eq (tgt := 65) hx hb dX1_found_42 (by decide) (fun c42 => ?_) (fun c42 => ?_)
        · replace c42 := mt_b0 c42
          refine lv_iload_n hx hb dX1_found_65 rfl (lv_at hl 3 rfl) ?_
          exact J66 n me1 so1 ce1 ot1 (by grind) hlt _ _ hw ls (lv_sub hl [1, 2, 4] rfl)
        · replace c42 := mt_b1 c42
          refine lv_aload_n hx hb dX1_found_45 rfl (lv_at hl 1 rfl) ?_
          refine lv_iload_n hx hb dX1_found_46 rfl (lv_at hl 2 rfl) ?_
          refine lv_iload_n hx hb dX1_found_47 rfl (lv_at hl 4 rfl) ?_
          refine lv_iconst (v := nI 5) hx hb dX1_found_48 (by decide) ?_
          refine lv_idiv hx hb dX1_found_49 (by decide) ?_
          refine mt_top (y := nI (j / 5)) (pk_div (by omega) (by decide) (by decide)) ?_
          refine lv_iload_n hx hb dX1_found_50 rfl (lv_at hl 4 rfl) ?_
          refine lv_iconst (v := nI 5) hx hb dX1_found_51 (by decide) ?_
          refine lv_irem hx hb dX1_found_52 (by decide) ?_
          refine mt_top (y := nI (j % 5)) (pk_rem (by omega) (by decide) (by decide)) ?_
          refine mt_calli (n := 3) (As := [.int k0, .int (nI (j / 5)), .int (nI (j % 5))]) (rest := []) K hw hl.1 (m1_finds l G q wr T me1 so1 ce1 ot1 k0 (nI (j / 5)) (nI (j % 5)) hT) lk1_64 (by decide +kernel) rfl rfl ⟨Nat.le_of_ble_eq_true rfl, Nat.le_of_ble_eq_true rfl⟩ ⟨Nat.le_of_ble_eq_true rfl, Nat.le_of_ble_eq_true rfl⟩ rfl rfl (Nat.le_of_ble_eq_true rfl) dX1_found_53 (fun v53 u53 H locs p53 hw => ?_)
          obtain rfl := p53
          refine lv_if_eq (tgt := 65) hx hb dX1_found_56 (by decide) (fun c56 => ?_) (fun c56 => ?_)
          · replace c56 := mt_b0 c56
            refine lv_iload_n hx hb dX1_found_65 rfl (lv_at hl 3 rfl) ?_
            exact J66 n u53.1 u53.2.1 u53.2.2.1 u53.2.2.2 (by grind) hlt _ _ hw ls (lv_sub hl [1, 2, 4] rfl)
          · replace c56 := mt_b1 c56
            refine lv_iload_n hx hb dX1_found_59 rfl (lv_at hl 3 rfl) ?_
            refine lv_iconst (v := 1) hx hb dX1_found_60 (by decide) ?_
            refine lv_iadd hx hb dX1_found_61 ?_
            refine mt_top (y := nI (n + 1)) (nI_1 n) ?_
            refine lv_goto (tgt := 66) hx hb dX1_found_62 (by decide) ?_
            exact J66 (n + 1) u53.1 u53.2.1 u53.2.2.1 u53.2.2.2 (by grind) hlt _ _ hw ls (lv_sub hl [1, 2, 4] rfl)
      refine lv_iload_n hx hb dX1_found_16 rfl (lv_at hl 3 rfl) ?_
      refine lv_bipush (v := nI 25) hx hb dX1_found_17 (by decide) ?_
      refine lv_icmp_ge (tgt := 73) hx hb dX1_found_19 (by decide) (fun c19 => ?_) (fun c19 => ?_)
      · have hjj : j = 25 := by have := (nI_leI (a := 25) (b := j) (by omega) (by omega)).mp c19; omega
        refine lv_iload_n hx hb dX1_found_73 rfl (lv_at hl 2 rfl) ?_
        exact hret (me1, so1, ce1, ot1) dX1_found_74 rfl (by unfold mt_mfn; rw [if_neg hk, hs, hjj]) hw
      · have hlt : j < 25 := by have := mt_nle (a := j) (b := 25) (by omega) (by omega) c19; omega
        refine lv_iload_n hx hb dX1_found_22 rfl (lv_at hl 1 rfl) ?_
        refine lv_iconst (v := 4) hx hb dX1_found_23 (by decide) ?_
        refine lv_icmp_ge (tgt := 33) hx hb dX1_found_24 (by decide) (fun c24 => ?_) (fun c24 => ?_)
        · refine lv_iconst (v := 1) hx hb dX1_found_33 (by decide) ?_
          refine lv_goto (tgt := 38) hx hb dX1_found_34 (by decide) ?_
          exact J38 true (by grind) hlt _ _ hw ls (lv_sub hl [0, 1, 2, 3] rfl)
        · refine lv_iload_n hx hb dX1_found_27 rfl (lv_at hl 3 rfl) ?_
          refine lv_iconst (v := nI 5) hx hb dX1_found_28 (by decide) ?_
          refine lv_irem hx hb dX1_found_29 (by decide) ?_
          refine mt_top (y := nI (j % 5)) (pk_rem (by omega) (by decide) (by decide)) ?_
          refine lv_if_ne (tgt := 37) hx hb dX1_found_30 (by decide) (fun c30 => ?_) (fun c30 => ?_)
          · replace c30 : ¬ j % 5 = 0 := fun h => c30 (by rw [h]; rfl)
            refine lv_iconst (v := 0) hx hb dX1_found_37 (by decide) ?_
            exact J38 false (by grind) hlt _ _ hw ls (lv_sub hl [0, 1, 2, 3] rfl)
          · replace c30 : j % 5 = 0 := (nI_eq (b := 0) (by omega) (by decide)).mp c30
            refine lv_iconst (v := 1) hx hb dX1_found_33 (by decide) ?_
            refine lv_goto (tgt := 38) hx hb dX1_found_34 (by decide) ?_
            exact J38 true (by grind) hlt _ _ hw ls (lv_sub hl [0, 1, 2, 3] rfl)
  refine lv_iload_n hx hb dX1_found_0 rfl (lv_at hl 1 rfl) ?_
  refine lv_if_lt (tgt := 10) hx hb dX1_found_1 (by decide) (fun c1 => ?_) (fun c1 => ?_)
  · refine lv_iconst (v := (-1)) hx hb dX1_found_10 (by decide) ?_
    exact hret (me, so, ce, ot) dX1_found_11 rfl (by grind [mt_mfn]) hw
  · refine lv_iload_n hx hb dX1_found_4 rfl (lv_at hl 1 rfl) ?_
    refine lv_bipush (v := 13) hx hb dX1_found_5 (by decide) ?_
    refine lv_icmp_le (tgt := 12) hx hb dX1_found_7 (by decide) (fun c7 => ?_) (fun c7 => ?_)
    · refine lv_iconst (v := 0) hx hb dX1_found_12 (by decide) ?_
      refine lv_istore_n (lv' := [(2, .int 0), (0, .ref (q 0)), (1, .int k0)]) hx hb dX1_found_13 rfl hl (by decide) rfl (fun ls hl => ?_)
      refine lv_iconst (v := 0) hx hb dX1_found_14 (by decide) ?_
      refine lv_istore_n (lv' := [(3, .int 0), (2, .int 0), (0, .ref (q 0)), (1, .int k0)]) hx hb dX1_found_15 rfl hl (by decide) rfl (fun ls hl => ?_)
      exact J16 (25 + 1) 0 0 me so ce ot (by omega) (by omega) rfl (by grind) _ _ hw ls (lv_sub hl [2, 3, 1, 0] rfl)
    · refine lv_iconst (v := (-1)) hx hb dX1_found_10 (by decide) ?_
      exact hret (me, so, ce, ot) dX1_found_11 rfl (by grind [mt_mfn]) hw
set_option maxHeartbeats 4000000 in
set_option maxRecDepth 100000 in
/-- covered() -/
theorem m1_covered (l : Launch) (G : mt_G) (q : Nat → Nat) (wr : va_W) (T : mt_T) (me so ce ot : Int32)  (hT : mt_ok T) : mt_Mi l yX1_covered cX1_covered 3 .int 8 191 G [.ref (q 0)] (mt_w1 G q T me so ce ot wr) (fun (v : Int32) (u : Int32 × Int32 × Int32 × Int32) => v = mt_mcv T) (fun u => mt_w1 G q T u.1 u.2.1 u.2.2.1 u.2.2.2 wr) := by
  refine mt_Mi_of RX1 rfl (by decide) (Nat.le_of_ble_eq_true rfl) ?_
  intro p e s m args below meth c A ls Q K hw hl hret
  have hx := K.1
  have hb := K.2.1
  have hl : lv_has ls 3 [(0, .ref (q 0))] := hl
  have J4 : ∀ (k4 : Nat) (j : Nat) (n : Int32) (me1 so1 ce1 ot1 : Int32), (j ≤ 14) → (14 + 1 ≤ j + k4) → (n = mt_set (fun j => decide (mt_mfn T (nI j) = (if nI j < 4 then 5 else 20))) j) → ∀ (H : Heap) (locs : List Loc), mt_Hw G A s (mt_w1 G q T me1 so1 ce1 ot1 wr) H locs → ∀ (ls : Array Slot), lv_has ls 3 [(0, .ref (q 0)), (1, .int n), (2, .int (nI j))] → W p l e (mt_rm 8 191) s m args below meth c H locs 0 0 Q (F0 m 4 ls []) := by
    intro k4
    induction k4 with
    | zero =>
      intro j n me1 so1 ce1 ot1 h1 h2
      exact absurd h2 (by omega)
    | succ k4 ih4 =>
      intro j n me1 so1 ce1 ot1 hj4 hk4 hs H locs hw ls hl
      have J38 : ∀ (x : Int32) (me2 so2 ce2 ot2 : Int32), (x = n ||| (if (fun j => decide (mt_mfn T (nI j) = (if nI j < 4 then 5 else 20))) j = true then (1 : Int32) <<< (nI j &&& 31) else 0)) → (j < 14) → ∀ (H : Heap) (locs : List Loc), mt_Hw G A s (mt_w1 G q T me2 so2 ce2 ot2 wr) H locs → ∀ (ls : Array Slot), lv_has ls 3 [(0, .ref (q 0)), (2, .int (nI j))] → W p l e (mt_rm 8 191) s m args below meth c H locs 0 0 Q (F0 m 38 ls [.int x]) := by
        intro x me2 so2 ce2 ot2 ex hlt H locs hw ls hl
        refine lv_istore_n (lv' := [(1, .int x), (0, .ref (q 0)), (2, .int (nI j))]) hx hb dX1_covered_38 rfl hl (by decide) rfl (fun ls hl => ?_)
        refine lv_iinc (v := nI (j + 1)) (lv' := [(2, .int (nI (j + 1))), (1, .int x), (0, .ref (q 0))]) hx hb dX1_covered_39 hl (k := 2) rfl (mt_inc j) (by decide) rfl (fun ls hl => ?_)
        refine lv_goto (tgt := 4) hx hb dX1_covered_42 (by decide) ?_
        exact ih4 (j + 1) x me2 so2 ce2 ot2 (by omega) (by omega) (by rw [ex, hs]; rfl) _ _ hw ls (lv_sub hl [2, 1, 0] rfl)
      have J26 : ∀ (x : Int32) (me2 so2 ce2 ot2 : Int32), (x = if nI j < 4 then 5 else 20) → (j < 14) → ∀ (H : Heap) (locs : List Loc), mt_Hw G A s (mt_w1 G q T me2 so2 ce2 ot2 wr) H locs → ∀ (ls : Array Slot), lv_has ls 3 [(0, .ref (q 0)), (1, .int n), (2, .int (nI j))] → W p l e (mt_rm 8 191) s m args below meth c H locs 0 0 Q (F0 m 26 ls [.int x, .int (mt_mfn T (nI j))]) := by
        intro x me2 so2 ce2 ot2 ex hlt H locs hw ls hl
        refine lv_icmp_ne (tgt := 37) hx hb dX1_covered_26 (by decide) (fun c26 => ?_) (fun c26 => ?_)
        · refine lv_iload_n hx hb dX1_covered_37 rfl (lv_at hl 1 rfl) ?_
          exact J38 n me2 so2 ce2 ot2 (by rw [if_neg (by grind), Int32.or_zero]) hlt _ _ hw ls (lv_sub hl [0, 2] rfl)
        · refine lv_iload_n hx hb dX1_covered_29 rfl (lv_at hl 1 rfl) ?_
          refine lv_iconst (v := 1) hx hb dX1_covered_30 (by decide) ?_
          refine lv_iload_n hx hb dX1_covered_31 rfl (lv_at hl 2 rfl) ?_
          refine lv_ishl hx hb dX1_covered_32 ?_
          refine lv_ior hx hb dX1_covered_33 ?_
          refine lv_goto (tgt := 38) hx hb dX1_covered_34 (by decide) ?_
          exact J38 (n ||| (1 <<< ((nI j) &&& 31))) me2 so2 ce2 ot2 (by rw [if_pos (by grind)]) hlt _ _ hw ls (lv_sub hl [0, 2] rfl)
      refine lv_iload_n hx hb dX1_covered_4 rfl (lv_at hl 2 rfl) ?_
      refine lv_bipush (v := nI 14) hx hb dX1_covered_5 (by decide) ?_
      refine lv_icmp_ge (tgt := 45) hx hb dX1_covered_7 (by decide) (fun c7 => ?_) (fun c7 => ?_)
      · have hjj : j = 14 := by have := (nI_leI (a := 14) (b := j) (by omega) (by omega)).mp c7; omega
        refine lv_iload_n hx hb dX1_covered_45 rfl (lv_at hl 1 rfl) ?_
        exact hret (me1, so1, ce1, ot1) dX1_covered_46 rfl (by rw [hs, hjj]; rfl) hw
      · have hlt : j < 14 := by have := mt_nle (a := j) (b := 14) (by omega) (by omega) c7; omega
        refine lv_aload_n hx hb dX1_covered_10 rfl (lv_at hl 0 rfl) ?_
        refine lv_iload_n hx hb dX1_covered_11 rfl (lv_at hl 2 rfl) ?_
        refine mt_calli (n := 1) (As := [.int (nI j)]) (rest := []) K hw hl.1 (m1_found l G q wr T me1 so1 ce1 ot1 (nI j) hT) lk1_67 (by decide +kernel) rfl rfl ⟨Nat.le_of_ble_eq_true rfl, Nat.le_of_ble_eq_true rfl⟩ ⟨Nat.le_of_ble_eq_true rfl, Nat.le_of_ble_eq_true rfl⟩ rfl rfl (Nat.le_of_ble_eq_true rfl) dX1_covered_12 (fun v12 u12 H locs p12 hw => ?_)
        obtain rfl := p12
        refine lv_iload_n hx hb dX1_covered_15 rfl (lv_at hl 2 rfl) ?_
        refine lv_iconst (v := 4) hx hb dX1_covered_16 (by decide) ?_
        refine lv_icmp_ge (tgt := 24) hx hb dX1_covered_17 (by decide) (fun c17 => ?_) (fun c17 => ?_)
        · refine lv_bipush (v := 20) hx hb dX1_covered_24 (by decide) ?_
          exact J26 20 u12.1 u12.2.1 u12.2.2.1 u12.2.2.2 (by grind) hlt _ _ hw ls (lv_sub hl [0, 1, 2] rfl)
        · refine lv_iconst (v := 5) hx hb dX1_covered_20 (by decide) ?_
          refine lv_goto (tgt := 26) hx hb dX1_covered_21 (by decide) ?_
          exact J26 5 u12.1 u12.2.1 u12.2.2.1 u12.2.2.2 (by grind) hlt _ _ hw ls (lv_sub hl [0, 1, 2] rfl)
  refine lv_iconst (v := 0) hx hb dX1_covered_0 (by decide) ?_
  refine lv_istore_n (lv' := [(1, .int 0), (0, .ref (q 0))]) hx hb dX1_covered_1 rfl hl (by decide) rfl (fun ls hl => ?_)
  refine lv_iconst (v := 0) hx hb dX1_covered_2 (by decide) ?_
  refine lv_istore_n (lv' := [(2, .int 0), (1, .int 0), (0, .ref (q 0))]) hx hb dX1_covered_3 rfl hl (by decide) rfl (fun ls hl => ?_)
  exact J4 (14 + 1) 0 0 me so ce ot (by omega) (by omega) rfl _ _ hw ls (lv_sub hl [2, 1, 0] rfl)
set_option maxHeartbeats 4000000 in
set_option maxRecDepth 100000 in
/-- foundFrom(kind, v, a) -/
theorem m1_foundFrom (l : Launch) (G : mt_G) (q : Nat → Nat) (wr : va_W) (T : mt_T) (me so ce ot : Int32) (k0 : Int32) (v0 : Int32) (a0 : Int32) (hT : mt_ok T) : mt_Mi l yX1_foundFrom cX1_foundFrom 4 .int 6 144 G [.ref (q 0), .int k0, .int v0, .int a0] (mt_w1 G q T me so ce ot wr) (fun (v : Int32) (u : Int32 × Int32 × Int32 × Int32) => v = (if mt_flm k0 v0 a0 = true then nI (mt_ctA T k0 v0 a0 (-1)) else -1)) (fun u => mt_w1 G q T u.1 u.2.1 u.2.2.1 u.2.2.2 wr) := by
  refine mt_Mi_of RX1 rfl (by decide) (Nat.le_of_ble_eq_true rfl) ?_
  intro p e s m args below meth c A ls Q K hw hl hret
  have hx := K.1
  have hb := K.2.1
  have hl : lv_has ls 4 [(0, .ref (q 0)), (1, .int k0), (2, .int v0), (3, .int a0)] := hl
  have J23 : ∀ (x : Int32), (x = if k0 < 4 then 0 else a0) → (mt_flm k0 v0 a0 = true) → ∀ (H : Heap) (locs : List Loc), mt_Hw G A s (mt_w1 G q T me so ce ot wr) H locs → ∀ (ls : Array Slot), lv_has ls 4 [(0, .ref (q 0))] → W p l e (mt_rm 6 144) s m args below meth c H locs 0 0 Q (F0 m 23 ls [.int x, .int v0, .int k0, .ref (q 0)]) := by
    intro x ex hf H locs hw ls hl
    refine lv_iconst (v := (-1)) hx hb dX1_foundFrom_23 (by decide) ?_
    refine mt_calli (n := 4) (As := [.int k0, .int v0, .int x, .int (-1)]) (rest := []) K hw hl.1 (m1_count l G q wr T me so ce ot k0 v0 x (-1) hT) lk1_56 (by decide +kernel) rfl rfl ⟨Nat.le_of_ble_eq_true rfl, Nat.le_of_ble_eq_true rfl⟩ ⟨Nat.le_of_ble_eq_true rfl, Nat.le_of_ble_eq_true rfl⟩ rfl rfl (Nat.le_of_ble_eq_true rfl) dX1_foundFrom_24 (fun v24 u24 H locs p24 hw => ?_)
    obtain rfl := p24
    refine lv_goto (tgt := 31) hx hb dX1_foundFrom_27 (by decide) ?_
    exact hret (u24, k0, v0, x) dX1_foundFrom_31 rfl (by first | (rw [if_pos hf, ex]; rfl) | (rw [if_neg (by rw [c7]; decide)])) hw
  refine lv_aload_n hx hb dX1_foundFrom_0 rfl (lv_at hl 0 rfl) ?_
  refine lv_iload_n hx hb dX1_foundFrom_1 rfl (lv_at hl 1 rfl) ?_
  refine lv_iload_n hx hb dX1_foundFrom_2 rfl (lv_at hl 2 rfl) ?_
  refine lv_iload_n hx hb dX1_foundFrom_3 rfl (lv_at hl 3 rfl) ?_
  refine mt_calli (n := 3) (As := [.int k0, .int v0, .int a0]) (rest := []) K hw hl.1 (m1_fault l G q wr T me so ce ot k0 v0 a0 ) lk1_60 (by decide +kernel) rfl rfl ⟨Nat.le_of_ble_eq_true rfl, Nat.le_of_ble_eq_true rfl⟩ ⟨Nat.le_of_ble_eq_true rfl, Nat.le_of_ble_eq_true rfl⟩ rfl rfl (Nat.le_of_ble_eq_true rfl) dX1_foundFrom_4 (fun v4 u4 H locs p4 hw => ?_)
  obtain rfl := p4
  refine lv_if_eq (tgt := 30) hx hb dX1_foundFrom_7 (by decide) (fun c7 => ?_) (fun c7 => ?_)
  · replace c7 := mt_b0 c7
    refine lv_iconst (v := (-1)) hx hb dX1_foundFrom_30 (by decide) ?_
    exact hret (me, so, ce, ot) dX1_foundFrom_31 rfl (by first | (rw [if_pos hf, ex]; rfl) | (rw [if_neg (by rw [c7]; decide)])) hw
  · replace c7 := mt_b1 c7
    refine lv_aload_n hx hb dX1_foundFrom_10 rfl (lv_at hl 0 rfl) ?_
    refine lv_iload_n hx hb dX1_foundFrom_11 rfl (lv_at hl 1 rfl) ?_
    refine lv_iload_n hx hb dX1_foundFrom_12 rfl (lv_at hl 2 rfl) ?_
    refine lv_iload_n hx hb dX1_foundFrom_13 rfl (lv_at hl 1 rfl) ?_
    refine lv_iconst (v := 4) hx hb dX1_foundFrom_14 (by decide) ?_
    refine lv_icmp_ge (tgt := 22) hx hb dX1_foundFrom_15 (by decide) (fun c15 => ?_) (fun c15 => ?_)
    · refine lv_iload_n hx hb dX1_foundFrom_22 rfl (lv_at hl 3 rfl) ?_
      exact J23 a0 (by grind) c7 _ _ hw ls (lv_sub hl [0] rfl)
    · refine lv_iconst (v := 0) hx hb dX1_foundFrom_18 (by decide) ?_
      refine lv_goto (tgt := 23) hx hb dX1_foundFrom_19 (by decide) ?_
      exact J23 0 (by grind) c7 _ _ hw ls (lv_sub hl [0] rfl)
set_option maxHeartbeats 4000000 in
set_option maxRecDepth 100000 in
/-- without(m, kind) -/
theorem m1_without (l : Launch) (G : mt_G) (q : Nat → Nat) (wr : va_W) (T : mt_T) (me so ce ot : Int32) (m0 : Int32) (k0 : Int32) (hT : mt_ok T) : mt_Mi l yX1_without cX1_without 6 .boolean 7 167 G [.ref (q 0), .int m0, .int k0] (mt_w1 G q T me so ce ot wr) (fun (v : Int32) (u : Int32 × Int32 × Int32 × Int32) => v = mt_b (mt_mwo T m0 k0)) (fun u => mt_w1 G q T u.1 u.2.1 u.2.2.1 u.2.2.2 wr) := by
  refine mt_Mi_of RX1 rfl (by decide) (Nat.le_of_ble_eq_true rfl) ?_
  intro p e s m args below meth c A ls Q K hw hl hret
  have hx := K.1
  have hb := K.2.1
  have hl : lv_has ls 6 [(0, .ref (q 0)), (1, .int m0), (2, .int k0)] := hl
  have J84 : ∀ (x : Bool) (me1 so1 ce1 ot1 : Int32), (x = mt_mwo T m0 k0) → ∀ (H : Heap) (locs : List Loc), mt_Hw G A s (mt_w1 G q T me1 so1 ce1 ot1 wr) H locs → ∀ (ls : Array Slot), lv_has ls 6 [(3, .int (mt_b x))] → W p l e (mt_rm 7 167) s m args below meth c H locs 0 0 Q (F0 m 84 ls []) := by
    intro x me1 so1 ce1 ot1 ex H locs hw ls hl
    refine lv_iload_n hx hb dX1_without_84 rfl (lv_at hl 0 rfl) ?_
    exact hret (me1, so1, ce1, ot1) dX1_without_85 (mt_b_n _) (by rw [ex]) hw
  have J5 : ∀ (k5 : Nat) (j : Nat) (x : Bool) (me1 so1 ce1 ot1 : Int32), (j ≤ 25) → (25 + 1 ≤ j + k5) → (x = mt_all (fun c => !(mt_mfi T k0 (nI (c / 5)) (nI (c % 5)) && decide (mt_ctA T k0 (nI (c / 5)) (nI (c % 5)) m0 < 32))) j) → ∀ (H : Heap) (locs : List Loc), mt_Hw G A s (mt_w1 G q T me1 so1 ce1 ot1 wr) H locs → ∀ (ls : Array Slot), lv_has ls 6 [(0, .ref (q 0)), (1, .int m0), (2, .int k0), (3, .int (mt_b x)), (4, .int (nI j))] → W p l e (mt_rm 7 167) s m args below meth c H locs 0 0 Q (F0 m 5 ls []) := by
    intro k5
    induction k5 with
    | zero =>
      intro j x me1 so1 ce1 ot1 h1 h2
      exact absurd h2 (by omega)
    | succ k5 ih5 =>
      intro j x me1 so1 ce1 ot1 hj5 hk5 hs H locs hw ls hl
      have J77 : ∀ (y z : Bool) (me2 so2 ce2 ot2 : Int32), (y = (mt_mfi T k0 (nI (j / 5)) (nI (j % 5)) && decide (mt_ctA T k0 (nI (j / 5)) (nI (j % 5)) m0 < 32))) → (z = !y) → (j < 25) → (x = true) → ∀ (H : Heap) (locs : List Loc), mt_Hw G A s (mt_w1 G q T me2 so2 ce2 ot2 wr) H locs → ∀ (ls : Array Slot), lv_has ls 6 [(0, .ref (q 0)), (1, .int m0), (2, .int k0), (4, .int (nI j))] → W p l e (mt_rm 7 167) s m args below meth c H locs 0 0 Q (F0 m 77 ls [.int (mt_b z)]) := by
        intro y z me2 so2 ce2 ot2 ey ez hlt hx1 H locs hw ls hl
        refine lv_istore_n (lv' := [(3, .int (mt_b z)), (0, .ref (q 0)), (1, .int m0), (2, .int k0), (4, .int (nI j))]) hx hb dX1_without_77 rfl hl (by decide) rfl (fun ls hl => ?_)
        refine lv_iinc (v := nI (j + 1)) (lv' := [(4, .int (nI (j + 1))), (3, .int (mt_b z)), (0, .ref (q 0)), (1, .int m0), (2, .int k0)]) hx hb dX1_without_78 hl (k := 4) rfl (mt_inc j) (by decide) rfl (fun ls hl => ?_)
        refine lv_goto (tgt := 5) hx hb dX1_without_81 (by decide) ?_
        exact ih5 (j + 1) z me2 so2 ce2 ot2 (by omega) (by omega) (by show _ = (mt_all _ j && _); rw [← hs, hx1, ez, ey]; rfl) _ _ hw ls (lv_sub hl [2, 3, 4, 1, 0] rfl)
      have J65 : ∀ (y : Bool) (me2 so2 ce2 ot2 : Int32), (y = (mt_mfi T k0 (nI (j / 5)) (nI (j % 5)) && decide (mt_ctA T k0 (nI (j / 5)) (nI (j % 5)) m0 < 32))) → (j < 25) → (x = true) → ∀ (H : Heap) (locs : List Loc), mt_Hw G A s (mt_w1 G q T me2 so2 ce2 ot2 wr) H locs → ∀ (ls : Array Slot), lv_has ls 6 [(0, .ref (q 0)), (1, .int m0), (2, .int k0), (4, .int (nI j))] → W p l e (mt_rm 7 167) s m args below meth c H locs 0 0 Q (F0 m 65 ls [.int (mt_b y)]) := by
        intro y me2 so2 ce2 ot2 ey hlt hx1 H locs hw ls hl
        refine lv_istore (lv' := [(5, .int (mt_b y)), (0, .ref (q 0)), (1, .int m0), (2, .int k0), (4, .int (nI j))]) hx hb dX1_without_65 hl (by decide) rfl (fun ls hl => ?_)
        refine lv_iload hx hb dX1_without_67 (lv_at hl 0 rfl) ?_
        refine lv_if_ne (tgt := 76) hx hb dX1_without_69 (by decide) (fun c69 => ?_) (fun c69 => ?_)
        · replace c69 := mt_b1 c69
          refine lv_iconst (v := 0) hx hb dX1_without_76 (by decide) ?_
          exact J77 y false me2 so2 ce2 ot2 ey (by rw [c69]; rfl) hlt hx1 _ _ hw ls (lv_sub hl [1, 2, 3, 4] rfl)
        · replace c69 := mt_b0 c69
          refine lv_iconst (v := 1) hx hb dX1_without_72 (by decide) ?_
          refine lv_goto (tgt := 77) hx hb dX1_without_73 (by decide) ?_
          exact J77 y true me2 so2 ce2 ot2 ey (by rw [c69]; rfl) hlt hx1 _ _ hw ls (lv_sub hl [1, 2, 3, 4] rfl)
      have J51 : ∀ (w : Int32) (me2 so2 ce2 ot2 : Int32), (w = if k0 < 4 then 0 else nI (j % 5)) → (j < 25) → (x = true) → (mt_mfi T k0 (nI (j / 5)) (nI (j % 5)) = true) → ∀ (H : Heap) (locs : List Loc), mt_Hw G A s (mt_w1 G q T me2 so2 ce2 ot2 wr) H locs → ∀ (ls : Array Slot), lv_has ls 6 [(0, .ref (q 0)), (1, .int m0), (2, .int k0), (4, .int (nI j))] → W p l e (mt_rm 7 167) s m args below meth c H locs 0 0 Q (F0 m 51 ls [.int w, .int (nI (j / 5)), .int k0, .ref (q 0)]) := by
        intro w me2 so2 ce2 ot2 ew hlt hx1 hf H locs hw ls hl
        refine lv_iload_n hx hb dX1_without_51 rfl (lv_at hl 1 rfl) ?_
        refine mt_calli (n := 4) (As := [.int k0, .int (nI (j / 5)), .int w, .int m0]) (rest := []) K hw hl.1 (m1_count l G q wr T me2 so2 ce2 ot2 k0 (nI (j / 5)) w m0 hT) lk1_56 (by decide +kernel) rfl rfl ⟨Nat.le_of_ble_eq_true rfl, Nat.le_of_ble_eq_true rfl⟩ ⟨Nat.le_of_ble_eq_true rfl, Nat.le_of_ble_eq_true rfl⟩ rfl rfl (Nat.le_of_ble_eq_true rfl) dX1_without_52 (fun v52 u52 H locs p52 hw => ?_)
        obtain rfl := p52
        have hct : mt_ct T k0 (nI (j / 5)) w m0 = mt_ctA T k0 (nI (j / 5)) (nI (j % 5)) m0 := by rw [ew]; rfl
        have hle := mt_ct_le T k0 (nI (j / 5)) w m0
        refine lv_bipush (v := nI 32) hx hb dX1_without_55 (by decide) ?_
        refine lv_icmp_ge (tgt := 64) hx hb dX1_without_57 (by decide) (fun c57 => ?_) (fun c57 => ?_)
        · replace c57 : ¬ mt_ctA T k0 (nI (j / 5)) (nI (j % 5)) m0 < 32 := by have := (nI_leI (a := 32) (by omega) (by omega)).mp c57; omega
          refine lv_iconst (v := 0) hx hb dX1_without_64 (by decide) ?_
          exact J65 false u52 k0 (nI (j / 5)) w (by grind) hlt hx1 _ _ hw ls (lv_sub hl [0, 1, 2, 3] rfl)
        · replace c57 : mt_ctA T k0 (nI (j / 5)) (nI (j % 5)) m0 < 32 := by have := mt_nle (b := 32) (by omega) (by omega) c57; omega
          refine lv_iconst (v := 1) hx hb dX1_without_60 (by decide) ?_
          refine lv_goto (tgt := 65) hx hb dX1_without_61 (by decide) ?_
          exact J65 true u52 k0 (nI (j / 5)) w (by grind) hlt hx1 _ _ hw ls (lv_sub hl [0, 1, 2, 3] rfl)
      refine lv_iload hx hb dX1_without_5 (lv_at hl 4 rfl) ?_
      refine lv_bipush (v := nI 25) hx hb dX1_without_7 (by decide) ?_
      refine lv_icmp_ge (tgt := 84) hx hb dX1_without_9 (by decide) (fun c9 => ?_) (fun c9 => ?_)
      · have hjj : j = 25 := by have := (nI_leI (a := 25) (b := j) (by omega) (by omega)).mp c9; omega
        exact J84 x me1 so1 ce1 ot1 (by rw [hs, hjj]; rfl) _ _ hw ls (lv_sub hl [3] rfl)
      · have hlt : j < 25 := by have := mt_nle (a := j) (b := 25) (by omega) (by omega) c9; omega
        refine lv_iload_n hx hb dX1_without_12 rfl (lv_at hl 3 rfl) ?_
        refine lv_if_eq (tgt := 84) hx hb dX1_without_13 (by decide) (fun c13 => ?_) (fun c13 => ?_)
        · replace c13 := mt_b0 c13
          exact J84 x me1 so1 ce1 ot1 (by rw [c13] at hs ⊢; exact (mt_all_f hs.symm hj5).symm) _ _ hw ls (lv_sub hl [3] rfl)
        · replace c13 := mt_b1 c13
          have hx1 := c13
          refine lv_aload_n hx hb dX1_without_16 rfl (lv_at hl 0 rfl) ?_
          refine lv_iload_n hx hb dX1_without_17 rfl (lv_at hl 2 rfl) ?_
          refine lv_iload hx hb dX1_without_18 (lv_at hl 4 rfl) ?_
          refine lv_iconst (v := nI 5) hx hb dX1_without_20 (by decide) ?_
          refine lv_idiv hx hb dX1_without_21 (by decide) ?_
          refine mt_top (y := nI (j / 5)) (pk_div (by omega) (by decide) (by decide)) ?_
          refine lv_iload hx hb dX1_without_22 (lv_at hl 4 rfl) ?_
          refine lv_iconst (v := nI 5) hx hb dX1_without_24 (by decide) ?_
          refine lv_irem hx hb dX1_without_25 (by decide) ?_
          refine mt_top (y := nI (j % 5)) (pk_rem (by omega) (by decide) (by decide)) ?_
          refine mt_calli (n := 3) (As := [.int k0, .int (nI (j / 5)), .int (nI (j % 5))]) (rest := []) K hw hl.1 (m1_finds l G q wr T me1 so1 ce1 ot1 k0 (nI (j / 5)) (nI (j % 5)) hT) lk1_64 (by decide +kernel) rfl rfl ⟨Nat.le_of_ble_eq_true rfl, Nat.le_of_ble_eq_true rfl⟩ ⟨Nat.le_of_ble_eq_true rfl, Nat.le_of_ble_eq_true rfl⟩ rfl rfl (Nat.le_of_ble_eq_true rfl) dX1_without_26 (fun v26 u26 H locs p26 hw => ?_)
          obtain rfl := p26
          refine lv_if_eq (tgt := 64) hx hb dX1_without_29 (by decide) (fun c29 => ?_) (fun c29 => ?_)
          · replace c29 := mt_b0 c29
            refine lv_iconst (v := 0) hx hb dX1_without_64 (by decide) ?_
            exact J65 false u26.1 u26.2.1 u26.2.2.1 u26.2.2.2 (by grind) hlt hx1 _ _ hw ls (lv_sub hl [0, 1, 2, 4] rfl)
          · replace c29 := mt_b1 c29
            refine lv_aload_n hx hb dX1_without_32 rfl (lv_at hl 0 rfl) ?_
            refine lv_iload_n hx hb dX1_without_33 rfl (lv_at hl 2 rfl) ?_
            refine lv_iload hx hb dX1_without_34 (lv_at hl 4 rfl) ?_
            refine lv_iconst (v := nI 5) hx hb dX1_without_36 (by decide) ?_
            refine lv_idiv hx hb dX1_without_37 (by decide) ?_
            refine mt_top (y := nI (j / 5)) (pk_div (by omega) (by decide) (by decide)) ?_
            refine lv_iload_n hx hb dX1_without_38 rfl (lv_at hl 2 rfl) ?_
            refine lv_iconst (v := 4) hx hb dX1_without_39 (by decide) ?_
            refine lv_icmp_ge (tgt := 47) hx hb dX1_without_40 (by decide) (fun c40 => ?_) (fun c40 => ?_)
            · refine lv_iload hx hb dX1_without_47 (lv_at hl 4 rfl) ?_
              refine lv_iconst (v := nI 5) hx hb dX1_without_49 (by decide) ?_
              refine lv_irem hx hb dX1_without_50 (by decide) ?_
              refine mt_top (y := nI (j % 5)) (pk_rem (by omega) (by decide) (by decide)) ?_
              exact J51 (nI (j % 5)) u26.1 u26.2.1 u26.2.2.1 u26.2.2.2 (by grind) hlt hx1 c29 _ _ hw ls (lv_sub hl [0, 1, 2, 4] rfl)
            · refine lv_iconst (v := 0) hx hb dX1_without_43 (by decide) ?_
              refine lv_goto (tgt := 51) hx hb dX1_without_44 (by decide) ?_
              exact J51 0 u26.1 u26.2.1 u26.2.2.1 u26.2.2.2 (by grind) hlt hx1 c29 _ _ hw ls (lv_sub hl [0, 1, 2, 4] rfl)
  refine lv_iconst (v := 1) hx hb dX1_without_0 (by decide) ?_
  refine lv_istore_n (lv' := [(3, .int 1), (0, .ref (q 0)), (1, .int m0), (2, .int k0)]) hx hb dX1_without_1 rfl hl (by decide) rfl (fun ls hl => ?_)
  refine lv_iconst (v := 0) hx hb dX1_without_2 (by decide) ?_
  refine lv_istore (lv' := [(4, .int 0), (3, .int 1), (0, .ref (q 0)), (1, .int m0), (2, .int k0)]) hx hb dX1_without_3 hl (by decide) rfl (fun ls hl => ?_)
  exact J5 (25 + 1) 0 true me so ce ot (by omega) (by omega) rfl _ _ hw ls (lv_sub hl [2, 3, 4, 1, 0] rfl)
set_option maxHeartbeats 4000000 in
set_option maxRecDepth 100000 in
/-- spare() -/
theorem m1_spare (l : Launch) (G : mt_G) (q : Nat → Nat) (wr : va_W) (T : mt_T) (me so ce ot : Int32)  (hT : mt_ok T) : mt_Mi l yX1_spare cX1_spare 5 .int 8 192 G [.ref (q 0)] (mt_w1 G q T me so ce ot wr) (fun (v : Int32) (u : Int32 × Int32 × Int32 × Int32) => v = mt_msp T) (fun u => mt_w1 G q T u.1 u.2.1 u.2.2.1 u.2.2.2 wr) := by
  refine mt_Mi_of RX1 rfl (by decide) (Nat.le_of_ble_eq_true rfl) ?_
  intro p e s m args below meth c A ls Q K hw hl hret
  have hx := K.1
  have hb := K.2.1
  have hl : lv_has ls 5 [(0, .ref (q 0))] := hl
  have J4 : ∀ (k4 : Nat) (j : Nat) (n : Int32) (me1 so1 ce1 ot1 : Int32), (j ≤ T.1) → (T.1 + 1 ≤ j + k4) → (n = mt_set (fun j => mt_all (fun k => mt_mwo T (nI j) (nI k)) 14) j) → ∀ (H : Heap) (locs : List Loc), mt_Hw G A s (mt_w1 G q T me1 so1 ce1 ot1 wr) H locs → ∀ (ls : Array Slot), lv_has ls 5 [(0, .ref (q 0)), (1, .int n), (2, .int (nI j))] → W p l e (mt_rm 8 192) s m args below meth c H locs 0 0 Q (F0 m 4 ls []) := by
    intro k4
    induction k4 with
    | zero =>
      intro j n me1 so1 ce1 ot1 h1 h2
      exact absurd h2 (by omega)
    | succ k4 ih4 =>
      intro j n me1 so1 ce1 ot1 hj4 hk4 hs H locs hw ls hl
      have hn := hT.1
      have J55 : ∀ (x : Int32) (me2 so2 ce2 ot2 : Int32), (x = n ||| (if (fun j => mt_all (fun k => mt_mwo T (nI j) (nI k)) 14) j = true then (1 : Int32) <<< (nI j &&& 31) else 0)) → (j < T.1) → ∀ (H : Heap) (locs : List Loc), mt_Hw G A s (mt_w1 G q T me2 so2 ce2 ot2 wr) H locs → ∀ (ls : Array Slot), lv_has ls 5 [(0, .ref (q 0)), (2, .int (nI j))] → W p l e (mt_rm 8 192) s m args below meth c H locs 0 0 Q (F0 m 55 ls [.int x]) := by
        intro x me2 so2 ce2 ot2 ex hlt H locs hw ls hl
        refine lv_istore_n (lv' := [(1, .int x), (0, .ref (q 0)), (2, .int (nI j))]) hx hb dX1_spare_55 rfl hl (by decide) rfl (fun ls hl => ?_)
        refine lv_iinc (v := nI (j + 1)) (lv' := [(2, .int (nI (j + 1))), (1, .int x), (0, .ref (q 0))]) hx hb dX1_spare_56 hl (k := 2) rfl (mt_inc j) (by decide) rfl (fun ls hl => ?_)
        refine lv_goto (tgt := 4) hx hb dX1_spare_59 (by decide) ?_
        exact ih4 (j + 1) x me2 so2 ce2 ot2 (by omega) (by omega) (by rw [ex, hs]; rfl) _ _ hw ls (lv_sub hl [2, 1, 0] rfl)
      have J42 : ∀ (x : Bool) (me2 so2 ce2 ot2 : Int32), (x = (fun j => mt_all (fun k => mt_mwo T (nI j) (nI k)) 14) j) → (j < T.1) → ∀ (H : Heap) (locs : List Loc), mt_Hw G A s (mt_w1 G q T me2 so2 ce2 ot2 wr) H locs → ∀ (ls : Array Slot), lv_has ls 5 [(0, .ref (q 0)), (1, .int n), (2, .int (nI j)), (3, .int (mt_b x))] → W p l e (mt_rm 8 192) s m args below meth c H locs 0 0 Q (F0 m 42 ls []) := by
        intro x me2 so2 ce2 ot2 ex hlt H locs hw ls hl
        refine lv_iload_n hx hb dX1_spare_42 rfl (lv_at hl 3 rfl) ?_
        refine lv_if_eq (tgt := 54) hx hb dX1_spare_43 (by decide) (fun c43 => ?_) (fun c43 => ?_)
        · replace c43 := mt_b0 c43
          refine lv_iload_n hx hb dX1_spare_54 rfl (lv_at hl 1 rfl) ?_
          exact J55 n me2 so2 ce2 ot2 (by rw [if_neg (by rw [show _ = false from ex.symm.trans c43]; decide), Int32.or_zero]) hlt _ _ hw ls (lv_sub hl [0, 2] rfl)
        · replace c43 := mt_b1 c43
          refine lv_iload_n hx hb dX1_spare_46 rfl (lv_at hl 1 rfl) ?_
          refine lv_iconst (v := 1) hx hb dX1_spare_47 (by decide) ?_
          refine lv_iload_n hx hb dX1_spare_48 rfl (lv_at hl 2 rfl) ?_
          refine lv_ishl hx hb dX1_spare_49 ?_
          refine lv_ior hx hb dX1_spare_50 ?_
          refine lv_goto (tgt := 55) hx hb dX1_spare_51 (by decide) ?_
          exact J55 (n ||| (1 <<< ((nI j) &&& 31))) me2 so2 ce2 ot2 (by rw [if_pos (ex.symm.trans c43)]) hlt _ _ hw ls (lv_sub hl [0, 2] rfl)
      have J17 : ∀ (k17 : Nat) (kk : Nat) (x : Bool) (me2 so2 ce2 ot2 : Int32), (kk ≤ 14) → (14 + 1 ≤ kk + k17) → (x = mt_all (fun k => mt_mwo T (nI j) (nI k)) kk) → (j < T.1) → ∀ (H : Heap) (locs : List Loc), mt_Hw G A s (mt_w1 G q T me2 so2 ce2 ot2 wr) H locs → ∀ (ls : Array Slot), lv_has ls 5 [(0, .ref (q 0)), (1, .int n), (2, .int (nI j)), (3, .int (mt_b x)), (4, .int (nI kk))] → W p l e (mt_rm 8 192) s m args below meth c H locs 0 0 Q (F0 m 17 ls []) := by
        intro k17
        induction k17 with
        | zero =>
          intro kk x me2 so2 ce2 ot2 h1 h2
          exact absurd h2 (by omega)
        | succ k17 ih17 =>
          intro kk x me2 so2 ce2 ot2 hj17 hk17 h2 hlt H locs hw ls hl
          refine lv_iload hx hb dX1_spare_17 (lv_at hl 4 rfl) ?_
          refine lv_bipush (v := nI 14) hx hb dX1_spare_19 (by decide) ?_
          refine lv_icmp_ge (tgt := 42) hx hb dX1_spare_21 (by decide) (fun c21 => ?_) (fun c21 => ?_)
          · have hkk : kk = 14 := by have := (nI_leI (a := 14) (b := kk) (by omega) (by omega)).mp c21; omega
            exact J42 x me2 so2 ce2 ot2 (by rw [h2, hkk]) hlt _ _ hw ls (lv_sub hl [0, 1, 2, 3] rfl)
          · have hkl : kk < 14 := by have := mt_nle (a := kk) (b := 14) (by omega) (by omega) c21; omega
            refine lv_iload_n hx hb dX1_spare_24 rfl (lv_at hl 3 rfl) ?_
            refine lv_if_eq (tgt := 42) hx hb dX1_spare_25 (by decide) (fun c25 => ?_) (fun c25 => ?_)
            · replace c25 := mt_b0 c25
              exact J42 x me2 so2 ce2 ot2 (by rw [c25] at h2 ⊢; exact (mt_all_f h2.symm hj17).symm) hlt _ _ hw ls (lv_sub hl [0, 1, 2, 3] rfl)
            · replace c25 := mt_b1 c25
              refine lv_aload_n hx hb dX1_spare_28 rfl (lv_at hl 0 rfl) ?_
              refine lv_iload_n hx hb dX1_spare_29 rfl (lv_at hl 2 rfl) ?_
              refine lv_iload hx hb dX1_spare_30 (lv_at hl 4 rfl) ?_
              refine mt_calli (n := 2) (As := [.int (nI j), .int (nI kk)]) (rest := []) K hw hl.1 (m1_without l G q wr T me2 so2 ce2 ot2 (nI j) (nI kk) hT) lk1_70 (by decide +kernel) rfl rfl ⟨Nat.le_of_ble_eq_true rfl, Nat.le_of_ble_eq_true rfl⟩ ⟨Nat.le_of_ble_eq_true rfl, Nat.le_of_ble_eq_true rfl⟩ rfl rfl (Nat.le_of_ble_eq_true rfl) dX1_spare_32 (fun v32 u32 H locs p32 hw => ?_)
              obtain rfl := p32
              refine lv_istore_n (lv' := [(3, .int (mt_b (mt_mwo T (nI j) (nI kk)))), (0, .ref (q 0)), (1, .int n), (2, .int (nI j)), (4, .int (nI kk))]) hx hb dX1_spare_35 rfl hl (by decide) rfl (fun ls hl => ?_)
              refine lv_iinc (v := nI (kk + 1)) (lv' := [(4, .int (nI (kk + 1))), (3, .int (mt_b (mt_mwo T (nI j) (nI kk)))), (0, .ref (q 0)), (1, .int n), (2, .int (nI j))]) hx hb dX1_spare_36 hl (k := 4) rfl (mt_inc kk) (by decide) rfl (fun ls hl => ?_)
              refine lv_goto (tgt := 17) hx hb dX1_spare_39 (by decide) ?_
              exact ih17 (kk + 1) (mt_mwo T (nI j) (nI kk)) u32.1 u32.2.1 u32.2.2.1 u32.2.2.2 (by omega) (by omega) (by show _ = (mt_all _ kk && _); rw [← h2, c25]; rfl) hlt _ _ hw ls (lv_sub hl [2, 3, 4, 1, 0] rfl)
      refine lv_iload_n hx hb dX1_spare_4 rfl (lv_at hl 2 rfl) ?_
      refine lv_aload_n hx hb dX1_spare_5 rfl (lv_at hl 0 rfl) ?_
      refine g1_n K hw dX1_spare_6 ?_
      refine lv_icmp_ge (tgt := 62) hx hb dX1_spare_9 (by decide) (fun c9 => ?_) (fun c9 => ?_)
      · have hjj : j = T.1 := by have := (nI_leI (a := T.1) (b := j) (by omega) (by omega)).mp c9; omega
        refine lv_iload_n hx hb dX1_spare_62 rfl (lv_at hl 1 rfl) ?_
        exact hret (me1, so1, ce1, ot1) dX1_spare_63 rfl (by rw [hs, hjj]; rfl) hw
      · have hlt : j < T.1 := by have := mt_nle (a := j) (b := T.1) (by omega) (by omega) c9; omega
        refine lv_iconst (v := 1) hx hb dX1_spare_12 (by decide) ?_
        refine lv_istore_n (lv' := [(3, .int 1), (0, .ref (q 0)), (1, .int n), (2, .int (nI j))]) hx hb dX1_spare_13 rfl hl (by decide) rfl (fun ls hl => ?_)
        refine lv_iconst (v := 0) hx hb dX1_spare_14 (by decide) ?_
        refine lv_istore (lv' := [(4, .int 0), (3, .int 1), (0, .ref (q 0)), (1, .int n), (2, .int (nI j))]) hx hb dX1_spare_15 hl (by decide) rfl (fun ls hl => ?_)
        exact J17 (14 + 1) 0 true me1 so1 ce1 ot1 (by omega) (by omega) rfl hlt _ _ hw ls (lv_sub hl [2, 3, 4, 1, 0] rfl)
  refine lv_iconst (v := 0) hx hb dX1_spare_0 (by decide) ?_
  refine lv_istore_n (lv' := [(1, .int 0), (0, .ref (q 0))]) hx hb dX1_spare_1 rfl hl (by decide) rfl (fun ls hl => ?_)
  refine lv_iconst (v := 0) hx hb dX1_spare_2 (by decide) ?_
  refine lv_istore_n (lv' := [(2, .int 0), (1, .int 0), (0, .ref (q 0))]) hx hb dX1_spare_3 rfl hl (by decide) rfl (fun ls hl => ?_)
  exact J4 (T.1 + 1) 0 0 me so ce ot (by omega) (by omega) rfl _ _ hw ls (lv_sub hl [2, 1, 0] rfl)
set_option maxHeartbeats 4000000 in
set_option maxRecDepth 100000 in
/-- marches() -/
theorem m1_marches (l : Launch) (G : mt_G) (q : Nat → Nat) (wr : va_W) (T : mt_T) (me so ce ot : Int32)   : mt_Mi l yX1_marches cX1_marches 1 .int 0 0 G [.ref (q 0)] (mt_w1 G q T me so ce ot wr) (fun (v : Int32) (u : Unit) => v = nI T.1) (fun u => mt_w1 G q T me so ce ot wr) := by
  refine mt_Mi_of RX1 rfl (by decide) (Nat.le_of_ble_eq_true rfl) ?_
  intro p e s m args below meth c A ls Q K hw hl hret
  have hx := K.1
  have hb := K.2.1
  have hl : lv_has ls 1 [(0, .ref (q 0))] := hl
  refine lv_aload_n hx hb dX1_marches_0 rfl (lv_at hl 0 rfl) ?_
  refine g1_n K hw dX1_marches_1 ?_
  exact hret () dX1_marches_4 rfl (by rfl) hw
end
section

set_option maxHeartbeats 4000000 in
set_option maxRecDepth 100000 in
/-- march(direction) -/
theorem m1_march (l : Launch) (G : mt_G) (q : Nat → Nat) (wr : va_W) (T : mt_T) (me so ce ot : Int32) (x : Int32) (hT : mt_ok T) : mt_Mi l yX1_march cX1_march 2 .int 0 0 G [.ref (q 0), .int x] (mt_w1 G q T me so ce ot wr) (fun (v : Int32) (u : mt_T) => v = mt_maR T x ∧ u = mt_maT T x) (fun u => mt_w1 G q u me so ce ot wr) := by
  refine mt_Mi_of RX1 rfl (by decide) (Nat.le_of_ble_eq_true rfl) ?_
  intro p e s m args below meth c A ls Q K hw hl hret
  have hx := K.1
  have hb := K.2.1
  have hl : lv_has ls 2 [(0, .ref (q 0)), (1, .int x)] := hl
  have J11 : (x = 0 ∨ x = 1) → ∀ (H : Heap) (locs : List Loc), mt_Hw G A s (mt_w1 G q T me so ce ot wr) H locs → ∀ (ls : Array Slot), lv_has ls 2 [(0, .ref (q 0)), (1, .int x)] → W p l e (mt_rm 0 0) s m args below meth c H locs 0 0 Q (F0 m 11 ls []) := by
    intro  hx01 H locs hw ls hl
    have hn := hT.1
    have hxe : x = nI x.toNatClampNeg := by rcases hx01 with h | h <;> rw [h] <;> decide
    have hx1 : x.toNatClampNeg ≤ 1 := by rcases hx01 with h | h <;> rw [h] <;> decide
    have h01 : ¬ (¬ x = 0 ∧ ¬ x = 1) := by grind
    refine lv_aload_n hx hb dX1_march_11 rfl (lv_at hl 0 rfl) ?_
    refine g1_n K hw dX1_march_12 ?_
    refine lv_bipush (v := nI 6) hx hb dX1_march_15 (by decide) ?_
    refine lv_icmp_lt (tgt := 23) hx hb dX1_march_17 (by decide) (fun c17 => ?_) (fun c17 => ?_)
    · replace c17 := (nI_ltI (a := T.1) (b := 6) (by omega) (by decide)).mp c17
      refine lv_aload_n hx hb dX1_march_23 rfl (lv_at hl 0 rfl) ?_
      refine g1_d K hw dX1_march_24 ?_
      refine lv_aload_n hx hb dX1_march_27 rfl (lv_at hl 0 rfl) ?_
      refine g1_n K hw dX1_march_28 ?_
      refine lv_iload_n hx hb dX1_march_31 rfl (lv_at hl 1 rfl) ?_
      refine mt_top (y := nI x.toNatClampNeg) hxe ?_
      refine s1_d (k := T.1) (v := x.toNatClampNeg) K hw (by omega) dX1_march_32 (fun H locs hw => ?_)
      refine lv_aload_n hx hb dX1_march_33 rfl (lv_at hl 0 rfl) ?_
      refine g1_z K hw dX1_march_34 ?_
      refine lv_aload_n hx hb dX1_march_37 rfl (lv_at hl 0 rfl) ?_
      refine g1_n K hw dX1_march_38 ?_
      refine lv_iconst (v := nI 0) hx hb dX1_march_41 (by decide) ?_
      refine s1_z (k := T.1) (v := 0) K hw (by omega) dX1_march_42 (fun H locs hw => ?_)
      refine lv_aload_n hx hb dX1_march_43 rfl (lv_at hl 0 rfl) ?_
      refine lv_dup hx hb dX1_march_44 rfl ?_
      refine g1_n K hw dX1_march_45 ?_
      refine lv_iconst (v := 1) hx hb dX1_march_48 (by decide) ?_
      refine lv_iadd hx hb dX1_march_49 ?_
      refine mt_top (y := nI (T.1 + 1)) (nI_1 T.1) ?_
      refine p1_n (v := T.1 + 1) K hw dX1_march_50 (fun H locs hw => ?_)
      refine lv_aload_n hx hb dX1_march_53 rfl (lv_at hl 0 rfl) ?_
      refine g1_n K hw dX1_march_54 ?_
      refine lv_iconst (v := 1) hx hb dX1_march_57 (by decide) ?_
      refine lv_isub hx hb dX1_march_58 ?_
      refine mt_top (y := nI T.1) (nI_pred T.1) ?_
      exact hret (T.1 + 1, ((T.1, mt_u T.2.1 T.1 x.toNatClampNeg, T.2.2.1, T.2.2.2).1, (T.1, mt_u T.2.1 T.1 x.toNatClampNeg, T.2.2.1, T.2.2.2).2.1, mt_u (T.1, mt_u T.2.1 T.1 x.toNatClampNeg, T.2.2.1, T.2.2.2).2.2.1 T.1 0, (T.1, mt_u T.2.1 T.1 x.toNatClampNeg, T.2.2.1, T.2.2.2).2.2.2).2.1, ((T.1, mt_u T.2.1 T.1 x.toNatClampNeg, T.2.2.1, T.2.2.2).1, (T.1, mt_u T.2.1 T.1 x.toNatClampNeg, T.2.2.1, T.2.2.2).2.1, mt_u (T.1, mt_u T.2.1 T.1 x.toNatClampNeg, T.2.2.1, T.2.2.2).2.2.1 T.1 0, (T.1, mt_u T.2.1 T.1 x.toNatClampNeg, T.2.2.1, T.2.2.2).2.2.2).2.2.1, ((T.1, mt_u T.2.1 T.1 x.toNatClampNeg, T.2.2.1, T.2.2.2).1, (T.1, mt_u T.2.1 T.1 x.toNatClampNeg, T.2.2.1, T.2.2.2).2.1, mt_u (T.1, mt_u T.2.1 T.1 x.toNatClampNeg, T.2.2.1, T.2.2.2).2.2.1 T.1 0, (T.1, mt_u T.2.1 T.1 x.toNatClampNeg, T.2.2.1, T.2.2.2).2.2.2).2.2.2) dX1_march_59 rfl (by constructor <;> simp only [mt_maR, mt_maT, if_neg h01, if_neg (Nat.not_le.mpr c17)]) hw
    · replace c17 := mt_nlt (a := T.1) (b := 6) (by omega) (by decide) c17
      refine lv_bipush (v := (-2)) hx hb dX1_march_20 (by decide) ?_
      exact hret T dX1_march_22 rfl (by constructor <;> grind [mt_maR, mt_maT]) hw
  refine lv_iload_n hx hb dX1_march_0 rfl (lv_at hl 1 rfl) ?_
  refine lv_if_eq (tgt := 11) hx hb dX1_march_1 (by decide) (fun c1 => ?_) (fun c1 => ?_)
  · exact J11 (by grind) _ _ hw ls (lv_sub hl [0, 1] rfl)
  · refine lv_iload_n hx hb dX1_march_4 rfl (lv_at hl 1 rfl) ?_
    refine lv_iconst (v := 1) hx hb dX1_march_5 (by decide) ?_
    refine lv_icmp_eq (tgt := 11) hx hb dX1_march_6 (by decide) (fun c6 => ?_) (fun c6 => ?_)
    · exact J11 (by grind) _ _ hw ls (lv_sub hl [0, 1] rfl)
    · refine lv_iconst (v := (-1)) hx hb dX1_march_9 (by decide) ?_
      exact hret T dX1_march_10 rfl (by constructor <;> grind [mt_maR, mt_maT]) hw
set_option maxHeartbeats 4000000 in
set_option maxRecDepth 100000 in
/-- op(op) -/
theorem m1_op (l : Launch) (G : mt_G) (q : Nat → Nat) (wr : va_W) (T : mt_T) (me so ce ot : Int32) (x : Int32) (hT : mt_ok T) : mt_Mi l yX1_op cX1_op 3 .int 0 0 G [.ref (q 0), .int x] (mt_w1 G q T me so ce ot wr) (fun (v : Int32) (u : mt_T) => v = mt_opR T x ∧ u = mt_opT T x) (fun u => mt_w1 G q u me so ce ot wr) := by
  refine mt_Mi_of RX1 rfl (by decide) (Nat.le_of_ble_eq_true rfl) ?_
  intro p e s m args below meth c A ls Q K hw hl hret
  have hx := K.1
  have hb := K.2.1
  have hl : lv_has ls 3 [(0, .ref (q 0)), (1, .int x)] := hl
  have hn := hT.1
  have hz := hT.2.2.1 (T.1 - 1)
  refine lv_iload_n hx hb dX1_op_0 rfl (lv_at hl 1 rfl) ?_
  refine lv_if_lt (tgt := 16) hx hb dX1_op_1 (by decide) (fun c1 => ?_) (fun c1 => ?_)
  · refine lv_iconst (v := (-1)) hx hb dX1_op_16 (by decide) ?_
    exact hret T dX1_op_17 rfl (by constructor <;> grind [mt_opR, mt_opT]) hw
  · refine lv_iload_n hx hb dX1_op_4 rfl (lv_at hl 1 rfl) ?_
    refine lv_iconst (v := 3) hx hb dX1_op_5 (by decide) ?_
    refine lv_icmp_gt (tgt := 16) hx hb dX1_op_6 (by decide) (fun c6 => ?_) (fun c6 => ?_)
    · refine lv_iconst (v := (-1)) hx hb dX1_op_16 (by decide) ?_
      exact hret T dX1_op_17 rfl (by constructor <;> grind [mt_opR, mt_opT]) hw
    · refine lv_aload_n hx hb dX1_op_9 rfl (lv_at hl 0 rfl) ?_
      refine g1_n K hw dX1_op_10 ?_
      refine lv_if_ne (tgt := 18) hx hb dX1_op_13 (by decide) (fun c13 => ?_) (fun c13 => ?_)
      · replace c13 : ¬ T.1 = 0 := fun h => c13 (by rw [h]; rfl)
        obtain ⟨hxe, hx3⟩ := mt_x3 c1 c6
        have h1 : ¬ (x < 0 ∨ 3 < x ∨ T.1 = 0) := by grind
        refine lv_aload_n hx hb dX1_op_18 rfl (lv_at hl 0 rfl) ?_
        refine g1_n K hw dX1_op_19 ?_
        refine lv_iconst (v := 1) hx hb dX1_op_22 (by decide) ?_
        refine lv_isub hx hb dX1_op_23 ?_
        refine mt_top (y := nI (T.1 - 1)) (mt_pred (by omega)) ?_
        refine lv_istore_n (lv' := [(2, .int (nI (T.1 - 1))), (0, .ref (q 0)), (1, .int x)]) hx hb dX1_op_24 rfl hl (by decide) rfl (fun ls hl => ?_)
        refine lv_aload_n hx hb dX1_op_25 rfl (lv_at hl 1 rfl) ?_
        refine g1_z K hw dX1_op_26 ?_
        refine lv_iload_n hx hb dX1_op_29 rfl (lv_at hl 0 rfl) ?_
        refine r1_z (k := T.1 - 1) K hw (by omega) dX1_op_30 ?_
        refine lv_iconst (v := nI 4) hx hb dX1_op_31 (by decide) ?_
        refine lv_icmp_lt (tgt := 38) hx hb dX1_op_32 (by decide) (fun c32 => ?_) (fun c32 => ?_)
        · replace c32 := (nI_ltI (a := T.2.2.1 (T.1 - 1)) (b := 4) (by omega) (by decide)).mp c32
          refine lv_aload_n hx hb dX1_op_38 rfl (lv_at hl 1 rfl) ?_
          refine g1_o K hw dX1_op_39 ?_
          refine lv_iconst (v := 4) hx hb dX1_op_42 (by decide) ?_
          refine lv_iload_n hx hb dX1_op_43 rfl (lv_at hl 0 rfl) ?_
          refine lv_imul hx hb dX1_op_44 ?_
          refine mt_top (y := nI ((T.1 - 1) * 4)) (by rw [Nat.mul_comm]; exact pk_mul 4 (T.1 - 1)) ?_
          refine lv_aload_n hx hb dX1_op_45 rfl (lv_at hl 1 rfl) ?_
          refine g1_z K hw dX1_op_46 ?_
          refine lv_iload_n hx hb dX1_op_49 rfl (lv_at hl 0 rfl) ?_
          refine r1_z (k := T.1 - 1) K hw (by omega) dX1_op_50 ?_
          refine lv_iadd hx hb dX1_op_51 ?_
          refine mt_top (y := nI ((T.1 - 1) * 4 + T.2.2.1 (T.1 - 1))) (nI_add _ _) ?_
          refine lv_iload_n hx hb dX1_op_52 rfl (lv_at hl 2 rfl) ?_
          refine mt_top (y := nI x.toNatClampNeg) hxe ?_
          refine s1_o (k := (T.1 - 1) * 4 + T.2.2.1 (T.1 - 1)) (v := x.toNatClampNeg) K hw (by omega) dX1_op_53 (fun H locs hw => ?_)
          refine lv_aload_n hx hb dX1_op_54 rfl (lv_at hl 1 rfl) ?_
          refine g1_z K hw dX1_op_55 ?_
          refine lv_iload_n hx hb dX1_op_58 rfl (lv_at hl 0 rfl) ?_
          refine lv_dup2_11 hx hb dX1_op_59 rfl rfl ?_
          refine r1_z (k := T.1 - 1) K hw (by omega) dX1_op_60 ?_
          refine lv_iconst (v := 1) hx hb dX1_op_61 (by decide) ?_
          refine lv_iadd hx hb dX1_op_62 ?_
          refine mt_top (y := nI (T.2.2.1 (T.1 - 1) + 1)) (nI_1 _) ?_
          refine s1_z (k := T.1 - 1) (v := T.2.2.1 (T.1 - 1) + 1) K hw (by omega) dX1_op_63 (fun H locs hw => ?_)
          refine lv_aload_n hx hb dX1_op_64 rfl (lv_at hl 1 rfl) ?_
          refine g1_z K hw dX1_op_65 ?_
          refine lv_iload_n hx hb dX1_op_68 rfl (lv_at hl 0 rfl) ?_
          refine r1_z (k := T.1 - 1) K hw (by omega) dX1_op_69 ?_
          exact hret ((T.1, T.2.1, T.2.2.1, mt_u T.2.2.2 ((T.1 - 1) * 4 + T.2.2.1 (T.1 - 1)) x.toNatClampNeg).1, (T.1, T.2.1, T.2.2.1, mt_u T.2.2.2 ((T.1 - 1) * 4 + T.2.2.1 (T.1 - 1)) x.toNatClampNeg).2.1, mt_u (T.1, T.2.1, T.2.2.1, mt_u T.2.2.2 ((T.1 - 1) * 4 + T.2.2.1 (T.1 - 1)) x.toNatClampNeg).2.2.1 (T.1 - 1) (T.2.2.1 (T.1 - 1) + 1), (T.1, T.2.1, T.2.2.1, mt_u T.2.2.2 ((T.1 - 1) * 4 + T.2.2.1 (T.1 - 1)) x.toNatClampNeg).2.2.2) dX1_op_70 rfl (by constructor <;> simp only [mt_opR, mt_opT, if_neg h1, if_neg (Nat.not_le.mpr c32), mt_u, if_true]) hw
        · replace c32 := mt_nlt (a := T.2.2.1 (T.1 - 1)) (b := 4) (by omega) (by decide) c32
          refine lv_bipush (v := (-2)) hx hb dX1_op_35 (by decide) ?_
          exact hret T dX1_op_37 rfl (by constructor <;> grind [mt_opR, mt_opT]) hw
      · replace c13 : T.1 = 0 := (nI_eq (b := 0) (by omega) (by decide)).mp c13
        refine lv_iconst (v := (-1)) hx hb dX1_op_16 (by decide) ?_
        exact hret T dX1_op_17 rfl (by constructor <;> grind [mt_opR, mt_opT]) hw
set_option maxHeartbeats 4000000 in
set_option maxRecDepth 100000 in
/-- drop() -/
theorem m1_drop (l : Launch) (G : mt_G) (q : Nat → Nat) (wr : va_W) (T : mt_T) (me so ce ot : Int32)  (hT : mt_ok T) : mt_Mi l yX1_drop cX1_drop 1 .int 0 0 G [.ref (q 0)] (mt_w1 G q T me so ce ot wr) (fun (v : Int32) (u : mt_T) => v = mt_drR T ∧ u = mt_drT T) (fun u => mt_w1 G q u me so ce ot wr) := by
  refine mt_Mi_of RX1 rfl (by decide) (Nat.le_of_ble_eq_true rfl) ?_
  intro p e s m args below meth c A ls Q K hw hl hret
  have hx := K.1
  have hb := K.2.1
  have hl : lv_has ls 1 [(0, .ref (q 0))] := hl
  have hn := hT.1
  have hz := hT.2.2.1 (T.1 - 1)
  refine lv_aload_n hx hb dX1_drop_0 rfl (lv_at hl 0 rfl) ?_
  refine g1_n K hw dX1_drop_1 ?_
  refine lv_if_ne (tgt := 9) hx hb dX1_drop_4 (by decide) (fun c4 => ?_) (fun c4 => ?_)
  · replace c4 : ¬ T.1 = 0 := fun h => c4 (by rw [h]; rfl)
    refine lv_aload_n hx hb dX1_drop_9 rfl (lv_at hl 0 rfl) ?_
    refine g1_z K hw dX1_drop_10 ?_
    refine lv_aload_n hx hb dX1_drop_13 rfl (lv_at hl 0 rfl) ?_
    refine g1_n K hw dX1_drop_14 ?_
    refine lv_iconst (v := 1) hx hb dX1_drop_17 (by decide) ?_
    refine lv_isub hx hb dX1_drop_18 ?_
    refine mt_top (y := nI (T.1 - 1)) (mt_pred (by omega)) ?_
    refine r1_z (k := T.1 - 1) K hw (by omega) dX1_drop_19 ?_
    refine lv_if_le (tgt := 41) hx hb dX1_drop_20 (by decide) (fun c20 => ?_) (fun c20 => ?_)
    · replace c20 : T.2.2.1 (T.1 - 1) ≤ 0 := (nI_leI (a := T.2.2.1 (T.1 - 1)) (b := 0) (by omega) (by decide)).mp c20
      refine lv_aload_n hx hb dX1_drop_41 rfl (lv_at hl 0 rfl) ?_
      refine lv_dup hx hb dX1_drop_42 rfl ?_
      refine g1_n K hw dX1_drop_43 ?_
      refine lv_iconst (v := 1) hx hb dX1_drop_46 (by decide) ?_
      refine lv_isub hx hb dX1_drop_47 ?_
      refine mt_top (y := nI (T.1 - 1)) (mt_pred (by omega)) ?_
      refine p1_n (v := T.1 - 1) K hw dX1_drop_48 (fun H locs hw => ?_)
      refine lv_aload_n hx hb dX1_drop_51 rfl (lv_at hl 0 rfl) ?_
      refine g1_n K hw dX1_drop_52 ?_
      exact hret (T.1 - 1, T.2.1, T.2.2.1, T.2.2.2) dX1_drop_55 rfl (by constructor <;> grind [mt_drR, mt_drT]) hw
    · replace c20 : 0 < T.2.2.1 (T.1 - 1) := Nat.lt_of_not_le (fun h => c20 (nI_le (a := T.2.2.1 (T.1 - 1)) (b := 0) h (by decide)))
      refine lv_aload_n hx hb dX1_drop_23 rfl (lv_at hl 0 rfl) ?_
      refine g1_z K hw dX1_drop_24 ?_
      refine lv_aload_n hx hb dX1_drop_27 rfl (lv_at hl 0 rfl) ?_
      refine g1_n K hw dX1_drop_28 ?_
      refine lv_iconst (v := 1) hx hb dX1_drop_31 (by decide) ?_
      refine lv_isub hx hb dX1_drop_32 ?_
      refine mt_top (y := nI (T.1 - 1)) (mt_pred (by omega)) ?_
      refine lv_dup2_11 hx hb dX1_drop_33 rfl rfl ?_
      refine r1_z (k := T.1 - 1) K hw (by omega) dX1_drop_34 ?_
      refine lv_iconst (v := 1) hx hb dX1_drop_35 (by decide) ?_
      refine lv_isub hx hb dX1_drop_36 ?_
      refine mt_top (y := nI (T.2.2.1 (T.1 - 1) - 1)) (mt_pred c20) ?_
      refine s1_z (k := T.1 - 1) (v := T.2.2.1 (T.1 - 1) - 1) K hw (by omega) dX1_drop_37 (fun H locs hw => ?_)
      refine lv_goto (tgt := 51) hx hb dX1_drop_38 (by decide) ?_
      refine lv_aload_n hx hb dX1_drop_51 rfl (lv_at hl 0 rfl) ?_
      refine g1_n K hw dX1_drop_52 ?_
      exact hret (T.1, T.2.1, mt_u T.2.2.1 (T.1 - 1) (T.2.2.1 (T.1 - 1) - 1), T.2.2.2) dX1_drop_55 rfl (by constructor <;> grind [mt_drR, mt_drT]) hw
  · replace c4 : T.1 = 0 := (nI_eq (b := 0) (by omega) (by decide)).mp c4
    refine lv_iconst (v := (-1)) hx hb dX1_drop_7 (by decide) ?_
    exact hret T dX1_drop_8 rfl (by constructor <;> grind [mt_drR, mt_drT]) hw
set_option maxHeartbeats 4000000 in
set_option maxRecDepth 100000 in
/-- turn(m) -/
theorem m1_turn (l : Launch) (G : mt_G) (q : Nat → Nat) (wr : va_W) (T : mt_T) (me so ce ot : Int32) (x : Int32) (hT : mt_ok T) : mt_Mi l yX1_turn cX1_turn 2 .boolean 0 0 G [.ref (q 0), .int x] (mt_w1 G q T me so ce ot wr) (fun (v : Int32) (u : mt_T) => v = mt_b (mt_tuR T x) ∧ u = mt_tuT T x) (fun u => mt_w1 G q u me so ce ot wr) := by
  refine mt_Mi_of RX1 rfl (by decide) (Nat.le_of_ble_eq_true rfl) ?_
  intro p e s m args below meth c A ls Q K hw hl hret
  have hx := K.1
  have hb := K.2.1
  have hl : lv_has ls 2 [(0, .ref (q 0)), (1, .int x)] := hl
  have hn := hT.1
  refine lv_iload_n hx hb dX1_turn_0 rfl (lv_at hl 1 rfl) ?_
  refine lv_if_lt (tgt := 12) hx hb dX1_turn_1 (by decide) (fun c1 => ?_) (fun c1 => ?_)
  · refine lv_iconst (v := 0) hx hb dX1_turn_12 (by decide) ?_
    exact hret T dX1_turn_13 rfl ⟨mt_eq0 (by grind [mt_tuR]), by grind [mt_tuT]⟩ hw
  · refine lv_iload_n hx hb dX1_turn_4 rfl (lv_at hl 1 rfl) ?_
    refine lv_aload_n hx hb dX1_turn_5 rfl (lv_at hl 0 rfl) ?_
    refine g1_n K hw dX1_turn_6 ?_
    refine lv_icmp_lt (tgt := 14) hx hb dX1_turn_9 (by decide) (fun c9 => ?_) (fun c9 => ?_)
    · obtain ⟨hxe, hxn⟩ := mt_xn (by omega) c1 c9
      have hd := hT.2.1 x.toNatClampNeg
      have h1 : ¬ x < 0 ∧ x < nI T.1 := ⟨c1, c9⟩
      refine lv_aload_n hx hb dX1_turn_14 rfl (lv_at hl 0 rfl) ?_
      refine g1_d K hw dX1_turn_15 ?_
      refine lv_iload_n hx hb dX1_turn_18 rfl (lv_at hl 1 rfl) ?_
      refine mt_top (y := nI x.toNatClampNeg) hxe ?_
      refine lv_iconst (v := 1) hx hb dX1_turn_19 (by decide) ?_
      refine lv_aload_n hx hb dX1_turn_20 rfl (lv_at hl 0 rfl) ?_
      refine g1_d K hw dX1_turn_21 ?_
      refine lv_iload_n hx hb dX1_turn_24 rfl (lv_at hl 1 rfl) ?_
      refine mt_top (y := nI x.toNatClampNeg) hxe ?_
      refine r1_d (k := x.toNatClampNeg) K hw (by omega) dX1_turn_25 ?_
      refine lv_isub hx hb dX1_turn_26 ?_
      refine mt_top (y := nI (1 - T.2.1 x.toNatClampNeg)) (mt_1s hd) ?_
      refine s1_d (k := x.toNatClampNeg) (v := 1 - T.2.1 x.toNatClampNeg) K hw (by omega) dX1_turn_27 (fun H locs hw => ?_)
      refine lv_iconst (v := 1) hx hb dX1_turn_28 (by decide) ?_
      exact hret (T.1, mt_u T.2.1 x.toNatClampNeg (1 - T.2.1 x.toNatClampNeg), T.2.2.1, T.2.2.2) dX1_turn_29 rfl ⟨mt_eq1 (by unfold mt_tuR; exact decide_eq_true h1), (by unfold mt_tuT; rw [if_pos h1])⟩ hw
    · refine lv_iconst (v := 0) hx hb dX1_turn_12 (by decide) ?_
      exact hret T dX1_turn_13 rfl ⟨mt_eq0 (by grind [mt_tuR]), by grind [mt_tuT]⟩ hw
end
section
/-- four addresses: the object's, its three arrays' -/
def mt_ad (h a1 a2 a3 : Nat) : Nat → Nat := fun k => match k with
  | 0 => h
  | 1 => a1
  | 2 => a2
  | _ => a3
def mt_T0 : mt_T := (0, fun _ => 0, fun _ => 0, fun _ => 0)
abbrev mt_i0 : List Value := [.int 0, .null, .null, .null, .int 0, .int 0, .int 0, .int 0, .int 0]
abbrev mt_i1 : List Value := [.int 0, .null, .null, .null, .int 0, .int 0, .int 0, .int 0]
set_option maxHeartbeats 4000000 in
set_option maxRecDepth 100000 in
theorem m0_init (l : Launch) (D : va_G) (h0 sz : Nat) : Met l yX0_init (ws_ yX0_init cX0_init 1 none) ({ frames := 1, cells := 3, slots := 36, locals := 12 }) (va_Pc [.ref h0] (fun U => U.heap.size = sz ∧ va_P D vwCl [(h0, .inr (0, mt_i0))] U.heap ∧ va_K D vwCl [] U ∧ va_D (fun _ => True) [(h0, .inr (0, mt_i0))])) (va_Qv (fun (_ : Nat × Nat × Nat × ClassId) => True) (fun u t => va_P D vwCl (mt_w0 (D, u.2.2.2, u.2.2.2) (mt_ad h0 u.1 u.2.1 u.2.2.1) mt_T0 (-1) 0 0 0 false []) t.heap ∧ va_K D vwCl [(u.2.2.2, .byte)] t ∧ va_D (va_A [(h0, .inr (0, mt_i0))] sz) (mt_w0 (D, u.2.2.2, u.2.2.2) (mt_ad h0 u.1 u.2.1 u.2.2.1) mt_T0 (-1) 0 0 0 false [])) (va_A [(h0, .inr (0, mt_i0))] sz)) 3 36 (va_A [(h0, .inr (0, mt_i0))] sz) := by
  refine Met.ofW (cc := cX0_init) (maxL := 1) (ret := none) (by decide) rfl ?_
  intro p e s m args below meth c s₁ B hml hv
  obtain ⟨rfl, hsz, hP, hK, hD0⟩ := hv
  have hx := B.exec
  have hb := B.bytes
  have hr := B.returns
  have hts := atoms_spec (ws := ws_ yX0_init cX0_init 1 none) B.pre
  have hts : ∀ w ∈ lw_all, w.before _ s = true := fun w h => hts w (List.mem_cons_of_mem _ h)
  have hown : s.vm.findClass RX0 = some m.cls := findClass_of_methodNamed B.named
  have hlocks := B.notSynchronized
  have hin : meth.name = "<init>" := (name_of_methodNamed B.named B.method).1
  subst hsz
  have hD := hD0.self (sz := s.heap.size)
  generalize hAe : va_A [(h0, .inr (0, mt_i0))] s.heap.size = A at hD ⊢
  have hA : ∀ q : Nat, s.heap.size ≤ q → A q := fun q h => by rw [← hAe]; exact Or.inr h
  have hS : va_S A s.heap s.heap [] := va_S.rf
  have hl := lv_entry ([.ref h0]) (n := 1) (Nat.le_of_ble_eq_true rfl)
  rw [lg_entry_eq]
  generalize (lg_sl ([.ref h0]) ++ List.replicate (1 - (lg_sl ([.ref h0])).length) Slot.unset).toArray = ls at hl ⊢
  have hl : lv_has ls 1 [(0, .ref h0)] := hl
  refine lv_aload_n hx hb dX0_init_0 rfl (lv_at hl 0 rfl) ?_
  refine W.objInit hx hb hown (hts _ q26) (hts _ q27) (hts _ q28) rfl (by rw [hml]; exact hl.1) rfl dX0_init_1 (Nat.le_of_ble_eq_true rfl) (Nat.le_of_ble_eq_true rfl) ?_
  refine W.eq (g2 := F0 m 4 ls []) rfl ?_
  refine lv_aload_n hx hb dX0_init_4 rfl (lv_at hl 0 rfl) ?_
  refine lv_bipush (v := 6) hx hb dX0_init_5 (by decide) ?_
  refine va_newa (atype := .byte) (N' := 6) (a0 := (6, .inl (mt_F fun _ => 0))) (ty := .byte) hx hb (hts _ q57) rfl hK hP hD hS hA (fun _ => rfl) (by decide) (by decide) (by decide) (Nat.le_of_ble_eq_true rfl) (Nat.le_of_ble_eq_true rfl) dX0_init_7 (fun a1 c1 H hK hP hD hS => ?_)
  have hP : va_P D vwCl [(h0, .inr (0, [.int 0, .null, .null, .null, .int 0, .int 0, .int 0, .int 0, .int 0])), (a1, .inl (c1, 6, .inl (mt_F fun _ => 0)))] H := hP
  have hD : va_D A [(h0, .inr (0, [.int 0, .null, .null, .null, .int 0, .int 0, .int 0, .int 0, .int 0])), (a1, .inl (c1, 6, .inl (mt_F fun _ => 0)))] := hD
  refine va_putF (D := D) (ci := 0) (v := .ref a1) (ty := .array .byte) (C := RX0) (T := TX0) (N := 9) hx hb hts in_X0 tyX0 tyX0_ok nmX0 hown hK hP hD hS 0 rfl rfl 1 (by decide) (hts _ q30) (fun _ h9 => h9) rfl hin rfl (by decide +kernel) rfl rfl (Nat.le_of_ble_eq_true rfl) dX0_init_9 (fun H locs hP hD hS => ?_)
  have hP : va_P D vwCl [(h0, .inr (0, [.int 0, .ref a1, .null, .null, .int 0, .int 0, .int 0, .int 0, .int 0])), (a1, .inl (c1, 6, .inl (mt_F fun _ => 0)))] H := hP
  have hD : va_D A [(h0, .inr (0, [.int 0, .ref a1, .null, .null, .int 0, .int 0, .int 0, .int 0, .int 0])), (a1, .inl (c1, 6, .inl (mt_F fun _ => 0)))] := hD
  refine lv_aload_n hx hb dX0_init_12 rfl (lv_at hl 0 rfl) ?_
  refine lv_bipush (v := 6) hx hb dX0_init_13 (by decide) ?_
  refine va_newa (atype := .byte) (N' := 6) (a0 := (6, .inl (mt_F fun _ => 0))) (ty := .byte) hx hb (hts _ q57) rfl hK hP hD hS hA (fun _ => rfl) (by decide) (by decide) (by decide) (Nat.le_of_ble_eq_true rfl) (Nat.le_of_ble_eq_true rfl) dX0_init_15 (fun a2 c2 H hK hP hD hS => ?_)
  have hP : va_P D vwCl [(h0, .inr (0, [.int 0, .ref a1, .null, .null, .int 0, .int 0, .int 0, .int 0, .int 0])), (a1, .inl (c1, 6, .inl (mt_F fun _ => 0))), (a2, .inl (c2, 6, .inl (mt_F fun _ => 0)))] H := hP
  have hD : va_D A [(h0, .inr (0, [.int 0, .ref a1, .null, .null, .int 0, .int 0, .int 0, .int 0, .int 0])), (a1, .inl (c1, 6, .inl (mt_F fun _ => 0))), (a2, .inl (c2, 6, .inl (mt_F fun _ => 0)))] := hD
  refine va_putF (D := D) (ci := 0) (v := .ref a2) (ty := .array .byte) (C := RX0) (T := TX0) (N := 9) hx hb hts in_X0 tyX0 tyX0_ok nmX0 hown hK hP hD hS 0 rfl rfl 2 (by decide) (hts _ q31) (fun _ h9 => h9) rfl hin rfl (by decide +kernel) rfl rfl (Nat.le_of_ble_eq_true rfl) dX0_init_17 (fun H locs hP hD hS => ?_)
  have hP : va_P D vwCl [(h0, .inr (0, [.int 0, .ref a1, .ref a2, .null, .int 0, .int 0, .int 0, .int 0, .int 0])), (a1, .inl (c1, 6, .inl (mt_F fun _ => 0))), (a2, .inl (c2, 6, .inl (mt_F fun _ => 0)))] H := hP
  have hD : va_D A [(h0, .inr (0, [.int 0, .ref a1, .ref a2, .null, .int 0, .int 0, .int 0, .int 0, .int 0])), (a1, .inl (c1, 6, .inl (mt_F fun _ => 0))), (a2, .inl (c2, 6, .inl (mt_F fun _ => 0)))] := hD
  refine lv_aload_n hx hb dX0_init_20 rfl (lv_at hl 0 rfl) ?_
  refine lv_bipush (v := 24) hx hb dX0_init_21 (by decide) ?_
  refine va_newa (atype := .byte) (N' := 24) (a0 := (24, .inl (mt_F fun _ => 0))) (ty := .byte) hx hb (hts _ q57) rfl hK hP hD hS hA (fun _ => rfl) (by decide) (by decide) (by decide) (Nat.le_of_ble_eq_true rfl) (Nat.le_of_ble_eq_true rfl) dX0_init_23 (fun a3 c3 H hK hP hD hS => ?_)
  have hP : va_P D vwCl [(h0, .inr (0, [.int 0, .ref a1, .ref a2, .null, .int 0, .int 0, .int 0, .int 0, .int 0])), (a1, .inl (c1, 6, .inl (mt_F fun _ => 0))), (a2, .inl (c2, 6, .inl (mt_F fun _ => 0))), (a3, .inl (c3, 24, .inl (mt_F fun _ => 0)))] H := hP
  have hD : va_D A [(h0, .inr (0, [.int 0, .ref a1, .ref a2, .null, .int 0, .int 0, .int 0, .int 0, .int 0])), (a1, .inl (c1, 6, .inl (mt_F fun _ => 0))), (a2, .inl (c2, 6, .inl (mt_F fun _ => 0))), (a3, .inl (c3, 24, .inl (mt_F fun _ => 0)))] := hD
  refine va_putF (D := D) (ci := 0) (v := .ref a3) (ty := .array .byte) (C := RX0) (T := TX0) (N := 9) hx hb hts in_X0 tyX0 tyX0_ok nmX0 hown hK hP hD hS 0 rfl rfl 3 (by decide) (hts _ q32) (fun _ h9 => h9) rfl hin rfl (by decide +kernel) rfl rfl (Nat.le_of_ble_eq_true rfl) dX0_init_25 (fun H locs hP hD hS => ?_)
  have hP : va_P D vwCl [(h0, .inr (0, [.int 0, .ref a1, .ref a2, .ref a3, .int 0, .int 0, .int 0, .int 0, .int 0])), (a1, .inl (c1, 6, .inl (mt_F fun _ => 0))), (a2, .inl (c2, 6, .inl (mt_F fun _ => 0))), (a3, .inl (c3, 24, .inl (mt_F fun _ => 0)))] H := hP
  have hD : va_D A [(h0, .inr (0, [.int 0, .ref a1, .ref a2, .ref a3, .int 0, .int 0, .int 0, .int 0, .int 0])), (a1, .inl (c1, 6, .inl (mt_F fun _ => 0))), (a2, .inl (c2, 6, .inl (mt_F fun _ => 0))), (a3, .inl (c3, 24, .inl (mt_F fun _ => 0)))] := hD
  refine lv_aload_n hx hb dX0_init_28 rfl (lv_at hl 0 rfl) ?_
  refine lv_iconst (v := (-1)) hx hb dX0_init_29 (by decide) ?_
  refine va_put (D := D) (ci := 0) (v := .int (-1)) (ty := .int) (C := RX0) (T := TX0) (N := 9) hx hb hts in_X0 tyX0 tyX0_ok nmX0 hown hK hP hD hS 0 rfl rfl 4 (by decide) (hts _ q33) (fun _ h9 => h9) rfl (by decide +kernel) rfl rfl (Nat.le_of_ble_eq_true rfl) dX0_init_30 (fun H locs hP hD hS => ?_)
  have hP : va_P D vwCl [(h0, .inr (0, [.int 0, .ref a1, .ref a2, .ref a3, .int (-1), .int 0, .int 0, .int 0, .int 0])), (a1, .inl (c1, 6, .inl (mt_F fun _ => 0))), (a2, .inl (c2, 6, .inl (mt_F fun _ => 0))), (a3, .inl (c3, 24, .inl (mt_F fun _ => 0)))] H := hP
  have hD : va_D A [(h0, .inr (0, [.int 0, .ref a1, .ref a2, .ref a3, .int (-1), .int 0, .int 0, .int 0, .int 0])), (a1, .inl (c1, 6, .inl (mt_F fun _ => 0))), (a2, .inl (c2, 6, .inl (mt_F fun _ => 0))), (a3, .inl (c3, 24, .inl (mt_F fun _ => 0)))] := hD
  have k1 : s.vm.findClass ("[" ++ FieldType.byte.toString) = some c1 := (hK.2 0 (c1, .byte) rfl).2
  have k2 : s.vm.findClass ("[" ++ FieldType.byte.toString) = some c2 := (hK.2 1 (c2, .byte) rfl).2
  have k3 : s.vm.findClass ("[" ++ FieldType.byte.toString) = some c3 := (hK.2 2 (c3, .byte) rfl).2
  obtain rfl : c2 = c1 := Option.some.inj (k2.symm.trans k1)
  obtain rfl : c3 = c2 := Option.some.inj (k3.symm.trans k1)
  have hK9 := hK.sub (tys' := [(c3, .byte)]) [0] rfl
  refine W.widen (k := 3) (n := 36) (Nat.le_of_ble_eq_true rfl) (Nat.le_of_ble_eq_true rfl) ?_
  exact W.vret hx hb hr (fun t ht hW => ⟨⟨(a1, a2, a3, c3), rfl, trivial, by rw [ht]; exact hP, va_K.moved hW.alike hK9, hD⟩, hS.F ht⟩) hS.2.2 dX0_init_33
set_option maxHeartbeats 4000000 in
set_option maxRecDepth 100000 in
theorem m1_init (l : Launch) (D : va_G) (h0 sz : Nat) : Met l yX1_init (ws_ yX1_init cX1_init 1 none) ({ frames := 1, cells := 3, slots := 36, locals := 12 }) (va_Pc [.ref h0] (fun U => U.heap.size = sz ∧ va_P D vwCl [(h0, .inr (1, mt_i1))] U.heap ∧ va_K D vwCl [] U ∧ va_D (fun _ => True) [(h0, .inr (1, mt_i1))])) (va_Qv (fun (_ : Nat × Nat × Nat × ClassId) => True) (fun u t => va_P D vwCl (mt_w1 (D, u.2.2.2, u.2.2.2) (mt_ad h0 u.1 u.2.1 u.2.2.1) mt_T0 0 0 0 0 []) t.heap ∧ va_K D vwCl [(u.2.2.2, .int)] t ∧ va_D (va_A [(h0, .inr (1, mt_i1))] sz) (mt_w1 (D, u.2.2.2, u.2.2.2) (mt_ad h0 u.1 u.2.1 u.2.2.1) mt_T0 0 0 0 0 [])) (va_A [(h0, .inr (1, mt_i1))] sz)) 3 36 (va_A [(h0, .inr (1, mt_i1))] sz) := by
  refine Met.ofW (cc := cX1_init) (maxL := 1) (ret := none) (by decide) rfl ?_
  intro p e s m args below meth c s₁ B hml hv
  obtain ⟨rfl, hsz, hP, hK, hD0⟩ := hv
  have hx := B.exec
  have hb := B.bytes
  have hr := B.returns
  have hts := atoms_spec (ws := ws_ yX1_init cX1_init 1 none) B.pre
  have hts : ∀ w ∈ lw_all, w.before _ s = true := fun w h => hts w (List.mem_cons_of_mem _ h)
  have hown : s.vm.findClass RX1 = some m.cls := findClass_of_methodNamed B.named
  have hlocks := B.notSynchronized
  have hin : meth.name = "<init>" := (name_of_methodNamed B.named B.method).1
  subst hsz
  have hD := hD0.self (sz := s.heap.size)
  generalize hAe : va_A [(h0, .inr (1, mt_i1))] s.heap.size = A at hD ⊢
  have hA : ∀ q : Nat, s.heap.size ≤ q → A q := fun q h => by rw [← hAe]; exact Or.inr h
  have hS : va_S A s.heap s.heap [] := va_S.rf
  have hl := lv_entry ([.ref h0]) (n := 1) (Nat.le_of_ble_eq_true rfl)
  rw [lg_entry_eq]
  generalize (lg_sl ([.ref h0]) ++ List.replicate (1 - (lg_sl ([.ref h0])).length) Slot.unset).toArray = ls at hl ⊢
  have hl : lv_has ls 1 [(0, .ref h0)] := hl
  refine lv_aload_n hx hb dX1_init_0 rfl (lv_at hl 0 rfl) ?_
  refine W.objInit hx hb hown (hts _ q154) (hts _ q27) (hts _ q28) rfl (by rw [hml]; exact hl.1) rfl dX1_init_1 (Nat.le_of_ble_eq_true rfl) (Nat.le_of_ble_eq_true rfl) ?_
  refine W.eq (g2 := F0 m 4 ls []) rfl ?_
  refine lv_aload_n hx hb dX1_init_4 rfl (lv_at hl 0 rfl) ?_
  refine lv_bipush (v := 6) hx hb dX1_init_5 (by decide) ?_
  refine va_newa (atype := .int) (N' := 6) (a0 := (6, .inl (mt_F fun _ => 0))) (ty := .int) hx hb (hts _ q180) rfl hK hP hD hS hA (fun _ => rfl) (by decide) (by decide) (by decide) (Nat.le_of_ble_eq_true rfl) (Nat.le_of_ble_eq_true rfl) dX1_init_7 (fun a1 c1 H hK hP hD hS => ?_)
  have hP : va_P D vwCl [(h0, .inr (1, [.int 0, .null, .null, .null, .int 0, .int 0, .int 0, .int 0])), (a1, .inl (c1, 6, .inl (mt_F fun _ => 0)))] H := hP
  have hD : va_D A [(h0, .inr (1, [.int 0, .null, .null, .null, .int 0, .int 0, .int 0, .int 0])), (a1, .inl (c1, 6, .inl (mt_F fun _ => 0)))] := hD
  refine va_put (D := D) (ci := 1) (v := .ref a1) (ty := .array .int) (C := RX1) (T := TX1) (N := 8) hx hb hts in_X1 tyX1 tyX1_ok nmX1 hown hK hP hD hS 0 rfl rfl 1 (by decide) (hts _ q156) (fun _ h9 => h9) rfl (by decide +kernel) rfl rfl (Nat.le_of_ble_eq_true rfl) dX1_init_9 (fun H locs hP hD hS => ?_)
  have hP : va_P D vwCl [(h0, .inr (1, [.int 0, .ref a1, .null, .null, .int 0, .int 0, .int 0, .int 0])), (a1, .inl (c1, 6, .inl (mt_F fun _ => 0)))] H := hP
  have hD : va_D A [(h0, .inr (1, [.int 0, .ref a1, .null, .null, .int 0, .int 0, .int 0, .int 0])), (a1, .inl (c1, 6, .inl (mt_F fun _ => 0)))] := hD
  refine lv_aload_n hx hb dX1_init_12 rfl (lv_at hl 0 rfl) ?_
  refine lv_bipush (v := 6) hx hb dX1_init_13 (by decide) ?_
  refine va_newa (atype := .int) (N' := 6) (a0 := (6, .inl (mt_F fun _ => 0))) (ty := .int) hx hb (hts _ q180) rfl hK hP hD hS hA (fun _ => rfl) (by decide) (by decide) (by decide) (Nat.le_of_ble_eq_true rfl) (Nat.le_of_ble_eq_true rfl) dX1_init_15 (fun a2 c2 H hK hP hD hS => ?_)
  have hP : va_P D vwCl [(h0, .inr (1, [.int 0, .ref a1, .null, .null, .int 0, .int 0, .int 0, .int 0])), (a1, .inl (c1, 6, .inl (mt_F fun _ => 0))), (a2, .inl (c2, 6, .inl (mt_F fun _ => 0)))] H := hP
  have hD : va_D A [(h0, .inr (1, [.int 0, .ref a1, .null, .null, .int 0, .int 0, .int 0, .int 0])), (a1, .inl (c1, 6, .inl (mt_F fun _ => 0))), (a2, .inl (c2, 6, .inl (mt_F fun _ => 0)))] := hD
  refine va_put (D := D) (ci := 1) (v := .ref a2) (ty := .array .int) (C := RX1) (T := TX1) (N := 8) hx hb hts in_X1 tyX1 tyX1_ok nmX1 hown hK hP hD hS 0 rfl rfl 2 (by decide) (hts _ q157) (fun _ h9 => h9) rfl (by decide +kernel) rfl rfl (Nat.le_of_ble_eq_true rfl) dX1_init_17 (fun H locs hP hD hS => ?_)
  have hP : va_P D vwCl [(h0, .inr (1, [.int 0, .ref a1, .ref a2, .null, .int 0, .int 0, .int 0, .int 0])), (a1, .inl (c1, 6, .inl (mt_F fun _ => 0))), (a2, .inl (c2, 6, .inl (mt_F fun _ => 0)))] H := hP
  have hD : va_D A [(h0, .inr (1, [.int 0, .ref a1, .ref a2, .null, .int 0, .int 0, .int 0, .int 0])), (a1, .inl (c1, 6, .inl (mt_F fun _ => 0))), (a2, .inl (c2, 6, .inl (mt_F fun _ => 0)))] := hD
  refine lv_aload_n hx hb dX1_init_20 rfl (lv_at hl 0 rfl) ?_
  refine lv_bipush (v := 24) hx hb dX1_init_21 (by decide) ?_
  refine va_newa (atype := .int) (N' := 24) (a0 := (24, .inl (mt_F fun _ => 0))) (ty := .int) hx hb (hts _ q180) rfl hK hP hD hS hA (fun _ => rfl) (by decide) (by decide) (by decide) (Nat.le_of_ble_eq_true rfl) (Nat.le_of_ble_eq_true rfl) dX1_init_23 (fun a3 c3 H hK hP hD hS => ?_)
  have hP : va_P D vwCl [(h0, .inr (1, [.int 0, .ref a1, .ref a2, .null, .int 0, .int 0, .int 0, .int 0])), (a1, .inl (c1, 6, .inl (mt_F fun _ => 0))), (a2, .inl (c2, 6, .inl (mt_F fun _ => 0))), (a3, .inl (c3, 24, .inl (mt_F fun _ => 0)))] H := hP
  have hD : va_D A [(h0, .inr (1, [.int 0, .ref a1, .ref a2, .null, .int 0, .int 0, .int 0, .int 0])), (a1, .inl (c1, 6, .inl (mt_F fun _ => 0))), (a2, .inl (c2, 6, .inl (mt_F fun _ => 0))), (a3, .inl (c3, 24, .inl (mt_F fun _ => 0)))] := hD
  refine va_put (D := D) (ci := 1) (v := .ref a3) (ty := .array .int) (C := RX1) (T := TX1) (N := 8) hx hb hts in_X1 tyX1 tyX1_ok nmX1 hown hK hP hD hS 0 rfl rfl 3 (by decide) (hts _ q158) (fun _ h9 => h9) rfl (by decide +kernel) rfl rfl (Nat.le_of_ble_eq_true rfl) dX1_init_25 (fun H locs hP hD hS => ?_)
  have hP : va_P D vwCl [(h0, .inr (1, [.int 0, .ref a1, .ref a2, .ref a3, .int 0, .int 0, .int 0, .int 0])), (a1, .inl (c1, 6, .inl (mt_F fun _ => 0))), (a2, .inl (c2, 6, .inl (mt_F fun _ => 0))), (a3, .inl (c3, 24, .inl (mt_F fun _ => 0)))] H := hP
  have hD : va_D A [(h0, .inr (1, [.int 0, .ref a1, .ref a2, .ref a3, .int 0, .int 0, .int 0, .int 0])), (a1, .inl (c1, 6, .inl (mt_F fun _ => 0))), (a2, .inl (c2, 6, .inl (mt_F fun _ => 0))), (a3, .inl (c3, 24, .inl (mt_F fun _ => 0)))] := hD
  have k1 : s.vm.findClass ("[" ++ FieldType.int.toString) = some c1 := (hK.2 0 (c1, .int) rfl).2
  have k2 : s.vm.findClass ("[" ++ FieldType.int.toString) = some c2 := (hK.2 1 (c2, .int) rfl).2
  have k3 : s.vm.findClass ("[" ++ FieldType.int.toString) = some c3 := (hK.2 2 (c3, .int) rfl).2
  obtain rfl : c2 = c1 := Option.some.inj (k2.symm.trans k1)
  obtain rfl : c3 = c2 := Option.some.inj (k3.symm.trans k1)
  have hK9 := hK.sub (tys' := [(c3, .int)]) [0] rfl
  refine W.widen (k := 3) (n := 36) (Nat.le_of_ble_eq_true rfl) (Nat.le_of_ble_eq_true rfl) ?_
  exact W.vret hx hb hr (fun t ht hW => ⟨⟨(a1, a2, a3, c3), rfl, trivial, by rw [ht]; exact hP, va_K.moved hW.alike hK9, hD⟩, hS.F ht⟩) hS.2.2 dX1_init_28
end
section
def bt (x : Int32) (i : Nat) : Bool := x.toBitVec.getLsbD i
theorem b_ext {x y : Int32} (h : ∀ i, i < 32 → bt x i = bt y i) : x = y := Int32.toBitVec_inj.mp (BitVec.eq_of_getLsbD_eq (fun i hi => h i hi))
theorem b_or (x y : Int32) (i : Nat) : bt (x ||| y) i = (bt x i || bt y i) := by unfold bt; rw [Int32.toBitVec_or, BitVec.getLsbD_or]
theorem b_and (x y : Int32) (i : Nat) : bt (x &&& y) i = (bt x i && bt y i) := by unfold bt; rw [Int32.toBitVec_and, BitVec.getLsbD_and]
theorem b_xor (x y : Int32) (i : Nat) : bt (x ^^^ y) i = (bt x i ^^ bt y i) := by unfold bt; rw [Int32.toBitVec_xor, BitVec.getLsbD_xor]
theorem b_big {x : Int32} {i : Nat} (h : 32 ≤ i) : bt x i = false := BitVec.getLsbD_of_ge _ _ h
theorem b_m1 : ∀ i, i < 32 → bt (-1) i = true := by decide +kernel
theorem b_0 (i : Nat) : bt 0 i = false := BitVec.getLsbD_zero
theorem s_l : ∀ n, n < 32 → ((nI n &&& 31).toBitVec.smod 32).toNat = n := by decide +kernel
theorem b_shl (n : Nat) (hn : n < 32) (x : Int32) {i : Nat} (hi : i < 32) : bt (x <<< (nI n &&& 31)) i = (decide (n ≤ i) && bt x (i - n)) := by
  unfold bt
  rw [Int32.toBitVec_shiftLeft]
  show (x.toBitVec <<< ((nI n &&& 31).toBitVec.smod 32).toNat).getLsbD i = _
  rw [s_l n hn, BitVec.getLsbD_shiftLeft]
  rcases Nat.lt_or_ge i n with h | h
  · simp [h, Nat.not_le.mpr h]
  · simp [hi, h, Nat.not_lt.mpr h]
theorem b_sshr (n : Nat) (hn : n < 32) (x : Int32) {i : Nat} (hi : i < 32) : bt (x >>> (nI n &&& 31)) i = if n + i < 32 then bt x (n + i) else bt x 31 := by
  unfold bt
  rw [Int32.toBitVec_shiftRight]
  show (x.toBitVec.sshiftRight ((nI n &&& 31).toBitVec.smod 32).toNat).getLsbD i = _
  rw [s_l n hn, BitVec.getLsbD_sshiftRight, BitVec.msb_eq_getLsbD_last]
  simp [hi]
-- ===== the memory's bits =====
theorem mt_bt1 (i : Nat) : bt 1 i = decide (i = 0) := by
  rcases Nat.lt_or_ge i 32 with h | h
  · exact (by decide +kernel : ∀ i, i < 32 → bt 1 i = decide (i = 0)) i h
  · rw [b_big h, decide_eq_false (by omega)]
theorem mt_btb (b : Bool) (i : Nat) : bt (mt_b b) i = (b && decide (i = 0)) := by
  cases b with
  | true => rw [show mt_b true = 1 from rfl, mt_bt1]; rfl
  | false => rw [show mt_b false = 0 from rfl, b_0]; rfl
theorem mt_bit_b (me : Int32) {c : Nat} (hc : c < 32) : mt_bit me (nI c) = mt_b (bt me c) := by
  refine b_ext fun i hi => ?_
  unfold mt_bit
  rw [b_and, b_sshr c hc me hi, mt_bt1, mt_btb]
  by_cases h : i = 0
  · subst h
    rw [if_pos (by omega)]
    rfl
  · rw [decide_eq_false h, Bool.and_false, Bool.and_false]
theorem mt_put_b (me : Int32) {c i : Nat} (hc : c < 32) (hi : i < 32) (b : Bool) : bt (mt_put me (nI c) (mt_b b)) i = if i = c then b else bt me i := by
  unfold mt_put
  rw [b_or, b_and, b_xor, b_shl c hc _ hi, b_shl c hc _ hi, b_m1 i hi, mt_bt1, mt_btb]
  by_cases h : i = c
  · subst h
    simp
  · rw [if_neg h]
    by_cases h2 : c ≤ i
    · have : ¬ i - c = 0 := by omega
      simp [this]
    · simp [h2]
theorem mt_nIne {a b : Nat} (ha : a < 32) (hb : b < 32) : nI a = nI b ↔ a = b := nI_eq (by omega) (by omega)
/-- the kinds: none (-1), then 0 .. 13 -/
def mt_KS : List Int32 := [-1, 0, 1, 2, 3, 4, 5, 6, 7, 8, 9, 10, 11, 12, 13]
def mt_hB (k : Int32) (b o : Bool) : Bool := decide (mt_h k (mt_b b) (mt_b o) = 1)
def mt_owB (k : Int32) (b o v : Bool) : Bool := decide (mt_own k (mt_b b) (mt_b o) (mt_b v) = 1)
def mt_otB (k : Int32) (b o v : Bool) : Bool := decide (mt_oth k (mt_b b) (mt_b o) (mt_b v) = 1)
theorem mt_hB_ok : ∀ k ∈ mt_KS, ∀ b o : Bool, mt_h k (mt_b b) (mt_b o) = mt_b (mt_hB k b o) := by decide +kernel
theorem mt_f1 : ∀ k ∈ mt_KS, 10 ≤ k → k - k / 2 * 2 = mt_b (decide (k - k / 2 * 2 = 1)) := by decide +kernel
theorem mt_f2 : ∀ k ∈ mt_KS, ∀ x y : Bool, (if 10 ≤ k ∧ mt_b y = (k - 10) / 2 then decide (k - k / 2 * 2 = 1) else if k = 0 ∨ k = 1 then decide (k = 1) else x) = mt_hB k x y := by decide +kernel
def mt_nw (k : Int32) (x : Bool) : Int32 := if k < 6 then 1 - mt_b x else k - k / 2 * 2
theorem mt_f3 : ∀ k ∈ mt_KS, 4 ≤ k → ¬ 9 < k → ∀ x : Bool, mt_nw k x = mt_b (decide (mt_nw k x = 1)) := by decide +kernel
theorem mt_f4 : ∀ k ∈ mt_KS, ∀ x y v : Bool, mt_hB k (if (k = 2 ∨ k = 3) ∧ mt_b x = k - 2 then x else v) y = mt_owB k x y v := by decide +kernel
theorem mt_f5 : ∀ k ∈ mt_KS, 4 ≤ k → ∀ x y v : Bool, mt_hB k (if 4 ≤ k ∧ ¬ 9 < k ∧ mt_on k (mt_b y) (mt_b v) = true then decide (mt_nw k x = 1) else x) v = mt_otB k x y v := by decide +kernel
theorem mt_f6 : ∀ k ∈ mt_KS, ∀ x y : Bool, mt_hB k (mt_hB k x y) y = mt_hB k x y := by decide +kernel
theorem mt_sl1_b {k : Int32} {V i : Nat} (me : Int32) (hV : V < 32) (hi : i < 32) : bt (mt_sl1 k (nI V) me) i = if i = V then (if k = 0 ∨ k = 1 then decide (k = 1) else bt me V) else bt me i := by
  unfold mt_sl1
  by_cases h : k = 0 ∨ k = 1
  · rw [if_pos h, if_pos h]
    have e : k = mt_b (decide (k = 1)) := by rcases h with h | h <;> rw [h] <;> decide
    rw [show mt_put me (nI V) k = mt_put me (nI V) (mt_b (decide (k = 1))) from congrArg _ e, mt_put_b me hV hi]
  · rw [if_neg h, if_neg h]
    by_cases h2 : i = V
    · rw [if_pos h2, h2]
    · rw [if_neg h2]
theorem mt_sl2_b {k : Int32} (hk : k ∈ mt_KS) {V A i : Nat} (me : Int32) (hV : V < 32) (hA : A < 32) (hi : i < 32) : bt (mt_sl2 k (nI V) (nI A) me) i = if i = V then (if 10 ≤ k ∧ mt_b (bt me A) = (k - 10) / 2 then decide (k - k / 2 * 2 = 1) else bt me V) else bt me i := by
  unfold mt_sl2
  rw [mt_bit_b me hA]
  by_cases h : 10 ≤ k ∧ mt_b (bt me A) = (k - 10) / 2
  · rw [if_pos h, if_pos h]
    rw [show mt_put me (nI V) (k - k / 2 * 2) = mt_put me (nI V) (mt_b (decide (k - k / 2 * 2 = 1))) from congrArg _ (mt_f1 k hk h.1), mt_put_b me hV hi]
  · rw [if_neg h, if_neg h]
    by_cases h2 : i = V
    · rw [if_pos h2, h2]
    · rw [if_neg h2]
theorem mt_f7 : ∀ k ∈ mt_KS, ¬ 10 ≤ k → ∀ x y z : Bool, mt_hB k x y = mt_hB k x z := by decide +kernel
theorem mt_stl_b {k : Int32} (hk : k ∈ mt_KS) {V A i : Nat} (me : Int32) (hV : V < 32) (hA : A < 32) (hi : i < 32) (hVA : V ≠ A ∨ ¬ 10 ≤ k) : bt (mt_stl k (nI V) (nI A) me) i = if i = V then mt_hB k (bt me V) (bt me A) else bt me i := by
  have a := mt_sl2_b hk (mt_sl1 k (nI V) me) hV hA hi
  have b1 := mt_sl1_b (k := k) me hV hi
  have b2 := mt_sl1_b (k := k) me hV hV
  have b3 := mt_sl1_b (k := k) me hV hA
  have f := mt_f2 k hk (bt me V) (bt me A)
  unfold mt_stl
  grind
theorem mt_wr1_b {k : Int32} {V C i : Nat} (me : Int32) (v : Bool) (hV : V < 32) (hC : C < 32) (hi : i < 32) : bt (mt_wr1 k (nI V) me (nI C) (mt_b v)) i = if i = C then (if (k = 2 ∨ k = 3) ∧ C = V ∧ mt_b (bt me C) = k - 2 then bt me C else v) else bt me i := by
  unfold mt_wr1
  rw [mt_bit_b me hC]
  by_cases h : (k = 2 ∨ k = 3) ∧ C = V ∧ mt_b (bt me C) = k - 2
  · rw [if_pos h, if_pos ⟨h.1, (mt_nIne hC hV).mpr h.2.1, h.2.2⟩]
    by_cases h2 : i = C
    · rw [if_pos h2, h2]
    · rw [if_neg h2]
  · rw [if_neg h, if_neg (fun e => h ⟨e.1, (mt_nIne hC hV).mp e.2.1, e.2.2⟩), mt_put_b me hC hi]
theorem mt_wr2_b {k : Int32} (hk : k ∈ mt_KS) {V A C i : Nat} (old v : Bool) (me : Int32) (hV : V < 32) (hA : A < 32) (hC : C < 32) (hi : i < 32) : bt (mt_wr2 k (nI V) (nI A) (mt_b old) me (nI C) (mt_b v)) i = if i = V then (if 4 ≤ k ∧ ¬ 9 < k ∧ C = A ∧ mt_on k (mt_b old) (mt_b v) = true then decide (mt_nw k (bt me V) = 1) else bt me V) else bt me i := by
  unfold mt_wr2
  by_cases h : 4 ≤ k ∧ ¬ 9 < k ∧ C = A ∧ mt_on k (mt_b old) (mt_b v) = true
  · rw [if_pos h, if_pos ⟨h.1, h.2.1, (mt_nIne hC hA).mpr h.2.2.1, h.2.2.2⟩]
    rw [show mt_now k (nI V) me = mt_nw k (bt me V) by unfold mt_now mt_nw; rw [mt_bit_b me hV]]
    rw [show mt_put me (nI V) (mt_nw k (bt me V)) = mt_put me (nI V) (mt_b (decide (mt_nw k (bt me V) = 1))) from congrArg _ (mt_f3 k hk h.1 h.2.1 _), mt_put_b me hV hi]
  · rw [if_neg h, if_neg (fun e => h ⟨e.1, e.2.1, (mt_nIne hC hA).mp e.2.2.1, e.2.2.2⟩)]
    by_cases h2 : i = V
    · rw [if_pos h2, h2]
    · rw [if_neg h2]
/-- a write at the fault's own cell -/
theorem mt_wr_own {k : Int32} (hk : k ∈ mt_KS) {V A i : Nat} (me : Int32) (v : Bool) (hV : V < 32) (hA : A < 32) (hi : i < 32) (hVA : V ≠ A ∨ ¬ 4 ≤ k) (h10 : V ≠ A ∨ ¬ 10 ≤ k) : bt (mt_wr k (nI V) (nI A) me (nI V) (mt_b v)) i = if i = V then mt_owB k (bt me V) (bt me A) v else bt me i := by
  unfold mt_wr
  have hno : ¬ (4 ≤ k ∧ ¬ 9 < k ∧ V = A ∧ mt_on k (mt_b (bt me V)) (mt_b v) = true) := fun e => hVA.elim (fun h => h e.2.2.1) (fun h => h e.1)
  have e2 : ∀ j, j < 32 → bt (mt_wr2 k (nI V) (nI A) (mt_b (bt me V)) (mt_wr1 k (nI V) me (nI V) (mt_b v)) (nI V) (mt_b v)) j = if j = V then (if (k = 2 ∨ k = 3) ∧ mt_b (bt me V) = k - 2 then bt me V else v) else bt me j := by
    intro j hj
    have a := mt_wr2_b hk (bt me V) v (mt_wr1 k (nI V) me (nI V) (mt_b v)) hV hA hV hj
    have b := mt_wr1_b (k := k) me v hV hV hj
    have c := mt_wr1_b (k := k) me v hV hV hV
    rw [a, b, c]
    simp only [hno, if_false, true_and]
    by_cases h : j = V
    · simp only [h, if_true]
    · simp only [h, if_false]
  have f := mt_f4 k hk (bt me V) (bt me A) v
  rw [mt_bit_b me hV, mt_stl_b hk _ hV hA hi h10, e2 V hV, e2 A hA, e2 i hi]
  by_cases h : i = V
  · simp only [h, if_true]
    rw [← f]
    by_cases h2 : A = V
    · exact mt_f7 k hk (h10.resolve_left (fun q => q h2.symm)) _ _ _
    · simp only [h2, if_false]
  · simp only [h, if_false]
/-- a write at the other cell of a pair -/
theorem mt_wr_oth {k : Int32} (hk : k ∈ mt_KS) (hk4 : 4 ≤ k) {V A i : Nat} (me : Int32) (v : Bool) (hV : V < 32) (hA : A < 32) (hi : i < 32) (hVA : V ≠ A) : bt (mt_wr k (nI V) (nI A) me (nI A) (mt_b v)) i = if i = V then mt_otB k (bt me V) (bt me A) v else if i = A then v else bt me i := by
  unfold mt_wr
  have e1 : ∀ j, j < 32 → bt (mt_wr1 k (nI V) me (nI A) (mt_b v)) j = if j = A then v else bt me j := fun j hj => by
    rw [mt_wr1_b me v hV hA hj]
    simp only [hVA.symm, false_and, and_false, if_false]
  have e2 : ∀ j, j < 32 → bt (mt_wr2 k (nI V) (nI A) (mt_b (bt me A)) (mt_wr1 k (nI V) me (nI A) (mt_b v)) (nI A) (mt_b v)) j = if j = V then (if 4 ≤ k ∧ ¬ 9 < k ∧ mt_on k (mt_b (bt me A)) (mt_b v) = true then decide (mt_nw k (bt me V) = 1) else bt me V) else if j = A then v else bt me j := by
    intro j hj
    rw [mt_wr2_b hk (bt me A) v _ hV hA hA hj, e1 j hj, e1 V hV]
    simp only [hVA, if_false, true_and]
  have f := mt_f5 k hk hk4 (bt me V) (bt me A) v
  rw [mt_bit_b me hA, mt_stl_b hk _ hV hA hi (Or.inl hVA), e2 V hV, e2 A hA, e2 i hi]
  by_cases h : i = V
  · simp only [h, if_true, hVA.symm, if_false]
    exact f
  · simp only [h, if_false]
/-- a write at a sound cell -/
theorem mt_wr_snd {k : Int32} (hk : k ∈ mt_KS) {V A C i : Nat} (me : Int32) (v : Bool) (hV : V < 32) (hA : A < 32) (hC : C < 32) (hi : i < 32) (hCV : C ≠ V) (hCA : C ≠ A ∨ ¬ 4 ≤ k) (h10 : V ≠ A ∨ ¬ 10 ≤ k) : bt (mt_wr k (nI V) (nI A) me (nI C) (mt_b v)) i = if i = V then mt_hB k (bt me V) (bt me A) else if i = C then v else bt me i := by
  unfold mt_wr
  have hno : ∀ o : Bool, ¬ (4 ≤ k ∧ ¬ 9 < k ∧ C = A ∧ mt_on k (mt_b o) (mt_b v) = true) := fun o e => hCA.elim (fun h => h e.2.2.1) (fun h => h e.1)
  have e1 : ∀ j, j < 32 → bt (mt_wr1 k (nI V) me (nI C) (mt_b v)) j = if j = C then v else bt me j := fun j hj => by
    rw [mt_wr1_b me v hV hC hj]
    simp only [hCV, false_and, and_false, if_false]
  have e2 : ∀ j, j < 32 → bt (mt_wr2 k (nI V) (nI A) (mt_b (bt me C)) (mt_wr1 k (nI V) me (nI C) (mt_b v)) (nI C) (mt_b v)) j = if j = C then v else bt me j := by
    intro j hj
    rw [mt_wr2_b hk (bt me C) v _ hV hA hC hj, e1 j hj, e1 V hV]
    simp only [hno, hCV.symm, if_false]
    by_cases h : j = V
    · simp only [h, if_true, hCV.symm, if_false]
    · simp only [h, if_false]
  rw [mt_bit_b me hC, mt_stl_b hk _ hV hA hi h10, e2 V hV, e2 A hA, e2 i hi]
  by_cases h : i = V
  · simp only [h, if_true, hCV.symm, if_false]
    by_cases z : A = C
    · exact mt_f7 k hk (fun y => hCA.elim (fun q => q z.symm) (fun q => q (Int32.le_trans (by decide) y))) _ _ _
    · simp only [z, if_false]
  · simp only [h, if_false]
end
section
/-! both sides over Bool: a fold mt_fo, one operation mt_sB (pair), mt_s1 (one cell), visits, marches -/
def mt_fo {α : Type} (g : Nat → α → α) (x : α) : Nat → α
  | 0 => x
  | j + 1 => g j (mt_fo g x j)
abbrev mt_B3 : Type := Bool × Bool × Bool
abbrev mt_B2 : Type := Bool × Bool
def mt_eS (σ : mt_B3) : mt_S := (mt_b σ.1, mt_b σ.2.1, σ.2.2)
def mt_sB (k : Int32) (own : Bool) (op : Nat) (σ : mt_B3) : mt_B3 :=
  if 2 ≤ op then (σ.1, σ.2.1, σ.2.2 || ((if own = true then σ.1 else σ.2.1) != decide (op = 3)))
  else if own = true then (mt_owB k σ.1 σ.2.1 (decide (op = 1)), σ.2.1, σ.2.2) else (mt_otB k σ.1 σ.2.1 (decide (op = 1)), decide (op = 1), σ.2.2)
def mt_s1 (k : Int32) (op : Nat) (τ : mt_B2) : mt_B2 := if 2 ≤ op then (τ.1, τ.2 || (τ.1 != decide (op = 3))) else (mt_owB k τ.1 false (decide (op = 1)), τ.2)
theorem mt_sB_ok0 : ∀ k ∈ mt_KS, ∀ own b o f : Bool, ∀ op, op < 4 → mt_st k own op (mt_eS (b, o, f)) = mt_eS (mt_sB k own op (b, o, f)) := by decide +kernel
theorem mt_sB_ok {k : Int32} (hk : k ∈ mt_KS) (own : Bool) {op : Nat} (hop : op ≤ 3) (σ : mt_B3) : mt_st k own op (mt_eS σ) = mt_eS (mt_sB k own op σ) := by
  obtain ⟨b, o, f⟩ := σ
  exact mt_sB_ok0 k hk own b o f op (by omega)
theorem mt_s1_ok0 : ∀ k ∈ mt_KS, k < 4 → ∀ b o f : Bool, ∀ op, op < 4 → mt_sB k true op (b, o, f) = ((mt_s1 k op (b, f)).1, o, (mt_s1 k op (b, f)).2) := by decide +kernel
def mt_vB (T : mt_T) (k : Int32) (M : Nat) (own : Bool) (σ : mt_B3) : mt_B3 := mt_fo (fun j => mt_sB k own (T.2.2.2 (M * 4 + j))) σ (T.2.2.1 M)
def mt_v1 (T : mt_T) (k : Int32) (M : Nat) (τ : mt_B2) : mt_B2 := mt_fo (fun j => mt_s1 k (T.2.2.2 (M * 4 + j))) τ (T.2.2.1 M)
def mt_mB (T : mt_T) (wo k : Int32) (be : Bool) (i : Nat) (σ : mt_B3) : mt_B3 := if nI i = wo then σ else mt_vB T k i (!(be == decide (T.2.1 i = 0))) (mt_vB T k i (be == decide (T.2.1 i = 0)) σ)
def mt_m1 (T : mt_T) (wo k : Int32) (i : Nat) (τ : mt_B2) : mt_B2 := if nI i = wo then τ else mt_v1 T k i τ
theorem mt_vi_B {T : mt_T} (hT : mt_ok T) {k : Int32} (hk : k ∈ mt_KS) (M : Nat) (own : Bool) (σ : mt_B3) : mt_vi T k M own (mt_eS σ) = mt_eS (mt_vB T k M own σ) := by
  unfold mt_vi mt_vB
  generalize T.2.2.1 M = n
  induction n with
  | zero => rfl
  | succ n ih =>
    show mt_st k own _ (mt_vis k own _ (mt_eS σ) n) = _
    rw [ih]
    exact mt_sB_ok hk own (hT.2.2.2 _) _
theorem mt_vB_1 {T : mt_T} (hT : mt_ok T) {k : Int32} (hk : k ∈ mt_KS) (h4 : k < 4) (M : Nat) (b o f : Bool) : mt_vB T k M true (b, o, f) = ((mt_v1 T k M (b, f)).1, o, (mt_v1 T k M (b, f)).2) := by
  unfold mt_vB mt_v1
  generalize T.2.2.1 M = n
  induction n with
  | zero => rfl
  | succ n ih =>
    show mt_sB k true _ (mt_fo _ _ n) = _
    rw [ih]
    exact mt_s1_ok0 k hk h4 _ _ _ _ (Nat.lt_succ_of_le (hT.2.2.2 _))
theorem mt_mar_B {T : mt_T} (hT : mt_ok T) {wo k : Int32} (hk : k ∈ mt_KS) (h4 : ¬ k < 4) (be : Bool) (σ : mt_B3) (n : Nat) : mt_mar T wo k be (mt_eS σ) n = mt_eS (mt_fo (mt_mB T wo k be) σ n) := by
  induction n with
  | zero => rfl
  | succ n ih =>
    show mt_ms T wo k be n (mt_mar T wo k be (mt_eS σ) n) = mt_eS (mt_mB T wo k be n (mt_fo (mt_mB T wo k be) σ n))
    rw [ih]
    unfold mt_ms mt_mB
    by_cases h : nI n = wo
    · rw [if_pos h, if_pos h]
    · rw [if_neg h, if_neg h, if_neg h4, mt_vi_B hT hk, mt_vi_B hT hk]
theorem mt_mar_1 {T : mt_T} (hT : mt_ok T) {wo k : Int32} (hk : k ∈ mt_KS) (h4 : k < 4) (be b o f : Bool) (n : Nat) : mt_mar T wo k be (mt_eS (b, o, f)) n = mt_eS ((mt_fo (mt_m1 T wo k) (b, f) n).1, o, (mt_fo (mt_m1 T wo k) (b, f) n).2) := by
  induction n with
  | zero => rfl
  | succ n ih =>
    show mt_ms T wo k be n (mt_mar T wo k be (mt_eS (b, o, f)) n) = mt_eS ((mt_m1 T wo k n (mt_fo (mt_m1 T wo k) (b, f) n)).1, o, (mt_m1 T wo k n (mt_fo (mt_m1 T wo k) (b, f) n)).2)
    rw [ih]
    unfold mt_ms mt_m1
    by_cases h : nI n = wo
    · rw [if_pos h, if_pos h]
    · rw [if_neg h, if_neg h, if_pos h4, mt_vi_B hT hk, mt_vB_1 hT hk h4]
/-- MarchTester's run of a pair, over Bool -/
theorem mt_runs_P {T : mt_T} (hT : mt_ok T) {wo k : Int32} (hk : k ∈ mt_KS) (h4 : ¬ k < 4) (be x y : Bool) : (mt_runs T wo k be (mt_b x) (mt_b y)).2.2 = (mt_fo (mt_mB T wo k be) (mt_hB k x y, y, false) T.1).2.2 := by
  unfold mt_runs
  rw [mt_hB_ok k hk]
  have e := mt_mar_B hT (wo := wo) hk h4 be (mt_hB k x y, y, false) T.1
  exact congrArg (fun z : mt_S => z.2.2) e
/-- MarchTester's run of one cell, over Bool -/
theorem mt_runs_1 {T : mt_T} (hT : mt_ok T) {wo k : Int32} (hk : k ∈ mt_KS) (h4 : k < 4) (be x y : Bool) : (mt_runs T wo k be (mt_b x) (mt_b y)).2.2 = (mt_fo (mt_m1 T wo k) (mt_hB k x y, false) T.1).2 := by
  unfold mt_runs
  rw [mt_hB_ok k hk]
  have e := mt_mar_1 hT (wo := wo) hk h4 be (mt_hB k x y) y false T.1
  exact congrArg (fun z : mt_S => z.2.2) e
-- ===== the model's march as five visits =====
def mt_mst (k : Int32) (V A op c : Nat) (st : Int32 × Bool) : Int32 × Bool := (mt_fm k (nI V) (nI A) st.1 op (nI c), mt_fb st.1 op (nI c) || st.2)
def mt_mv (T : mt_T) (k : Int32) (V A M c : Nat) (st : Int32 × Bool) : Int32 × Bool := mt_fo (fun j => mt_mst k V A (T.2.2.2 (M * 4 + j)) c) st (T.2.2.1 M)
theorem mt_in_q (T : mt_T) (k : Int32) (V A M : Nat) (st : Int32 × Bool) (q r : Nat) (hr : r ≤ T.2.2.1 M) : mt_in T k (nI V) (nI A) M st (q * T.2.2.1 M + r) = mt_fo (fun j => mt_mst k V A (T.2.2.2 (M * 4 + j)) (if T.2.1 M = 1 then 4 - q else q)) (mt_in T k (nI V) (nI A) M st (q * T.2.2.1 M)) r := by
  induction r with
  | zero => rfl
  | succ r ih =>
    have hz : 0 < T.2.2.1 M := by omega
    have e1 : (q * T.2.2.1 M + r) % T.2.2.1 M = r := by rw [Nat.mul_comm, Nat.mul_add_mod]; exact Nat.mod_eq_of_lt (by omega)
    have e2 : (q * T.2.2.1 M + r) / T.2.2.1 M = q := by rw [Nat.mul_comm, Nat.mul_add_div hz, Nat.div_eq_of_lt (by omega), Nat.add_zero]
    have e3 : mt_ci T M (q * T.2.2.1 M + r) = if T.2.1 M = 1 then 4 - q else q := by unfold mt_ci; rw [e2]
    show (mt_fm k (nI V) (nI A) (mt_in T k (nI V) (nI A) M st (q * T.2.2.1 M + r)).1 (T.2.2.2 (4 * M + (q * T.2.2.1 M + r) % T.2.2.1 M)) (nI (mt_ci T M (q * T.2.2.1 M + r))), mt_fb (mt_in T k (nI V) (nI A) M st (q * T.2.2.1 M + r)).1 (T.2.2.2 (4 * M + (q * T.2.2.1 M + r) % T.2.2.1 M)) (nI (mt_ci T M (q * T.2.2.1 M + r))) || (mt_in T k (nI V) (nI A) M st (q * T.2.2.1 M + r)).2) = _
    rw [e1, e3, ih (by omega), Nat.mul_comm 4 M]
    rfl
theorem mt_in_s (T : mt_T) (k : Int32) (V A M : Nat) (st : Int32 × Bool) (q : Nat) : mt_in T k (nI V) (nI A) M st ((q + 1) * T.2.2.1 M) = mt_mv T k V A M (if T.2.1 M = 1 then 4 - q else q) (mt_in T k (nI V) (nI A) M st (q * T.2.2.1 M)) := by
  rw [Nat.succ_mul]
  exact mt_in_q T k V A M st q _ (Nat.le_refl _)
theorem mt_in_5 (T : mt_T) (k : Int32) (V A M : Nat) (st : Int32 × Bool) : mt_in T k (nI V) (nI A) M st (5 * T.2.2.1 M) = if T.2.1 M = 1 then mt_mv T k V A M 0 (mt_mv T k V A M 1 (mt_mv T k V A M 2 (mt_mv T k V A M 3 (mt_mv T k V A M 4 st)))) else mt_mv T k V A M 4 (mt_mv T k V A M 3 (mt_mv T k V A M 2 (mt_mv T k V A M 1 (mt_mv T k V A M 0 st)))) := by
  rw [mt_in_s T k V A M st 4, mt_in_s T k V A M st 3, mt_in_s T k V A M st 2, mt_in_s T k V A M st 1, mt_in_s T k V A M st 0, Nat.zero_mul]
  by_cases h : T.2.1 M = 1
  · simp only [h, if_true]
    rfl
  · simp only [h, if_false]
    rfl
-- ===== a simulation: special cells sp with their own state, sound cells with theirs =====
def mt_uT (τ : Nat → mt_B2) (c : Nat) (p : mt_B2) : Nat → mt_B2 := fun i => if i = c then p else τ i
theorem mt_uT_self (τ : Nat → mt_B2) (c : Nat) : mt_uT τ c (τ c) = τ := by
  funext i
  unfold mt_uT
  by_cases h : i = c
  · rw [if_pos h, h]
  · rw [if_neg h]
theorem mt_uT_at (τ : Nat → mt_B2) (c : Nat) (p : mt_B2) : mt_uT τ c p c = p := if_pos rfl
theorem mt_uT_2 (τ : Nat → mt_B2) (c : Nat) (p r : mt_B2) : mt_uT (mt_uT τ c p) c r = mt_uT τ c r := by
  funext i
  unfold mt_uT
  by_cases h : i = c
  · rw [if_pos h, if_pos h]
  · rw [if_neg h, if_neg h, if_neg h]
def mt_vS {α : Type} (T : mt_T) (sp : Nat → Bool) (act : Nat → Nat → α → α) (M c : Nat) (σ : α) : α := if sp c = true then mt_fo (fun j => act c (T.2.2.2 (M * 4 + j))) σ (T.2.2.1 M) else σ
def mt_vT (T : mt_T) (sp : Nat → Bool) (M c : Nat) (τ : Nat → mt_B2) : Nat → mt_B2 := if sp c = true then τ else mt_uT τ c (mt_v1 T (-1) M (τ c))
def mt_Step {α : Type} (k : Int32) (V A : Nat) (sp : Nat → Bool) (act : Nat → Nat → α → α) (Rel : Int32 × Bool → α → (Nat → mt_B2) → Prop) : Prop :=
  (∀ (c op : Nat) (st : Int32 × Bool) (σ : α) (τ : Nat → mt_B2), c < 5 → op ≤ 3 → Rel st σ τ → Rel (mt_mst k V A op c st) (if sp c = true then act c op σ else σ) (if sp c = true then τ else mt_uT τ c (mt_s1 (-1) op (τ c)))) ∧
  ∀ (st : Int32 × Bool) (σ : α) (τ τ' : Nat → mt_B2), (∀ i, i < 5 → sp i = false → τ i = τ' i) → Rel st σ τ → Rel st σ τ'
theorem mt_sim_v {α : Type} {T : mt_T} (hT : mt_ok T) {k : Int32} {V A : Nat} {sp : Nat → Bool} {act : Nat → Nat → α → α} {Rel : Int32 × Bool → α → (Nat → mt_B2) → Prop} (h : mt_Step k V A sp act Rel) (M : Nat) {c : Nat} (hc : c < 5) {st : Int32 × Bool} {σ : α} {τ : Nat → mt_B2} (hR : Rel st σ τ) : Rel (mt_mv T k V A M c st) (mt_vS T sp act M c σ) (mt_vT T sp M c τ) := by
  unfold mt_mv mt_vS mt_vT mt_v1
  generalize T.2.2.1 M = n
  by_cases hs : sp c = true
  · simp only [hs, if_true]
    induction n with
    | zero => exact hR
    | succ n ih =>
      have := h.1 c (T.2.2.2 (M * 4 + n)) _ _ _ hc (hT.2.2.2 _) ih
      simp only [hs, if_true] at this
      exact this
  · simp only [hs, Bool.false_eq_true, if_false]
    induction n with
    | zero =>
      show Rel st σ (mt_uT τ c (τ c))
      rw [mt_uT_self]
      exact hR
    | succ n ih =>
      have := h.1 c (T.2.2.2 (M * 4 + n)) _ _ _ hc (hT.2.2.2 _) ih
      simp only [hs, Bool.false_eq_true, if_false, mt_uT_at, mt_uT_2] at this
      exact this
def mt_Sm {α : Type} (T : mt_T) (sp : Nat → Bool) (act : Nat → Nat → α → α) (M : Nat) (σ : α) : α :=
  if T.2.1 M = 1 then mt_vS T sp act M 0 (mt_vS T sp act M 1 (mt_vS T sp act M 2 (mt_vS T sp act M 3 (mt_vS T sp act M 4 σ)))) else mt_vS T sp act M 4 (mt_vS T sp act M 3 (mt_vS T sp act M 2 (mt_vS T sp act M 1 (mt_vS T sp act M 0 σ))))
theorem mt_vT_at (T : mt_T) (sp : Nat → Bool) (M c : Nat) (τ : Nat → mt_B2) (i : Nat) (hi : sp i = false) : mt_vT T sp M c τ i = if i = c then mt_v1 T (-1) M (τ i) else τ i := by
  unfold mt_vT
  by_cases h : i = c
  · subst h
    rw [if_neg (by rw [hi]; decide), if_pos rfl, mt_uT_at]
  · rw [if_neg h]
    split
    · rfl
    · exact if_neg h
theorem mt_sim_m {α : Type} {T : mt_T} (hT : mt_ok T) {k : Int32} {V A : Nat} {sp : Nat → Bool} {act : Nat → Nat → α → α} {Rel : Int32 × Bool → α → (Nat → mt_B2) → Prop} (h : mt_Step k V A sp act Rel) (M : Nat) {st : Int32 × Bool} {σ : α} {τ : Nat → mt_B2} (hR : Rel st σ τ) : Rel (mt_in T k (nI V) (nI A) M st (5 * T.2.2.1 M)) (mt_Sm T sp act M σ) (fun i => mt_v1 T (-1) M (τ i)) := by
  rw [mt_in_5]
  unfold mt_Sm
  by_cases hd : T.2.1 M = 1
  · rw [if_pos hd, if_pos hd]
    have r := mt_sim_v hT h M (c := 0) (by decide) (mt_sim_v hT h M (c := 1) (by decide) (mt_sim_v hT h M (c := 2) (by decide) (mt_sim_v hT h M (c := 3) (by decide) (mt_sim_v hT h M (c := 4) (by decide) hR))))
    refine h.2 _ _ _ _ (fun i hi hs => ?_) r
    simp only [mt_vT_at _ _ _ _ _ i hs]
    rcases (show i = 0 ∨ i = 1 ∨ i = 2 ∨ i = 3 ∨ i = 4 by omega) with rfl | rfl | rfl | rfl | rfl <;> rfl
  · rw [if_neg hd, if_neg hd]
    have r := mt_sim_v hT h M (c := 4) (by decide) (mt_sim_v hT h M (c := 3) (by decide) (mt_sim_v hT h M (c := 2) (by decide) (mt_sim_v hT h M (c := 1) (by decide) (mt_sim_v hT h M (c := 0) (by decide) hR))))
    refine h.2 _ _ _ _ (fun i hi hs => ?_) r
    simp only [mt_vT_at _ _ _ _ _ i hs]
    rcases (show i = 0 ∨ i = 1 ∨ i = 2 ∨ i = 3 ∨ i = 4 by omega) with rfl | rfl | rfl | rfl | rfl <;> rfl
theorem mt_sim_r {α : Type} {T : mt_T} (hT : mt_ok T) {k sk : Int32} {V A : Nat} {sp : Nat → Bool} {act : Nat → Nat → α → α} {Rel : Int32 × Bool → α → (Nat → mt_B2) → Prop} (h : mt_Step k V A sp act Rel) {st : Int32 × Bool} {σ : α} {τ : Nat → mt_B2} (hR : Rel st σ τ) (n : Nat) : Rel (mt_ru T k (nI V) (nI A) sk st n) (mt_fo (fun i σ => if nI i = sk then σ else mt_Sm T sp act i σ) σ n) (fun i => mt_fo (mt_m1 T sk (-1)) (τ i) n) := by
  induction n with
  | zero => exact hR
  | succ n ih =>
    show Rel (if nI n = sk then _ else _) (if nI n = sk then _ else _) (fun i => mt_m1 T sk (-1) n (mt_fo (mt_m1 T sk (-1)) (τ i) n))
    unfold mt_m1 at ih ⊢
    by_cases hq : nI n = sk
    · simp only [hq, if_true] at ih ⊢
      exact ih
    · simp only [hq, if_false]
      exact mt_sim_m hT h n ih
end
section
/-! the model's run simulates: the fault's cells by MarchTester's steps, each other cell by a sound cell's -/
def mt_any (sp : Nat → Bool) (τ : Nat → mt_B2) : Bool := (!sp 0 && (τ 0).2) || ((!sp 1 && (τ 1).2) || ((!sp 2 && (τ 2).2) || ((!sp 3 && (τ 3).2) || (!sp 4 && (τ 4).2))))
theorem mt_any_c {sp : Nat → Bool} {τ τ' : Nat → mt_B2} (h : ∀ i, i < 5 → sp i = false → τ i = τ' i) : mt_any sp τ = mt_any sp τ' := by
  have e : ∀ i, i < 5 → (!sp i && (τ i).2) = (!sp i && (τ' i).2) := by
    intro i hi
    cases hs : sp i with
    | true => rfl
    | false => rw [h i hi hs]
  unfold mt_any
  rw [e 0 (by decide), e 1 (by decide), e 2 (by decide), e 3 (by decide), e 4 (by decide)]
theorem mt_any_u {sp : Nat → Bool} {τ : Nat → mt_B2} {c : Nat} (hc : c < 5) (hs : sp c = false) {p : mt_B2} {x : Bool} (hp : p.2 = ((τ c).2 || x)) : mt_any sp (mt_uT τ c p) = (x || mt_any sp τ) := by
  rcases (show c = 0 ∨ c = 1 ∨ c = 2 ∨ c = 3 ∨ c = 4 by omega) with rfl | rfl | rfl | rfl | rfl <;> cases x <;> simp [mt_any, mt_uT, hs, hp]
theorem mt_fb_r {me : Int32} {op c : Nat} (hc : c < 32) (h2 : 2 ≤ op) (h3 : op ≤ 3) : mt_fb me op (nI c) = (bt me c != decide (op = 3)) := by
  unfold mt_fb
  rw [mt_bit_b me hc]
  rcases (show op = 2 ∨ op = 3 by omega) with rfl | rfl <;> cases bt me c <;> decide
theorem mt_fb_w {me c : Int32} {op : Nat} (h2 : ¬ 2 ≤ op) : mt_fb me op c = false := by
  unfold mt_fb
  simp [h2]
theorem mt_op_b {op : Nat} (h : ¬ 2 ≤ op) : nI op = mt_b (decide (op = 1)) := by
  rcases (show op = 0 ∨ op = 1 by omega) with rfl | rfl <;> decide
theorem mt_g1 : ∀ k ∈ mt_KS, ∀ x y v : Bool, mt_hB k (mt_owB k x y v) y = mt_owB k x y v := by decide +kernel
theorem mt_g2 : ∀ k ∈ mt_KS, ∀ x y v : Bool, mt_hB k (mt_otB k x y v) v = mt_otB k x y v := by decide +kernel
theorem mt_g3 : ∀ b v : Bool, mt_owB (-1) b false v = v := by decide +kernel
theorem mt_g4 : ∀ k ∈ mt_KS, k < 4 → ∀ x y z v : Bool, mt_owB k x y v = mt_owB k x z v := by decide +kernel
theorem mt_g5 : ∀ k ∈ mt_KS, k < 4 → ¬ 4 ≤ k ∧ ¬ 10 ≤ k := by decide +kernel
theorem mt_g6 : ∀ k ∈ mt_KS, ¬ k < 4 → 4 ≤ k := by decide +kernel
theorem mt_mst_r {k : Int32} {V A op c : Nat} (st : Int32 × Bool) (hc : c < 5) (h2 : 2 ≤ op) (h3 : op ≤ 3) : mt_mst k V A op c st = (st.1, (bt st.1 c != decide (op = 3)) || st.2) := by
  unfold mt_mst mt_fm
  rw [if_pos h2, mt_fb_r (by omega) h2 h3]
theorem mt_mst_w {k : Int32} {V A op c : Nat} (st : Int32 × Bool) (h2 : ¬ 2 ≤ op) : mt_mst k V A op c st = (mt_wr k (nI V) (nI A) st.1 (nI c) (mt_b (decide (op = 1))), st.2) := by
  unfold mt_mst mt_fm
  rw [if_neg h2, mt_fb_w h2, mt_op_b h2]
  rfl
theorem mt_s1_r {k : Int32} {op : Nat} (h2 : 2 ≤ op) (τ : mt_B2) : mt_s1 k op τ = (τ.1, τ.2 || (τ.1 != decide (op = 3))) := if_pos h2
theorem mt_s1_w {k : Int32} {op : Nat} (h2 : ¬ 2 ≤ op) (τ : mt_B2) : mt_s1 k op τ = (mt_owB k τ.1 false (decide (op = 1)), τ.2) := if_neg h2
theorem mt_or3 (a f n : Bool) : (a || (f || n)) = ((f || a) || n) := by cases a <;> cases f <;> rfl
theorem mt_or4 (a f n : Bool) : (a || (f || n)) = (f || (a || n)) := by cases a <;> cases f <;> rfl
-- a pair
def mt_sp2 (V A : Nat) : Nat → Bool := fun c => decide (c = V ∨ c = A)
def mt_ac2 (k : Int32) (V : Nat) : Nat → Nat → mt_B3 → mt_B3 := fun c op σ => mt_sB k (decide (c = V)) op σ
def mt_RP (k : Int32) (V A : Nat) (st : Int32 × Bool) (σ : mt_B3) (τ : Nat → mt_B2) : Prop := bt st.1 V = σ.1 ∧ bt st.1 A = σ.2.1 ∧ (∀ i, i < 5 → i ≠ V → i ≠ A → bt st.1 i = (τ i).1) ∧ st.2 = (σ.2.2 || mt_any (mt_sp2 V A) τ) ∧ mt_hB k σ.1 σ.2.1 = σ.1
theorem mt_step2 {k : Int32} (hk : k ∈ mt_KS) (h4 : 4 ≤ k) {V A : Nat} (hV : V < 5) (hA : A < 5) (hVA : V ≠ A) : mt_Step k V A (mt_sp2 V A) (mt_ac2 k V) (mt_RP k V A) := by
  have hV' : V < 32 := by omega
  have hA' : A < 32 := by omega
  refine ⟨?_, ?_⟩
  · intro c op st σ τ hc hop hR
    obtain ⟨h1, h2, h3, hf, hs⟩ := hR
    obtain ⟨x, y, f⟩ := σ
    have h1 : bt st.1 V = x := h1
    have h2 : bt st.1 A = y := h2
    have hf : st.2 = (f || mt_any (mt_sp2 V A) τ) := hf
    have hs : mt_hB k x y = x := hs
    by_cases cV : c = V
    · have es : mt_sp2 V A c = true := decide_eq_true (Or.inl cV)
      rw [if_pos es, if_pos es, cV]
      by_cases ho : 2 ≤ op
      · rw [mt_mst_r st hV ho hop]
        show mt_RP k V A _ (mt_sB k (decide (V = V)) op (x, y, f)) τ
        unfold mt_sB
        rw [if_pos ho, if_pos (decide_eq_true rfl)]
        refine ⟨h1, h2, h3, ?_, hs⟩
        show ((bt st.1 V != decide (op = 3)) || st.2) = ((f || (x != decide (op = 3))) || mt_any (mt_sp2 V A) τ)
        rw [h1, hf, mt_or3]
      · rw [mt_mst_w st ho]
        show mt_RP k V A _ (mt_sB k (decide (V = V)) op (x, y, f)) τ
        unfold mt_sB
        rw [if_neg ho, if_pos (decide_eq_true rfl)]
        have w := fun (i : Nat) (hi : i < 32) => mt_wr_own hk st.1 (decide (op = 1)) hV' hA' hi (Or.inl hVA) (Or.inl hVA)
        refine ⟨?_, ?_, ?_, hf, mt_g1 k hk x y _⟩
        · show bt (mt_wr _ _ _ _ _ _) V = _
          rw [w V hV', if_pos rfl, h1, h2]
        · show bt (mt_wr _ _ _ _ _ _) A = _
          rw [w A hA', if_neg (Ne.symm hVA), h2]
        · intro i hi iV iA
          show bt (mt_wr _ _ _ _ _ _) i = _
          rw [w i (by omega), if_neg iV, h3 i hi iV iA]
    · by_cases cA : c = A
      · have es : mt_sp2 V A c = true := decide_eq_true (Or.inr cA)
        have eo : ¬ decide (A = V) = true := by simp [Ne.symm hVA]
        rw [if_pos es, if_pos es, cA]
        by_cases ho : 2 ≤ op
        · rw [mt_mst_r st hA ho hop]
          show mt_RP k V A _ (mt_sB k (decide (A = V)) op (x, y, f)) τ
          unfold mt_sB
          rw [if_pos ho, if_neg eo]
          refine ⟨h1, h2, h3, ?_, hs⟩
          show ((bt st.1 A != decide (op = 3)) || st.2) = ((f || (y != decide (op = 3))) || mt_any (mt_sp2 V A) τ)
          rw [h2, hf, mt_or3]
        · rw [mt_mst_w st ho]
          show mt_RP k V A _ (mt_sB k (decide (A = V)) op (x, y, f)) τ
          unfold mt_sB
          rw [if_neg ho, if_neg eo]
          have w := fun (i : Nat) (hi : i < 32) => mt_wr_oth hk h4 st.1 (decide (op = 1)) hV' hA' hi hVA
          refine ⟨?_, ?_, ?_, hf, mt_g2 k hk x y _⟩
          · show bt (mt_wr _ _ _ _ _ _) V = _
            rw [w V hV', if_pos rfl, h1, h2]
          · show bt (mt_wr _ _ _ _ _ _) A = _
            rw [w A hA', if_neg (Ne.symm hVA), if_pos rfl]
          · intro i hi iV iA
            show bt (mt_wr _ _ _ _ _ _) i = _
            rw [w i (by omega), if_neg iV, if_neg iA, h3 i hi iV iA]
      · have es : mt_sp2 V A c = false := decide_eq_false (fun h => h.elim cV cA)
        have es' : ¬ mt_sp2 V A c = true := by rw [es]; decide
        rw [if_neg es', if_neg es']
        by_cases ho : 2 ≤ op
        · rw [mt_mst_r st hc ho hop, mt_s1_r ho]
          refine ⟨h1, h2, ?_, ?_, hs⟩
          · intro i hi iV iA
            show bt st.1 i = (mt_uT τ c _ i).1
            unfold mt_uT
            by_cases hic : i = c
            · rw [if_pos hic, hic]
              exact h3 c hc cV cA
            · rw [if_neg hic]
              exact h3 i hi iV iA
          · show ((bt st.1 c != decide (op = 3)) || st.2) = (f || mt_any (mt_sp2 V A) (mt_uT τ c _))
            rw [mt_any_u hc es (x := ((τ c).1 != decide (op = 3))) rfl, h3 c hc cV cA, hf, mt_or4]
        · rw [mt_mst_w st ho, mt_s1_w ho, mt_g3]
          have w := fun (i : Nat) (hi : i < 32) => mt_wr_snd hk st.1 (decide (op = 1)) hV' hA' (show c < 32 by omega) hi cV (Or.inl cA) (Or.inl hVA)
          refine ⟨?_, ?_, ?_, ?_, hs⟩
          · show bt (mt_wr _ _ _ _ _ _) V = x
            rw [w V hV', if_pos rfl, h1, h2, hs]
          · show bt (mt_wr _ _ _ _ _ _) A = y
            rw [w A hA', if_neg (Ne.symm hVA), if_neg (fun z => cA z.symm), h2]
          · intro i hi iV iA
            show bt (mt_wr _ _ _ _ _ _) i = (mt_uT τ c _ i).1
            rw [w i (by omega), if_neg iV]
            unfold mt_uT
            by_cases hic : i = c
            · rw [if_pos hic, if_pos hic]
            · rw [if_neg hic, if_neg hic]
              exact h3 i hi iV iA
          · show st.2 = (f || mt_any (mt_sp2 V A) (mt_uT τ c _))
            rw [mt_any_u hc es (p := (decide (op = 1), (τ c).2)) (x := false) (Bool.or_false _).symm, hf]
            rfl
  · intro st σ τ τ' h hR
    obtain ⟨h1, h2, h3, hf, hs⟩ := hR
    have hn : ∀ i, i ≠ V → i ≠ A → mt_sp2 V A i = false := fun i a b => decide_eq_false (fun z => z.elim a b)
    refine ⟨h1, h2, fun i hi iV iA => ?_, ?_, hs⟩
    · rw [h3 i hi iV iA, h i hi (hn i iV iA)]
    · rw [hf, mt_any_c h]
-- one cell
def mt_sp1 (V : Nat) : Nat → Bool := fun c => decide (c = V)
def mt_ac1 (k : Int32) : Nat → Nat → mt_B2 → mt_B2 := fun _ op ρ => mt_s1 k op ρ
def mt_R1 (k : Int32) (V : Nat) (st : Int32 × Bool) (ρ : mt_B2) (τ : Nat → mt_B2) : Prop := bt st.1 V = ρ.1 ∧ (∀ i, i < 5 → i ≠ V → bt st.1 i = (τ i).1) ∧ st.2 = (ρ.2 || mt_any (mt_sp1 V) τ) ∧ mt_hB k ρ.1 false = ρ.1
theorem mt_step1 {k : Int32} (hk : k ∈ mt_KS) (h4 : k < 4) {V A : Nat} (hV : V < 5) (hA : A < 5) : mt_Step k V A (mt_sp1 V) (mt_ac1 k) (mt_R1 k V) := by
  have hV' : V < 32 := by omega
  have hA' : A < 32 := by omega
  obtain ⟨n4, n10⟩ := mt_g5 k hk h4
  refine ⟨?_, ?_⟩
  · intro c op st ρ τ hc hop hR
    obtain ⟨h1, h3, hf, hs⟩ := hR
    obtain ⟨x, f⟩ := ρ
    have h1 : bt st.1 V = x := h1
    have hf : st.2 = (f || mt_any (mt_sp1 V) τ) := hf
    have hs : mt_hB k x false = x := hs
    by_cases cV : c = V
    · have es : mt_sp1 V c = true := decide_eq_true cV
      rw [if_pos es, if_pos es, cV]
      show mt_R1 k V _ (mt_s1 k op (x, f)) τ
      by_cases ho : 2 ≤ op
      · rw [mt_mst_r st hV ho hop, mt_s1_r ho]
        refine ⟨h1, h3, ?_, hs⟩
        show ((bt st.1 V != decide (op = 3)) || st.2) = ((f || (x != decide (op = 3))) || mt_any (mt_sp1 V) τ)
        rw [h1, hf, mt_or3]
      · rw [mt_mst_w st ho, mt_s1_w ho]
        have w := fun (i : Nat) (hi : i < 32) => mt_wr_own hk st.1 (decide (op = 1)) hV' hA' hi (Or.inr n4) (Or.inr n10)
        refine ⟨?_, ?_, hf, mt_g1 k hk x false _⟩
        · show bt (mt_wr _ _ _ _ _ _) V = mt_owB k x false _
          rw [w V hV', if_pos rfl, h1]
          exact mt_g4 k hk h4 _ _ _ _
        · intro i hi iV
          show bt (mt_wr _ _ _ _ _ _) i = _
          rw [w i (by omega), if_neg iV, h3 i hi iV]
    · have es : mt_sp1 V c = false := decide_eq_false cV
      have es' : ¬ mt_sp1 V c = true := by rw [es]; decide
      rw [if_neg es', if_neg es']
      by_cases ho : 2 ≤ op
      · rw [mt_mst_r st hc ho hop, mt_s1_r ho]
        refine ⟨h1, ?_, ?_, hs⟩
        · intro i hi iV
          show bt st.1 i = (mt_uT τ c _ i).1
          unfold mt_uT
          by_cases hic : i = c
          · rw [if_pos hic, hic]
            exact h3 c hc cV
          · rw [if_neg hic]
            exact h3 i hi iV
        · show ((bt st.1 c != decide (op = 3)) || st.2) = (f || mt_any (mt_sp1 V) (mt_uT τ c _))
          rw [mt_any_u hc es (x := ((τ c).1 != decide (op = 3))) rfl, h3 c hc cV, hf, mt_or4]
      · rw [mt_mst_w st ho, mt_s1_w ho, mt_g3]
        have w := fun (i : Nat) (hi : i < 32) => mt_wr_snd hk st.1 (decide (op = 1)) hV' hA' (show c < 32 by omega) hi cV (Or.inr n4) (Or.inr n10)
        refine ⟨?_, ?_, ?_, hs⟩
        · show bt (mt_wr _ _ _ _ _ _) V = x
          rw [w V hV', if_pos rfl, h1, mt_f7 k hk n10 x _ false, hs]
        · intro i hi iV
          show bt (mt_wr _ _ _ _ _ _) i = (mt_uT τ c _ i).1
          rw [w i (by omega), if_neg iV]
          unfold mt_uT
          by_cases hic : i = c
          · rw [if_pos hic, if_pos hic]
          · rw [if_neg hic, if_neg hic]
            exact h3 i hi iV
        · show st.2 = (f || mt_any (mt_sp1 V) (mt_uT τ c _))
          rw [mt_any_u hc es (p := (decide (op = 1), (τ c).2)) (x := false) (Bool.or_false _).symm, hf]
          rfl
  · intro st σ τ τ' h hR
    obtain ⟨h1, h3, hf, hs⟩ := hR
    have hn : ∀ i, i ≠ V → mt_sp1 V i = false := fun i a => decide_eq_false a
    refine ⟨h1, fun i hi iV => ?_, ?_, hs⟩
    · rw [h3 i hi iV, h i hi (hn i iV)]
    · rw [hf, mt_any_c h]
-- the special cells' march is MarchTester's
theorem mt_Sm2 {T : mt_T} (hT : mt_ok T) {k : Int32} {V A : Nat} (hV : V < 5) (hA : A < 5) (hVA : V ≠ A) (M : Nat) (σ : mt_B3) : mt_Sm T (mt_sp2 V A) (mt_ac2 k V) M σ = mt_vB T k M (!(decide (V < A) == decide (T.2.1 M = 0))) (mt_vB T k M (decide (V < A) == decide (T.2.1 M = 0)) σ) := by
  have hv : ∀ c (ρ : mt_B3), mt_vS T (mt_sp2 V A) (mt_ac2 k V) M c ρ = if c = V ∨ c = A then mt_vB T k M (decide (c = V)) ρ else ρ := by
    intro c ρ
    unfold mt_vS mt_sp2
    by_cases h : c = V ∨ c = A
    · rw [if_pos (decide_eq_true h), if_pos h]
      rfl
    · rw [if_neg (by simp [h]), if_neg h]
  unfold mt_Sm
  simp only [hv]
  have hd := hT.2.1 M
  rcases (show T.2.1 M = 0 ∨ T.2.1 M = 1 by omega) with d | d <;> rw [d] <;>
  rcases (show V = 0 ∨ V = 1 ∨ V = 2 ∨ V = 3 ∨ V = 4 by omega) with rfl | rfl | rfl | rfl | rfl <;>
  rcases (show A = 0 ∨ A = 1 ∨ A = 2 ∨ A = 3 ∨ A = 4 by omega) with rfl | rfl | rfl | rfl | rfl <;>
  first | exact absurd rfl hVA | rfl
theorem mt_Sm1 {T : mt_T} {k : Int32} {V : Nat} (hV : V < 5) (M : Nat) (ρ : mt_B2) : mt_Sm T (mt_sp1 V) (mt_ac1 k) M ρ = mt_v1 T k M ρ := by
  have hv : ∀ c (ρ : mt_B2), mt_vS T (mt_sp1 V) (mt_ac1 k) M c ρ = if c = V then mt_v1 T k M ρ else ρ := by
    intro c ρ
    unfold mt_vS mt_sp1
    by_cases h : c = V
    · rw [if_pos (decide_eq_true h), if_pos h]
      rfl
    · rw [if_neg (by simp [h]), if_neg h]
  unfold mt_Sm
  simp only [hv]
  rcases (show V = 0 ∨ V = 1 ∨ V = 2 ∨ V = 3 ∨ V = 4 by omega) with rfl | rfl | rfl | rfl | rfl <;> split <;> rfl
theorem mt_any_0 (sp : Nat → Bool) (g : Nat → Bool) : mt_any sp (fun i => (g i, false)) = false := by simp [mt_any]
/-- whether some READ of a sound cell fails that is filled with b -/
def mt_Gs (T : mt_T) (sk : Int32) (b : Bool) : Bool := (mt_fo (mt_m1 T sk (-1)) (b, false) T.1).2
/-- the model's run of a pair -/
theorem mt_run_P {T : mt_T} (hT : mt_ok T) {k sk : Int32} (hk : k ∈ mt_KS) (h4 : ¬ k < 4) {V A : Nat} (hV : V < 5) (hA : A < 5) (hVA : V ≠ A) (f : Nat) : (mt_run T k (nI V) (nI A) (nI f) sk).2 = ((mt_fo (mt_mB T sk k (decide (V < A))) (mt_hB k (bt (nI f) V) (bt (nI f) A), bt (nI f) A, false) T.1).2.2 || mt_any (mt_sp2 V A) (fun i => (false, mt_Gs T sk (bt (nI f) i)))) := by
  have hR : mt_RP k V A (mt_stl k (nI V) (nI A) (nI f), false) (mt_hB k (bt (nI f) V) (bt (nI f) A), bt (nI f) A, false) (fun i => (bt (nI f) i, false)) := by
    have w := fun (i : Nat) (hi : i < 32) => mt_stl_b hk (nI f) (show V < 32 by omega) (show A < 32 by omega) hi (Or.inl hVA)
    refine ⟨?_, ?_, ?_, ?_, mt_f6 k hk _ _⟩
    · show bt (mt_stl _ _ _ _) V = _
      rw [w V (by omega), if_pos rfl]
    · show bt (mt_stl _ _ _ _) A = _
      rw [w A (by omega), if_neg (Ne.symm hVA)]
    · intro i hi iV iA
      show bt (mt_stl _ _ _ _) i = _
      rw [w i (by omega), if_neg iV]
    · show false = (false || _)
      rw [mt_any_0]
      rfl
  have r := mt_sim_r hT (sk := sk) (mt_step2 hk (mt_g6 k hk h4) hV hA hVA) hR T.1
  have e : (fun (i : Nat) (σ : mt_B3) => if nI i = sk then σ else mt_Sm T (mt_sp2 V A) (mt_ac2 k V) i σ) = mt_mB T sk k (decide (V < A)) := by
    funext i σ
    unfold mt_mB
    rw [mt_Sm2 hT hV hA hVA]
  rw [e] at r
  have q := r.2.2.2.1
  unfold mt_run
  rw [q]
  rfl
/-- the model's run of one cell -/
theorem mt_run_1 {T : mt_T} (hT : mt_ok T) {k sk : Int32} (hk : k ∈ mt_KS) (h4 : k < 4) {V A : Nat} (hV : V < 5) (hA : A < 5) (f : Nat) : (mt_run T k (nI V) (nI A) (nI f) sk).2 = ((mt_fo (mt_m1 T sk k) (mt_hB k (bt (nI f) V) false, false) T.1).2 || mt_any (mt_sp1 V) (fun i => (false, mt_Gs T sk (bt (nI f) i)))) := by
  obtain ⟨n4, n10⟩ := mt_g5 k hk h4
  have hR : mt_R1 k V (mt_stl k (nI V) (nI A) (nI f), false) (mt_hB k (bt (nI f) V) false, false) (fun i => (bt (nI f) i, false)) := by
    have w := fun (i : Nat) (hi : i < 32) => mt_stl_b hk (nI f) (show V < 32 by omega) (show A < 32 by omega) hi (Or.inr n10)
    refine ⟨?_, ?_, ?_, mt_f6 k hk _ _⟩
    · show bt (mt_stl _ _ _ _) V = _
      rw [w V (by omega), if_pos rfl]
      exact mt_f7 k hk n10 _ _ _
    · intro i hi iV
      show bt (mt_stl _ _ _ _) i = _
      rw [w i (by omega), if_neg iV]
    · show false = (false || _)
      rw [mt_any_0]
      rfl
  have r := mt_sim_r hT (sk := sk) (mt_step1 hk h4 hV hA) hR T.1
  have e : (fun (i : Nat) (σ : mt_B2) => if nI i = sk then σ else mt_Sm T (mt_sp1 V) (mt_ac1 k) i σ) = mt_m1 T sk k := by
    funext i σ
    unfold mt_m1
    rw [mt_Sm1 hV]
  rw [e] at r
  have q := r.2.2.1
  unfold mt_run
  rw [q]
  rfl
end
section
/-! counting the fillings, and the law's answers on both sides -/
theorem mt_cnt_c {P Q : Nat → Bool} : ∀ {n : Nat}, (∀ j, j < n → P j = Q j) → mt_cnt P n = mt_cnt Q n := by
  intro n
  induction n with
  | zero => intro _; rfl
  | succ n ih =>
    intro h
    show mt_cnt P n + (if P n = true then 1 else 0) = mt_cnt Q n + (if Q n = true then 1 else 0)
    rw [ih (fun j hj => h j (by omega)), h n (by omega)]
def mt_tb (a b c d x y : Bool) : Bool := if x = true then (if y = true then d else c) else (if y = true then b else a)
def mt_n (b : Bool) : Nat := if b = true then 0 else 1
theorem mt_cP : ∀ V, V < 5 → ∀ A, A < 5 → V ≠ A → ∀ a b c d g h : Bool, mt_cnt (fun f => mt_tb a b c d (bt (nI f) V) (bt (nI f) A) || mt_any (mt_sp2 V A) (fun i => (false, if bt (nI f) i = true then h else g))) 32 + (mt_n a + mt_n c + mt_n b + mt_n d) * (mt_n g + mt_n h) ^ 3 = 32 := by decide +kernel
theorem mt_cS : ∀ V, V < 5 → ∀ a b g h : Bool, mt_cnt (fun f => (if bt (nI f) V = true then b else a) || mt_any (mt_sp1 V) (fun i => (false, if bt (nI f) i = true then h else g))) 32 + (mt_n a + mt_n b) * (mt_n g + mt_n h) ^ 4 = 32 := by decide +kernel
end
section
/-! the law's answers: MarchTester's functions are the model's, on every test that is well formed -/
def mt_FP (T : mt_T) (w k : Int32) (be x y : Bool) : Bool := (mt_fo (mt_mB T w k be) (mt_hB k x y, y, false) T.1).2.2
def mt_F1 (T : mt_T) (w k : Int32) (x : Bool) : Bool := (mt_fo (mt_m1 T w k) (mt_hB k x false, false) T.1).2
theorem mt_quiet_n {T : mt_T} (hT : mt_ok T) (w : Int32) : mt_quiet T w = mt_n (mt_Gs T w false) + mt_n (mt_Gs T w true) := by
  have e0 : (mt_runs T w (-1) true (nI 0) 0).2.2 = mt_Gs T w false := mt_runs_1 hT (by decide) (by decide) true false false
  have e1 : (mt_runs T w (-1) true (nI 1) 0).2.2 = mt_Gs T w true := mt_runs_1 hT (by decide) (by decide) true true false
  unfold mt_quiet
  show 0 + (if (!(mt_runs T w (-1) true (nI 0) 0).2.2) = true then 1 else 0) + (if (!(mt_runs T w (-1) true (nI 1) 0).2.2) = true then 1 else 0) = _
  rw [e0, e1]
  generalize mt_Gs T w false = a
  generalize mt_Gs T w true = b
  cases a <;> cases b <;> rfl
theorem mt_si4_P {T : mt_T} (hT : mt_ok T) {w k : Int32} (hk : k ∈ mt_KS) (h4 : ¬ k < 4) (be : Bool) : mt_si4 T w k be = mt_n (mt_FP T w k be false false) + mt_n (mt_FP T w k be true false) + mt_n (mt_FP T w k be false true) + mt_n (mt_FP T w k be true true) := by
  have e0 : (mt_runs T w k be (nI 0 &&& 1) (nI 0 >>> ((1 : Int32) &&& 31))).2.2 = mt_FP T w k be false false := by
    rw [show nI 0 &&& 1 = mt_b false by decide, show nI 0 >>> ((1 : Int32) &&& 31) = mt_b false by decide]; exact mt_runs_P hT hk h4 be false false
  have e1 : (mt_runs T w k be (nI 1 &&& 1) (nI 1 >>> ((1 : Int32) &&& 31))).2.2 = mt_FP T w k be true false := by
    rw [show nI 1 &&& 1 = mt_b true by decide, show nI 1 >>> ((1 : Int32) &&& 31) = mt_b false by decide]; exact mt_runs_P hT hk h4 be true false
  have e2 : (mt_runs T w k be (nI 2 &&& 1) (nI 2 >>> ((1 : Int32) &&& 31))).2.2 = mt_FP T w k be false true := by
    rw [show nI 2 &&& 1 = mt_b false by decide, show nI 2 >>> ((1 : Int32) &&& 31) = mt_b true by decide]; exact mt_runs_P hT hk h4 be false true
  have e3 : (mt_runs T w k be (nI 3 &&& 1) (nI 3 >>> ((1 : Int32) &&& 31))).2.2 = mt_FP T w k be true true := by
    rw [show nI 3 &&& 1 = mt_b true by decide, show nI 3 >>> ((1 : Int32) &&& 31) = mt_b true by decide]; exact mt_runs_P hT hk h4 be true true
  have hd : decide (4 ≤ k) = true := decide_eq_true (mt_g6 k hk h4)
  unfold mt_si4
  simp only [mt_cnt, e0, e1, e2, e3, hd, Bool.true_or, Bool.true_and]
  generalize mt_FP T w k be false false = a
  generalize mt_FP T w k be true false = b
  generalize mt_FP T w k be false true = c
  generalize mt_FP T w k be true true = d
  cases a <;> cases b <;> cases c <;> cases d <;> rfl
theorem mt_si4_1 {T : mt_T} (hT : mt_ok T) {w k : Int32} (hk : k ∈ mt_KS) (h4 : k < 4) (be : Bool) : mt_si4 T w k be = mt_n (mt_F1 T w k false) + mt_n (mt_F1 T w k true) := by
  have e0 : (mt_runs T w k be (nI 0 &&& 1) (nI 0 >>> ((1 : Int32) &&& 31))).2.2 = mt_F1 T w k false := by
    rw [show nI 0 &&& 1 = mt_b false by decide, show nI 0 >>> ((1 : Int32) &&& 31) = mt_b false by decide]; exact mt_runs_1 hT hk h4 be false false
  have e1 : (mt_runs T w k be (nI 1 &&& 1) (nI 1 >>> ((1 : Int32) &&& 31))).2.2 = mt_F1 T w k true := by
    rw [show nI 1 &&& 1 = mt_b true by decide, show nI 1 >>> ((1 : Int32) &&& 31) = mt_b false by decide]; exact mt_runs_1 hT hk h4 be true false
  have hd : decide (4 ≤ k) = false := decide_eq_false (mt_g5 k hk h4).1
  have l0 : decide (0 < 2) = true := rfl
  have l1 : decide (1 < 2) = true := rfl
  have l2 : decide (2 < 2) = false := rfl
  have l3 : decide (3 < 2) = false := rfl
  unfold mt_si4
  simp only [mt_cnt, e0, e1, hd, Bool.false_or, l0, l1, l2, l3, Bool.true_and, Bool.false_and]
  generalize mt_F1 T w k false = a
  generalize mt_F1 T w k true = b
  cases a <;> cases b <;> rfl
theorem mt_Gs_if (T : mt_T) (w : Int32) (b : Bool) : mt_Gs T w b = if b = true then mt_Gs T w true else mt_Gs T w false := by cases b <;> rfl
theorem mt_F1_if (T : mt_T) (w k : Int32) (b : Bool) : mt_F1 T w k b = if b = true then mt_F1 T w k true else mt_F1 T w k false := by cases b <;> rfl
theorem mt_FP_tb (T : mt_T) (w k : Int32) (be x y : Bool) : mt_FP T w k be x y = mt_tb (mt_FP T w k be false false) (mt_FP T w k be false true) (mt_FP T w k be true false) (mt_FP T w k be true true) x y := by cases x <;> cases y <;> rfl
/-- a pair: the fillings that fail, and the silent ones, are all 32 -/
theorem mt_C2 {T : mt_T} (hT : mt_ok T) {w k : Int32} (hk : k ∈ mt_KS) (h4 : ¬ k < 4) {V A : Nat} (hV : V < 5) (hA : A < 5) (hVA : V ≠ A) : mt_ct T k (nI V) (nI A) w + mt_sil T w k (decide (V < A)) = 32 := by
  have e := mt_cP V hV A hA hVA (mt_FP T w k (decide (V < A)) false false) (mt_FP T w k (decide (V < A)) false true) (mt_FP T w k (decide (V < A)) true false) (mt_FP T w k (decide (V < A)) true true) (mt_Gs T w false) (mt_Gs T w true)
  have hc : mt_ct T k (nI V) (nI A) w = mt_cnt (fun f => mt_tb (mt_FP T w k (decide (V < A)) false false) (mt_FP T w k (decide (V < A)) false true) (mt_FP T w k (decide (V < A)) true false) (mt_FP T w k (decide (V < A)) true true) (bt (nI f) V) (bt (nI f) A) || mt_any (mt_sp2 V A) (fun i => (false, if bt (nI f) i = true then mt_Gs T w true else mt_Gs T w false))) 32 := by
    unfold mt_ct
    refine mt_cnt_c (fun f _ => ?_)
    show (mt_run T k (nI V) (nI A) (nI f) w).2 = _
    rw [mt_run_P hT hk h4 hV hA hVA f, ← mt_FP_tb]
    simp only [← mt_Gs_if]
    rfl
  have hs : mt_sil T w k (decide (V < A)) = (mt_n (mt_FP T w k (decide (V < A)) false false) + mt_n (mt_FP T w k (decide (V < A)) true false) + mt_n (mt_FP T w k (decide (V < A)) false true) + mt_n (mt_FP T w k (decide (V < A)) true true)) * (mt_n (mt_Gs T w false) + mt_n (mt_Gs T w true)) ^ 3 := by
    unfold mt_sil
    rw [if_pos (mt_g6 k hk h4), mt_si4_P hT hk h4, mt_quiet_n hT]
  rw [hc, hs]
  exact e
/-- one cell -/
theorem mt_C1 {T : mt_T} (hT : mt_ok T) {w k : Int32} (hk : k ∈ mt_KS) (h4 : k < 4) {V A : Nat} (hV : V < 5) (hA : A < 5) (be : Bool) : mt_ct T k (nI V) (nI A) w + mt_sil T w k be = 32 := by
  have e := mt_cS V hV (mt_F1 T w k false) (mt_F1 T w k true) (mt_Gs T w false) (mt_Gs T w true)
  have hc : mt_ct T k (nI V) (nI A) w = mt_cnt (fun f => (if bt (nI f) V = true then mt_F1 T w k true else mt_F1 T w k false) || mt_any (mt_sp1 V) (fun i => (false, if bt (nI f) i = true then mt_Gs T w true else mt_Gs T w false))) 32 := by
    unfold mt_ct
    refine mt_cnt_c (fun f _ => ?_)
    show (mt_run T k (nI V) (nI A) (nI f) w).2 = _
    rw [mt_run_1 hT hk h4 hV hA f, ← mt_F1_if]
    simp only [← mt_Gs_if]
    rfl
  have hs : mt_sil T w k be = (mt_n (mt_F1 T w k false) + mt_n (mt_F1 T w k true)) * (mt_n (mt_Gs T w false) + mt_n (mt_Gs T w true)) ^ 4 := by
    unfold mt_sil
    rw [if_neg (mt_g5 k hk h4).1, mt_si4_1 hT hk h4, mt_quiet_n hT]
  rw [hc, hs]
  exact e
theorem mt_L_sound {T : mt_T} (hT : mt_ok T) : decide (mt_quiet T (-1) = 2) = decide (mt_ct T (-1) 0 0 (-1) = 0) := by
  have e : mt_ct T (-1) 0 0 (-1) + mt_sil T (-1) (-1) true = 32 := mt_C1 hT (k := -1) (V := 0) (A := 0) (by decide) (by decide) (by decide) (by decide) true
  have hs : mt_sil T (-1) (-1) true = mt_quiet T (-1) * mt_quiet T (-1) ^ 4 := by
    unfold mt_sil
    rw [if_neg (by decide), mt_si4_1 hT (by decide) (by decide), mt_quiet_n hT]
    rfl
  have hq := mt_quiet_le T (-1)
  rw [hs] at e
  rcases (show mt_quiet T (-1) = 0 ∨ mt_quiet T (-1) = 1 ∨ mt_quiet T (-1) = 2 by omega) with h | h | h <;> rw [h] at e ⊢ <;> simp at e ⊢ <;> omega
-- ===== faults =====
theorem mt_kN {k : Int32} (h0 : 0 ≤ k) (h : k < 14) : ∃ K : Nat, K < 14 ∧ k = nI K := by
  obtain ⟨j, hj, e⟩ := mt_xn (n := 14) (by decide) (Int32.not_lt.mpr h0) (show k < nI 14 from h) |> fun p => (⟨k.toNatClampNeg, p.2, p.1⟩ : ∃ K : Nat, K < 14 ∧ k = nI K)
  exact ⟨j, hj, e⟩
theorem mt_vN {v : Int32} (h0 : 0 ≤ v) (h : v < 5) : ∃ V : Nat, V < 5 ∧ v = nI V := ⟨v.toNatClampNeg, (mt_xn (n := 5) (by decide) (Int32.not_lt.mpr h0) (show v < nI 5 from h)).2, (mt_xn (n := 5) (by decide) (Int32.not_lt.mpr h0) (show v < nI 5 from h)).1⟩
theorem mt_KS_N : ∀ K : Nat, K < 14 → nI K ∈ mt_KS := by decide +kernel
theorem mt_fl_eq (k v a : Int32) : mt_flm k v a = mt_flt k v a := by
  unfold mt_flm mt_flt
  have e1 : (13 : Int32).toInt = 13 := by decide
  have e2 : (4 : Int32).toInt = 4 := by decide
  have e3 : (0 : Int32).toInt = 0 := by decide
  have e4 : (14 : Int32).toInt = 14 := by decide
  have e5 : (5 : Int32).toInt = 5 := by decide
  rw [decide_eq_decide]
  simp only [Int32.lt_iff_toInt_lt, Int32.le_iff_toInt_le, ← Int32.toInt_inj, e1, e2, e3, e4, e5]
  omega
theorem mt_lt_N {V A : Nat} (hV : V < 5) (hA : A < 5) : decide (nI V < nI A) = decide (V < A) := decide_eq_decide.mpr (nI_ltI (by omega) (by omega))
/-- the model's count and the silent fillings of MarchTester, for every fault -/
theorem mt_C {T : mt_T} (hT : mt_ok T) {k v a : Int32} (hf : mt_flt k v a = true) (w : Int32) : mt_ctA T k v a w + mt_sil T w k (decide (v < a)) = 32 := by
  have hf := of_decide_eq_true hf
  obtain ⟨K, hK, rfl⟩ := mt_kN hf.1 hf.2.1
  obtain ⟨V, hV, rfl⟩ := mt_vN hf.2.2.1 hf.2.2.2.1
  unfold mt_ctA
  by_cases h4 : nI K < 4
  · rw [if_pos h4]
    exact mt_C1 hT (mt_KS_N K hK) h4 (A := 0) hV (by decide) _
  · rw [if_neg h4]
    obtain ⟨h5, h6, h7⟩ := hf.2.2.2.2.resolve_left h4
    obtain ⟨A, hA, rfl⟩ := mt_vN h5 h6
    rw [mt_lt_N hV hA]
    exact mt_C2 hT (mt_KS_N K hK) h4 hV hA (fun e => h7 (by rw [e]))
theorem mt_L_finds {T : mt_T} (hT : mt_ok T) (k v a : Int32) : (mt_flt k v a && mt_isF T (-1) k (decide (v < a))) = mt_mfi T k v a := by
  unfold mt_mfi mt_isF
  rw [mt_fl_eq]
  cases hf : mt_flt k v a with
  | false => rfl
  | true =>
    have e := mt_C hT hf (-1)
    rw [Bool.true_and, Bool.true_and, decide_eq_decide]
    omega
theorem mt_L_ff {T : mt_T} (hT : mt_ok T) (k v a : Int32) : (if mt_flt k v a = true then 32 - nI (mt_sil T (-1) k (decide (v < a))) else -1) = (if mt_flm k v a = true then nI (mt_ctA T k v a (-1)) else -1) := by
  rw [mt_fl_eq]
  by_cases hf : mt_flt k v a = true
  · rw [if_pos hf, if_pos hf]
    have e := mt_C hT hf (-1)
    have q : nI 32 - nI (mt_sil T (-1) k (decide (v < a))) = nI (32 - mt_sil T (-1) k (decide (v < a))) := pk_sub (by omega)
    rw [show (32 : Int32) = nI 32 from rfl, q]
    exact congrArg nI (by omega)
  · rw [if_neg hf, if_neg hf]
theorem mt_cF2 : ∀ X Y : Bool, mt_cnt (fun c => decide (¬ c % 5 = c / 5) && (if c / 5 < c % 5 then X else Y)) 25 = (if X = true then 10 else 0) + (if Y = true then 10 else 0) := by decide +kernel
theorem mt_cF1 : ∀ X : Bool, mt_cnt (fun c => decide (c % 5 = 0) && X) 25 = (if X = true then 5 else 0) := by decide +kernel
theorem mt_flt_1 : ∀ K, K < 14 → nI K < 4 → ∀ V, V < 5 → ∀ A, A < 5 → mt_flt (nI K) (nI V) (nI A) = true := by decide +kernel
theorem mt_flt_2 : ∀ K, K < 14 → ¬ nI K < 4 → ∀ V, V < 5 → ∀ A, A < 5 → mt_flt (nI K) (nI V) (nI A) = decide (¬ A = V) := by decide +kernel
theorem mt_isF_1 {T : mt_T} (hT : mt_ok T) {w k : Int32} (hk : k ∈ mt_KS) (h4 : k < 4) (be be' : Bool) : mt_isF T w k be = mt_isF T w k be' := by
  unfold mt_isF mt_sil
  rw [mt_si4_1 hT hk h4, mt_si4_1 hT hk h4]
theorem mt_K14 : ∀ K, K < 14 → ¬ (nI K < 0 ∨ 14 ≤ nI K) := by decide +kernel
theorem mt_L_found {T : mt_T} (hT : mt_ok T) (k : Int32) : mt_fnd T (-1) k = mt_mfn T k := by
  have ec : (k < 0 ∨ 14 ≤ k) ↔ (k < 0 ∨ 13 < k) := by
    have e1 : (13 : Int32).toInt = 13 := by decide
    have e4 : (14 : Int32).toInt = 14 := by decide
    simp only [Int32.lt_iff_toInt_lt, Int32.le_iff_toInt_le, e1, e4]
    omega
  by_cases hk : k < 0 ∨ 14 ≤ k
  · unfold mt_fnd mt_mfn
    rw [if_pos hk, if_pos (ec.mp hk)]
  · obtain ⟨K, hK, rfl⟩ := mt_kN (Int32.not_lt.mp (fun h => hk (Or.inl h))) (Int32.not_le.mp (fun h => hk (Or.inr h)))
    have hk' : ¬ (nI K < 0 ∨ 13 < nI K) := fun h => hk (ec.mpr h)
    have hm := mt_KS_N K hK
    unfold mt_fnd mt_mfn mt_half
    rw [if_neg hk, if_neg hk']
    simp only [← mt_L_finds hT]
    by_cases h4 : nI K < 4
    · have n4 := (mt_g5 _ hm h4).1
      rw [mt_cnt_c (Q := fun c => decide (c % 5 = 0) && mt_isF T (-1) (nI K) true) (fun c hc => by
        show ((decide (4 ≤ nI K) || decide (c % 5 = 0)) && (mt_flt (nI K) (nI (c / 5)) (nI (c % 5)) && mt_isF T (-1) (nI K) (decide (nI (c / 5) < nI (c % 5))))) = _
        rw [mt_flt_1 K hK h4 _ (by omega) _ (by omega), decide_eq_false n4, mt_isF_1 hT hm h4 _ true]
        rfl), mt_cF1]
      simp only [h4, n4, if_true, false_and, if_false]
      cases mt_isF T (-1) (nI K) true <;> rfl
    · have n4 := mt_g6 _ hm h4
      rw [mt_cnt_c (Q := fun c => decide (¬ c % 5 = c / 5) && (if c / 5 < c % 5 then mt_isF T (-1) (nI K) true else mt_isF T (-1) (nI K) false)) (fun c hc => by
        show ((decide (4 ≤ nI K) || decide (c % 5 = 0)) && (mt_flt (nI K) (nI (c / 5)) (nI (c % 5)) && mt_isF T (-1) (nI K) (decide (nI (c / 5) < nI (c % 5))))) = _
        rw [mt_flt_2 K hK h4 _ (by omega) _ (by omega), decide_eq_true n4, mt_lt_N (by omega) (by omega)]
        by_cases q : c / 5 < c % 5
        · rw [decide_eq_true q, if_pos q]; rfl
        · rw [decide_eq_false q, if_neg q]; rfl), mt_cF2]
      simp only [h4, n4, if_false, true_and]
      cases mt_isF T (-1) (nI K) true <;> cases mt_isF T (-1) (nI K) false <;> rfl
theorem mt_L_cov {T : mt_T} (hT : mt_ok T) : mt_cov T (-1) = mt_mcv T := by
  unfold mt_cov mt_mcv
  simp only [mt_L_found hT]
-- ===== spare =====
theorem mt_all_iff {P : Nat → Bool} : ∀ {n : Nat}, mt_all P n = true ↔ ∀ j, j < n → P j = true := by
  intro n
  induction n with
  | zero => exact ⟨fun _ j h => absurd h (by omega), fun _ => rfl⟩
  | succ n ih =>
    show (mt_all P n && P n) = true ↔ _
    rw [Bool.and_eq_true, ih]
    constructor
    · intro h j hj
      by_cases e : j = n
      · rw [e]; exact h.2
      · exact h.1 j (by omega)
    · exact fun h => ⟨fun j hj => h j (by omega), h n (by omega)⟩
theorem mt_bt2 (i : Nat) : bt 2 i = decide (i = 1) := by
  rcases Nat.lt_or_ge i 32 with h | h
  · exact (by decide +kernel : ∀ i, i < 32 → bt 2 i = decide (i = 1)) i h
  · rw [b_big h, decide_eq_false (by omega)]
theorem mt_fs_b (P P' : Nat → Bool) {i : Nat} (hi : i < 32) : ∀ n, n ≤ 14 → bt (mt_fs P P' n) i = (decide (i < 2 * n) && (if i % 2 = 0 then P (i / 2) else P' (i / 2))) := by
  intro n
  induction n with
  | zero =>
    intro _
    show bt 0 i = _
    rw [b_0]
    simp
  | succ n ih =>
    intro hn
    show bt ((mt_fs P P' n ||| (if P n = true then (1 : Int32) <<< (((2 : Int32) * nI n) &&& 31) else 0)) ||| (if P' n = true then (2 : Int32) <<< (((2 : Int32) * nI n) &&& 31) else 0)) i = _
    rw [b_or, b_or, ih (by omega), show (2 : Int32) * nI n = nI (2 * n) from pk_mul 2 n]
    have e1 : bt (if P n = true then (1 : Int32) <<< (nI (2 * n) &&& 31) else 0) i = (P n && decide (i = 2 * n)) := by
      by_cases h : P n = true
      · rw [if_pos h, b_shl (2 * n) (by omega) 1 hi, mt_bt1, h]
        by_cases q : i = 2 * n
        · simp [q]
        · have : ¬ (2 * n ≤ i ∧ i - 2 * n = 0) := by omega
          simp only [Bool.true_and, decide_eq_false q]
          rw [← Bool.decide_and, decide_eq_false this]
      · rw [if_neg h, b_0, Bool.not_eq_true _ |>.mp h]
        rfl
    have e2 : bt (if P' n = true then (2 : Int32) <<< (nI (2 * n) &&& 31) else 0) i = (P' n && decide (i = 2 * n + 1)) := by
      by_cases h : P' n = true
      · rw [if_pos h, b_shl (2 * n) (by omega) 2 hi, mt_bt2, h]
        by_cases q : i = 2 * n + 1
        · have : 2 * n ≤ i ∧ i - 2 * n = 1 := by omega
          rw [← Bool.decide_and, decide_eq_true this, decide_eq_true q]
          rfl
        · have : ¬ (2 * n ≤ i ∧ i - 2 * n = 1) := by omega
          simp only [Bool.true_and, decide_eq_false q]
          rw [← Bool.decide_and, decide_eq_false this]
      · rw [if_neg h, b_0, Bool.not_eq_true _ |>.mp h]
        rfl
    rw [e1, e2]
    by_cases c1 : i < 2 * n
    · rw [decide_eq_true c1, decide_eq_true (show i < 2 * (n + 1) by omega), decide_eq_false (show ¬ i = 2 * n by omega), decide_eq_false (show ¬ i = 2 * n + 1 by omega)]
      simp
    · by_cases c2 : i = 2 * n
      · subst c2
        simp [show 2 * n % 2 = 0 by omega, show 2 * n / 2 = n by omega]
      · by_cases c3 : i = 2 * n + 1
        · subst c3
          rw [decide_eq_false c1, decide_eq_true (show 2 * n + 1 < 2 * (n + 1) by omega)]
          simp [show (2 * n + 1) % 2 = 1 by omega, show (2 * n + 1) / 2 = n by omega]
        · rw [decide_eq_false c1, decide_eq_false c2, decide_eq_false c3, decide_eq_false (show ¬ i < 2 * (n + 1) by omega)]
          simp
theorem mt_sub_iff (P P' Q Q' : Nat → Bool) : (mt_fs P P' 14 &&& (mt_fs Q Q' 14 ^^^ (-1))) = 0 ↔ ∀ j, j < 14 → (P j = true → Q j = true) ∧ (P' j = true → Q' j = true) := by
  have hb : ∀ i, i < 32 → bt (mt_fs P P' 14 &&& (mt_fs Q Q' 14 ^^^ (-1))) i = ((decide (i < 28) && (if i % 2 = 0 then P (i / 2) else P' (i / 2))) && !(decide (i < 28) && (if i % 2 = 0 then Q (i / 2) else Q' (i / 2)))) := by
    intro i hi
    rw [b_and, b_xor, b_m1 i hi, mt_fs_b P P' hi 14 (by decide), mt_fs_b Q Q' hi 14 (by decide), Bool.xor_true]
  constructor
  · intro h j hj
    have h0 := hb (2 * j) (by omega)
    have h1 := hb (2 * j + 1) (by omega)
    rw [h, b_0] at h0 h1
    simp only [show 2 * j % 2 = 0 by omega, show 2 * j / 2 = j by omega, show (2 * j + 1) % 2 = 1 by omega, show (2 * j + 1) / 2 = j by omega, decide_eq_true (show 2 * j < 28 by omega), decide_eq_true (show 2 * j + 1 < 28 by omega), Bool.true_and, if_true] at h0 h1
    rw [if_neg (by decide), if_neg (by decide)] at h1
    constructor
    · intro p
      rw [p] at h0
      cases hq : Q j with
      | true => rfl
      | false => rw [hq] at h0; exact absurd h0 (by decide)
    · intro p
      rw [p] at h1
      cases hq : Q' j with
      | true => rfl
      | false => rw [hq] at h1; exact absurd h1 (by decide)
  · intro h
    refine b_ext fun i hi => ?_
    rw [hb i hi, b_0]
    by_cases c : i < 28
    · obtain ⟨a, b⟩ := h (i / 2) (by omega)
      rw [decide_eq_true c]
      by_cases m : i % 2 = 0
      · simp only [m, if_true, Bool.true_and]
        cases p : P (i / 2) with
        | false => rfl
        | true => rw [a p]; rfl
      · simp only [m, if_false, Bool.true_and]
        cases p : P' (i / 2) with
        | false => rfl
        | true => rw [b p]; rfl
    · rw [decide_eq_false c]
      rfl
theorem mt_mwo_iff {T : mt_T} (hT : mt_ok T) (m : Int32) {K : Nat} (hK : K < 14) : mt_mwo T m (nI K) = true ↔ (mt_isF T (-1) (nI K) true = true → mt_isF T m (nI K) true = true) ∧ (mt_isF T (-1) (nI K) false = true → mt_isF T m (nI K) false = true) := by
  have hone : ∀ c, c < 25 → ((!(mt_mfi T (nI K) (nI (c / 5)) (nI (c % 5)) && decide (mt_ctA T (nI K) (nI (c / 5)) (nI (c % 5)) m < 32))) = true ↔ (mt_flt (nI K) (nI (c / 5)) (nI (c % 5)) = true → mt_isF T (-1) (nI K) (decide (c / 5 < c % 5)) = true → mt_isF T m (nI K) (decide (c / 5 < c % 5)) = true)) := by
    intro c hc
    rw [← mt_L_finds hT, mt_lt_N (by omega) (by omega)]
    cases hf : mt_flt (nI K) (nI (c / 5)) (nI (c % 5)) with
    | false => simp
    | true =>
      have e := mt_C hT hf m
      rw [mt_lt_N (by omega) (by omega)] at e
      have q : decide (mt_ctA T (nI K) (nI (c / 5)) (nI (c % 5)) m < 32) = !(mt_isF T m (nI K) (decide (c / 5 < c % 5))) := by
        unfold mt_isF
        by_cases z : mt_sil T m (nI K) (decide (c / 5 < c % 5)) = 0
        · rw [decide_eq_true z, decide_eq_false (by omega)]; rfl
        · rw [decide_eq_false z, decide_eq_true (by omega)]; rfl
      rw [q]
      cases mt_isF T (-1) (nI K) (decide (c / 5 < c % 5)) <;> cases mt_isF T m (nI K) (decide (c / 5 < c % 5)) <;> simp
  unfold mt_mwo
  rw [mt_all_iff]
  constructor
  · intro h
    exact ⟨(hone 1 (by decide)).mp (h 1 (by decide)) ((by decide +kernel : ∀ K, K < 14 → mt_flt (nI K) (nI 0) (nI 1) = true) K hK), (hone 5 (by decide)).mp (h 5 (by decide)) ((by decide +kernel : ∀ K, K < 14 → mt_flt (nI K) (nI 1) (nI 0) = true) K hK)⟩
  · intro h c hc
    refine (hone c hc).mpr (fun _ => ?_)
    by_cases q : c / 5 < c % 5
    · rw [decide_eq_true q]; exact h.1
    · rw [decide_eq_false q]; exact h.2
theorem mt_L_spr {T : mt_T} (hT : mt_ok T) : mt_spr T (-1) = mt_msp T := by
  unfold mt_spr mt_msp
  refine congrArg (fun P => mt_set P T.1) ?_
  funext j
  unfold mt_fst
  rw [Bool.eq_iff_iff, decide_eq_true_iff, mt_sub_iff, mt_all_iff]
  constructor
  · intro h K hK
    exact (mt_mwo_iff hT (nI j) hK).mpr (h K hK)
  · intro h K hK
    exact (mt_mwo_iff hT (nI j) hK).mp (h K hK)
-- ===== the test stays well formed =====
theorem mt_u_le {f : Nat → Nat} {b k v : Nat} (h : ∀ j, f j ≤ b) (hv : v ≤ b) : ∀ j, mt_u f k v j ≤ b := by
  intro j
  unfold mt_u
  split
  · exact hv
  · exact h j
theorem mt_ok_0 : mt_ok mt_T0 := ⟨Nat.zero_le 6, fun _ => Nat.zero_le 1, fun _ => Nat.zero_le 4, fun _ => Nat.zero_le 3⟩
theorem mt_ok_ma {T : mt_T} (hT : mt_ok T) (x : Int32) : mt_ok (mt_maT T x) := by
  unfold mt_maT
  split
  · exact hT
  · rename_i h
    split
    · exact hT
    · have hx : x.toNatClampNeg ≤ 1 := by
        by_cases h0 : x = 0
        · rw [h0]; decide
        · by_cases h1 : x = 1
          · rw [h1]; decide
          · exact absurd ⟨h0, h1⟩ h
      exact ⟨by show T.1 + 1 ≤ 6; omega, mt_u_le hT.2.1 hx, mt_u_le hT.2.2.1 (Nat.zero_le 4), hT.2.2.2⟩
theorem mt_ok_op {T : mt_T} (hT : mt_ok T) (x : Int32) : mt_ok (mt_opT T x) := by
  unfold mt_opT
  split
  · exact hT
  · rename_i h
    split
    · exact hT
    · have hx := (mt_x3 (fun q => h (Or.inl q)) (fun q => h (Or.inr (Or.inl q)))).2
      exact ⟨hT.1, hT.2.1, mt_u_le hT.2.2.1 (by omega), mt_u_le hT.2.2.2 hx⟩
theorem mt_ok_dr {T : mt_T} (hT : mt_ok T) : mt_ok (mt_drT T) := by
  unfold mt_drT
  have h1 := hT.1
  split
  · exact hT
  · split
    · exact ⟨hT.1, hT.2.1, mt_u_le hT.2.2.1 (by have := hT.2.2.1 (T.1 - 1); omega), hT.2.2.2⟩
    · exact ⟨by show T.1 - 1 ≤ 6; omega, hT.2.1, hT.2.2.1, hT.2.2.2⟩
theorem mt_ok_tu {T : mt_T} (hT : mt_ok T) (x : Int32) : mt_ok (mt_tuT T x) := by
  unfold mt_tuT
  split
  · exact ⟨hT.1, mt_u_le hT.2.1 (by omega), hT.2.2.1, hT.2.2.2⟩
  · exact hT
end
section
/-! THE CLAIM OUT OF ONE WALK OF THE LAW'S BODY. Your part is whole_start (and what it stands on); all else here is the same for every law, but numbers. -/
def R_law : String := "MarchTesterLaw"
def lw_P (b : Addr) (xs : List Int32) (args : Array Value) (s : State) : Prop := args = #[.ref b] ∧ s.IntsAt b xs ∧ xs.length ≤ 256 ∧ (Jvm.Cond.and given_1 narrow_1).before args s = true
def lw_Q (_ : Array Value) (s : State) (o : Outcome) (t : State) : Prop := o = .returned (some (.int 1)) ∧ Framed s o t [] 600000 7290000
def lw_Z (below : List Frame) (a : Array Value) (s : State) : State → Prop := fun t => ∃ o, t.status = .running ∧ Ended t below o ∧ lw_Q a s o t
/-- the law's own end, with 1 on the stack, nothing written that was there before, its room as the claim has it -/
theorem lw_ret {p : Program} {l : Launch} {e : Env} {s : State} {m : MethodId} {below : List Frame} {meth : Method} {c : Code} {b : Nat} (hx : p.tables.exec = Jvm.exec) (hb : c.code = code) (hr : meth.sig.returnType = ret) (hlocks : meth.locks = false) {pc : Nat} {H : Heap} {ls : Array Slot} (hdg : decode code pc = .ok (.ireturn, 1)) : W p l e room_1 s m #[Value.ref b] below meth c H [] 600000 7290000 (lw_Z below #[Value.ref b] s) (F0 m pc ls [.int 1]) := by
  intro T hT X
  obtain ⟨fs, hret, hrun, hended, hW, hframe⟩ := X.leave (v := some (.int 1)) (hlocks := hlocks) (fun h => by rw [hr] at h; cases h)
  have hmeth' : T.vm.method? m = some meth := X.method'
  refine ⟨T.setFrames fs, ?_, .returned (some (.int 1)), hrun, hended, rfl, ⟨_, rfl⟩, hW, hframe⟩
  jvm_step X.here [X.here.top, hx, hb, hdg, hmeth', hr, ret, narrow_b1]
  (try refine ⟨rfl, ?_⟩); (try refine ⟨rfl, ?_⟩)
  first | (intro acts; rw [hret _ acts rfl rfl rfl]) | rw [hret _ _ rfl rfl rfl]
  exact Steps.refl _
/-- what holds at the law's entry: the machine, the code, the tables' words (any of lw_tbl by 'hts w (by decide +kernel)'), the script of L ints xs at the cell b, what the Statement gives of the start (any of its parts by flat_of_before) -/
def lw_At (p : Program) (s : State) (m : MethodId) (meth : Method) (c : Code) (b L : Nat) (xs : Nat → Int32) : Prop :=
  p.tables.exec = Jvm.exec ∧ c.code = code ∧ meth.sig.returnType = ret ∧ c.maxLocals = 4 ∧ s.vm.findClass R_law = some m.cls ∧ (∀ w ∈ lw_tbl, w.before #[Value.ref b] s = true) ∧ va_X b L xs s s.heap ∧ b < s.heap.size ∧ meth.locks = false ∧ (Jvm.Cond.and given_1 narrow_1).before #[Value.ref b] s = true
theorem lk2_13 : GoodIn lw_all (wsV R_law 13 RX0 yX0_march (ws_ yX0_march cX0_march 2 (some .int))) := lw_V q58 q59 q60 q19 q61
theorem lk2_17 : GoodIn lw_all (wsV R_law 17 RX1 yX1_march (ws_ yX1_march cX1_march 2 (some .int))) := lw_V q181 q182 q183 q20 q184
theorem lk2_18 : GoodIn lw_all (wsV R_law 18 RX0 yX0_op (ws_ yX0_op cX0_op 3 (some .int))) := lw_V q62 q63 q64 q19 q65
theorem lk2_21 : GoodIn lw_all (wsV R_law 21 RX1 yX1_op (ws_ yX1_op cX1_op 3 (some .int))) := lw_V q185 q186 q187 q20 q188
theorem lk2_22 : GoodIn lw_all (wsV R_law 22 RX0 yX0_drop (ws_ yX0_drop cX0_drop 1 (some .int))) := lw_V q66 q67 q68 q19 q69
theorem lk2_26 : GoodIn lw_all (wsV R_law 26 RX1 yX1_drop (ws_ yX1_drop cX1_drop 1 (some .int))) := lw_V q189 q190 q191 q20 q192
theorem lk2_27 : GoodIn lw_all (wsV R_law 27 RX0 yX0_turn (ws_ yX0_turn cX0_turn 2 (some .boolean))) := lw_V q70 q71 q72 q19 q73
theorem lk2_31 : GoodIn lw_all (wsV R_law 31 RX1 yX1_turn (ws_ yX1_turn cX1_turn 2 (some .boolean))) := lw_V q193 q194 q195 q20 q196
theorem lk2_32 : GoodIn lw_all (wsV R_law 32 RX0 yX0_marches (ws_ yX0_marches cX0_marches 1 (some .int))) := lw_V q74 q75 q76 q19 q77
theorem lk2_35 : GoodIn lw_all (wsV R_law 35 RX1 yX1_marches (ws_ yX1_marches cX1_marches 1 (some .int))) := lw_V q197 q198 q199 q20 q200
theorem lk2_36 : GoodIn lw_all (wsV R_law 36 RX0 yX0_sound (ws_ yX0_sound cX0_sound 1 (some .boolean))) := lw_V q78 q79 q80 q19 q81
theorem lk2_40 : GoodIn lw_all (wsV R_law 40 RX1 yX1_sound (ws_ yX1_sound cX1_sound 1 (some .boolean))) := lw_V q201 q202 q203 q20 q204
theorem lk2_41 : GoodIn lw_all (wsV R_law 41 RX0 yX0_steps (ws_ yX0_steps cX0_steps 3 (some .int))) := lw_V q106 q107 q108 q19 q109
theorem lk2_44 : GoodIn lw_all (wsV R_law 44 RX1 yX1_steps (ws_ yX1_steps cX1_steps 3 (some .int))) := lw_V q233 q234 q235 q20 q236
theorem lk2_45 : GoodIn lw_all (wsV R_law 45 RX0 yX0_finds (ws_ yX0_finds cX0_finds 4 (some .boolean))) := lw_V q110 q111 q112 q19 q113
theorem lk2_49 : GoodIn lw_all (wsV R_law 49 RX1 yX1_finds (ws_ yX1_finds cX1_finds 4 (some .boolean))) := lw_V q237 q238 q239 q20 q240
theorem lk2_50 : GoodIn lw_all (wsV R_law 50 RX0 yX0_found (ws_ yX0_found cX0_found 3 (some .int))) := lw_V q125 q126 q127 q19 q128
theorem lk2_53 : GoodIn lw_all (wsV R_law 53 RX1 yX1_found (ws_ yX1_found cX1_found 5 (some .int))) := lw_V q245 q246 q247 q20 q248
theorem lk2_54 : GoodIn lw_all (wsV R_law 54 RX0 yX0_covered (ws_ yX0_covered cX0_covered 4 (some .int))) := lw_V q132 q133 q134 q19 q135
theorem lk2_57 : GoodIn lw_all (wsV R_law 57 RX1 yX1_covered (ws_ yX1_covered cX1_covered 3 (some .int))) := lw_V q250 q251 q252 q20 q253
theorem lk2_58 : GoodIn lw_all (wsV R_law 58 RX0 yX0_foundFrom (ws_ yX0_foundFrom cX0_foundFrom 4 (some .int))) := lw_V q137 q138 q139 q19 q140
theorem lk2_62 : GoodIn lw_all (wsV R_law 62 RX1 yX1_foundFrom (ws_ yX1_foundFrom cX1_foundFrom 4 (some .int))) := lw_V q255 q256 q257 q20 q258
theorem lk2_63 : GoodIn lw_all (wsV R_law 63 RX0 yX0_spare (ws_ yX0_spare cX0_spare 5 (some .int))) := lw_V q141 q142 q143 q19 q144
theorem lk2_66 : GoodIn lw_all (wsV R_law 66 RX1 yX1_spare (ws_ yX1_spare cX1_spare 5 (some .int))) := lw_V q259 q260 q261 q20 q262
theorem mt_swap {G : mt_G} {A : Nat → Prop} {s : State} {q q1 : Nat → Nat} {T T1 : mt_T} {wo kd bt ot me so ce ot1 : Int32} {fl : Bool} {H : Heap} {locs : List Loc} (hw : mt_Hw G A s (mt_w0 G q T wo kd bt ot fl (mt_w1 G q1 T1 me so ce ot1 [])) H locs) : mt_Hw G A s (mt_w1 G q1 T1 me so ce ot1 (mt_w0 G q T wo kd bt ot fl [])) H locs :=
  ⟨hw.1.sub [4, 5, 6, 7, 0, 1, 2, 3] rfl, hw.2.1.sub [4, 5, 6, 7, 0, 1, 2, 3] (by decide) rfl, hw.2.2⟩
theorem mt_back {G : mt_G} {A : Nat → Prop} {s : State} {q q1 : Nat → Nat} {T T1 : mt_T} {wo kd bt ot me so ce ot1 : Int32} {fl : Bool} {H : Heap} {locs : List Loc} (hw : mt_Hw G A s (mt_w1 G q1 T1 me so ce ot1 (mt_w0 G q T wo kd bt ot fl [])) H locs) : mt_Hw G A s (mt_w0 G q T wo kd bt ot fl (mt_w1 G q1 T1 me so ce ot1 [])) H locs :=
  ⟨hw.1.sub [4, 5, 6, 7, 0, 1, 2, 3] rfl, hw.2.1.sub [4, 5, 6, 7, 0, 1, 2, 3] (by decide) rfl, hw.2.2⟩
theorem mt_sld {p : Program} {l : Launch} {e : Env} {R : Room} {s : State} {m : MethodId} {args : Array Value} {below : List Frame} {meth : Method} {c : Code} {H : Heap} {locs : List Loc} {cells slots : Nat} {Q : State → Prop} {cc : ByteArray} {pc : Nat} {ls : Array Slot} {rest : List Value} {A : Nat → Prop} {b L : Nat} {xs : Nat → Int32} (hx : p.tables.exec = Jvm.exec) (hb : c.code = cc) (hX : va_X b L xs s s.heap) (hbl : b < s.heap.size) (hbA : ¬ A b) (hS : va_S A s.heap H locs) {k : Nat} (hk : k < L) (hL : L ≤ 256) (hd : decode cc pc = .ok (.iaload, 1)) (kk : W p l e R s m args below meth c H locs cells slots Q (F0 m (pc + 1) ls (.int (xs k) :: rest))) : W p l e R s m args below meth c H locs cells slots Q (F0 m pc ls (.int (nI k) :: .ref b :: rest)) := by
  refine va_sld hx hb hX hbl hbA hS (vp_in_nI hk (by omega)) hd ?_
  rw [nI_clamp (by omega)]
  exact kk
theorem mt_lc {L i : Nat} (hL : L ≤ 256) (hi : i ≤ L) (h : ¬ nI L - nI 4 < nI i) : i + 4 ≤ L := by
  rw [Int32.lt_iff_toInt_lt, pk_sub_toInt (by omega) (by decide), nI_toInt (by omega)] at h
  omega
theorem mt_inc4 (i : Nat) : nI i + Int32.ofInt 4 = nI (i + 4) := nI_add i 4

set_option maxHeartbeats 4000000 in
set_option maxRecDepth 100000 in
/-- THE LAW'S LOOP: both objects hold the same test -/
theorem law_loop {p : Program} {l : Launch} {e : Env} {s : State} {m : MethodId} {below : List Frame} {meth : Method} {c : Code} {G : mt_G} {q q1 : Nat → Nat} {b L : Nat} {xs : Nat → Int32} (hL : L ≤ 256) (C0 : lw_At p s m meth c b L xs) (K : mt_Cx G p s m #[Value.ref b] c code 4 R_law) :
    ∀ (n i : Nat) (T : mt_T) (kd bt ot : Int32) (fl : Bool) (me so ce ot1 : Int32), i ≤ L → L + 1 ≤ i + n → mt_ok T → ∀ (H : Heap) (locs : List Loc), mt_Hw G (fun q : Nat => s.heap.size ≤ q) s (mt_w0 G q T (-1) kd bt ot fl (mt_w1 G q1 T me so ce ot1 [])) H locs → ∀ (ls : Array Slot), lv_has ls 4 [(0, .ref b), (1, .ref (q 0)), (2, .ref (q1 0)), (3, .int (nI i))] → W p l e room_1 s m #[Value.ref b] below meth c H locs 8 89 (lw_Z below #[Value.ref b] s) (F0 m 18 ls []) := by
  obtain ⟨hx, hb, hr, hml, hown, hts, hX, hbl, hlocks, hgv⟩ := C0
  have hbA : ¬ (fun q : Nat => s.heap.size ≤ q) b := Nat.not_le.mpr hbl
  intro n
  induction n with
  | zero =>
    intro i T kd bt ot fl me so ce ot1 h1 h2
    exact absurd h2 (by omega)
  | succ n ih =>
    intro i T kd bt ot fl me so ce ot1 hi hin hT H locs hw ls hl
    refine lv_iload_n hx hb dL_law_18 rfl (lv_at hl 3 rfl) ?_
    refine lv_aload_n hx hb dL_law_19 rfl (lv_at hl 0 rfl) ?_
    refine va_slen hx hb hX hbl hbA hw.2.2.1 dL_law_20 ?_
    refine mt_top (y := nI L) rfl ?_
    refine lv_iconst (v := nI 4) hx hb dL_law_21 (by decide) ?_
    refine lv_isub hx hb dL_law_22 ?_
    refine lv_icmp_gt (tgt := 358) hx hb dL_law_23 (by decide) (fun c23 => ?_) (fun c23 => ?_)
    · refine lv_iconst (v := 1) hx hb dL_law_358 (by decide) ?_
      refine va_forget (fun q hq => hw.2.2.1.2.2 q hq) ?_
      refine W.widen (k := 600000) (n := 7290000) (by decide) (by decide) ?_
      exact lw_ret hx hb hr hlocks dL_law_359
    · have hi4 := mt_lc hL hi c23
      have J352 : ∀ (T : mt_T) (kd bt ot : Int32) (fl : Bool) (me so ce ot1 : Int32), mt_ok T → ∀ (H : Heap) (locs : List Loc), mt_Hw G (fun q : Nat => s.heap.size ≤ q) s (mt_w0 G q T (-1) kd bt ot fl (mt_w1 G q1 T me so ce ot1 [])) H locs → ∀ (ls : Array Slot), lv_has ls 4 [(0, .ref b), (1, .ref (q 0)), (2, .ref (q1 0)), (3, .int (nI i))] → W p l e room_1 s m #[Value.ref b] below meth c H locs 8 89 (lw_Z below #[Value.ref b] s) (F0 m 352 ls []) := by
        intro T kd bt ot fl me so ce ot1 hT H locs hw ls hl
        refine lv_iinc (v := nI (i + 4)) (lv' := [(3, .int (nI (i + 4))), (0, .ref b), (1, .ref (q 0)), (2, .ref (q1 0))]) hx hb dL_law_352 hl (k := 3) rfl (mt_inc4 i) (by decide) rfl (fun ls hl => ?_)
        refine lv_goto (tgt := 18) hx hb dL_law_355 (by decide) ?_
        exact ih (i + 4) T kd bt ot fl me so ce ot1 hi4 (by omega) hT _ _ hw ls (lv_sub hl [1, 2, 3, 0] rfl)
      refine lv_aload_n hx hb dL_law_26 rfl (lv_at hl 0 rfl) ?_
      refine lv_iload_n hx hb dL_law_27 rfl (lv_at hl 3 rfl) ?_
      refine mt_sld hx hb hX hbl hbA hw.2.2.1 (show i < L by omega) hL dL_law_28 ?_
      refine lv_bipush (v := 15) hx hb dL_law_29 (by decide) ?_
      refine lv_iand hx hb dL_law_31 ?_
      obtain ⟨j, hj, ej⟩ := pk_andE (xs i) (m := 15) 4 (by decide)
      refine mt_top ej ?_
      have hjc : j = 0 ∨ j = 1 ∨ j = 2 ∨ j = 3 ∨ j = 4 ∨ j = 5 ∨ j = 6 ∨ j = 7 ∨ j = 8 ∨ j = 9 ∨ j = 10 ∨ j = 11 ∨ 12 ≤ j := by omega
      rcases hjc with rfl | rfl | rfl | rfl | rfl | rfl | rfl | rfl | rfl | rfl | rfl | rfl | hj12
      · refine lv_tableIn (off := 64) (tgt := 96) hx hb dL_law_32 (by decide) (by decide) (by decide) (by decide) ?_
        refine lv_aload_n hx hb dL_law_96 rfl (lv_at hl 1 rfl) ?_
        refine lv_aload_n hx hb dL_law_97 rfl (lv_at hl 0 rfl) ?_
        refine lv_iload_n hx hb dL_law_98 rfl (lv_at hl 3 rfl) ?_
        refine lv_iconst (v := nI 1) hx hb dL_law_99 (by decide) ?_
        refine lv_iadd hx hb dL_law_100 ?_
        refine mt_top (nI_add i 1) ?_
        refine mt_sld hx hb hX hbl hbA hw.2.2.1 (show i + 1 < L by omega) hL dL_law_101 ?_
        refine mt_calli (n := 1) (As := [.int (xs (i + 1))]) (rest := []) K hw hl.1 (m0_march l G q (mt_w1 G q1 T me so ce ot1 []) T (-1) kd bt ot fl (xs (i + 1)) hT) lk2_13 (by decide +kernel) rfl rfl ⟨Nat.le_of_ble_eq_true rfl, Nat.le_of_ble_eq_true rfl⟩ ⟨Nat.le_of_ble_eq_true rfl, Nat.le_of_ble_eq_true rfl⟩ rfl rfl (Nat.le_of_ble_eq_true rfl) dL_law_102 (fun v0 u0 H locs p0 hw => ?_)
        obtain ⟨rfl, rfl⟩ := p0
        have hw := mt_swap hw
        refine lv_aload_n hx hb dL_law_105 rfl (lv_at hl 2 rfl) ?_
        refine lv_aload_n hx hb dL_law_106 rfl (lv_at hl 0 rfl) ?_
        refine lv_iload_n hx hb dL_law_107 rfl (lv_at hl 3 rfl) ?_
        refine lv_iconst (v := nI 1) hx hb dL_law_108 (by decide) ?_
        refine lv_iadd hx hb dL_law_109 ?_
        refine mt_top (nI_add i 1) ?_
        refine mt_sld hx hb hX hbl hbA hw.2.2.1 (show i + 1 < L by omega) hL dL_law_110 ?_
        refine mt_calli (n := 1) (As := [.int (xs (i + 1))]) (rest := [.int _]) K hw hl.1 (m1_march l G q1 (mt_w0 G q (mt_maT T (xs (i + 1))) (-1) kd bt ot fl []) T me so ce ot1 (xs (i + 1)) hT) lk2_17 (by decide +kernel) rfl rfl ⟨Nat.le_of_ble_eq_true rfl, Nat.le_of_ble_eq_true rfl⟩ ⟨Nat.le_of_ble_eq_true rfl, Nat.le_of_ble_eq_true rfl⟩ rfl rfl (Nat.le_of_ble_eq_true rfl) dL_law_111 (fun v1 u1 H locs p1 hw => ?_)
        obtain ⟨rfl, rfl⟩ := p1
        have hw := mt_back hw
        refine lv_icmp_eq (tgt := 352) hx hb dL_law_114 (by decide) (fun c9 => ?_) (fun c9 => ?_)
        · exact J352 _ _ _ _ _ _ _ _ _ (mt_ok_ma hT _) _ _ hw ls hl
        · exact absurd rfl c9
      · refine lv_tableIn (off := 87) (tgt := 119) hx hb dL_law_32 (by decide) (by decide) (by decide) (by decide) ?_
        refine lv_aload_n hx hb dL_law_119 rfl (lv_at hl 1 rfl) ?_
        refine lv_aload_n hx hb dL_law_120 rfl (lv_at hl 0 rfl) ?_
        refine lv_iload_n hx hb dL_law_121 rfl (lv_at hl 3 rfl) ?_
        refine lv_iconst (v := nI 1) hx hb dL_law_122 (by decide) ?_
        refine lv_iadd hx hb dL_law_123 ?_
        refine mt_top (nI_add i 1) ?_
        refine mt_sld hx hb hX hbl hbA hw.2.2.1 (show i + 1 < L by omega) hL dL_law_124 ?_
        refine mt_calli (n := 1) (As := [.int (xs (i + 1))]) (rest := []) K hw hl.1 (m0_op l G q (mt_w1 G q1 T me so ce ot1 []) T (-1) kd bt ot fl (xs (i + 1)) hT) lk2_18 (by decide +kernel) rfl rfl ⟨Nat.le_of_ble_eq_true rfl, Nat.le_of_ble_eq_true rfl⟩ ⟨Nat.le_of_ble_eq_true rfl, Nat.le_of_ble_eq_true rfl⟩ rfl rfl (Nat.le_of_ble_eq_true rfl) dL_law_125 (fun v0 u0 H locs p0 hw => ?_)
        obtain ⟨rfl, rfl⟩ := p0
        have hw := mt_swap hw
        refine lv_aload_n hx hb dL_law_128 rfl (lv_at hl 2 rfl) ?_
        refine lv_aload_n hx hb dL_law_129 rfl (lv_at hl 0 rfl) ?_
        refine lv_iload_n hx hb dL_law_130 rfl (lv_at hl 3 rfl) ?_
        refine lv_iconst (v := nI 1) hx hb dL_law_131 (by decide) ?_
        refine lv_iadd hx hb dL_law_132 ?_
        refine mt_top (nI_add i 1) ?_
        refine mt_sld hx hb hX hbl hbA hw.2.2.1 (show i + 1 < L by omega) hL dL_law_133 ?_
        refine mt_calli (n := 1) (As := [.int (xs (i + 1))]) (rest := [.int _]) K hw hl.1 (m1_op l G q1 (mt_w0 G q (mt_opT T (xs (i + 1))) (-1) kd bt ot fl []) T me so ce ot1 (xs (i + 1)) hT) lk2_21 (by decide +kernel) rfl rfl ⟨Nat.le_of_ble_eq_true rfl, Nat.le_of_ble_eq_true rfl⟩ ⟨Nat.le_of_ble_eq_true rfl, Nat.le_of_ble_eq_true rfl⟩ rfl rfl (Nat.le_of_ble_eq_true rfl) dL_law_134 (fun v1 u1 H locs p1 hw => ?_)
        obtain ⟨rfl, rfl⟩ := p1
        have hw := mt_back hw
        refine lv_icmp_eq (tgt := 352) hx hb dL_law_137 (by decide) (fun c9 => ?_) (fun c9 => ?_)
        · exact J352 _ _ _ _ _ _ _ _ _ (mt_ok_op hT _) _ _ hw ls hl
        · exact absurd rfl c9
      · refine lv_tableIn (off := 110) (tgt := 142) hx hb dL_law_32 (by decide) (by decide) (by decide) (by decide) ?_
        refine lv_aload_n hx hb dL_law_142 rfl (lv_at hl 1 rfl) ?_
        refine mt_calli (n := 0) (As := []) (rest := []) K hw hl.1 (m0_drop l G q (mt_w1 G q1 T me so ce ot1 []) T (-1) kd bt ot fl  hT) lk2_22 (by decide +kernel) rfl rfl ⟨Nat.le_of_ble_eq_true rfl, Nat.le_of_ble_eq_true rfl⟩ ⟨Nat.le_of_ble_eq_true rfl, Nat.le_of_ble_eq_true rfl⟩ rfl rfl (Nat.le_of_ble_eq_true rfl) dL_law_143 (fun v0 u0 H locs p0 hw => ?_)
        obtain ⟨rfl, rfl⟩ := p0
        have hw := mt_swap hw
        refine lv_aload_n hx hb dL_law_146 rfl (lv_at hl 2 rfl) ?_
        refine mt_calli (n := 0) (As := []) (rest := [.int _]) K hw hl.1 (m1_drop l G q1 (mt_w0 G q (mt_drT T) (-1) kd bt ot fl []) T me so ce ot1  hT) lk2_26 (by decide +kernel) rfl rfl ⟨Nat.le_of_ble_eq_true rfl, Nat.le_of_ble_eq_true rfl⟩ ⟨Nat.le_of_ble_eq_true rfl, Nat.le_of_ble_eq_true rfl⟩ rfl rfl (Nat.le_of_ble_eq_true rfl) dL_law_147 (fun v1 u1 H locs p1 hw => ?_)
        obtain ⟨rfl, rfl⟩ := p1
        have hw := mt_back hw
        refine lv_icmp_eq (tgt := 352) hx hb dL_law_150 (by decide) (fun c9 => ?_) (fun c9 => ?_)
        · exact J352 _ _ _ _ _ _ _ _ _ (mt_ok_dr hT) _ _ hw ls hl
        · exact absurd rfl c9
      · refine lv_tableIn (off := 123) (tgt := 155) hx hb dL_law_32 (by decide) (by decide) (by decide) (by decide) ?_
        refine lv_aload_n hx hb dL_law_155 rfl (lv_at hl 1 rfl) ?_
        refine lv_aload_n hx hb dL_law_156 rfl (lv_at hl 0 rfl) ?_
        refine lv_iload_n hx hb dL_law_157 rfl (lv_at hl 3 rfl) ?_
        refine lv_iconst (v := nI 1) hx hb dL_law_158 (by decide) ?_
        refine lv_iadd hx hb dL_law_159 ?_
        refine mt_top (nI_add i 1) ?_
        refine mt_sld hx hb hX hbl hbA hw.2.2.1 (show i + 1 < L by omega) hL dL_law_160 ?_
        refine mt_calli (n := 1) (As := [.int (xs (i + 1))]) (rest := []) K hw hl.1 (m0_turn l G q (mt_w1 G q1 T me so ce ot1 []) T (-1) kd bt ot fl (xs (i + 1)) hT) lk2_27 (by decide +kernel) rfl rfl ⟨Nat.le_of_ble_eq_true rfl, Nat.le_of_ble_eq_true rfl⟩ ⟨Nat.le_of_ble_eq_true rfl, Nat.le_of_ble_eq_true rfl⟩ rfl rfl (Nat.le_of_ble_eq_true rfl) dL_law_161 (fun v0 u0 H locs p0 hw => ?_)
        obtain ⟨rfl, rfl⟩ := p0
        have hw := mt_swap hw
        refine lv_aload_n hx hb dL_law_164 rfl (lv_at hl 2 rfl) ?_
        refine lv_aload_n hx hb dL_law_165 rfl (lv_at hl 0 rfl) ?_
        refine lv_iload_n hx hb dL_law_166 rfl (lv_at hl 3 rfl) ?_
        refine lv_iconst (v := nI 1) hx hb dL_law_167 (by decide) ?_
        refine lv_iadd hx hb dL_law_168 ?_
        refine mt_top (nI_add i 1) ?_
        refine mt_sld hx hb hX hbl hbA hw.2.2.1 (show i + 1 < L by omega) hL dL_law_169 ?_
        refine mt_calli (n := 1) (As := [.int (xs (i + 1))]) (rest := [.int _]) K hw hl.1 (m1_turn l G q1 (mt_w0 G q (mt_tuT T (xs (i + 1))) (-1) kd bt ot fl []) T me so ce ot1 (xs (i + 1)) hT) lk2_31 (by decide +kernel) rfl rfl ⟨Nat.le_of_ble_eq_true rfl, Nat.le_of_ble_eq_true rfl⟩ ⟨Nat.le_of_ble_eq_true rfl, Nat.le_of_ble_eq_true rfl⟩ rfl rfl (Nat.le_of_ble_eq_true rfl) dL_law_170 (fun v1 u1 H locs p1 hw => ?_)
        obtain ⟨rfl, rfl⟩ := p1
        have hw := mt_back hw
        refine lv_icmp_eq (tgt := 352) hx hb dL_law_173 (by decide) (fun c9 => ?_) (fun c9 => ?_)
        · exact J352 _ _ _ _ _ _ _ _ _ (mt_ok_tu hT _) _ _ hw ls hl
        · exact absurd rfl c9
      · refine lv_tableIn (off := 146) (tgt := 178) hx hb dL_law_32 (by decide) (by decide) (by decide) (by decide) ?_
        refine lv_aload_n hx hb dL_law_178 rfl (lv_at hl 1 rfl) ?_
        refine mt_calli (n := 0) (As := []) (rest := []) K hw hl.1 (m0_marches l G q (mt_w1 G q1 T me so ce ot1 []) T (-1) kd bt ot fl  ) lk2_32 (by decide +kernel) rfl rfl ⟨Nat.le_of_ble_eq_true rfl, Nat.le_of_ble_eq_true rfl⟩ ⟨Nat.le_of_ble_eq_true rfl, Nat.le_of_ble_eq_true rfl⟩ rfl rfl (Nat.le_of_ble_eq_true rfl) dL_law_179 (fun v0 u0 H locs p0 hw => ?_)
        obtain rfl := p0
        have hw := mt_swap hw
        refine lv_aload_n hx hb dL_law_182 rfl (lv_at hl 2 rfl) ?_
        refine mt_calli (n := 0) (As := []) (rest := [.int _]) K hw hl.1 (m1_marches l G q1 (mt_w0 G q T (-1) kd bt ot fl []) T me so ce ot1  ) lk2_35 (by decide +kernel) rfl rfl ⟨Nat.le_of_ble_eq_true rfl, Nat.le_of_ble_eq_true rfl⟩ ⟨Nat.le_of_ble_eq_true rfl, Nat.le_of_ble_eq_true rfl⟩ rfl rfl (Nat.le_of_ble_eq_true rfl) dL_law_183 (fun v1 u1 H locs p1 hw => ?_)
        obtain rfl := p1
        have hw := mt_back hw
        refine lv_icmp_eq (tgt := 352) hx hb dL_law_186 (by decide) (fun c9 => ?_) (fun c9 => ?_)
        · exact J352 _ _ _ _ _ _ _ _ _ hT _ _ hw ls hl
        · exact absurd rfl c9
      · refine lv_tableIn (off := 159) (tgt := 191) hx hb dL_law_32 (by decide) (by decide) (by decide) (by decide) ?_
        refine lv_aload_n hx hb dL_law_191 rfl (lv_at hl 1 rfl) ?_
        refine mt_calli (n := 0) (As := []) (rest := []) K hw hl.1 (m0_sound l G q (mt_w1 G q1 T me so ce ot1 []) T (-1) kd bt ot fl  hT) lk2_36 (by decide +kernel) rfl rfl ⟨Nat.le_of_ble_eq_true rfl, Nat.le_of_ble_eq_true rfl⟩ ⟨Nat.le_of_ble_eq_true rfl, Nat.le_of_ble_eq_true rfl⟩ rfl rfl (Nat.le_of_ble_eq_true rfl) dL_law_192 (fun v0 u0 H locs p0 hw => ?_)
        obtain rfl := p0
        have hw := mt_swap hw
        refine lv_aload_n hx hb dL_law_195 rfl (lv_at hl 2 rfl) ?_
        refine mt_calli (n := 0) (As := []) (rest := [.int _]) K hw hl.1 (m1_sound l G q1 (mt_w0 G q T (-1) u0.1 u0.2.1 u0.2.2.1 u0.2.2.2 []) T me so ce ot1  hT) lk2_40 (by decide +kernel) rfl rfl ⟨Nat.le_of_ble_eq_true rfl, Nat.le_of_ble_eq_true rfl⟩ ⟨Nat.le_of_ble_eq_true rfl, Nat.le_of_ble_eq_true rfl⟩ rfl rfl (Nat.le_of_ble_eq_true rfl) dL_law_196 (fun v1 u1 H locs p1 hw => ?_)
        obtain rfl := p1
        have hw := mt_back hw
        refine lv_icmp_eq (tgt := 352) hx hb dL_law_199 (by decide) (fun c9 => ?_) (fun c9 => ?_)
        · exact J352 _ _ _ _ _ _ _ _ _ hT _ _ hw ls hl
        · exact absurd (congrArg mt_b (mt_L_sound hT)) c9
      · refine lv_tableIn (off := 172) (tgt := 204) hx hb dL_law_32 (by decide) (by decide) (by decide) (by decide) ?_
        refine lv_aload_n hx hb dL_law_204 rfl (lv_at hl 1 rfl) ?_
        refine mt_calli (n := 0) (As := []) (rest := []) K hw hl.1 (m0_steps l G q (mt_w1 G q1 T me so ce ot1 []) T (-1) kd bt ot fl  hT) lk2_41 (by decide +kernel) rfl rfl ⟨Nat.le_of_ble_eq_true rfl, Nat.le_of_ble_eq_true rfl⟩ ⟨Nat.le_of_ble_eq_true rfl, Nat.le_of_ble_eq_true rfl⟩ rfl rfl (Nat.le_of_ble_eq_true rfl) dL_law_205 (fun v0 u0 H locs p0 hw => ?_)
        obtain rfl := p0
        have hw := mt_swap hw
        refine lv_aload_n hx hb dL_law_208 rfl (lv_at hl 2 rfl) ?_
        refine mt_calli (n := 0) (As := []) (rest := [.int _]) K hw hl.1 (m1_steps l G q1 (mt_w0 G q T (-1) kd bt ot fl []) T me so ce ot1  hT) lk2_44 (by decide +kernel) rfl rfl ⟨Nat.le_of_ble_eq_true rfl, Nat.le_of_ble_eq_true rfl⟩ ⟨Nat.le_of_ble_eq_true rfl, Nat.le_of_ble_eq_true rfl⟩ rfl rfl (Nat.le_of_ble_eq_true rfl) dL_law_209 (fun v1 u1 H locs p1 hw => ?_)
        obtain rfl := p1
        have hw := mt_back hw
        refine lv_icmp_eq (tgt := 352) hx hb dL_law_212 (by decide) (fun c9 => ?_) (fun c9 => ?_)
        · exact J352 _ _ _ _ _ _ _ _ _ hT _ _ hw ls hl
        · exact absurd rfl c9
      · refine lv_tableIn (off := 185) (tgt := 217) hx hb dL_law_32 (by decide) (by decide) (by decide) (by decide) ?_
        refine lv_aload_n hx hb dL_law_217 rfl (lv_at hl 1 rfl) ?_
        refine lv_aload_n hx hb dL_law_218 rfl (lv_at hl 0 rfl) ?_
        refine lv_iload_n hx hb dL_law_219 rfl (lv_at hl 3 rfl) ?_
        refine lv_iconst (v := nI 1) hx hb dL_law_220 (by decide) ?_
        refine lv_iadd hx hb dL_law_221 ?_
        refine mt_top (nI_add i 1) ?_
        refine mt_sld hx hb hX hbl hbA hw.2.2.1 (show i + 1 < L by omega) hL dL_law_222 ?_
        refine lv_aload_n hx hb dL_law_223 rfl (lv_at hl 0 rfl) ?_
        refine lv_iload_n hx hb dL_law_224 rfl (lv_at hl 3 rfl) ?_
        refine lv_iconst (v := nI 2) hx hb dL_law_225 (by decide) ?_
        refine lv_iadd hx hb dL_law_226 ?_
        refine mt_top (nI_add i 2) ?_
        refine mt_sld hx hb hX hbl hbA hw.2.2.1 (show i + 2 < L by omega) hL dL_law_227 ?_
        refine lv_aload_n hx hb dL_law_228 rfl (lv_at hl 0 rfl) ?_
        refine lv_iload_n hx hb dL_law_229 rfl (lv_at hl 3 rfl) ?_
        refine lv_iconst (v := nI 3) hx hb dL_law_230 (by decide) ?_
        refine lv_iadd hx hb dL_law_231 ?_
        refine mt_top (nI_add i 3) ?_
        refine mt_sld hx hb hX hbl hbA hw.2.2.1 (show i + 3 < L by omega) hL dL_law_232 ?_
        refine mt_calli (n := 3) (As := [.int (xs (i + 1)), .int (xs (i + 2)), .int (xs (i + 3))]) (rest := []) K hw hl.1 (m0_finds l G q (mt_w1 G q1 T me so ce ot1 []) T (-1) kd bt ot fl (xs (i + 1)) (xs (i + 2)) (xs (i + 3)) hT) lk2_45 (by decide +kernel) rfl rfl ⟨Nat.le_of_ble_eq_true rfl, Nat.le_of_ble_eq_true rfl⟩ ⟨Nat.le_of_ble_eq_true rfl, Nat.le_of_ble_eq_true rfl⟩ rfl rfl (Nat.le_of_ble_eq_true rfl) dL_law_233 (fun v0 u0 H locs p0 hw => ?_)
        obtain rfl := p0
        have hw := mt_swap hw
        refine lv_aload_n hx hb dL_law_236 rfl (lv_at hl 2 rfl) ?_
        refine lv_aload_n hx hb dL_law_237 rfl (lv_at hl 0 rfl) ?_
        refine lv_iload_n hx hb dL_law_238 rfl (lv_at hl 3 rfl) ?_
        refine lv_iconst (v := nI 1) hx hb dL_law_239 (by decide) ?_
        refine lv_iadd hx hb dL_law_240 ?_
        refine mt_top (nI_add i 1) ?_
        refine mt_sld hx hb hX hbl hbA hw.2.2.1 (show i + 1 < L by omega) hL dL_law_241 ?_
        refine lv_aload_n hx hb dL_law_242 rfl (lv_at hl 0 rfl) ?_
        refine lv_iload_n hx hb dL_law_243 rfl (lv_at hl 3 rfl) ?_
        refine lv_iconst (v := nI 2) hx hb dL_law_244 (by decide) ?_
        refine lv_iadd hx hb dL_law_245 ?_
        refine mt_top (nI_add i 2) ?_
        refine mt_sld hx hb hX hbl hbA hw.2.2.1 (show i + 2 < L by omega) hL dL_law_246 ?_
        refine lv_aload_n hx hb dL_law_247 rfl (lv_at hl 0 rfl) ?_
        refine lv_iload_n hx hb dL_law_248 rfl (lv_at hl 3 rfl) ?_
        refine lv_iconst (v := nI 3) hx hb dL_law_249 (by decide) ?_
        refine lv_iadd hx hb dL_law_250 ?_
        refine mt_top (nI_add i 3) ?_
        refine mt_sld hx hb hX hbl hbA hw.2.2.1 (show i + 3 < L by omega) hL dL_law_251 ?_
        refine mt_calli (n := 3) (As := [.int (xs (i + 1)), .int (xs (i + 2)), .int (xs (i + 3))]) (rest := [.int _]) K hw hl.1 (m1_finds l G q1 (mt_w0 G q T (-1) u0.1 u0.2.1 u0.2.2.1 u0.2.2.2 []) T me so ce ot1 (xs (i + 1)) (xs (i + 2)) (xs (i + 3)) hT) lk2_49 (by decide +kernel) rfl rfl ⟨Nat.le_of_ble_eq_true rfl, Nat.le_of_ble_eq_true rfl⟩ ⟨Nat.le_of_ble_eq_true rfl, Nat.le_of_ble_eq_true rfl⟩ rfl rfl (Nat.le_of_ble_eq_true rfl) dL_law_252 (fun v1 u1 H locs p1 hw => ?_)
        obtain rfl := p1
        have hw := mt_back hw
        refine lv_icmp_eq (tgt := 352) hx hb dL_law_255 (by decide) (fun c9 => ?_) (fun c9 => ?_)
        · exact J352 _ _ _ _ _ _ _ _ _ hT _ _ hw ls hl
        · exact absurd (congrArg mt_b (mt_L_finds hT _ _ _)) c9
      · refine lv_tableIn (off := 228) (tgt := 260) hx hb dL_law_32 (by decide) (by decide) (by decide) (by decide) ?_
        refine lv_aload_n hx hb dL_law_260 rfl (lv_at hl 1 rfl) ?_
        refine lv_aload_n hx hb dL_law_261 rfl (lv_at hl 0 rfl) ?_
        refine lv_iload_n hx hb dL_law_262 rfl (lv_at hl 3 rfl) ?_
        refine lv_iconst (v := nI 1) hx hb dL_law_263 (by decide) ?_
        refine lv_iadd hx hb dL_law_264 ?_
        refine mt_top (nI_add i 1) ?_
        refine mt_sld hx hb hX hbl hbA hw.2.2.1 (show i + 1 < L by omega) hL dL_law_265 ?_
        refine mt_calli (n := 1) (As := [.int (xs (i + 1))]) (rest := []) K hw hl.1 (m0_found l G q (mt_w1 G q1 T me so ce ot1 []) T (-1) kd bt ot fl (xs (i + 1)) hT) lk2_50 (by decide +kernel) rfl rfl ⟨Nat.le_of_ble_eq_true rfl, Nat.le_of_ble_eq_true rfl⟩ ⟨Nat.le_of_ble_eq_true rfl, Nat.le_of_ble_eq_true rfl⟩ rfl rfl (Nat.le_of_ble_eq_true rfl) dL_law_266 (fun v0 u0 H locs p0 hw => ?_)
        obtain rfl := p0
        have hw := mt_swap hw
        refine lv_aload_n hx hb dL_law_269 rfl (lv_at hl 2 rfl) ?_
        refine lv_aload_n hx hb dL_law_270 rfl (lv_at hl 0 rfl) ?_
        refine lv_iload_n hx hb dL_law_271 rfl (lv_at hl 3 rfl) ?_
        refine lv_iconst (v := nI 1) hx hb dL_law_272 (by decide) ?_
        refine lv_iadd hx hb dL_law_273 ?_
        refine mt_top (nI_add i 1) ?_
        refine mt_sld hx hb hX hbl hbA hw.2.2.1 (show i + 1 < L by omega) hL dL_law_274 ?_
        refine mt_calli (n := 1) (As := [.int (xs (i + 1))]) (rest := [.int _]) K hw hl.1 (m1_found l G q1 (mt_w0 G q T (-1) u0.1 u0.2.1 u0.2.2.1 u0.2.2.2 []) T me so ce ot1 (xs (i + 1)) hT) lk2_53 (by decide +kernel) rfl rfl ⟨Nat.le_of_ble_eq_true rfl, Nat.le_of_ble_eq_true rfl⟩ ⟨Nat.le_of_ble_eq_true rfl, Nat.le_of_ble_eq_true rfl⟩ rfl rfl (Nat.le_of_ble_eq_true rfl) dL_law_275 (fun v1 u1 H locs p1 hw => ?_)
        obtain rfl := p1
        have hw := mt_back hw
        refine lv_icmp_eq (tgt := 352) hx hb dL_law_278 (by decide) (fun c9 => ?_) (fun c9 => ?_)
        · exact J352 _ _ _ _ _ _ _ _ _ hT _ _ hw ls hl
        · exact absurd (mt_L_found hT _) c9
      · refine lv_tableIn (off := 251) (tgt := 283) hx hb dL_law_32 (by decide) (by decide) (by decide) (by decide) ?_
        refine lv_aload_n hx hb dL_law_283 rfl (lv_at hl 1 rfl) ?_
        refine mt_calli (n := 0) (As := []) (rest := []) K hw hl.1 (m0_covered l G q (mt_w1 G q1 T me so ce ot1 []) T (-1) kd bt ot fl  hT) lk2_54 (by decide +kernel) rfl rfl ⟨Nat.le_of_ble_eq_true rfl, Nat.le_of_ble_eq_true rfl⟩ ⟨Nat.le_of_ble_eq_true rfl, Nat.le_of_ble_eq_true rfl⟩ rfl rfl (Nat.le_of_ble_eq_true rfl) dL_law_284 (fun v0 u0 H locs p0 hw => ?_)
        obtain rfl := p0
        have hw := mt_swap hw
        refine lv_aload_n hx hb dL_law_287 rfl (lv_at hl 2 rfl) ?_
        refine mt_calli (n := 0) (As := []) (rest := [.int _]) K hw hl.1 (m1_covered l G q1 (mt_w0 G q T (-1) u0.1 u0.2.1 u0.2.2.1 u0.2.2.2 []) T me so ce ot1  hT) lk2_57 (by decide +kernel) rfl rfl ⟨Nat.le_of_ble_eq_true rfl, Nat.le_of_ble_eq_true rfl⟩ ⟨Nat.le_of_ble_eq_true rfl, Nat.le_of_ble_eq_true rfl⟩ rfl rfl (Nat.le_of_ble_eq_true rfl) dL_law_288 (fun v1 u1 H locs p1 hw => ?_)
        obtain rfl := p1
        have hw := mt_back hw
        refine lv_icmp_eq (tgt := 352) hx hb dL_law_291 (by decide) (fun c9 => ?_) (fun c9 => ?_)
        · exact J352 _ _ _ _ _ _ _ _ _ hT _ _ hw ls hl
        · exact absurd (mt_L_cov hT) c9
      · refine lv_tableIn (off := 264) (tgt := 296) hx hb dL_law_32 (by decide) (by decide) (by decide) (by decide) ?_
        refine lv_aload_n hx hb dL_law_296 rfl (lv_at hl 1 rfl) ?_
        refine lv_aload_n hx hb dL_law_297 rfl (lv_at hl 0 rfl) ?_
        refine lv_iload_n hx hb dL_law_298 rfl (lv_at hl 3 rfl) ?_
        refine lv_iconst (v := nI 1) hx hb dL_law_299 (by decide) ?_
        refine lv_iadd hx hb dL_law_300 ?_
        refine mt_top (nI_add i 1) ?_
        refine mt_sld hx hb hX hbl hbA hw.2.2.1 (show i + 1 < L by omega) hL dL_law_301 ?_
        refine lv_aload_n hx hb dL_law_302 rfl (lv_at hl 0 rfl) ?_
        refine lv_iload_n hx hb dL_law_303 rfl (lv_at hl 3 rfl) ?_
        refine lv_iconst (v := nI 2) hx hb dL_law_304 (by decide) ?_
        refine lv_iadd hx hb dL_law_305 ?_
        refine mt_top (nI_add i 2) ?_
        refine mt_sld hx hb hX hbl hbA hw.2.2.1 (show i + 2 < L by omega) hL dL_law_306 ?_
        refine lv_aload_n hx hb dL_law_307 rfl (lv_at hl 0 rfl) ?_
        refine lv_iload_n hx hb dL_law_308 rfl (lv_at hl 3 rfl) ?_
        refine lv_iconst (v := nI 3) hx hb dL_law_309 (by decide) ?_
        refine lv_iadd hx hb dL_law_310 ?_
        refine mt_top (nI_add i 3) ?_
        refine mt_sld hx hb hX hbl hbA hw.2.2.1 (show i + 3 < L by omega) hL dL_law_311 ?_
        refine mt_calli (n := 3) (As := [.int (xs (i + 1)), .int (xs (i + 2)), .int (xs (i + 3))]) (rest := []) K hw hl.1 (m0_foundFrom l G q (mt_w1 G q1 T me so ce ot1 []) T (-1) kd bt ot fl (xs (i + 1)) (xs (i + 2)) (xs (i + 3)) hT) lk2_58 (by decide +kernel) rfl rfl ⟨Nat.le_of_ble_eq_true rfl, Nat.le_of_ble_eq_true rfl⟩ ⟨Nat.le_of_ble_eq_true rfl, Nat.le_of_ble_eq_true rfl⟩ rfl rfl (Nat.le_of_ble_eq_true rfl) dL_law_312 (fun v0 u0 H locs p0 hw => ?_)
        obtain rfl := p0
        have hw := mt_swap hw
        refine lv_aload_n hx hb dL_law_315 rfl (lv_at hl 2 rfl) ?_
        refine lv_aload_n hx hb dL_law_316 rfl (lv_at hl 0 rfl) ?_
        refine lv_iload_n hx hb dL_law_317 rfl (lv_at hl 3 rfl) ?_
        refine lv_iconst (v := nI 1) hx hb dL_law_318 (by decide) ?_
        refine lv_iadd hx hb dL_law_319 ?_
        refine mt_top (nI_add i 1) ?_
        refine mt_sld hx hb hX hbl hbA hw.2.2.1 (show i + 1 < L by omega) hL dL_law_320 ?_
        refine lv_aload_n hx hb dL_law_321 rfl (lv_at hl 0 rfl) ?_
        refine lv_iload_n hx hb dL_law_322 rfl (lv_at hl 3 rfl) ?_
        refine lv_iconst (v := nI 2) hx hb dL_law_323 (by decide) ?_
        refine lv_iadd hx hb dL_law_324 ?_
        refine mt_top (nI_add i 2) ?_
        refine mt_sld hx hb hX hbl hbA hw.2.2.1 (show i + 2 < L by omega) hL dL_law_325 ?_
        refine lv_aload_n hx hb dL_law_326 rfl (lv_at hl 0 rfl) ?_
        refine lv_iload_n hx hb dL_law_327 rfl (lv_at hl 3 rfl) ?_
        refine lv_iconst (v := nI 3) hx hb dL_law_328 (by decide) ?_
        refine lv_iadd hx hb dL_law_329 ?_
        refine mt_top (nI_add i 3) ?_
        refine mt_sld hx hb hX hbl hbA hw.2.2.1 (show i + 3 < L by omega) hL dL_law_330 ?_
        refine mt_calli (n := 3) (As := [.int (xs (i + 1)), .int (xs (i + 2)), .int (xs (i + 3))]) (rest := [.int _]) K hw hl.1 (m1_foundFrom l G q1 (mt_w0 G q T (-1) u0.1 u0.2.1 u0.2.2.1 u0.2.2.2 []) T me so ce ot1 (xs (i + 1)) (xs (i + 2)) (xs (i + 3)) hT) lk2_62 (by decide +kernel) rfl rfl ⟨Nat.le_of_ble_eq_true rfl, Nat.le_of_ble_eq_true rfl⟩ ⟨Nat.le_of_ble_eq_true rfl, Nat.le_of_ble_eq_true rfl⟩ rfl rfl (Nat.le_of_ble_eq_true rfl) dL_law_331 (fun v1 u1 H locs p1 hw => ?_)
        obtain rfl := p1
        have hw := mt_back hw
        refine lv_icmp_eq (tgt := 352) hx hb dL_law_334 (by decide) (fun c9 => ?_) (fun c9 => ?_)
        · exact J352 _ _ _ _ _ _ _ _ _ hT _ _ hw ls hl
        · exact absurd (mt_L_ff hT _ _ _) c9
      · refine lv_tableIn (off := 307) (tgt := 339) hx hb dL_law_32 (by decide) (by decide) (by decide) (by decide) ?_
        refine lv_aload_n hx hb dL_law_339 rfl (lv_at hl 1 rfl) ?_
        refine mt_calli (n := 0) (As := []) (rest := []) K hw hl.1 (m0_spare l G q (mt_w1 G q1 T me so ce ot1 []) T (-1) kd bt ot fl  hT) lk2_63 (by decide +kernel) rfl rfl ⟨Nat.le_of_ble_eq_true rfl, Nat.le_of_ble_eq_true rfl⟩ ⟨Nat.le_of_ble_eq_true rfl, Nat.le_of_ble_eq_true rfl⟩ rfl rfl (Nat.le_of_ble_eq_true rfl) dL_law_340 (fun v0 u0 H locs p0 hw => ?_)
        obtain rfl := p0
        have hw := mt_swap hw
        refine lv_aload_n hx hb dL_law_343 rfl (lv_at hl 2 rfl) ?_
        refine mt_calli (n := 0) (As := []) (rest := [.int _]) K hw hl.1 (m1_spare l G q1 (mt_w0 G q T (-1) u0.1 u0.2.1 u0.2.2.1 u0.2.2.2 []) T me so ce ot1  hT) lk2_66 (by decide +kernel) rfl rfl ⟨Nat.le_of_ble_eq_true rfl, Nat.le_of_ble_eq_true rfl⟩ ⟨Nat.le_of_ble_eq_true rfl, Nat.le_of_ble_eq_true rfl⟩ rfl rfl (Nat.le_of_ble_eq_true rfl) dL_law_344 (fun v1 u1 H locs p1 hw => ?_)
        obtain rfl := p1
        have hw := mt_back hw
        refine lv_icmp_eq (tgt := 352) hx hb dL_law_347 (by decide) (fun c9 => ?_) (fun c9 => ?_)
        · exact J352 _ _ _ _ _ _ _ _ _ hT _ _ hw ls hl
        · exact absurd (mt_L_spr hT) c9
      · refine lv_tableOut (tgt := 352) hx hb dL_law_32 (Or.inr (by rw [nI_toInt (by omega)]; omega)) (by decide) ?_
        exact J352 _ _ _ _ _ _ _ _ _ hT _ _ hw ls hl
set_option maxHeartbeats 4000000 in
set_option maxRecDepth 100000 in
/-- THE LAW, from its entry -/
theorem whole_start {p : Program} {e : Env} {s : State} {m : MethodId} {below : List Frame} {meth : Method} {c : Code} (l : Launch) {b L : Nat} {xs : Nat → Int32} (hL : L ≤ 256) (C0 : lw_At p s m meth c b L xs) : W p l e room_1 s m #[Value.ref b] below meth c s.heap [] 0 0 (lw_Z below #[Value.ref b] s) (entryFrame m ([Value.ref b] : List Value).toArray 4) := by
  obtain ⟨hx, hb, hr, hml, hown, hts0, hX, hbl, hlocks, hgv⟩ := id C0
  have hts : ∀ w ∈ lw_all, w.before #[Value.ref b] s = true := fun w h => hts0 w (lw_all_tbl h)
  have hA : ∀ q : Nat, s.heap.size ≤ q → (fun q : Nat => s.heap.size ≤ q) q := fun _ h => h
  obtain ⟨c0, iS0, hKn0⟩ := u_known (C := RX0) (T := TX0) (N := 9) (n := 9) hts in_X0 (hts _ q22)
  obtain ⟨c1, iS1, hKn1⟩ := u_known (C := RX1) (T := TX1) (N := 8) (n := 8) hts in_X1 (hts _ q150)
  obtain ⟨D, hKc⟩ : ∃ (D : va_G), ∀ (k : Nat) (q : vw_C), vwCl[k]? = some q → u_Kn s q.1 q.2.1 q.2.2 (D.1 k) (D.2 k) := by
    refine ⟨(fun k => if k = 0 then c0 else c1, fun k => if k = 0 then iS0 else iS1), ?_⟩
    intro k q hq
    match k, hq with
    | 0, hq => cases hq; exact hKn0
    | 1, hq => cases hq; exact hKn1
    | k + 2, hq => simp [vwCl] at hq
  have hS : va_S (fun q : Nat => s.heap.size ≤ q) s.heap s.heap [] := va_S.rf
  have hK : va_K D vwCl [] s := ⟨hKc, fun k q h => by simp at h⟩
  have hP : va_P D vwCl [] s.heap := fun k q h => by simp at h
  have hD : va_D (fun q : Nat => s.heap.size ≤ q) [] := ⟨fun i j p q h => by simp at h, fun k q h => by simp at h⟩
  have hl := lv_entry ([.ref b]) (n := 4) (Nat.le_of_ble_eq_true rfl)
  rw [lg_entry_eq]
  generalize (lg_sl ([.ref b]) ++ List.replicate (4 - (lg_sl ([.ref b])).length) Slot.unset).toArray = ls at hl ⊢
  have hl : lv_has ls 4 [(0, .ref b)] := hl
  refine va_new (ci := 0) (fs := mt_i0) (C := RX0) (T := TX0) (N := 9) hx hb hts in_X0 tyX0 tyX0_ok hown (hts _ q21) (hts _ q22) (hts _ q19) hK hP hD hS hA rfl (fun j hj => by rcases (show j = 0 ∨ j = 1 ∨ j = 2 ∨ j = 3 ∨ j = 4 ∨ j = 5 ∨ j = 6 ∨ j = 7 ∨ j = 8 by omega) with rfl | rfl | rfl | rfl | rfl | rfl | rfl | rfl | rfl <;> rfl) (Nat.le_of_ble_eq_true rfl) (Nat.le_of_ble_eq_true rfl) dL_law_0 (fun h0 H hP hD hS => ?_)
  have hP : va_P D vwCl ([(h0, .inr (0, mt_i0))]) H := hP
  have hD : va_D (fun q : Nat => s.heap.size ≤ q) ([(h0, .inr (0, mt_i0))]) := hD
  refine W.widen (k := 1) (n := 9) (Nat.le_of_ble_eq_true rfl) (Nat.le_of_ble_eq_true rfl) ?_
  refine lv_dup hx hb dL_law_3 rfl ?_
  have hPc := hP.sub (ws' := [(h0, .inr (0, mt_i0))]) [0] rfl
  have hDc := hD.sub (ws' := [(h0, .inr (0, mt_i0))]) [0] (by decide) rfl
  have hKc := hK.sub (tys' := []) [] rfl
  have hFc := va_free (wc := [(h0, .inr (0, mt_i0))]) hD hS hA [0] rfl
  refine va_callv (va_runI (As := []) (rest := [.ref h0]) ⟨hx, hb, hml, hown, hts⟩ (m0_init l D h0 H.size) (cwI 0 hts (lw_meth q25) rfl rfl rfl (hts _ q19) (hts _ q23) (hts _ q24) rfl (by decide +kernel) ⟨Nat.le_of_ble_eq_true rfl, Nat.le_of_ble_eq_true rfl⟩) ⟨fun a U g mk q => by obtain ⟨q0, q1, qP, qK, qD⟩ := q; exact ⟨q0, q1, qP, va_K.moved (u := U) (U := U.calling g mk a) (Vm.Alike.refl U.vm) qK, qD⟩, fun U hU hW => ⟨rfl, by rw [hU], by rw [hU]; exact hPc, va_K.moved hW.alike hKc, hDc.weaken (fun _ _ _ _ => trivial)⟩⟩ rfl rfl hl.1 rfl (lv_room (Nat.le_of_ble_eq_true rfl)) dL_law_4 ⟨Nat.le_of_ble_eq_true rfl, Nat.le_of_ble_eq_true rfl⟩) hS (fun q _ h => hFc q h) hFc (fun u t H1 locs ht hvm hw hB hz1 hk1 hS => ?_)
  obtain ⟨a1, a2, a3, cB⟩ := u
  obtain ⟨hP1, hK1, hD1⟩ := hB
  rw [ht] at hP1
  have hK1 := va_K.moved hvm.symm hK1
  obtain ⟨hPn, hDn⟩ := va_join (wc := [(h0, .inr (0, mt_i0))]) (wr := []) hP hD [0] [] rfl rfl (by decide) (by decide) hk1 hFc hP1 hD1
  have hK := (hK.sub (tys' := []) [] rfl).app hK1
  generalize H1 = H at hPn hS ⊢
  refine W.widen (k := 4) (n := 45) (Nat.le_of_ble_eq_true rfl) (Nat.le_of_ble_eq_true rfl) ?_
  generalize hq : mt_ad h0 a1 a2 a3 = q at hPn hDn
  have hq0 : h0 = q 0 := by rw [← hq]; rfl
  subst hq0
  have hP : va_P D vwCl (mt_w0 (D, cB, cB) q mt_T0 (-1) 0 0 0 false []) H := hPn
  have hD : va_D (fun q : Nat => s.heap.size ≤ q) (mt_w0 (D, cB, cB) q mt_T0 (-1) 0 0 0 false []) := hDn
  have hK : va_K D vwCl [(cB, .byte)] s := hK
  refine lv_astore_n (lv' := [(1, .ref (q 0)), (0, .ref b)]) hx hb dL_law_7 rfl hl (by decide) rfl (fun ls hl => ?_)
  refine va_new (ci := 1) (fs := mt_i1) (C := RX1) (T := TX1) (N := 8) hx hb hts in_X1 tyX1 tyX1_ok hown (hts _ q149) (hts _ q150) (hts _ q20) hK hP hD hS hA rfl (fun j hj => by rcases (show j = 0 ∨ j = 1 ∨ j = 2 ∨ j = 3 ∨ j = 4 ∨ j = 5 ∨ j = 6 ∨ j = 7 by omega) with rfl | rfl | rfl | rfl | rfl | rfl | rfl | rfl <;> rfl) (Nat.le_of_ble_eq_true rfl) (Nat.le_of_ble_eq_true rfl) dL_law_8 (fun h1 H hP hD hS => ?_)
  have hP : va_P D vwCl (mt_w0 (D, cB, cB) q mt_T0 (-1) 0 0 0 false [(h1, .inr (1, mt_i1))]) H := hP
  have hD : va_D (fun q : Nat => s.heap.size ≤ q) (mt_w0 (D, cB, cB) q mt_T0 (-1) 0 0 0 false [(h1, .inr (1, mt_i1))]) := hD
  refine W.widen (k := 5) (n := 53) (Nat.le_of_ble_eq_true rfl) (Nat.le_of_ble_eq_true rfl) ?_
  refine lv_dup hx hb dL_law_11 rfl ?_
  have hPc := hP.sub (ws' := [(h1, .inr (1, mt_i1))]) [4] rfl
  have hDc := hD.sub (ws' := [(h1, .inr (1, mt_i1))]) [4] (by decide) rfl
  have hKc := hK.sub (tys' := []) [] rfl
  have hFc := va_free (wc := [(h1, .inr (1, mt_i1))]) hD hS hA [4] rfl
  refine va_callv (va_runI (As := []) (rest := [.ref h1]) ⟨hx, hb, hml, hown, hts⟩ (m1_init l D h1 H.size) (cwI 0 hts (lw_meth q153) rfl rfl rfl (hts _ q20) (hts _ q151) (hts _ q152) rfl (by decide +kernel) ⟨Nat.le_of_ble_eq_true rfl, Nat.le_of_ble_eq_true rfl⟩) ⟨fun a U g mk q => by obtain ⟨q0, q1, qP, qK, qD⟩ := q; exact ⟨q0, q1, qP, va_K.moved (u := U) (U := U.calling g mk a) (Vm.Alike.refl U.vm) qK, qD⟩, fun U hU hW => ⟨rfl, by rw [hU], by rw [hU]; exact hPc, va_K.moved hW.alike hKc, hDc.weaken (fun _ _ _ _ => trivial)⟩⟩ rfl rfl hl.1 rfl (lv_room (Nat.le_of_ble_eq_true rfl)) dL_law_12 ⟨Nat.le_of_ble_eq_true rfl, Nat.le_of_ble_eq_true rfl⟩) hS (fun q _ h => hFc q h) hFc (fun u t H1 locs ht hvm hw hB hz1 hk1 hS => ?_)
  obtain ⟨a1, a2, a3, cI⟩ := u
  obtain ⟨hP1, hK1, hD1⟩ := hB
  rw [ht] at hP1
  have hK1 := va_K.moved hvm.symm hK1
  obtain ⟨hPn, hDn⟩ := va_join (wc := [(h1, .inr (1, mt_i1))]) (wr := mt_w0 (D, cB, cB) q mt_T0 (-1) 0 0 0 false []) hP hD [4] [0, 1, 2, 3] rfl rfl (by decide) (by decide) hk1 hFc hP1 hD1
  have hK := (hK.sub (tys' := [(cB, .byte)]) [0] rfl).app hK1
  generalize H1 = H at hPn hS ⊢
  refine W.widen (k := 8) (n := 89) (Nat.le_of_ble_eq_true rfl) (Nat.le_of_ble_eq_true rfl) ?_
  generalize hq1 : mt_ad h1 a1 a2 a3 = q1 at hPn hDn
  have hq0 : h1 = q1 0 := by rw [← hq1]; rfl
  subst hq0
  have hK : va_K D vwCl [(cB, .byte), (cI, .int)] s := hK
  have hw : mt_Hw (D, cB, cI) (fun q : Nat => s.heap.size ≤ q) s (mt_w0 (D, cB, cI) q mt_T0 (-1) 0 0 0 false (mt_w1 (D, cB, cI) q1 mt_T0 0 0 0 0 [])) H locs := ⟨hPn, hDn, hS, hA⟩
  refine lv_astore_n (lv' := [(2, .ref (q1 0)), (1, .ref (q 0)), (0, .ref b)]) hx hb dL_law_15 rfl hl (by decide) rfl (fun ls hl => ?_)
  refine lv_iconst (v := nI 0) hx hb dL_law_16 (by decide) ?_
  refine lv_istore_n (lv' := [(3, .int (nI 0)), (2, .ref (q1 0)), (1, .ref (q 0)), (0, .ref b)]) hx hb dL_law_17 rfl hl (by decide) rfl (fun ls hl => ?_)
  exact law_loop (G := (D, cB, cI)) (q := q) (q1 := q1) hL C0 ⟨hx, hb, hml, hown, hts, hK⟩ (L + 1) 0 mt_T0 0 0 0 false 0 0 0 0 (Nat.zero_le L) (by omega) mt_ok_0 _ _ hw ls (lv_sub hl [3, 2, 1, 0] rfl)

set_option maxHeartbeats 4000000 in
theorem lw_walk (l : Launch) (b : Addr) (xs : List Int32) : MetFree l x (headSpec (Jvm.Cond.code x code maxLocals ret :: tables_1) room_1) (lw_P b xs) (fun _ _ _ _ _ => True) lw_Q := by
  refine MetFree.of_bodyS (code := code) (maxLocals := maxLocals) (ret := ret) (by decide) ?_ ?_
  · intro args s m h hn
    obtain ⟨meth, c, h1, h2, h3, h4, h5, h6, -, -⟩ := Cond.code_spec hn (atoms_spec (ws := Jvm.Cond.code x code maxLocals ret :: tables_1) h _ List.mem_cons_self)
    exact ⟨meth, c, h1, h2, h3, h4, h5, h6⟩
  · intro p e s m args below meth c s₁ B hml0 hP _
    obtain ⟨rfl, hx, hbd, hgv⟩ := hP
    obtain ⟨scr, harrAt, hlist, hof, hsmall⟩ := hx
    obtain ⟨hcb, hkn, -, -⟩ := State.arrayAt?_spec harrAt
    have hown : s.vm.findClass R_law = some m.cls := findClass_of_methodNamed B.named
    have hts0 : ∀ c ∈ (Jvm.Cond.code x code maxLocals ret :: tables_1), c.before #[Value.ref b] s = true := atoms_spec (ws := Jvm.Cond.code x code maxLocals ret :: tables_1) B.pre
    have hts : ∀ w ∈ lw_tbl, w.before #[Value.ref b] s = true := k2_hts_sels lw_privs (fun w hw => hts0 w (List.mem_cons_of_mem _ hw)) lw_privs_ok
    have hml : c.maxLocals = 4 := B.maxLocals_eq (hts0 _ List.mem_cons_self)
    have X₀ : Stand p l e room_1 s m #[Value.ref b] below meth c s₁ [] 0 0 := Stand.of_body B
    have hh0 : s₁.heap = s.heap := by rw [B.state]; rfl
    have hsz : scr.slots.size = xs.length := by rw [← Array.length_toList, hlist, List.length_map]
    have hval : ∀ j : Nat, j < xs.length → scr.slots[j]? = some (.int (xs.getD j 0)) := fun j hj => by
      rw [← Array.getElem?_toList, hlist]
      simp [hj]
    have hbl : b < s.heap.size := (Array.getElem?_eq_some_iff.mp hcb).1
    have hX : va_X b xs.length (fun j => xs.getD j 0) s s.heap := ⟨scr, hcb, hof, hkn, hsz, hval⟩
    have K : W p l e room_1 s m #[Value.ref b] below meth c s₁.heap [] 0 0 (lw_Z below #[Value.ref b] s) (entryFrame m ([Value.ref b] : List Value).toArray 4) := by
      rw [hh0]
      exact whole_start l hbd ⟨B.exec, B.bytes, B.returns, hml, hown, hts, hX, hbl, B.notSynchronized, hgv⟩
    obtain ⟨t, a1, o, b1, b2, b3⟩ := K s₁ rfl X₀
    exact ⟨t, o, a1, b1, b2, b3⟩
theorem lw_pre_spec {args : Array Value} {s : State} (h : (Jvm.Cond.and given_1 narrow_1).before args s = true) (hr : rest_1_c.before args s = true) : ∃ (b : Addr) (xs : List Int32), lw_P b xs args s := by
  have hs := flat_of_before _ h
  have hq := flat_of_before _ hr
  have hc : (Cond.count 1).before args s = true := hs _ (by decide +kernel)
  have harr : (Cond.arrayOf (.arg 0) .int).before args s = true := hs _ (by decide +kernel)
  have hle : (Cond.le (.length (.arg 0)) (.int 256)).before args s = true := hs _ (by decide +kernel)
  have hlen : (Cond.isInt (.length (.arg 0))).before args s = true := hq _ (by decide +kernel)
  have hall : (Cond.all (.arg 0) (.isInt (.elem (.arg 0) (.index 0)))).before args s = true := hq _ (by decide +kernel)
  obtain ⟨b, xs, hb, hx⟩ := State.ints_of_pre rfl harr hlen hall
  have hsm : xs.length < 2 ^ 31 := hx.choose_spec.2.2.2
  have hev : (Term.length (.arg 0)).eval args s none [] s = some (.int xs.length.toInt32) := hx.length_eval hb
  have hv := Cond.le_ints hev (show (Term.int 256).eval args s none [] s = some (.int 256) from rfl)
  have hd : xs.length.toInt32 ≤ 256 := by
    simpa [Cond.before, Cond.holds, hv] using hle
  have hN : xs.length ≤ 256 := (Int32.ofNat_le_ofNat hsm (by decide)).mp (show Int32.ofNat xs.length ≤ Int32.ofNat 256 from hd)
  exact ⟨b, xs, Cond.one_arg hc (show args[0]? = some (.ref b) from hb), hx, hN, h⟩
theorem lw_comes (l : Launch) : Comes l x (Jvm.Cond.code x code maxLocals ret :: tables_1) room_1 (fun tb e args s => Calls_1 tb e args s ∧ rest_1 tb e args s ∧ Pre_1 tb e args s)
    (fun _ _ args s o t => lw_Q args s o t) := by
  intro p e ha hc hk s m args below hf hfit hheap happ hpre
  obtain ⟨b, xs, hP⟩ := lw_pre_spec hpre.2.2 hpre.2.1
  obtain ⟨k, o, h1, h2, h3, hQ⟩ := lw_walk l b xs p e ha hc hk s m args below hf ((Spec.applies_iff_loose hf).mp happ).1 hP trivial
  exact ⟨k, o, h1, h2, h3, hQ⟩
theorem lw_frame {s t : State} {o : Outcome} {args : Array Value} (h : Framed s o t [] 600000 7290000) :
    Framed s o t (fieldLocs frame_1_writes args s ++ arrayLocs frame_1_arrays args s ++ staticLocs frame_1_statics s) 600000 7290000 := h
theorem lw_limb (L : Cond) (hL : ∀ (args : Array Value) (s t : State), L.after args s (.returned (some (.int 1))) t = true) :
    ArmFor flags0 classFile x code maxLocals ret World_1 tables_1 room_1 Calls_1 rest_1 Pre_1
      (fun tb e a s o t => postC L tb e a s o t ∧ Framed s o t (fieldLocs frame_1_writes a s ++ arrayLocs frame_1_arrays a s ++ staticLocs frame_1_statics s) 600000 7290000) := by
  intro l _ _ _ p e ha hc hk s m args below hf hfit hheap happ hpre
  obtain ⟨k, o, h1, h2, h3, rfl, hF⟩ := lw_comes l p e ha hc hk s m args below hf hfit hheap happ hpre
  exact ⟨k, _, h1, h2, h3, hL args s _, lw_frame hF⟩
theorem i_vc : Claimed_1_1 ∧ Claimed_1_2 := ⟨lw_limb limb_1_1 (fun args s t => by simp [limb_1_1, Cond.after, Cond.holds, Cond.value]), lw_limb limb_1_2 (fun args s t => Cond.after_iff.mpr (by
  first | (rw [show limb_1_2 = Cond.eq .result (.int 1) from rfl, Cond.eq_ints (x := 1) (y := 1) rfl rfl]; simp; done) | (simp [limb_1_2, Cond.value, Term.eval]; done)))⟩
end
