section
-- ===== PART A: goes FIRST, ahead of the names: the tables' words, and 'selects' of the private methods out of them =====
/-- a private method of a class that the tables say can be made, by its rows of tables_1 -/
def lw_okq (q : MethodName × Nat) : Prop := (q.1.cls ≠ "java/lang/invoke/MethodHandle" ∧ q.1.cls ≠ "java/lang/invoke/VarHandle") ∧ Cond.instantiable q.1.cls q.2 ∈ tables_1 ∧ Cond.privateMethod q.1 ∈ tables_1 ∧ Cond.instanceMethod q.1 ∈ tables_1
set_option maxRecDepth 100000
theorem lw_t1 {w : Cond} (h : w ∈ tables_1_1) : w ∈ tables_1 := List.mem_append_left _ h
theorem lw_t2 {w : Cond} (h : w ∈ tables_1_2) : w ∈ tables_1 := List.mem_append_right _ h
theorem lw_p0 : lw_okq (⟨"TreeCompare", "canAdd", "(II)Z"⟩, 6) := ⟨⟨by decide +kernel, by decide +kernel⟩, lw_t1 (List.mem_of_getElem? (i := 4) rfl), lw_t1 (List.mem_of_getElem? (i := 39) rfl), lw_t1 (List.mem_of_getElem? (i := 40) rfl)⟩
theorem lw_p1 : lw_okq (⟨"TreeCompare", "hasGroup", "(II)Z"⟩, 6) := ⟨⟨by decide +kernel, by decide +kernel⟩, lw_t1 (List.mem_of_getElem? (i := 4) rfl), lw_t1 (List.mem_of_getElem? (i := 46) rfl), lw_t1 (List.mem_of_getElem? (i := 47) rfl)⟩
theorem lw_p2 : lw_okq (⟨"TreeCompare", "find", "(II)I"⟩, 6) := ⟨⟨by decide +kernel, by decide +kernel⟩, lw_t1 (List.mem_of_getElem? (i := 4) rfl), lw_t1 (List.mem_of_getElem? (i := 56) rfl), lw_t1 (List.mem_of_getElem? (i := 57) rfl)⟩
theorem lw_p3 : lw_okq (⟨"TreeCompare", "joinOf", "(II)I"⟩, 6) := ⟨⟨by decide +kernel, by decide +kernel⟩, lw_t1 (List.mem_of_getElem? (i := 4) rfl), lw_t1 (List.mem_of_getElem? (i := 76) rfl), lw_t1 (List.mem_of_getElem? (i := 77) rfl)⟩
theorem lw_p4 : lw_okq (⟨"TreeCompare", "lastOf", "(IIII)I"⟩, 6) := ⟨⟨by decide +kernel, by decide +kernel⟩, lw_t1 (List.mem_of_getElem? (i := 4) rfl), lw_t1 (List.mem_of_getElem? (i := 87) rfl), lw_t1 (List.mem_of_getElem? (i := 88) rfl)⟩
theorem lw_p5 : lw_okq (⟨"TreeCompare", "conflicts", "(I)I"⟩, 6) := ⟨⟨by decide +kernel, by decide +kernel⟩, lw_t1 (List.mem_of_getElem? (i := 4) rfl), lw_t1 (List.mem_of_getElem? (i := 107) rfl), lw_t1 (List.mem_of_getElem? (i := 108) rfl)⟩
theorem lw_p6 : lw_okq (⟨"TreeCompare", "solve", "()I"⟩, 6) := ⟨⟨by decide +kernel, by decide +kernel⟩, lw_t1 (List.mem_of_getElem? (i := 4) rfl), lw_t1 (List.mem_of_getElem? (i := 115) rfl), lw_t1 (List.mem_of_getElem? (i := 116) rfl)⟩
theorem lw_p7 : lw_okq (⟨"TreeCompare", "list", "(I)V"⟩, 6) := ⟨⟨by decide +kernel, by decide +kernel⟩, lw_t1 (List.mem_of_getElem? (i := 4) rfl), lw_t1 (List.mem_of_getElem? (i := 119) rfl), lw_t1 (List.mem_of_getElem? (i := 120) rfl)⟩
theorem lw_p8 : lw_okq (⟨"TreeCompare", "below", "(II)I"⟩, 6) := ⟨⟨by decide +kernel, by decide +kernel⟩, lw_t1 (List.mem_of_getElem? (i := 4) rfl), lw_t1 (List.mem_of_getElem? (i := 123) rfl), lw_t1 (List.mem_of_getElem? (i := 124) rfl)⟩
theorem lw_p9 : lw_okq (⟨"TreeCompare", "matchParts", "(II)I"⟩, 6) := ⟨⟨by decide +kernel, by decide +kernel⟩, lw_t1 (List.mem_of_getElem? (i := 4) rfl), lw_t1 (List.mem_of_getElem? (i := 127) rfl), lw_t1 (List.mem_of_getElem? (i := 128) rfl)⟩
theorem lw_p10 : lw_okq (⟨"TreeCompare", "isPart", "(III)Z"⟩, 6) := ⟨⟨by decide +kernel, by decide +kernel⟩, lw_t1 (List.mem_of_getElem? (i := 4) rfl), lw_t1 (List.mem_of_getElem? (i := 131) rfl), lw_t1 (List.mem_of_getElem? (i := 132) rfl)⟩
theorem lw_p11 : lw_okq (⟨"TreeCompare", "improve", "(III)V"⟩, 6) := ⟨⟨by decide +kernel, by decide +kernel⟩, lw_t1 (List.mem_of_getElem? (i := 4) rfl), lw_t1 (List.mem_of_getElem? (i := 135) rfl), lw_t1 (List.mem_of_getElem? (i := 136) rfl)⟩
theorem lw_p12 : lw_okq (⟨"TreeCompareModel", "tree", "(I)Z"⟩, 1) := ⟨⟨by decide +kernel, by decide +kernel⟩, lw_t1 (List.mem_of_getElem? (i := 160) rfl), lw_t1 (List.mem_of_getElem? (i := 170) rfl), lw_t1 (List.mem_of_getElem? (i := 171) rfl)⟩
theorem lw_p13 : lw_okq (⟨"TreeCompareModel", "given", "(I)Z"⟩, 1) := ⟨⟨by decide +kernel, by decide +kernel⟩, lw_t1 (List.mem_of_getElem? (i := 160) rfl), lw_t1 (List.mem_of_getElem? (i := 174) rfl), lw_t1 (List.mem_of_getElem? (i := 175) rfl)⟩
theorem lw_p14 : lw_okq (⟨"TreeCompareModel", "count", "(I)I"⟩, 1) := ⟨⟨by decide +kernel, by decide +kernel⟩, lw_t1 (List.mem_of_getElem? (i := 160) rfl), lw_t1 (List.mem_of_getElem? (i := 178) rfl), lw_t1 (List.mem_of_getElem? (i := 179) rfl)⟩
theorem lw_p15 : lw_okq (⟨"TreeCompareModel", "fits", "(II)Z"⟩, 1) := ⟨⟨by decide +kernel, by decide +kernel⟩, lw_t1 (List.mem_of_getElem? (i := 160) rfl), lw_t1 (List.mem_of_getElem? (i := 191) rfl), lw_t1 (List.mem_of_getElem? (i := 192) rfl)⟩
def lw_privs_1 : List (MethodName × Nat) := [(⟨"TreeCompare", "canAdd", "(II)Z"⟩, 6), (⟨"TreeCompare", "hasGroup", "(II)Z"⟩, 6), (⟨"TreeCompare", "find", "(II)I"⟩, 6), (⟨"TreeCompare", "joinOf", "(II)I"⟩, 6), (⟨"TreeCompare", "lastOf", "(IIII)I"⟩, 6), (⟨"TreeCompare", "conflicts", "(I)I"⟩, 6), (⟨"TreeCompare", "solve", "()I"⟩, 6), (⟨"TreeCompare", "list", "(I)V"⟩, 6), (⟨"TreeCompare", "below", "(II)I"⟩, 6), (⟨"TreeCompare", "matchParts", "(II)I"⟩, 6), (⟨"TreeCompare", "isPart", "(III)Z"⟩, 6), (⟨"TreeCompare", "improve", "(III)V"⟩, 6), (⟨"TreeCompareModel", "tree", "(I)Z"⟩, 1), (⟨"TreeCompareModel", "given", "(I)Z"⟩, 1), (⟨"TreeCompareModel", "count", "(I)I"⟩, 1), (⟨"TreeCompareModel", "fits", "(II)Z"⟩, 1)]
theorem lw_r1 : ∀ q ∈ lw_privs_1, lw_okq q := List.forall_mem_cons.mpr ⟨lw_p0, List.forall_mem_cons.mpr ⟨lw_p1, List.forall_mem_cons.mpr ⟨lw_p2, List.forall_mem_cons.mpr ⟨lw_p3, List.forall_mem_cons.mpr ⟨lw_p4, List.forall_mem_cons.mpr ⟨lw_p5, List.forall_mem_cons.mpr ⟨lw_p6, List.forall_mem_cons.mpr ⟨lw_p7, List.forall_mem_cons.mpr ⟨lw_p8, List.forall_mem_cons.mpr ⟨lw_p9, List.forall_mem_cons.mpr ⟨lw_p10, List.forall_mem_cons.mpr ⟨lw_p11, List.forall_mem_cons.mpr ⟨lw_p12, List.forall_mem_cons.mpr ⟨lw_p13, List.forall_mem_cons.mpr ⟨lw_p14, List.forall_mem_cons.mpr ⟨lw_p15, fun _ h => absurd h List.not_mem_nil⟩⟩⟩⟩⟩⟩⟩⟩⟩⟩⟩⟩⟩⟩⟩⟩
theorem lw_p16 : lw_okq (⟨"TreeCompareModel", "crosses", "(II)Z"⟩, 1) := ⟨⟨by decide +kernel, by decide +kernel⟩, lw_t1 (List.mem_of_getElem? (i := 160) rfl), lw_t1 (List.mem_of_getElem? (i := 195) rfl), lw_t1 (List.mem_of_getElem? (i := 196) rfl)⟩
theorem lw_p17 : lw_okq (⟨"TreeCompareModel", "member", "(I)Z"⟩, 1) := ⟨⟨by decide +kernel, by decide +kernel⟩, lw_t1 (List.mem_of_getElem? (i := 160) rfl), lw_t1 (List.mem_of_getElem? (i := 216) rfl), lw_t1 (List.mem_of_getElem? (i := 217) rfl)⟩
theorem lw_p18 : lw_okq (⟨"TreeCompareModel", "closer", "(IIII)Z"⟩, 1) := ⟨⟨by decide +kernel, by decide +kernel⟩, lw_t1 (List.mem_of_getElem? (i := 160) rfl), lw_t1 (List.mem_of_getElem? (i := 220) rfl), lw_t1 (List.mem_of_getElem? (i := 221) rfl)⟩
theorem lw_p19 : lw_okq (⟨"TreeCompareModel", "about", "(II)I"⟩, 1) := ⟨⟨by decide +kernel, by decide +kernel⟩, lw_t1 (List.mem_of_getElem? (i := 160) rfl), lw_t1 (List.mem_of_getElem? (i := 228) rfl), lw_t1 (List.mem_of_getElem? (i := 229) rfl)⟩
def lw_privs_2 : List (MethodName × Nat) := [(⟨"TreeCompareModel", "crosses", "(II)Z"⟩, 1), (⟨"TreeCompareModel", "member", "(I)Z"⟩, 1), (⟨"TreeCompareModel", "closer", "(IIII)Z"⟩, 1), (⟨"TreeCompareModel", "about", "(II)I"⟩, 1)]
theorem lw_r2 : ∀ q ∈ lw_privs_2, lw_okq q := List.forall_mem_cons.mpr ⟨lw_p16, List.forall_mem_cons.mpr ⟨lw_p17, List.forall_mem_cons.mpr ⟨lw_p18, List.forall_mem_cons.mpr ⟨lw_p19, fun _ h => absurd h List.not_mem_nil⟩⟩⟩⟩
def lw_privs : List (MethodName × Nat) := lw_privs_1 ++ (lw_privs_2)
def lw_tbl : List Cond := k2_sels lw_privs ++ tables_1
theorem lw_privs_ok : ∀ q ∈ lw_privs, lw_okq q := by
  show ∀ q ∈ lw_privs_1 ++ (lw_privs_2), lw_okq q
  exact List.forall_mem_append.mpr ⟨lw_r1, lw_r2⟩
-- ===== ONE list of words for every method: the tables' words that hold all through a run =====
def lw_all : List Cond := lw_tbl.filter goodWord
/-- a word of the tables by its place: claim/WORDS.tsv -/
theorem lw_w {w : Cond} (i : Nat) (h : lw_tbl[i]? = some w) (g : goodWord w = true) : w ∈ lw_all := List.mem_filter.mpr ⟨List.mem_of_getElem? h, g⟩
theorem lw_all_tbl {w : Cond} (h : w ∈ lw_all) : w ∈ lw_tbl := (List.mem_filter.mp h).1
theorem lw_self : GoodIn lw_all lw_all := fun w h => ⟨h, good_of_word (List.mem_filter.mp h).2⟩
/-- a class's field words, by their places -/
theorem lw_in (ws : List Cond) (ps : List Nat) (hp : ws = ps.filterMap (fun i => lw_tbl[i]?)) (hg : ws.all goodWord = true) : ∀ w ∈ ws, w ∈ lw_all := by
  intro w h
  have h1 := List.all_eq_true.mp hg w h
  rw [hp] at h
  obtain ⟨i, -, hi⟩ := List.mem_filterMap.mp h
  exact lw_w i hi h1
/-- the words of a contract for the method y with code b, L locals, answer r -/
abbrev ws_ (y : MethodName) (b : ByteArray) (L : Nat) (r : Option FieldType) : List Cond := Cond.code y b L r :: lw_all
theorem lw_meth {y : MethodName} {b : ByteArray} {L : Nat} {r : Option FieldType} (h : Cond.code y b L r ∈ lw_all) : GoodIn lw_all (ws_ y b L r) := by
  intro w hw
  rcases List.mem_cons.mp hw with e | e
  · rw [e]
    exact lw_self _ h
  · exact lw_self _ e
theorem lw_app {a c : List Cond} (ha : ∀ w ∈ a, w ∈ lw_all) (hc : GoodIn lw_all c) : GoodIn lw_all (a ++ c) := by
  intro w hw
  rcases List.mem_append.mp hw with e | e
  · exact lw_self w (ha w e)
  · exact hc w e
/-- what a call through an object asks: cwV n hts (lw_V ..) -/
theorem lw_V {own : String} {idx : Nat} {C : String} {y : MethodName} {b : ByteArray} {L : Nat} {r : Option FieldType} (h1 : Cond.methodLink own idx y ∈ lw_all) (h2 : Cond.instanceMethod y ∈ lw_all) (h3 : Cond.selects C y y ∈ lw_all) (h4 : Cond.initialized C ∈ lw_all) (h5 : Cond.code y b L r ∈ lw_all) : GoodIn lw_all (wsV own idx C y (ws_ y b L r)) := by
  refine lw_app ?_ (lw_meth h5)
  intro w hw
  simp only [List.mem_cons, List.not_mem_nil, or_false] at hw
  rcases hw with e | e | e | e
  · rw [e]; exact h1
  · rw [e]; exact h2
  · rw [e]; exact h3
  · rw [e]; exact h4
/-- what a static call asks: va_cwS n hts (lw_S ..) -/
theorem lw_S {own : String} {idx : Nat} {y : MethodName} {b : ByteArray} {L : Nat} {r : Option FieldType} (h1 : Cond.methodLink own idx y ∈ lw_all) (h2 : Cond.static y ∈ lw_all) (h3 : Cond.initialized y.cls ∈ lw_all) (h4 : Cond.code y b L r ∈ lw_all) : GoodIn lw_all (va_wsS own idx y (ws_ y b L r)) := by
  refine lw_app ?_ (lw_meth h4)
  intro w hw
  simp only [List.mem_cons, List.not_mem_nil, or_false] at hw
  rcases hw with e | e | e
  · rw [e]; exact h1
  · rw [e]; exact h2
  · rw [e]; exact h3
/-- the words of a contract for a method WITH HANDLERS (hh: its table) -/
abbrev wsW_ (y : MethodName) (b : ByteArray) (L : Nat) (r : Option FieldType) (hh : List (Nat × Nat × Nat × Nat)) : List Cond := Cond.codeWith y b L r hh :: lw_all
theorem lw_methW {y : MethodName} {b : ByteArray} {L : Nat} {r : Option FieldType} {hh : List (Nat × Nat × Nat × Nat)} (h : Cond.codeWith y b L r hh ∈ lw_all) : GoodIn lw_all (wsW_ y b L r hh) := by
  intro w hw
  rcases List.mem_cons.mp hw with e | e
  · rw [e]
    exact lw_self _ h
  · exact lw_self _ e
/-- any list of words by their places (lw_in), good -/
theorem lw_good {ws : List Cond} (h : ∀ w ∈ ws, w ∈ lw_all) : GoodIn lw_all ws := fun w hw => lw_self w (h w hw)
/-- what a call of a method with handlers asks: vx_cwVW n hts (lw_VW ..), vx_cwSW n hts (lw_SW ..) -/
theorem lw_VW {own : String} {idx : Nat} {C : String} {y : MethodName} {b : ByteArray} {L : Nat} {r : Option FieldType} {hh : List (Nat × Nat × Nat × Nat)} (h1 : Cond.methodLink own idx y ∈ lw_all) (h2 : Cond.instanceMethod y ∈ lw_all) (h3 : Cond.selects C y y ∈ lw_all) (h4 : Cond.initialized C ∈ lw_all) (h5 : Cond.codeWith y b L r hh ∈ lw_all) : GoodIn lw_all (wsV own idx C y (wsW_ y b L r hh)) := by
  refine lw_app ?_ (lw_methW h5)
  intro w hw
  simp only [List.mem_cons, List.not_mem_nil, or_false] at hw
  rcases hw with e | e | e | e
  · rw [e]; exact h1
  · rw [e]; exact h2
  · rw [e]; exact h3
  · rw [e]; exact h4
theorem lw_SW {own : String} {idx : Nat} {y : MethodName} {b : ByteArray} {L : Nat} {r : Option FieldType} {hh : List (Nat × Nat × Nat × Nat)} (h1 : Cond.methodLink own idx y ∈ lw_all) (h2 : Cond.static y ∈ lw_all) (h3 : Cond.initialized y.cls ∈ lw_all) (h4 : Cond.codeWith y b L r hh ∈ lw_all) : GoodIn lw_all (va_wsS own idx y (wsW_ y b L r hh)) := by
  refine lw_app ?_ (lw_methW h4)
  intro w hw
  simp only [List.mem_cons, List.not_mem_nil, or_false] at hw
  rcases hw with e | e | e
  · rw [e]; exact h1
  · rw [e]; exact h2
  · rw [e]; exact h3
/-- a word by its place in its run of the tables -/
theorem lw_at {r : List Cond} (hr : ∀ w ∈ r, w ∈ lw_tbl) {w : Cond} (i : Nat) (h : r[i]? = some w) : w ∈ lw_tbl := hr w (List.mem_of_getElem? h)
theorem lw_g {w : Cond} (h : w ∈ lw_tbl) (g : goodWord w = true) : w ∈ lw_all := List.mem_filter.mpr ⟨h, g⟩
theorem lw_ms : ∀ w ∈ k2_sels lw_privs, w ∈ lw_tbl := fun w h => show w ∈ k2_sels lw_privs ++ tables_1 from List.mem_append_left _ h
theorem lw_m1 : ∀ w ∈ tables_1_1, w ∈ lw_tbl := fun w h => show w ∈ k2_sels lw_privs ++ tables_1 from List.mem_append_right (k2_sels lw_privs) (show w ∈ tables_1 from List.mem_append_left _ h)
theorem lw_m2 : ∀ w ∈ tables_1_2, w ∈ lw_tbl := fun w h => show w ∈ k2_sels lw_privs ++ tables_1 from List.mem_append_right (k2_sels lw_privs) (show w ∈ tables_1 from List.mem_append_right _ h)
theorem qs0 : (Cond.selects "TreeCompare" ⟨"TreeCompare", "canAdd", "(II)Z"⟩ ⟨"TreeCompare", "canAdd", "(II)Z"⟩) ∈ lw_all := lw_g (lw_at lw_ms 0 rfl) rfl
theorem qs1 : (Cond.selects "TreeCompare" ⟨"TreeCompare", "hasGroup", "(II)Z"⟩ ⟨"TreeCompare", "hasGroup", "(II)Z"⟩) ∈ lw_all := lw_g (lw_at lw_ms 1 rfl) rfl
theorem qs2 : (Cond.selects "TreeCompare" ⟨"TreeCompare", "find", "(II)I"⟩ ⟨"TreeCompare", "find", "(II)I"⟩) ∈ lw_all := lw_g (lw_at lw_ms 2 rfl) rfl
theorem qs3 : (Cond.selects "TreeCompare" ⟨"TreeCompare", "joinOf", "(II)I"⟩ ⟨"TreeCompare", "joinOf", "(II)I"⟩) ∈ lw_all := lw_g (lw_at lw_ms 3 rfl) rfl
theorem qs4 : (Cond.selects "TreeCompare" ⟨"TreeCompare", "lastOf", "(IIII)I"⟩ ⟨"TreeCompare", "lastOf", "(IIII)I"⟩) ∈ lw_all := lw_g (lw_at lw_ms 4 rfl) rfl
theorem qs5 : (Cond.selects "TreeCompare" ⟨"TreeCompare", "conflicts", "(I)I"⟩ ⟨"TreeCompare", "conflicts", "(I)I"⟩) ∈ lw_all := lw_g (lw_at lw_ms 5 rfl) rfl
theorem qs6 : (Cond.selects "TreeCompare" ⟨"TreeCompare", "solve", "()I"⟩ ⟨"TreeCompare", "solve", "()I"⟩) ∈ lw_all := lw_g (lw_at lw_ms 6 rfl) rfl
theorem qs7 : (Cond.selects "TreeCompare" ⟨"TreeCompare", "list", "(I)V"⟩ ⟨"TreeCompare", "list", "(I)V"⟩) ∈ lw_all := lw_g (lw_at lw_ms 7 rfl) rfl
theorem qs8 : (Cond.selects "TreeCompare" ⟨"TreeCompare", "below", "(II)I"⟩ ⟨"TreeCompare", "below", "(II)I"⟩) ∈ lw_all := lw_g (lw_at lw_ms 8 rfl) rfl
theorem qs9 : (Cond.selects "TreeCompare" ⟨"TreeCompare", "matchParts", "(II)I"⟩ ⟨"TreeCompare", "matchParts", "(II)I"⟩) ∈ lw_all := lw_g (lw_at lw_ms 9 rfl) rfl
theorem qs10 : (Cond.selects "TreeCompare" ⟨"TreeCompare", "isPart", "(III)Z"⟩ ⟨"TreeCompare", "isPart", "(III)Z"⟩) ∈ lw_all := lw_g (lw_at lw_ms 10 rfl) rfl
theorem qs11 : (Cond.selects "TreeCompare" ⟨"TreeCompare", "improve", "(III)V"⟩ ⟨"TreeCompare", "improve", "(III)V"⟩) ∈ lw_all := lw_g (lw_at lw_ms 11 rfl) rfl
theorem qs12 : (Cond.selects "TreeCompareModel" ⟨"TreeCompareModel", "tree", "(I)Z"⟩ ⟨"TreeCompareModel", "tree", "(I)Z"⟩) ∈ lw_all := lw_g (lw_at lw_ms 12 rfl) rfl
theorem qs13 : (Cond.selects "TreeCompareModel" ⟨"TreeCompareModel", "given", "(I)Z"⟩ ⟨"TreeCompareModel", "given", "(I)Z"⟩) ∈ lw_all := lw_g (lw_at lw_ms 13 rfl) rfl
theorem qs14 : (Cond.selects "TreeCompareModel" ⟨"TreeCompareModel", "count", "(I)I"⟩ ⟨"TreeCompareModel", "count", "(I)I"⟩) ∈ lw_all := lw_g (lw_at lw_ms 14 rfl) rfl
theorem qs15 : (Cond.selects "TreeCompareModel" ⟨"TreeCompareModel", "fits", "(II)Z"⟩ ⟨"TreeCompareModel", "fits", "(II)Z"⟩) ∈ lw_all := lw_g (lw_at lw_ms 15 rfl) rfl
theorem qs16 : (Cond.selects "TreeCompareModel" ⟨"TreeCompareModel", "crosses", "(II)Z"⟩ ⟨"TreeCompareModel", "crosses", "(II)Z"⟩) ∈ lw_all := lw_g (lw_at lw_ms 16 rfl) rfl
theorem qs17 : (Cond.selects "TreeCompareModel" ⟨"TreeCompareModel", "member", "(I)Z"⟩ ⟨"TreeCompareModel", "member", "(I)Z"⟩) ∈ lw_all := lw_g (lw_at lw_ms 17 rfl) rfl
theorem qs18 : (Cond.selects "TreeCompareModel" ⟨"TreeCompareModel", "closer", "(IIII)Z"⟩ ⟨"TreeCompareModel", "closer", "(IIII)Z"⟩) ∈ lw_all := lw_g (lw_at lw_ms 18 rfl) rfl
theorem qs19 : (Cond.selects "TreeCompareModel" ⟨"TreeCompareModel", "about", "(II)I"⟩ ⟨"TreeCompareModel", "about", "(II)I"⟩) ∈ lw_all := lw_g (lw_at lw_ms 19 rfl) rfl
end
section
/-! TreeCompare -/
set_option maxRecDepth 100000
def RX0 : String := "TreeCompare"
def TX0 : u_T := fun k => match k with
  | 0 => ("TreeCompare", "counts", "[B", true)
  | 1 => ("TreeCompare", "extras", "[B", true)
  | 2 => ("TreeCompare", "nodes", "[B", true)
  | 3 => ("TreeCompare", "nodeCounts", "[B", true)
  | 4 => ("TreeCompare", "best", "[B", true)
  | _ => ("TreeCompare", "matched", "[B", true)
def tyX0 : Nat → FieldType := fun k => match k with
  | 0 => .array .byte
  | 1 => .array .byte
  | 2 => .array .byte
  | 3 => .array .byte
  | 4 => .array .byte
  | _ => .array .byte
abbrev wsX00 : List Cond := u_ws RX0 TX0 6
theorem nmX0 : ∀ a, a < 6 → ∀ b, b < 6 → a ≠ b → (TX0 a).2.1 ≠ (TX0 b).2.1 := by decide +kernel
theorem tyX0_ok : ∀ k, k < 6 → parseFieldDescriptor (TX0 k).2.2.1 = some (tyX0 k) := by decide +kernel
abbrev cX0_init : ByteArray := prog_1_method_1_code
def yX0_init : MethodName := ⟨RX0, "<init>", "()V"⟩
abbrev cX0_add : ByteArray := prog_1_method_10_code
def yX0_add : MethodName := ⟨RX0, "add", "(II)Z"⟩
abbrev cX0_isTree : ByteArray := prog_1_method_2_code
def yX0_isTree : MethodName := ⟨RX0, "isTree", "(I)Z"⟩
abbrev cX0_canAdd : ByteArray := prog_1_method_9_code
def yX0_canAdd : MethodName := ⟨RX0, "canAdd", "(II)Z"⟩
abbrev cX0_goTogether : ByteArray := prog_1_method_6_code
def yX0_goTogether : MethodName := ⟨RX0, "goTogether", "(II)Z"⟩
abbrev cX0_hasGroup : ByteArray := prog_1_method_8_code
def yX0_hasGroup : MethodName := ⟨RX0, "hasGroup", "(II)Z"⟩
abbrev cX0_everyTreeHas : ByteArray := prog_1_method_5_code
def yX0_everyTreeHas : MethodName := ⟨RX0, "everyTreeHas", "(I)Z"⟩
abbrev cX0_ones : ByteArray := prog_1_method_4_code
def yX0_ones : MethodName := ⟨RX0, "ones", "(I)I"⟩
abbrev cX0_find : ByteArray := prog_1_method_7_code
def yX0_find : MethodName := ⟨RX0, "find", "(II)I"⟩
abbrev cX0_remove : ByteArray := prog_1_method_11_code
def yX0_remove : MethodName := ⟨RX0, "remove", "(II)Z"⟩
abbrev cX0_clear : ByteArray := prog_1_method_12_code
def yX0_clear : MethodName := ⟨RX0, "clear", "(I)Z"⟩
abbrev cX0_groups : ByteArray := prog_1_method_13_code
def yX0_groups : MethodName := ⟨RX0, "groups", "(I)I"⟩
abbrev cX0_join : ByteArray := prog_1_method_15_code
def yX0_join : MethodName := ⟨RX0, "join", "(II)I"⟩
abbrev cX0_joinOf : ByteArray := prog_1_method_14_code
def yX0_joinOf : MethodName := ⟨RX0, "joinOf", "(II)I"⟩
abbrev cX0_says : ByteArray := prog_1_method_17_code
def yX0_says : MethodName := ⟨RX0, "says", "(IIII)I"⟩
abbrev cX0_isMember : ByteArray := prog_1_method_3_code
def yX0_isMember : MethodName := ⟨RX0, "isMember", "(I)Z"⟩
abbrev cX0_lastOf : ByteArray := prog_1_method_16_code
def yX0_lastOf : MethodName := ⟨RX0, "lastOf", "(IIII)I"⟩
abbrev cX0_decided : ByteArray := prog_1_method_18_code
def yX0_decided : MethodName := ⟨RX0, "decided", "(I)I"⟩
abbrev cX0_groupDistance : ByteArray := prog_1_method_20_code
def yX0_groupDistance : MethodName := ⟨RX0, "groupDistance", "()I"⟩
abbrev cX0_common : ByteArray := prog_1_method_32_code
def yX0_common : MethodName := ⟨RX0, "common", "()I"⟩
abbrev cX0_tripleDistance : ByteArray := prog_1_method_21_code
def yX0_tripleDistance : MethodName := ⟨RX0, "tripleDistance", "()I"⟩
abbrev cX0_conflicts : ByteArray := prog_1_method_19_code
def yX0_conflicts : MethodName := ⟨RX0, "conflicts", "(I)I"⟩
abbrev cX0_agreement : ByteArray := prog_1_method_28_code
def yX0_agreement : MethodName := ⟨RX0, "agreement", "()I"⟩
abbrev cX0_solve : ByteArray := prog_1_method_24_code
def yX0_solve : MethodName := ⟨RX0, "solve", "()I"⟩
abbrev cX0_list : ByteArray := prog_1_method_22_code
def yX0_list : MethodName := ⟨RX0, "list", "(I)V"⟩
abbrev cX0_below : ByteArray := prog_1_method_25_code
def yX0_below : MethodName := ⟨RX0, "below", "(II)I"⟩
abbrev cX0_matchParts : ByteArray := prog_1_method_26_code
def yX0_matchParts : MethodName := ⟨RX0, "matchParts", "(II)I"⟩
abbrev cX0_isPart : ByteArray := prog_1_method_23_code
def yX0_isPart : MethodName := ⟨RX0, "isPart", "(III)Z"⟩
abbrev cX0_improve : ByteArray := prog_1_method_27_code
def yX0_improve : MethodName := ⟨RX0, "improve", "(III)V"⟩
abbrev cX0_agreeingSet : ByteArray := prog_1_method_29_code
def yX0_agreeingSet : MethodName := ⟨RX0, "agreeingSet", "()I"⟩
abbrev cX0_agree : ByteArray := prog_1_method_30_code
def yX0_agree : MethodName := ⟨RX0, "agree", "(I)Z"⟩
abbrev cX0_together : ByteArray := prog_1_method_31_code
def yX0_together : MethodName := ⟨RX0, "together", "()Z"⟩
abbrev cX0_depth : ByteArray := prog_1_method_33_code
def yX0_depth : MethodName := ⟨RX0, "depth", "(II)I"⟩
abbrev cX0_room : ByteArray := prog_1_method_34_code
def yX0_room : MethodName := ⟨RX0, "room", "(I)I"⟩
theorem q21 : (Jvm.Cond.initialized "TreeCompare") ∈ lw_all := lw_g (lw_at lw_m1 1 rfl) rfl
theorem q24 : (Jvm.Cond.instantiable "TreeCompare" (6 : Nat)) ∈ lw_all := lw_g (lw_at lw_m1 4 rfl) rfl
theorem q26 : (Jvm.Cond.instanceMethod ({ cls := "TreeCompare", name := "<init>", desc := "()V" } : Jvm.MethodName)) ∈ lw_all := lw_g (lw_at lw_m1 6 rfl) rfl
theorem q27 : (Jvm.Cond.code ({ cls := "TreeCompare", name := "<init>", desc := "()V" } : Jvm.MethodName) prog_1_method_1_code (1 : Nat) (Option.none : Option Jvm.ClassFile.FieldType)) ∈ lw_all := lw_g (lw_at lw_m1 7 rfl) rfl
theorem q28 : (Jvm.Cond.methodLink "TreeCompare" (1 : Nat) ({ cls := "java/lang/Object", name := "<init>", desc := "()V" } : Jvm.MethodName)) ∈ lw_all := lw_g (lw_at lw_m1 8 rfl) rfl
theorem q31 : (Jvm.Cond.fieldLink "TreeCompare" (7 : Nat) "TreeCompare" "counts" "[B") ∈ lw_all := lw_g (lw_at lw_m1 11 rfl) rfl
theorem q32 : (Jvm.Cond.fieldLink "TreeCompare" (13 : Nat) "TreeCompare" "extras" "[B") ∈ lw_all := lw_g (lw_at lw_m1 12 rfl) rfl
theorem q33 : (Jvm.Cond.fieldLink "TreeCompare" (16 : Nat) "TreeCompare" "nodes" "[B") ∈ lw_all := lw_g (lw_at lw_m1 13 rfl) rfl
theorem q34 : (Jvm.Cond.fieldLink "TreeCompare" (19 : Nat) "TreeCompare" "nodeCounts" "[B") ∈ lw_all := lw_g (lw_at lw_m1 14 rfl) rfl
theorem q35 : (Jvm.Cond.fieldLink "TreeCompare" (22 : Nat) "TreeCompare" "best" "[B") ∈ lw_all := lw_g (lw_at lw_m1 15 rfl) rfl
theorem q36 : (Jvm.Cond.fieldLink "TreeCompare" (25 : Nat) "TreeCompare" "matched" "[B") ∈ lw_all := lw_g (lw_at lw_m1 16 rfl) rfl
theorem q37 : (Jvm.Cond.laysFinal "TreeCompare" "TreeCompare" "counts" "[B") ∈ lw_all := lw_g (lw_at lw_m1 17 rfl) rfl
theorem q38 : (Jvm.Cond.soleField "TreeCompare" "counts") ∈ lw_all := lw_g (lw_at lw_m1 18 rfl) rfl
theorem q39 : (Jvm.Cond.laysFinal "TreeCompare" "TreeCompare" "extras" "[B") ∈ lw_all := lw_g (lw_at lw_m1 19 rfl) rfl
theorem q40 : (Jvm.Cond.soleField "TreeCompare" "extras") ∈ lw_all := lw_g (lw_at lw_m1 20 rfl) rfl
theorem q41 : (Jvm.Cond.laysFinal "TreeCompare" "TreeCompare" "nodes" "[B") ∈ lw_all := lw_g (lw_at lw_m1 21 rfl) rfl
theorem q42 : (Jvm.Cond.soleField "TreeCompare" "nodes") ∈ lw_all := lw_g (lw_at lw_m1 22 rfl) rfl
theorem q43 : (Jvm.Cond.laysFinal "TreeCompare" "TreeCompare" "nodeCounts" "[B") ∈ lw_all := lw_g (lw_at lw_m1 23 rfl) rfl
theorem q44 : (Jvm.Cond.soleField "TreeCompare" "nodeCounts") ∈ lw_all := lw_g (lw_at lw_m1 24 rfl) rfl
theorem q45 : (Jvm.Cond.laysFinal "TreeCompare" "TreeCompare" "best" "[B") ∈ lw_all := lw_g (lw_at lw_m1 25 rfl) rfl
theorem q46 : (Jvm.Cond.soleField "TreeCompare" "best") ∈ lw_all := lw_g (lw_at lw_m1 26 rfl) rfl
theorem q47 : (Jvm.Cond.laysFinal "TreeCompare" "TreeCompare" "matched" "[B") ∈ lw_all := lw_g (lw_at lw_m1 27 rfl) rfl
theorem q48 : (Jvm.Cond.soleField "TreeCompare" "matched") ∈ lw_all := lw_g (lw_at lw_m1 28 rfl) rfl
theorem q49 : (Jvm.Cond.superclass "TreeCompare" "java/lang/Object") ∈ lw_all := lw_g (lw_at lw_m1 29 rfl) rfl
theorem q52 : (Jvm.Cond.instanceMethod ({ cls := "TreeCompare", name := "add", desc := "(II)Z" } : Jvm.MethodName)) ∈ lw_all := lw_g (lw_at lw_m1 32 rfl) rfl
theorem q53 : (Jvm.Cond.selects "TreeCompare" ({ cls := "TreeCompare", name := "add", desc := "(II)Z" } : Jvm.MethodName) ({ cls := "TreeCompare", name := "add", desc := "(II)Z" } : Jvm.MethodName)) ∈ lw_all := lw_g (lw_at lw_m1 33 rfl) rfl
theorem q54 : (Jvm.Cond.code ({ cls := "TreeCompare", name := "add", desc := "(II)Z" } : Jvm.MethodName) prog_1_method_10_code (3 : Nat) (Option.some Jvm.ClassFile.FieldType.boolean)) ∈ lw_all := lw_g (lw_at lw_m1 34 rfl) rfl
theorem q55 : (Jvm.Cond.methodLink "TreeCompare" (44 : Nat) ({ cls := "TreeCompare", name := "isTree", desc := "(I)Z" } : Jvm.MethodName)) ∈ lw_all := lw_g (lw_at lw_m1 35 rfl) rfl
theorem q56 : (Jvm.Cond.static ({ cls := "TreeCompare", name := "isTree", desc := "(I)Z" } : Jvm.MethodName)) ∈ lw_all := lw_g (lw_at lw_m1 36 rfl) rfl
theorem q57 : (Jvm.Cond.code ({ cls := "TreeCompare", name := "isTree", desc := "(I)Z" } : Jvm.MethodName) prog_1_method_2_code (1 : Nat) (Option.some Jvm.ClassFile.FieldType.boolean)) ∈ lw_all := lw_g (lw_at lw_m1 37 rfl) rfl
theorem q58 : (Jvm.Cond.methodLink "TreeCompare" (47 : Nat) ({ cls := "TreeCompare", name := "canAdd", desc := "(II)Z" } : Jvm.MethodName)) ∈ lw_all := lw_g (lw_at lw_m1 38 rfl) rfl
theorem q59 : (Jvm.Cond.privateMethod ({ cls := "TreeCompare", name := "canAdd", desc := "(II)Z" } : Jvm.MethodName)) ∈ lw_tbl := lw_at lw_m1 39 rfl
theorem q60 : (Jvm.Cond.instanceMethod ({ cls := "TreeCompare", name := "canAdd", desc := "(II)Z" } : Jvm.MethodName)) ∈ lw_all := lw_g (lw_at lw_m1 40 rfl) rfl
theorem q61 : (Jvm.Cond.code ({ cls := "TreeCompare", name := "canAdd", desc := "(II)Z" } : Jvm.MethodName) prog_1_method_9_code (4 : Nat) (Option.some Jvm.ClassFile.FieldType.boolean)) ∈ lw_all := lw_g (lw_at lw_m1 41 rfl) rfl
theorem q62 : (Jvm.Cond.methodLink "TreeCompare" (40 : Nat) ({ cls := "TreeCompare", name := "goTogether", desc := "(II)Z" } : Jvm.MethodName)) ∈ lw_all := lw_g (lw_at lw_m1 42 rfl) rfl
theorem q63 : (Jvm.Cond.static ({ cls := "TreeCompare", name := "goTogether", desc := "(II)Z" } : Jvm.MethodName)) ∈ lw_all := lw_g (lw_at lw_m1 43 rfl) rfl
theorem q64 : (Jvm.Cond.code ({ cls := "TreeCompare", name := "goTogether", desc := "(II)Z" } : Jvm.MethodName) prog_1_method_6_code (3 : Nat) (Option.some Jvm.ClassFile.FieldType.boolean)) ∈ lw_all := lw_g (lw_at lw_m1 44 rfl) rfl
theorem q65 : (Jvm.Cond.methodLink "TreeCompare" (50 : Nat) ({ cls := "TreeCompare", name := "hasGroup", desc := "(II)Z" } : Jvm.MethodName)) ∈ lw_all := lw_g (lw_at lw_m1 45 rfl) rfl
theorem q66 : (Jvm.Cond.privateMethod ({ cls := "TreeCompare", name := "hasGroup", desc := "(II)Z" } : Jvm.MethodName)) ∈ lw_tbl := lw_at lw_m1 46 rfl
theorem q67 : (Jvm.Cond.instanceMethod ({ cls := "TreeCompare", name := "hasGroup", desc := "(II)Z" } : Jvm.MethodName)) ∈ lw_all := lw_g (lw_at lw_m1 47 rfl) rfl
theorem q68 : (Jvm.Cond.code ({ cls := "TreeCompare", name := "hasGroup", desc := "(II)Z" } : Jvm.MethodName) prog_1_method_8_code (3 : Nat) (Option.some Jvm.ClassFile.FieldType.boolean)) ∈ lw_all := lw_g (lw_at lw_m1 48 rfl) rfl
theorem q69 : (Jvm.Cond.methodLink "TreeCompare" (32 : Nat) ({ cls := "TreeCompare", name := "everyTreeHas", desc := "(I)Z" } : Jvm.MethodName)) ∈ lw_all := lw_g (lw_at lw_m1 49 rfl) rfl
theorem q70 : (Jvm.Cond.static ({ cls := "TreeCompare", name := "everyTreeHas", desc := "(I)Z" } : Jvm.MethodName)) ∈ lw_all := lw_g (lw_at lw_m1 50 rfl) rfl
theorem q71 : (Jvm.Cond.code ({ cls := "TreeCompare", name := "everyTreeHas", desc := "(I)Z" } : Jvm.MethodName) prog_1_method_5_code (1 : Nat) (Option.some Jvm.ClassFile.FieldType.boolean)) ∈ lw_all := lw_g (lw_at lw_m1 51 rfl) rfl
theorem q72 : (Jvm.Cond.methodLink "TreeCompare" (28 : Nat) ({ cls := "TreeCompare", name := "ones", desc := "(I)I" } : Jvm.MethodName)) ∈ lw_all := lw_g (lw_at lw_m1 52 rfl) rfl
theorem q73 : (Jvm.Cond.static ({ cls := "TreeCompare", name := "ones", desc := "(I)I" } : Jvm.MethodName)) ∈ lw_all := lw_g (lw_at lw_m1 53 rfl) rfl
theorem q74 : (Jvm.Cond.code ({ cls := "TreeCompare", name := "ones", desc := "(I)I" } : Jvm.MethodName) prog_1_method_4_code (3 : Nat) (Option.some Jvm.ClassFile.FieldType.int)) ∈ lw_all := lw_g (lw_at lw_m1 54 rfl) rfl
theorem q75 : (Jvm.Cond.methodLink "TreeCompare" (36 : Nat) ({ cls := "TreeCompare", name := "find", desc := "(II)I" } : Jvm.MethodName)) ∈ lw_all := lw_g (lw_at lw_m1 55 rfl) rfl
theorem q76 : (Jvm.Cond.privateMethod ({ cls := "TreeCompare", name := "find", desc := "(II)I" } : Jvm.MethodName)) ∈ lw_tbl := lw_at lw_m1 56 rfl
theorem q77 : (Jvm.Cond.instanceMethod ({ cls := "TreeCompare", name := "find", desc := "(II)I" } : Jvm.MethodName)) ∈ lw_all := lw_g (lw_at lw_m1 57 rfl) rfl
theorem q78 : (Jvm.Cond.code ({ cls := "TreeCompare", name := "find", desc := "(II)I" } : Jvm.MethodName) prog_1_method_7_code (4 : Nat) (Option.some Jvm.ClassFile.FieldType.int)) ∈ lw_all := lw_g (lw_at lw_m1 58 rfl) rfl
theorem q80 : (Jvm.Cond.instanceMethod ({ cls := "TreeCompare", name := "remove", desc := "(II)Z" } : Jvm.MethodName)) ∈ lw_all := lw_g (lw_at lw_m1 60 rfl) rfl
theorem q81 : (Jvm.Cond.selects "TreeCompare" ({ cls := "TreeCompare", name := "remove", desc := "(II)Z" } : Jvm.MethodName) ({ cls := "TreeCompare", name := "remove", desc := "(II)Z" } : Jvm.MethodName)) ∈ lw_all := lw_g (lw_at lw_m1 61 rfl) rfl
theorem q82 : (Jvm.Cond.code ({ cls := "TreeCompare", name := "remove", desc := "(II)Z" } : Jvm.MethodName) prog_1_method_11_code (4 : Nat) (Option.some Jvm.ClassFile.FieldType.boolean)) ∈ lw_all := lw_g (lw_at lw_m1 62 rfl) rfl
theorem q84 : (Jvm.Cond.instanceMethod ({ cls := "TreeCompare", name := "clear", desc := "(I)Z" } : Jvm.MethodName)) ∈ lw_all := lw_g (lw_at lw_m1 64 rfl) rfl
theorem q85 : (Jvm.Cond.selects "TreeCompare" ({ cls := "TreeCompare", name := "clear", desc := "(I)Z" } : Jvm.MethodName) ({ cls := "TreeCompare", name := "clear", desc := "(I)Z" } : Jvm.MethodName)) ∈ lw_all := lw_g (lw_at lw_m1 65 rfl) rfl
theorem q86 : (Jvm.Cond.code ({ cls := "TreeCompare", name := "clear", desc := "(I)Z" } : Jvm.MethodName) prog_1_method_12_code (2 : Nat) (Option.some Jvm.ClassFile.FieldType.boolean)) ∈ lw_all := lw_g (lw_at lw_m1 66 rfl) rfl
theorem q88 : (Jvm.Cond.instanceMethod ({ cls := "TreeCompare", name := "groups", desc := "(I)I" } : Jvm.MethodName)) ∈ lw_all := lw_g (lw_at lw_m1 68 rfl) rfl
theorem q89 : (Jvm.Cond.selects "TreeCompare" ({ cls := "TreeCompare", name := "groups", desc := "(I)I" } : Jvm.MethodName) ({ cls := "TreeCompare", name := "groups", desc := "(I)I" } : Jvm.MethodName)) ∈ lw_all := lw_g (lw_at lw_m1 69 rfl) rfl
theorem q90 : (Jvm.Cond.code ({ cls := "TreeCompare", name := "groups", desc := "(I)I" } : Jvm.MethodName) prog_1_method_13_code (2 : Nat) (Option.some Jvm.ClassFile.FieldType.int)) ∈ lw_all := lw_g (lw_at lw_m1 70 rfl) rfl
theorem q92 : (Jvm.Cond.instanceMethod ({ cls := "TreeCompare", name := "join", desc := "(II)I" } : Jvm.MethodName)) ∈ lw_all := lw_g (lw_at lw_m1 72 rfl) rfl
theorem q93 : (Jvm.Cond.selects "TreeCompare" ({ cls := "TreeCompare", name := "join", desc := "(II)I" } : Jvm.MethodName) ({ cls := "TreeCompare", name := "join", desc := "(II)I" } : Jvm.MethodName)) ∈ lw_all := lw_g (lw_at lw_m1 73 rfl) rfl
theorem q94 : (Jvm.Cond.code ({ cls := "TreeCompare", name := "join", desc := "(II)I" } : Jvm.MethodName) prog_1_method_15_code (3 : Nat) (Option.some Jvm.ClassFile.FieldType.int)) ∈ lw_all := lw_g (lw_at lw_m1 74 rfl) rfl
theorem q95 : (Jvm.Cond.methodLink "TreeCompare" (53 : Nat) ({ cls := "TreeCompare", name := "joinOf", desc := "(II)I" } : Jvm.MethodName)) ∈ lw_all := lw_g (lw_at lw_m1 75 rfl) rfl
theorem q96 : (Jvm.Cond.privateMethod ({ cls := "TreeCompare", name := "joinOf", desc := "(II)I" } : Jvm.MethodName)) ∈ lw_tbl := lw_at lw_m1 76 rfl
theorem q97 : (Jvm.Cond.instanceMethod ({ cls := "TreeCompare", name := "joinOf", desc := "(II)I" } : Jvm.MethodName)) ∈ lw_all := lw_g (lw_at lw_m1 77 rfl) rfl
theorem q98 : (Jvm.Cond.code ({ cls := "TreeCompare", name := "joinOf", desc := "(II)I" } : Jvm.MethodName) prog_1_method_14_code (6 : Nat) (Option.some Jvm.ClassFile.FieldType.int)) ∈ lw_all := lw_g (lw_at lw_m1 78 rfl) rfl
theorem q100 : (Jvm.Cond.instanceMethod ({ cls := "TreeCompare", name := "says", desc := "(IIII)I" } : Jvm.MethodName)) ∈ lw_all := lw_g (lw_at lw_m1 80 rfl) rfl
theorem q101 : (Jvm.Cond.selects "TreeCompare" ({ cls := "TreeCompare", name := "says", desc := "(IIII)I" } : Jvm.MethodName) ({ cls := "TreeCompare", name := "says", desc := "(IIII)I" } : Jvm.MethodName)) ∈ lw_all := lw_g (lw_at lw_m1 81 rfl) rfl
theorem q102 : (Jvm.Cond.code ({ cls := "TreeCompare", name := "says", desc := "(IIII)I" } : Jvm.MethodName) prog_1_method_17_code (5 : Nat) (Option.some Jvm.ClassFile.FieldType.int)) ∈ lw_all := lw_g (lw_at lw_m1 82 rfl) rfl
theorem q103 : (Jvm.Cond.methodLink "TreeCompare" (56 : Nat) ({ cls := "TreeCompare", name := "isMember", desc := "(I)Z" } : Jvm.MethodName)) ∈ lw_all := lw_g (lw_at lw_m1 83 rfl) rfl
theorem q104 : (Jvm.Cond.static ({ cls := "TreeCompare", name := "isMember", desc := "(I)Z" } : Jvm.MethodName)) ∈ lw_all := lw_g (lw_at lw_m1 84 rfl) rfl
theorem q105 : (Jvm.Cond.code ({ cls := "TreeCompare", name := "isMember", desc := "(I)Z" } : Jvm.MethodName) prog_1_method_3_code (1 : Nat) (Option.some Jvm.ClassFile.FieldType.boolean)) ∈ lw_all := lw_g (lw_at lw_m1 85 rfl) rfl
theorem q106 : (Jvm.Cond.methodLink "TreeCompare" (59 : Nat) ({ cls := "TreeCompare", name := "lastOf", desc := "(IIII)I" } : Jvm.MethodName)) ∈ lw_all := lw_g (lw_at lw_m1 86 rfl) rfl
theorem q107 : (Jvm.Cond.privateMethod ({ cls := "TreeCompare", name := "lastOf", desc := "(IIII)I" } : Jvm.MethodName)) ∈ lw_tbl := lw_at lw_m1 87 rfl
theorem q108 : (Jvm.Cond.instanceMethod ({ cls := "TreeCompare", name := "lastOf", desc := "(IIII)I" } : Jvm.MethodName)) ∈ lw_all := lw_g (lw_at lw_m1 88 rfl) rfl
theorem q109 : (Jvm.Cond.code ({ cls := "TreeCompare", name := "lastOf", desc := "(IIII)I" } : Jvm.MethodName) prog_1_method_16_code (6 : Nat) (Option.some Jvm.ClassFile.FieldType.int)) ∈ lw_all := lw_g (lw_at lw_m1 89 rfl) rfl
theorem q111 : (Jvm.Cond.instanceMethod ({ cls := "TreeCompare", name := "decided", desc := "(I)I" } : Jvm.MethodName)) ∈ lw_all := lw_g (lw_at lw_m1 91 rfl) rfl
theorem q112 : (Jvm.Cond.selects "TreeCompare" ({ cls := "TreeCompare", name := "decided", desc := "(I)I" } : Jvm.MethodName) ({ cls := "TreeCompare", name := "decided", desc := "(I)I" } : Jvm.MethodName)) ∈ lw_all := lw_g (lw_at lw_m1 92 rfl) rfl
theorem q113 : (Jvm.Cond.code ({ cls := "TreeCompare", name := "decided", desc := "(I)I" } : Jvm.MethodName) prog_1_method_18_code (7 : Nat) (Option.some Jvm.ClassFile.FieldType.int)) ∈ lw_all := lw_g (lw_at lw_m1 93 rfl) rfl
theorem q115 : (Jvm.Cond.instanceMethod ({ cls := "TreeCompare", name := "groupDistance", desc := "()I" } : Jvm.MethodName)) ∈ lw_all := lw_g (lw_at lw_m1 95 rfl) rfl
theorem q116 : (Jvm.Cond.selects "TreeCompare" ({ cls := "TreeCompare", name := "groupDistance", desc := "()I" } : Jvm.MethodName) ({ cls := "TreeCompare", name := "groupDistance", desc := "()I" } : Jvm.MethodName)) ∈ lw_all := lw_g (lw_at lw_m1 96 rfl) rfl
theorem q117 : (Jvm.Cond.code ({ cls := "TreeCompare", name := "groupDistance", desc := "()I" } : Jvm.MethodName) prog_1_method_20_code (2 : Nat) (Option.some Jvm.ClassFile.FieldType.int)) ∈ lw_all := lw_g (lw_at lw_m1 97 rfl) rfl
theorem q118 : (Jvm.Cond.methodLink "TreeCompare" (63 : Nat) ({ cls := "TreeCompare", name := "common", desc := "()I" } : Jvm.MethodName)) ∈ lw_all := lw_g (lw_at lw_m1 98 rfl) rfl
theorem q119 : (Jvm.Cond.instanceMethod ({ cls := "TreeCompare", name := "common", desc := "()I" } : Jvm.MethodName)) ∈ lw_all := lw_g (lw_at lw_m1 99 rfl) rfl
theorem q120 : (Jvm.Cond.selects "TreeCompare" ({ cls := "TreeCompare", name := "common", desc := "()I" } : Jvm.MethodName) ({ cls := "TreeCompare", name := "common", desc := "()I" } : Jvm.MethodName)) ∈ lw_all := lw_g (lw_at lw_m1 100 rfl) rfl
theorem q121 : (Jvm.Cond.code ({ cls := "TreeCompare", name := "common", desc := "()I" } : Jvm.MethodName) prog_1_method_32_code (3 : Nat) (Option.some Jvm.ClassFile.FieldType.int)) ∈ lw_all := lw_g (lw_at lw_m1 101 rfl) rfl
theorem q123 : (Jvm.Cond.instanceMethod ({ cls := "TreeCompare", name := "tripleDistance", desc := "()I" } : Jvm.MethodName)) ∈ lw_all := lw_g (lw_at lw_m1 103 rfl) rfl
theorem q124 : (Jvm.Cond.selects "TreeCompare" ({ cls := "TreeCompare", name := "tripleDistance", desc := "()I" } : Jvm.MethodName) ({ cls := "TreeCompare", name := "tripleDistance", desc := "()I" } : Jvm.MethodName)) ∈ lw_all := lw_g (lw_at lw_m1 104 rfl) rfl
theorem q125 : (Jvm.Cond.code ({ cls := "TreeCompare", name := "tripleDistance", desc := "()I" } : Jvm.MethodName) prog_1_method_21_code (1 : Nat) (Option.some Jvm.ClassFile.FieldType.int)) ∈ lw_all := lw_g (lw_at lw_m1 105 rfl) rfl
theorem q126 : (Jvm.Cond.methodLink "TreeCompare" (67 : Nat) ({ cls := "TreeCompare", name := "conflicts", desc := "(I)I" } : Jvm.MethodName)) ∈ lw_all := lw_g (lw_at lw_m1 106 rfl) rfl
theorem q127 : (Jvm.Cond.privateMethod ({ cls := "TreeCompare", name := "conflicts", desc := "(I)I" } : Jvm.MethodName)) ∈ lw_tbl := lw_at lw_m1 107 rfl
theorem q128 : (Jvm.Cond.instanceMethod ({ cls := "TreeCompare", name := "conflicts", desc := "(I)I" } : Jvm.MethodName)) ∈ lw_all := lw_g (lw_at lw_m1 108 rfl) rfl
theorem q129 : (Jvm.Cond.code ({ cls := "TreeCompare", name := "conflicts", desc := "(I)I" } : Jvm.MethodName) prog_1_method_19_code (9 : Nat) (Option.some Jvm.ClassFile.FieldType.int)) ∈ lw_all := lw_g (lw_at lw_m1 109 rfl) rfl
theorem q131 : (Jvm.Cond.instanceMethod ({ cls := "TreeCompare", name := "agreement", desc := "()I" } : Jvm.MethodName)) ∈ lw_all := lw_g (lw_at lw_m1 111 rfl) rfl
theorem q132 : (Jvm.Cond.selects "TreeCompare" ({ cls := "TreeCompare", name := "agreement", desc := "()I" } : Jvm.MethodName) ({ cls := "TreeCompare", name := "agreement", desc := "()I" } : Jvm.MethodName)) ∈ lw_all := lw_g (lw_at lw_m1 112 rfl) rfl
theorem q133 : (Jvm.Cond.code ({ cls := "TreeCompare", name := "agreement", desc := "()I" } : Jvm.MethodName) prog_1_method_28_code (1 : Nat) (Option.some Jvm.ClassFile.FieldType.int)) ∈ lw_all := lw_g (lw_at lw_m1 113 rfl) rfl
theorem q134 : (Jvm.Cond.methodLink "TreeCompare" (88 : Nat) ({ cls := "TreeCompare", name := "solve", desc := "()I" } : Jvm.MethodName)) ∈ lw_all := lw_g (lw_at lw_m1 114 rfl) rfl
theorem q135 : (Jvm.Cond.privateMethod ({ cls := "TreeCompare", name := "solve", desc := "()I" } : Jvm.MethodName)) ∈ lw_tbl := lw_at lw_m1 115 rfl
theorem q136 : (Jvm.Cond.instanceMethod ({ cls := "TreeCompare", name := "solve", desc := "()I" } : Jvm.MethodName)) ∈ lw_all := lw_g (lw_at lw_m1 116 rfl) rfl
theorem q137 : (Jvm.Cond.code ({ cls := "TreeCompare", name := "solve", desc := "()I" } : Jvm.MethodName) prog_1_method_24_code (3 : Nat) (Option.some Jvm.ClassFile.FieldType.int)) ∈ lw_all := lw_g (lw_at lw_m1 117 rfl) rfl
theorem q138 : (Jvm.Cond.methodLink "TreeCompare" (70 : Nat) ({ cls := "TreeCompare", name := "list", desc := "(I)V" } : Jvm.MethodName)) ∈ lw_all := lw_g (lw_at lw_m1 118 rfl) rfl
theorem q139 : (Jvm.Cond.privateMethod ({ cls := "TreeCompare", name := "list", desc := "(I)V" } : Jvm.MethodName)) ∈ lw_tbl := lw_at lw_m1 119 rfl
theorem q140 : (Jvm.Cond.instanceMethod ({ cls := "TreeCompare", name := "list", desc := "(I)V" } : Jvm.MethodName)) ∈ lw_all := lw_g (lw_at lw_m1 120 rfl) rfl
theorem q141 : (Jvm.Cond.code ({ cls := "TreeCompare", name := "list", desc := "(I)V" } : Jvm.MethodName) prog_1_method_22_code (5 : Nat) (Option.none : Option Jvm.ClassFile.FieldType)) ∈ lw_all := lw_g (lw_at lw_m1 121 rfl) rfl
theorem q142 : (Jvm.Cond.methodLink "TreeCompare" (74 : Nat) ({ cls := "TreeCompare", name := "below", desc := "(II)I" } : Jvm.MethodName)) ∈ lw_all := lw_g (lw_at lw_m1 122 rfl) rfl
theorem q143 : (Jvm.Cond.privateMethod ({ cls := "TreeCompare", name := "below", desc := "(II)I" } : Jvm.MethodName)) ∈ lw_tbl := lw_at lw_m1 123 rfl
theorem q144 : (Jvm.Cond.instanceMethod ({ cls := "TreeCompare", name := "below", desc := "(II)I" } : Jvm.MethodName)) ∈ lw_all := lw_g (lw_at lw_m1 124 rfl) rfl
theorem q145 : (Jvm.Cond.code ({ cls := "TreeCompare", name := "below", desc := "(II)I" } : Jvm.MethodName) prog_1_method_25_code (7 : Nat) (Option.some Jvm.ClassFile.FieldType.int)) ∈ lw_all := lw_g (lw_at lw_m1 125 rfl) rfl
theorem q146 : (Jvm.Cond.methodLink "TreeCompare" (77 : Nat) ({ cls := "TreeCompare", name := "matchParts", desc := "(II)I" } : Jvm.MethodName)) ∈ lw_all := lw_g (lw_at lw_m1 126 rfl) rfl
theorem q147 : (Jvm.Cond.privateMethod ({ cls := "TreeCompare", name := "matchParts", desc := "(II)I" } : Jvm.MethodName)) ∈ lw_tbl := lw_at lw_m1 127 rfl
theorem q148 : (Jvm.Cond.instanceMethod ({ cls := "TreeCompare", name := "matchParts", desc := "(II)I" } : Jvm.MethodName)) ∈ lw_all := lw_g (lw_at lw_m1 128 rfl) rfl
theorem q149 : (Jvm.Cond.code ({ cls := "TreeCompare", name := "matchParts", desc := "(II)I" } : Jvm.MethodName) prog_1_method_26_code (5 : Nat) (Option.some Jvm.ClassFile.FieldType.int)) ∈ lw_all := lw_g (lw_at lw_m1 129 rfl) rfl
theorem q150 : (Jvm.Cond.methodLink "TreeCompare" (80 : Nat) ({ cls := "TreeCompare", name := "isPart", desc := "(III)Z" } : Jvm.MethodName)) ∈ lw_all := lw_g (lw_at lw_m1 130 rfl) rfl
theorem q151 : (Jvm.Cond.privateMethod ({ cls := "TreeCompare", name := "isPart", desc := "(III)Z" } : Jvm.MethodName)) ∈ lw_tbl := lw_at lw_m1 131 rfl
theorem q152 : (Jvm.Cond.instanceMethod ({ cls := "TreeCompare", name := "isPart", desc := "(III)Z" } : Jvm.MethodName)) ∈ lw_all := lw_g (lw_at lw_m1 132 rfl) rfl
theorem q153 : (Jvm.Cond.code ({ cls := "TreeCompare", name := "isPart", desc := "(III)Z" } : Jvm.MethodName) prog_1_method_23_code (8 : Nat) (Option.some Jvm.ClassFile.FieldType.boolean)) ∈ lw_all := lw_g (lw_at lw_m1 133 rfl) rfl
theorem q154 : (Jvm.Cond.methodLink "TreeCompare" (84 : Nat) ({ cls := "TreeCompare", name := "improve", desc := "(III)V" } : Jvm.MethodName)) ∈ lw_all := lw_g (lw_at lw_m1 134 rfl) rfl
theorem q155 : (Jvm.Cond.privateMethod ({ cls := "TreeCompare", name := "improve", desc := "(III)V" } : Jvm.MethodName)) ∈ lw_tbl := lw_at lw_m1 135 rfl
theorem q156 : (Jvm.Cond.instanceMethod ({ cls := "TreeCompare", name := "improve", desc := "(III)V" } : Jvm.MethodName)) ∈ lw_all := lw_g (lw_at lw_m1 136 rfl) rfl
theorem q157 : (Jvm.Cond.code ({ cls := "TreeCompare", name := "improve", desc := "(III)V" } : Jvm.MethodName) prog_1_method_27_code (8 : Nat) (Option.none : Option Jvm.ClassFile.FieldType)) ∈ lw_all := lw_g (lw_at lw_m1 137 rfl) rfl
theorem q159 : (Jvm.Cond.instanceMethod ({ cls := "TreeCompare", name := "agreeingSet", desc := "()I" } : Jvm.MethodName)) ∈ lw_all := lw_g (lw_at lw_m1 139 rfl) rfl
theorem q160 : (Jvm.Cond.selects "TreeCompare" ({ cls := "TreeCompare", name := "agreeingSet", desc := "()I" } : Jvm.MethodName) ({ cls := "TreeCompare", name := "agreeingSet", desc := "()I" } : Jvm.MethodName)) ∈ lw_all := lw_g (lw_at lw_m1 140 rfl) rfl
theorem q161 : (Jvm.Cond.code ({ cls := "TreeCompare", name := "agreeingSet", desc := "()I" } : Jvm.MethodName) prog_1_method_29_code (3 : Nat) (Option.some Jvm.ClassFile.FieldType.int)) ∈ lw_all := lw_g (lw_at lw_m1 141 rfl) rfl
theorem q163 : (Jvm.Cond.instanceMethod ({ cls := "TreeCompare", name := "agree", desc := "(I)Z" } : Jvm.MethodName)) ∈ lw_all := lw_g (lw_at lw_m1 143 rfl) rfl
theorem q164 : (Jvm.Cond.selects "TreeCompare" ({ cls := "TreeCompare", name := "agree", desc := "(I)Z" } : Jvm.MethodName) ({ cls := "TreeCompare", name := "agree", desc := "(I)Z" } : Jvm.MethodName)) ∈ lw_all := lw_g (lw_at lw_m1 144 rfl) rfl
theorem q165 : (Jvm.Cond.code ({ cls := "TreeCompare", name := "agree", desc := "(I)Z" } : Jvm.MethodName) prog_1_method_30_code (2 : Nat) (Option.some Jvm.ClassFile.FieldType.boolean)) ∈ lw_all := lw_g (lw_at lw_m1 145 rfl) rfl
theorem q167 : (Jvm.Cond.instanceMethod ({ cls := "TreeCompare", name := "together", desc := "()Z" } : Jvm.MethodName)) ∈ lw_all := lw_g (lw_at lw_m1 147 rfl) rfl
theorem q168 : (Jvm.Cond.selects "TreeCompare" ({ cls := "TreeCompare", name := "together", desc := "()Z" } : Jvm.MethodName) ({ cls := "TreeCompare", name := "together", desc := "()Z" } : Jvm.MethodName)) ∈ lw_all := lw_g (lw_at lw_m1 148 rfl) rfl
theorem q169 : (Jvm.Cond.code ({ cls := "TreeCompare", name := "together", desc := "()Z" } : Jvm.MethodName) prog_1_method_31_code (2 : Nat) (Option.some Jvm.ClassFile.FieldType.boolean)) ∈ lw_all := lw_g (lw_at lw_m1 149 rfl) rfl
theorem q172 : (Jvm.Cond.instanceMethod ({ cls := "TreeCompare", name := "depth", desc := "(II)I" } : Jvm.MethodName)) ∈ lw_all := lw_g (lw_at lw_m1 152 rfl) rfl
theorem q173 : (Jvm.Cond.selects "TreeCompare" ({ cls := "TreeCompare", name := "depth", desc := "(II)I" } : Jvm.MethodName) ({ cls := "TreeCompare", name := "depth", desc := "(II)I" } : Jvm.MethodName)) ∈ lw_all := lw_g (lw_at lw_m1 153 rfl) rfl
theorem q174 : (Jvm.Cond.code ({ cls := "TreeCompare", name := "depth", desc := "(II)I" } : Jvm.MethodName) prog_1_method_33_code (5 : Nat) (Option.some Jvm.ClassFile.FieldType.int)) ∈ lw_all := lw_g (lw_at lw_m1 154 rfl) rfl
theorem q176 : (Jvm.Cond.instanceMethod ({ cls := "TreeCompare", name := "room", desc := "(I)I" } : Jvm.MethodName)) ∈ lw_all := lw_g (lw_at lw_m1 156 rfl) rfl
theorem q177 : (Jvm.Cond.selects "TreeCompare" ({ cls := "TreeCompare", name := "room", desc := "(I)I" } : Jvm.MethodName) ({ cls := "TreeCompare", name := "room", desc := "(I)I" } : Jvm.MethodName)) ∈ lw_all := lw_g (lw_at lw_m1 157 rfl) rfl
theorem q178 : (Jvm.Cond.code ({ cls := "TreeCompare", name := "room", desc := "(I)I" } : Jvm.MethodName) prog_1_method_34_code (4 : Nat) (Option.some Jvm.ClassFile.FieldType.int)) ∈ lw_all := lw_g (lw_at lw_m1 158 rfl) rfl
theorem in_X0 : ∀ w ∈ wsX00, w ∈ lw_all := lw_in wsX00 [37, 39, 41, 43, 45, 47] (by decide +kernel) (by decide +kernel)

/-! TreeCompareModel -/
set_option maxRecDepth 100000
def RX1 : String := "TreeCompareModel"
def TX1 : u_T := fun k => match k with
  | _ => ("TreeCompareModel", "has", "[Z", false)
def tyX1 : Nat → FieldType := fun k => match k with
  | _ => .array .boolean
abbrev wsX10 : List Cond := u_ws RX1 TX1 1
theorem nmX1 : ∀ a, a < 1 → ∀ b, b < 1 → a ≠ b → (TX1 a).2.1 ≠ (TX1 b).2.1 := by decide +kernel
theorem tyX1_ok : ∀ k, k < 1 → parseFieldDescriptor (TX1 k).2.2.1 = some (tyX1 k) := by decide +kernel
abbrev cX1_init : ByteArray := prog_3_method_1_code
def yX1_init : MethodName := ⟨RX1, "<init>", "()V"⟩
abbrev cX1_clear : ByteArray := prog_3_method_9_code
def yX1_clear : MethodName := ⟨RX1, "clear", "(I)Z"⟩
abbrev cX1_tree : ByteArray := prog_3_method_2_code
def yX1_tree : MethodName := ⟨RX1, "tree", "(I)Z"⟩
abbrev cX1_given : ByteArray := prog_3_method_4_code
def yX1_given : MethodName := ⟨RX1, "given", "(I)Z"⟩
abbrev cX1_count : ByteArray := prog_3_method_3_code
def yX1_count : MethodName := ⟨RX1, "count", "(I)I"⟩
abbrev cX1_add : ByteArray := prog_3_method_7_code
def yX1_add : MethodName := ⟨RX1, "add", "(II)Z"⟩
abbrev cX1_fits : ByteArray := prog_3_method_6_code
def yX1_fits : MethodName := ⟨RX1, "fits", "(II)Z"⟩
abbrev cX1_crosses : ByteArray := prog_3_method_5_code
def yX1_crosses : MethodName := ⟨RX1, "crosses", "(II)Z"⟩
abbrev cX1_remove : ByteArray := prog_3_method_8_code
def yX1_remove : MethodName := ⟨RX1, "remove", "(II)Z"⟩
abbrev cX1_groups : ByteArray := prog_3_method_10_code
def yX1_groups : MethodName := ⟨RX1, "groups", "(I)I"⟩
abbrev cX1_join : ByteArray := prog_3_method_11_code
def yX1_join : MethodName := ⟨RX1, "join", "(II)I"⟩
abbrev cX1_says : ByteArray := prog_3_method_14_code
def yX1_says : MethodName := ⟨RX1, "says", "(IIII)I"⟩
abbrev cX1_member : ByteArray := prog_3_method_12_code
def yX1_member : MethodName := ⟨RX1, "member", "(I)Z"⟩
abbrev cX1_closer : ByteArray := prog_3_method_13_code
def yX1_closer : MethodName := ⟨RX1, "closer", "(IIII)Z"⟩
abbrev cX1_decided : ByteArray := prog_3_method_16_code
def yX1_decided : MethodName := ⟨RX1, "decided", "(I)I"⟩
abbrev cX1_about : ByteArray := prog_3_method_15_code
def yX1_about : MethodName := ⟨RX1, "about", "(II)I"⟩
abbrev cX1_groupDistance : ByteArray := prog_3_method_17_code
def yX1_groupDistance : MethodName := ⟨RX1, "groupDistance", "()I"⟩
abbrev cX1_tripleDistance : ByteArray := prog_3_method_18_code
def yX1_tripleDistance : MethodName := ⟨RX1, "tripleDistance", "()I"⟩
abbrev cX1_agreement : ByteArray := prog_3_method_19_code
def yX1_agreement : MethodName := ⟨RX1, "agreement", "()I"⟩
abbrev cX1_agree : ByteArray := prog_3_method_21_code
def yX1_agree : MethodName := ⟨RX1, "agree", "(I)Z"⟩
abbrev cX1_agreeingSet : ByteArray := prog_3_method_20_code
def yX1_agreeingSet : MethodName := ⟨RX1, "agreeingSet", "()I"⟩
abbrev cX1_together : ByteArray := prog_3_method_22_code
def yX1_together : MethodName := ⟨RX1, "together", "()Z"⟩
abbrev cX1_common : ByteArray := prog_3_method_23_code
def yX1_common : MethodName := ⟨RX1, "common", "()I"⟩
abbrev cX1_depth : ByteArray := prog_3_method_24_code
def yX1_depth : MethodName := ⟨RX1, "depth", "(II)I"⟩
abbrev cX1_room : ByteArray := prog_3_method_25_code
def yX1_room : MethodName := ⟨RX1, "room", "(I)I"⟩
theorem q22 : (Jvm.Cond.initialized "TreeCompareModel") ∈ lw_all := lw_g (lw_at lw_m1 2 rfl) rfl
theorem q180 : (Jvm.Cond.instantiable "TreeCompareModel" (1 : Nat)) ∈ lw_all := lw_g (lw_at lw_m1 160 rfl) rfl
theorem q182 : (Jvm.Cond.instanceMethod ({ cls := "TreeCompareModel", name := "<init>", desc := "()V" } : Jvm.MethodName)) ∈ lw_all := lw_g (lw_at lw_m1 162 rfl) rfl
theorem q183 : (Jvm.Cond.code ({ cls := "TreeCompareModel", name := "<init>", desc := "()V" } : Jvm.MethodName) prog_3_method_1_code (1 : Nat) (Option.none : Option Jvm.ClassFile.FieldType)) ∈ lw_all := lw_g (lw_at lw_m1 163 rfl) rfl
theorem q184 : (Jvm.Cond.methodLink "TreeCompareModel" (1 : Nat) ({ cls := "java/lang/Object", name := "<init>", desc := "()V" } : Jvm.MethodName)) ∈ lw_all := lw_g (lw_at lw_m1 164 rfl) rfl
theorem q185 : (Jvm.Cond.methodLink "TreeCompareModel" (13 : Nat) ({ cls := "TreeCompareModel", name := "clear", desc := "(I)Z" } : Jvm.MethodName)) ∈ lw_all := lw_g (lw_at lw_m1 165 rfl) rfl
theorem q186 : (Jvm.Cond.instanceMethod ({ cls := "TreeCompareModel", name := "clear", desc := "(I)Z" } : Jvm.MethodName)) ∈ lw_all := lw_g (lw_at lw_m1 166 rfl) rfl
theorem q187 : (Jvm.Cond.selects "TreeCompareModel" ({ cls := "TreeCompareModel", name := "clear", desc := "(I)Z" } : Jvm.MethodName) ({ cls := "TreeCompareModel", name := "clear", desc := "(I)Z" } : Jvm.MethodName)) ∈ lw_all := lw_g (lw_at lw_m1 167 rfl) rfl
theorem q188 : (Jvm.Cond.code ({ cls := "TreeCompareModel", name := "clear", desc := "(I)Z" } : Jvm.MethodName) prog_3_method_9_code (3 : Nat) (Option.some Jvm.ClassFile.FieldType.boolean)) ∈ lw_all := lw_g (lw_at lw_m1 168 rfl) rfl
theorem q189 : (Jvm.Cond.methodLink "TreeCompareModel" (25 : Nat) ({ cls := "TreeCompareModel", name := "tree", desc := "(I)Z" } : Jvm.MethodName)) ∈ lw_all := lw_g (lw_at lw_m1 169 rfl) rfl
theorem q190 : (Jvm.Cond.privateMethod ({ cls := "TreeCompareModel", name := "tree", desc := "(I)Z" } : Jvm.MethodName)) ∈ lw_tbl := lw_at lw_m1 170 rfl
theorem q191 : (Jvm.Cond.instanceMethod ({ cls := "TreeCompareModel", name := "tree", desc := "(I)Z" } : Jvm.MethodName)) ∈ lw_all := lw_g (lw_at lw_m1 171 rfl) rfl
theorem q192 : (Jvm.Cond.code ({ cls := "TreeCompareModel", name := "tree", desc := "(I)Z" } : Jvm.MethodName) prog_3_method_2_code (2 : Nat) (Option.some Jvm.ClassFile.FieldType.boolean)) ∈ lw_all := lw_g (lw_at lw_m1 172 rfl) rfl
theorem q193 : (Jvm.Cond.methodLink "TreeCompareModel" (31 : Nat) ({ cls := "TreeCompareModel", name := "given", desc := "(I)Z" } : Jvm.MethodName)) ∈ lw_all := lw_g (lw_at lw_m1 173 rfl) rfl
theorem q194 : (Jvm.Cond.privateMethod ({ cls := "TreeCompareModel", name := "given", desc := "(I)Z" } : Jvm.MethodName)) ∈ lw_tbl := lw_at lw_m1 174 rfl
theorem q195 : (Jvm.Cond.instanceMethod ({ cls := "TreeCompareModel", name := "given", desc := "(I)Z" } : Jvm.MethodName)) ∈ lw_all := lw_g (lw_at lw_m1 175 rfl) rfl
theorem q196 : (Jvm.Cond.code ({ cls := "TreeCompareModel", name := "given", desc := "(I)Z" } : Jvm.MethodName) prog_3_method_4_code (2 : Nat) (Option.some Jvm.ClassFile.FieldType.boolean)) ∈ lw_all := lw_g (lw_at lw_m1 176 rfl) rfl
theorem q197 : (Jvm.Cond.methodLink "TreeCompareModel" (17 : Nat) ({ cls := "TreeCompareModel", name := "count", desc := "(I)I" } : Jvm.MethodName)) ∈ lw_all := lw_g (lw_at lw_m1 177 rfl) rfl
theorem q198 : (Jvm.Cond.privateMethod ({ cls := "TreeCompareModel", name := "count", desc := "(I)I" } : Jvm.MethodName)) ∈ lw_tbl := lw_at lw_m1 178 rfl
theorem q199 : (Jvm.Cond.instanceMethod ({ cls := "TreeCompareModel", name := "count", desc := "(I)I" } : Jvm.MethodName)) ∈ lw_all := lw_g (lw_at lw_m1 179 rfl) rfl
theorem q200 : (Jvm.Cond.code ({ cls := "TreeCompareModel", name := "count", desc := "(I)I" } : Jvm.MethodName) prog_3_method_3_code (4 : Nat) (Option.some Jvm.ClassFile.FieldType.int)) ∈ lw_all := lw_g (lw_at lw_m1 180 rfl) rfl
theorem q201 : (Jvm.Cond.fieldLink "TreeCompareModel" (7 : Nat) "TreeCompareModel" "has" "[Z") ∈ lw_all := lw_g (lw_at lw_m1 181 rfl) rfl
theorem q202 : (Jvm.Cond.lays "TreeCompareModel" "TreeCompareModel" "has" "[Z") ∈ lw_all := lw_g (lw_at lw_m1 182 rfl) rfl
theorem q203 : (Jvm.Cond.soleField "TreeCompareModel" "has") ∈ lw_all := lw_g (lw_at lw_m1 183 rfl) rfl
theorem q204 : (Jvm.Cond.superclass "TreeCompareModel" "java/lang/Object") ∈ lw_all := lw_g (lw_at lw_m1 184 rfl) rfl
theorem q207 : (Jvm.Cond.instanceMethod ({ cls := "TreeCompareModel", name := "add", desc := "(II)Z" } : Jvm.MethodName)) ∈ lw_all := lw_g (lw_at lw_m1 187 rfl) rfl
theorem q208 : (Jvm.Cond.selects "TreeCompareModel" ({ cls := "TreeCompareModel", name := "add", desc := "(II)Z" } : Jvm.MethodName) ({ cls := "TreeCompareModel", name := "add", desc := "(II)Z" } : Jvm.MethodName)) ∈ lw_all := lw_g (lw_at lw_m1 188 rfl) rfl
theorem q209 : (Jvm.Cond.code ({ cls := "TreeCompareModel", name := "add", desc := "(II)Z" } : Jvm.MethodName) prog_3_method_7_code (3 : Nat) (Option.some Jvm.ClassFile.FieldType.boolean)) ∈ lw_all := lw_g (lw_at lw_m1 189 rfl) rfl
theorem q210 : (Jvm.Cond.methodLink "TreeCompareModel" (28 : Nat) ({ cls := "TreeCompareModel", name := "fits", desc := "(II)Z" } : Jvm.MethodName)) ∈ lw_all := lw_g (lw_at lw_m1 190 rfl) rfl
theorem q211 : (Jvm.Cond.privateMethod ({ cls := "TreeCompareModel", name := "fits", desc := "(II)Z" } : Jvm.MethodName)) ∈ lw_tbl := lw_at lw_m1 191 rfl
theorem q212 : (Jvm.Cond.instanceMethod ({ cls := "TreeCompareModel", name := "fits", desc := "(II)Z" } : Jvm.MethodName)) ∈ lw_all := lw_g (lw_at lw_m1 192 rfl) rfl
theorem q213 : (Jvm.Cond.code ({ cls := "TreeCompareModel", name := "fits", desc := "(II)Z" } : Jvm.MethodName) prog_3_method_6_code (5 : Nat) (Option.some Jvm.ClassFile.FieldType.boolean)) ∈ lw_all := lw_g (lw_at lw_m1 193 rfl) rfl
theorem q214 : (Jvm.Cond.methodLink "TreeCompareModel" (21 : Nat) ({ cls := "TreeCompareModel", name := "crosses", desc := "(II)Z" } : Jvm.MethodName)) ∈ lw_all := lw_g (lw_at lw_m1 194 rfl) rfl
theorem q215 : (Jvm.Cond.privateMethod ({ cls := "TreeCompareModel", name := "crosses", desc := "(II)Z" } : Jvm.MethodName)) ∈ lw_tbl := lw_at lw_m1 195 rfl
theorem q216 : (Jvm.Cond.instanceMethod ({ cls := "TreeCompareModel", name := "crosses", desc := "(II)Z" } : Jvm.MethodName)) ∈ lw_all := lw_g (lw_at lw_m1 196 rfl) rfl
theorem q217 : (Jvm.Cond.code ({ cls := "TreeCompareModel", name := "crosses", desc := "(II)Z" } : Jvm.MethodName) prog_3_method_5_code (3 : Nat) (Option.some Jvm.ClassFile.FieldType.boolean)) ∈ lw_all := lw_g (lw_at lw_m1 197 rfl) rfl
theorem q219 : (Jvm.Cond.instanceMethod ({ cls := "TreeCompareModel", name := "remove", desc := "(II)Z" } : Jvm.MethodName)) ∈ lw_all := lw_g (lw_at lw_m1 199 rfl) rfl
theorem q220 : (Jvm.Cond.selects "TreeCompareModel" ({ cls := "TreeCompareModel", name := "remove", desc := "(II)Z" } : Jvm.MethodName) ({ cls := "TreeCompareModel", name := "remove", desc := "(II)Z" } : Jvm.MethodName)) ∈ lw_all := lw_g (lw_at lw_m1 200 rfl) rfl
theorem q221 : (Jvm.Cond.code ({ cls := "TreeCompareModel", name := "remove", desc := "(II)Z" } : Jvm.MethodName) prog_3_method_8_code (3 : Nat) (Option.some Jvm.ClassFile.FieldType.boolean)) ∈ lw_all := lw_g (lw_at lw_m1 201 rfl) rfl
theorem q224 : (Jvm.Cond.instanceMethod ({ cls := "TreeCompareModel", name := "groups", desc := "(I)I" } : Jvm.MethodName)) ∈ lw_all := lw_g (lw_at lw_m1 204 rfl) rfl
theorem q225 : (Jvm.Cond.selects "TreeCompareModel" ({ cls := "TreeCompareModel", name := "groups", desc := "(I)I" } : Jvm.MethodName) ({ cls := "TreeCompareModel", name := "groups", desc := "(I)I" } : Jvm.MethodName)) ∈ lw_all := lw_g (lw_at lw_m1 205 rfl) rfl
theorem q226 : (Jvm.Cond.code ({ cls := "TreeCompareModel", name := "groups", desc := "(I)I" } : Jvm.MethodName) prog_3_method_10_code (4 : Nat) (Option.some Jvm.ClassFile.FieldType.int)) ∈ lw_all := lw_g (lw_at lw_m1 206 rfl) rfl
theorem q228 : (Jvm.Cond.instanceMethod ({ cls := "TreeCompareModel", name := "join", desc := "(II)I" } : Jvm.MethodName)) ∈ lw_all := lw_g (lw_at lw_m1 208 rfl) rfl
theorem q229 : (Jvm.Cond.selects "TreeCompareModel" ({ cls := "TreeCompareModel", name := "join", desc := "(II)I" } : Jvm.MethodName) ({ cls := "TreeCompareModel", name := "join", desc := "(II)I" } : Jvm.MethodName)) ∈ lw_all := lw_g (lw_at lw_m1 209 rfl) rfl
theorem q230 : (Jvm.Cond.code ({ cls := "TreeCompareModel", name := "join", desc := "(II)I" } : Jvm.MethodName) prog_3_method_11_code (5 : Nat) (Option.some Jvm.ClassFile.FieldType.int)) ∈ lw_all := lw_g (lw_at lw_m1 210 rfl) rfl
theorem q232 : (Jvm.Cond.instanceMethod ({ cls := "TreeCompareModel", name := "says", desc := "(IIII)I" } : Jvm.MethodName)) ∈ lw_all := lw_g (lw_at lw_m1 212 rfl) rfl
theorem q233 : (Jvm.Cond.selects "TreeCompareModel" ({ cls := "TreeCompareModel", name := "says", desc := "(IIII)I" } : Jvm.MethodName) ({ cls := "TreeCompareModel", name := "says", desc := "(IIII)I" } : Jvm.MethodName)) ∈ lw_all := lw_g (lw_at lw_m1 213 rfl) rfl
theorem q234 : (Jvm.Cond.code ({ cls := "TreeCompareModel", name := "says", desc := "(IIII)I" } : Jvm.MethodName) prog_3_method_14_code (5 : Nat) (Option.some Jvm.ClassFile.FieldType.int)) ∈ lw_all := lw_g (lw_at lw_m1 214 rfl) rfl
theorem q235 : (Jvm.Cond.methodLink "TreeCompareModel" (34 : Nat) ({ cls := "TreeCompareModel", name := "member", desc := "(I)Z" } : Jvm.MethodName)) ∈ lw_all := lw_g (lw_at lw_m1 215 rfl) rfl
theorem q236 : (Jvm.Cond.privateMethod ({ cls := "TreeCompareModel", name := "member", desc := "(I)Z" } : Jvm.MethodName)) ∈ lw_tbl := lw_at lw_m1 216 rfl
theorem q237 : (Jvm.Cond.instanceMethod ({ cls := "TreeCompareModel", name := "member", desc := "(I)Z" } : Jvm.MethodName)) ∈ lw_all := lw_g (lw_at lw_m1 217 rfl) rfl
theorem q238 : (Jvm.Cond.code ({ cls := "TreeCompareModel", name := "member", desc := "(I)Z" } : Jvm.MethodName) prog_3_method_12_code (2 : Nat) (Option.some Jvm.ClassFile.FieldType.boolean)) ∈ lw_all := lw_g (lw_at lw_m1 218 rfl) rfl
theorem q239 : (Jvm.Cond.methodLink "TreeCompareModel" (37 : Nat) ({ cls := "TreeCompareModel", name := "closer", desc := "(IIII)Z" } : Jvm.MethodName)) ∈ lw_all := lw_g (lw_at lw_m1 219 rfl) rfl
theorem q240 : (Jvm.Cond.privateMethod ({ cls := "TreeCompareModel", name := "closer", desc := "(IIII)Z" } : Jvm.MethodName)) ∈ lw_tbl := lw_at lw_m1 220 rfl
theorem q241 : (Jvm.Cond.instanceMethod ({ cls := "TreeCompareModel", name := "closer", desc := "(IIII)Z" } : Jvm.MethodName)) ∈ lw_all := lw_g (lw_at lw_m1 221 rfl) rfl
theorem q242 : (Jvm.Cond.code ({ cls := "TreeCompareModel", name := "closer", desc := "(IIII)Z" } : Jvm.MethodName) prog_3_method_13_code (7 : Nat) (Option.some Jvm.ClassFile.FieldType.boolean)) ∈ lw_all := lw_g (lw_at lw_m1 222 rfl) rfl
theorem q244 : (Jvm.Cond.instanceMethod ({ cls := "TreeCompareModel", name := "decided", desc := "(I)I" } : Jvm.MethodName)) ∈ lw_all := lw_g (lw_at lw_m1 224 rfl) rfl
theorem q245 : (Jvm.Cond.selects "TreeCompareModel" ({ cls := "TreeCompareModel", name := "decided", desc := "(I)I" } : Jvm.MethodName) ({ cls := "TreeCompareModel", name := "decided", desc := "(I)I" } : Jvm.MethodName)) ∈ lw_all := lw_g (lw_at lw_m1 225 rfl) rfl
theorem q246 : (Jvm.Cond.code ({ cls := "TreeCompareModel", name := "decided", desc := "(I)I" } : Jvm.MethodName) prog_3_method_16_code (4 : Nat) (Option.some Jvm.ClassFile.FieldType.int)) ∈ lw_all := lw_g (lw_at lw_m1 226 rfl) rfl
theorem q247 : (Jvm.Cond.methodLink "TreeCompareModel" (45 : Nat) ({ cls := "TreeCompareModel", name := "about", desc := "(II)I" } : Jvm.MethodName)) ∈ lw_all := lw_g (lw_at lw_m1 227 rfl) rfl
theorem q248 : (Jvm.Cond.privateMethod ({ cls := "TreeCompareModel", name := "about", desc := "(II)I" } : Jvm.MethodName)) ∈ lw_tbl := lw_at lw_m1 228 rfl
theorem q249 : (Jvm.Cond.instanceMethod ({ cls := "TreeCompareModel", name := "about", desc := "(II)I" } : Jvm.MethodName)) ∈ lw_all := lw_g (lw_at lw_m1 229 rfl) rfl
theorem q250 : (Jvm.Cond.code ({ cls := "TreeCompareModel", name := "about", desc := "(II)I" } : Jvm.MethodName) prog_3_method_15_code (7 : Nat) (Option.some Jvm.ClassFile.FieldType.int)) ∈ lw_all := lw_g (lw_at lw_m1 230 rfl) rfl
theorem q251 : (Jvm.Cond.methodLink "TreeCompareModel" (41 : Nat) ({ cls := "TreeCompareModel", name := "says", desc := "(IIII)I" } : Jvm.MethodName)) ∈ lw_all := lw_g (lw_at lw_m1 231 rfl) rfl
theorem q253 : (Jvm.Cond.instanceMethod ({ cls := "TreeCompareModel", name := "groupDistance", desc := "()I" } : Jvm.MethodName)) ∈ lw_all := lw_g (lw_at lw_m1 233 rfl) rfl
theorem q254 : (Jvm.Cond.selects "TreeCompareModel" ({ cls := "TreeCompareModel", name := "groupDistance", desc := "()I" } : Jvm.MethodName) ({ cls := "TreeCompareModel", name := "groupDistance", desc := "()I" } : Jvm.MethodName)) ∈ lw_all := lw_g (lw_at lw_m1 234 rfl) rfl
theorem q255 : (Jvm.Cond.code ({ cls := "TreeCompareModel", name := "groupDistance", desc := "()I" } : Jvm.MethodName) prog_3_method_17_code (3 : Nat) (Option.some Jvm.ClassFile.FieldType.int)) ∈ lw_all := lw_g (lw_at lw_m1 235 rfl) rfl
theorem q257 : (Jvm.Cond.instanceMethod ({ cls := "TreeCompareModel", name := "tripleDistance", desc := "()I" } : Jvm.MethodName)) ∈ lw_all := lw_g (lw_at lw_m1 237 rfl) rfl
theorem q258 : (Jvm.Cond.selects "TreeCompareModel" ({ cls := "TreeCompareModel", name := "tripleDistance", desc := "()I" } : Jvm.MethodName) ({ cls := "TreeCompareModel", name := "tripleDistance", desc := "()I" } : Jvm.MethodName)) ∈ lw_all := lw_g (lw_at lw_m1 238 rfl) rfl
theorem q259 : (Jvm.Cond.code ({ cls := "TreeCompareModel", name := "tripleDistance", desc := "()I" } : Jvm.MethodName) prog_3_method_18_code (3 : Nat) (Option.some Jvm.ClassFile.FieldType.int)) ∈ lw_all := lw_g (lw_at lw_m1 239 rfl) rfl
theorem q261 : (Jvm.Cond.instanceMethod ({ cls := "TreeCompareModel", name := "agreement", desc := "()I" } : Jvm.MethodName)) ∈ lw_all := lw_g (lw_at lw_m2 1 rfl) rfl
theorem q262 : (Jvm.Cond.selects "TreeCompareModel" ({ cls := "TreeCompareModel", name := "agreement", desc := "()I" } : Jvm.MethodName) ({ cls := "TreeCompareModel", name := "agreement", desc := "()I" } : Jvm.MethodName)) ∈ lw_all := lw_g (lw_at lw_m2 2 rfl) rfl
theorem q263 : (Jvm.Cond.code ({ cls := "TreeCompareModel", name := "agreement", desc := "()I" } : Jvm.MethodName) prog_3_method_19_code (4 : Nat) (Option.some Jvm.ClassFile.FieldType.int)) ∈ lw_all := lw_g (lw_at lw_m2 3 rfl) rfl
theorem q264 : (Jvm.Cond.methodLink "TreeCompareModel" (49 : Nat) ({ cls := "TreeCompareModel", name := "agree", desc := "(I)Z" } : Jvm.MethodName)) ∈ lw_all := lw_g (lw_at lw_m2 4 rfl) rfl
theorem q265 : (Jvm.Cond.instanceMethod ({ cls := "TreeCompareModel", name := "agree", desc := "(I)Z" } : Jvm.MethodName)) ∈ lw_all := lw_g (lw_at lw_m2 5 rfl) rfl
theorem q266 : (Jvm.Cond.selects "TreeCompareModel" ({ cls := "TreeCompareModel", name := "agree", desc := "(I)Z" } : Jvm.MethodName) ({ cls := "TreeCompareModel", name := "agree", desc := "(I)Z" } : Jvm.MethodName)) ∈ lw_all := lw_g (lw_at lw_m2 6 rfl) rfl
theorem q267 : (Jvm.Cond.code ({ cls := "TreeCompareModel", name := "agree", desc := "(I)Z" } : Jvm.MethodName) prog_3_method_21_code (4 : Nat) (Option.some Jvm.ClassFile.FieldType.boolean)) ∈ lw_all := lw_g (lw_at lw_m2 7 rfl) rfl
theorem q269 : (Jvm.Cond.instanceMethod ({ cls := "TreeCompareModel", name := "agreeingSet", desc := "()I" } : Jvm.MethodName)) ∈ lw_all := lw_g (lw_at lw_m2 9 rfl) rfl
theorem q270 : (Jvm.Cond.selects "TreeCompareModel" ({ cls := "TreeCompareModel", name := "agreeingSet", desc := "()I" } : Jvm.MethodName) ({ cls := "TreeCompareModel", name := "agreeingSet", desc := "()I" } : Jvm.MethodName)) ∈ lw_all := lw_g (lw_at lw_m2 10 rfl) rfl
theorem q271 : (Jvm.Cond.code ({ cls := "TreeCompareModel", name := "agreeingSet", desc := "()I" } : Jvm.MethodName) prog_3_method_20_code (3 : Nat) (Option.some Jvm.ClassFile.FieldType.int)) ∈ lw_all := lw_g (lw_at lw_m2 11 rfl) rfl
theorem q272 : (Jvm.Cond.methodLink "TreeCompareModel" (52 : Nat) ({ cls := "TreeCompareModel", name := "agreement", desc := "()I" } : Jvm.MethodName)) ∈ lw_all := lw_g (lw_at lw_m2 12 rfl) rfl
theorem q275 : (Jvm.Cond.instanceMethod ({ cls := "TreeCompareModel", name := "together", desc := "()Z" } : Jvm.MethodName)) ∈ lw_all := lw_g (lw_at lw_m2 15 rfl) rfl
theorem q276 : (Jvm.Cond.selects "TreeCompareModel" ({ cls := "TreeCompareModel", name := "together", desc := "()Z" } : Jvm.MethodName) ({ cls := "TreeCompareModel", name := "together", desc := "()Z" } : Jvm.MethodName)) ∈ lw_all := lw_g (lw_at lw_m2 16 rfl) rfl
theorem q277 : (Jvm.Cond.code ({ cls := "TreeCompareModel", name := "together", desc := "()Z" } : Jvm.MethodName) prog_3_method_22_code (3 : Nat) (Option.some Jvm.ClassFile.FieldType.boolean)) ∈ lw_all := lw_g (lw_at lw_m2 17 rfl) rfl
theorem q279 : (Jvm.Cond.instanceMethod ({ cls := "TreeCompareModel", name := "common", desc := "()I" } : Jvm.MethodName)) ∈ lw_all := lw_g (lw_at lw_m2 19 rfl) rfl
theorem q280 : (Jvm.Cond.selects "TreeCompareModel" ({ cls := "TreeCompareModel", name := "common", desc := "()I" } : Jvm.MethodName) ({ cls := "TreeCompareModel", name := "common", desc := "()I" } : Jvm.MethodName)) ∈ lw_all := lw_g (lw_at lw_m2 20 rfl) rfl
theorem q281 : (Jvm.Cond.code ({ cls := "TreeCompareModel", name := "common", desc := "()I" } : Jvm.MethodName) prog_3_method_23_code (3 : Nat) (Option.some Jvm.ClassFile.FieldType.int)) ∈ lw_all := lw_g (lw_at lw_m2 21 rfl) rfl
theorem q283 : (Jvm.Cond.instanceMethod ({ cls := "TreeCompareModel", name := "depth", desc := "(II)I" } : Jvm.MethodName)) ∈ lw_all := lw_g (lw_at lw_m2 23 rfl) rfl
theorem q284 : (Jvm.Cond.selects "TreeCompareModel" ({ cls := "TreeCompareModel", name := "depth", desc := "(II)I" } : Jvm.MethodName) ({ cls := "TreeCompareModel", name := "depth", desc := "(II)I" } : Jvm.MethodName)) ∈ lw_all := lw_g (lw_at lw_m2 24 rfl) rfl
theorem q285 : (Jvm.Cond.code ({ cls := "TreeCompareModel", name := "depth", desc := "(II)I" } : Jvm.MethodName) prog_3_method_24_code (5 : Nat) (Option.some Jvm.ClassFile.FieldType.int)) ∈ lw_all := lw_g (lw_at lw_m2 25 rfl) rfl
theorem q287 : (Jvm.Cond.instanceMethod ({ cls := "TreeCompareModel", name := "room", desc := "(I)I" } : Jvm.MethodName)) ∈ lw_all := lw_g (lw_at lw_m2 27 rfl) rfl
theorem q288 : (Jvm.Cond.selects "TreeCompareModel" ({ cls := "TreeCompareModel", name := "room", desc := "(I)I" } : Jvm.MethodName) ({ cls := "TreeCompareModel", name := "room", desc := "(I)I" } : Jvm.MethodName)) ∈ lw_all := lw_g (lw_at lw_m2 28 rfl) rfl
theorem q289 : (Jvm.Cond.code ({ cls := "TreeCompareModel", name := "room", desc := "(I)I" } : Jvm.MethodName) prog_3_method_25_code (4 : Nat) (Option.some Jvm.ClassFile.FieldType.int)) ∈ lw_all := lw_g (lw_at lw_m2 29 rfl) rfl
theorem in_X1 : ∀ w ∈ wsX10, w ∈ lw_all := lw_in wsX10 [202] (by decide +kernel) (by decide +kernel)

/-! java/lang/Object -/
set_option maxRecDepth 100000
def RJ0 : String := "java/lang/Object"
abbrev cJ0_init : ByteArray := object_method_1_code
def yJ0_init : MethodName := ⟨RJ0, "<init>", "()V"⟩
theorem q29 : (Jvm.Cond.instanceMethod ({ cls := "java/lang/Object", name := "<init>", desc := "()V" } : Jvm.MethodName)) ∈ lw_all := lw_g (lw_at lw_m1 9 rfl) rfl
theorem q30 : (Jvm.Cond.code ({ cls := "java/lang/Object", name := "<init>", desc := "()V" } : Jvm.MethodName) object_method_1_code (1 : Nat) (Option.none : Option Jvm.ClassFile.FieldType)) ∈ lw_all := lw_g (lw_at lw_m1 10 rfl) rfl

/-! the law's own entry -/
set_option maxRecDepth 100000
abbrev cL_law : ByteArray := code

theorem q20 : (Jvm.Cond.initialized "TreeCompareLaw") ∈ lw_all := lw_g (lw_at lw_m1 0 rfl) rfl
set_option maxRecDepth 100000
theorem q23 : (Jvm.Cond.classLink "TreeCompareLaw" (7 : Nat) "TreeCompare") ∈ lw_all := lw_g (lw_at lw_m1 3 rfl) rfl
theorem q25 : (Jvm.Cond.methodLink "TreeCompareLaw" (9 : Nat) ({ cls := "TreeCompare", name := "<init>", desc := "()V" } : Jvm.MethodName)) ∈ lw_all := lw_g (lw_at lw_m1 5 rfl) rfl
theorem q51 : (Jvm.Cond.methodLink "TreeCompareLaw" (13 : Nat) ({ cls := "TreeCompare", name := "add", desc := "(II)Z" } : Jvm.MethodName)) ∈ lw_all := lw_g (lw_at lw_m1 31 rfl) rfl
theorem q79 : (Jvm.Cond.methodLink "TreeCompareLaw" (18 : Nat) ({ cls := "TreeCompare", name := "remove", desc := "(II)Z" } : Jvm.MethodName)) ∈ lw_all := lw_g (lw_at lw_m1 59 rfl) rfl
theorem q83 : (Jvm.Cond.methodLink "TreeCompareLaw" (22 : Nat) ({ cls := "TreeCompare", name := "clear", desc := "(I)Z" } : Jvm.MethodName)) ∈ lw_all := lw_g (lw_at lw_m1 63 rfl) rfl
theorem q87 : (Jvm.Cond.methodLink "TreeCompareLaw" (27 : Nat) ({ cls := "TreeCompare", name := "groups", desc := "(I)I" } : Jvm.MethodName)) ∈ lw_all := lw_g (lw_at lw_m1 67 rfl) rfl
theorem q91 : (Jvm.Cond.methodLink "TreeCompareLaw" (32 : Nat) ({ cls := "TreeCompare", name := "join", desc := "(II)I" } : Jvm.MethodName)) ∈ lw_all := lw_g (lw_at lw_m1 71 rfl) rfl
theorem q99 : (Jvm.Cond.methodLink "TreeCompareLaw" (37 : Nat) ({ cls := "TreeCompare", name := "says", desc := "(IIII)I" } : Jvm.MethodName)) ∈ lw_all := lw_g (lw_at lw_m1 79 rfl) rfl
theorem q110 : (Jvm.Cond.methodLink "TreeCompareLaw" (42 : Nat) ({ cls := "TreeCompare", name := "decided", desc := "(I)I" } : Jvm.MethodName)) ∈ lw_all := lw_g (lw_at lw_m1 90 rfl) rfl
theorem q114 : (Jvm.Cond.methodLink "TreeCompareLaw" (46 : Nat) ({ cls := "TreeCompare", name := "groupDistance", desc := "()I" } : Jvm.MethodName)) ∈ lw_all := lw_g (lw_at lw_m1 94 rfl) rfl
theorem q122 : (Jvm.Cond.methodLink "TreeCompareLaw" (51 : Nat) ({ cls := "TreeCompare", name := "tripleDistance", desc := "()I" } : Jvm.MethodName)) ∈ lw_all := lw_g (lw_at lw_m1 102 rfl) rfl
theorem q130 : (Jvm.Cond.methodLink "TreeCompareLaw" (55 : Nat) ({ cls := "TreeCompare", name := "agreement", desc := "()I" } : Jvm.MethodName)) ∈ lw_all := lw_g (lw_at lw_m1 110 rfl) rfl
theorem q158 : (Jvm.Cond.methodLink "TreeCompareLaw" (59 : Nat) ({ cls := "TreeCompare", name := "agreeingSet", desc := "()I" } : Jvm.MethodName)) ∈ lw_all := lw_g (lw_at lw_m1 138 rfl) rfl
theorem q162 : (Jvm.Cond.methodLink "TreeCompareLaw" (63 : Nat) ({ cls := "TreeCompare", name := "agree", desc := "(I)Z" } : Jvm.MethodName)) ∈ lw_all := lw_g (lw_at lw_m1 142 rfl) rfl
theorem q166 : (Jvm.Cond.methodLink "TreeCompareLaw" (67 : Nat) ({ cls := "TreeCompare", name := "together", desc := "()Z" } : Jvm.MethodName)) ∈ lw_all := lw_g (lw_at lw_m1 146 rfl) rfl
theorem q170 : (Jvm.Cond.methodLink "TreeCompareLaw" (72 : Nat) ({ cls := "TreeCompare", name := "common", desc := "()I" } : Jvm.MethodName)) ∈ lw_all := lw_g (lw_at lw_m1 150 rfl) rfl
theorem q171 : (Jvm.Cond.methodLink "TreeCompareLaw" (76 : Nat) ({ cls := "TreeCompare", name := "depth", desc := "(II)I" } : Jvm.MethodName)) ∈ lw_all := lw_g (lw_at lw_m1 151 rfl) rfl
theorem q175 : (Jvm.Cond.methodLink "TreeCompareLaw" (80 : Nat) ({ cls := "TreeCompare", name := "room", desc := "(I)I" } : Jvm.MethodName)) ∈ lw_all := lw_g (lw_at lw_m1 155 rfl) rfl
theorem q179 : (Jvm.Cond.classLink "TreeCompareLaw" (10 : Nat) "TreeCompareModel") ∈ lw_all := lw_g (lw_at lw_m1 159 rfl) rfl
theorem q181 : (Jvm.Cond.methodLink "TreeCompareLaw" (12 : Nat) ({ cls := "TreeCompareModel", name := "<init>", desc := "()V" } : Jvm.MethodName)) ∈ lw_all := lw_g (lw_at lw_m1 161 rfl) rfl
theorem q206 : (Jvm.Cond.methodLink "TreeCompareLaw" (17 : Nat) ({ cls := "TreeCompareModel", name := "add", desc := "(II)Z" } : Jvm.MethodName)) ∈ lw_all := lw_g (lw_at lw_m1 186 rfl) rfl
theorem q218 : (Jvm.Cond.methodLink "TreeCompareLaw" (21 : Nat) ({ cls := "TreeCompareModel", name := "remove", desc := "(II)Z" } : Jvm.MethodName)) ∈ lw_all := lw_g (lw_at lw_m1 198 rfl) rfl
theorem q222 : (Jvm.Cond.methodLink "TreeCompareLaw" (26 : Nat) ({ cls := "TreeCompareModel", name := "clear", desc := "(I)Z" } : Jvm.MethodName)) ∈ lw_all := lw_g (lw_at lw_m1 202 rfl) rfl
theorem q223 : (Jvm.Cond.methodLink "TreeCompareLaw" (31 : Nat) ({ cls := "TreeCompareModel", name := "groups", desc := "(I)I" } : Jvm.MethodName)) ∈ lw_all := lw_g (lw_at lw_m1 203 rfl) rfl
theorem q227 : (Jvm.Cond.methodLink "TreeCompareLaw" (36 : Nat) ({ cls := "TreeCompareModel", name := "join", desc := "(II)I" } : Jvm.MethodName)) ∈ lw_all := lw_g (lw_at lw_m1 207 rfl) rfl
theorem q231 : (Jvm.Cond.methodLink "TreeCompareLaw" (41 : Nat) ({ cls := "TreeCompareModel", name := "says", desc := "(IIII)I" } : Jvm.MethodName)) ∈ lw_all := lw_g (lw_at lw_m1 211 rfl) rfl
theorem q243 : (Jvm.Cond.methodLink "TreeCompareLaw" (45 : Nat) ({ cls := "TreeCompareModel", name := "decided", desc := "(I)I" } : Jvm.MethodName)) ∈ lw_all := lw_g (lw_at lw_m1 223 rfl) rfl
theorem q252 : (Jvm.Cond.methodLink "TreeCompareLaw" (50 : Nat) ({ cls := "TreeCompareModel", name := "groupDistance", desc := "()I" } : Jvm.MethodName)) ∈ lw_all := lw_g (lw_at lw_m1 232 rfl) rfl
theorem q256 : (Jvm.Cond.methodLink "TreeCompareLaw" (54 : Nat) ({ cls := "TreeCompareModel", name := "tripleDistance", desc := "()I" } : Jvm.MethodName)) ∈ lw_all := lw_g (lw_at lw_m1 236 rfl) rfl
theorem q260 : (Jvm.Cond.methodLink "TreeCompareLaw" (58 : Nat) ({ cls := "TreeCompareModel", name := "agreement", desc := "()I" } : Jvm.MethodName)) ∈ lw_all := lw_g (lw_at lw_m2 0 rfl) rfl
theorem q268 : (Jvm.Cond.methodLink "TreeCompareLaw" (62 : Nat) ({ cls := "TreeCompareModel", name := "agreeingSet", desc := "()I" } : Jvm.MethodName)) ∈ lw_all := lw_g (lw_at lw_m2 8 rfl) rfl
theorem q273 : (Jvm.Cond.methodLink "TreeCompareLaw" (66 : Nat) ({ cls := "TreeCompareModel", name := "agree", desc := "(I)Z" } : Jvm.MethodName)) ∈ lw_all := lw_g (lw_at lw_m2 13 rfl) rfl
theorem q274 : (Jvm.Cond.methodLink "TreeCompareLaw" (71 : Nat) ({ cls := "TreeCompareModel", name := "together", desc := "()Z" } : Jvm.MethodName)) ∈ lw_all := lw_g (lw_at lw_m2 14 rfl) rfl
theorem q278 : (Jvm.Cond.methodLink "TreeCompareLaw" (75 : Nat) ({ cls := "TreeCompareModel", name := "common", desc := "()I" } : Jvm.MethodName)) ∈ lw_all := lw_g (lw_at lw_m2 18 rfl) rfl
theorem q282 : (Jvm.Cond.methodLink "TreeCompareLaw" (79 : Nat) ({ cls := "TreeCompareModel", name := "depth", desc := "(II)I" } : Jvm.MethodName)) ∈ lw_all := lw_g (lw_at lw_m2 22 rfl) rfl
theorem q286 : (Jvm.Cond.methodLink "TreeCompareLaw" (83 : Nat) ({ cls := "TreeCompareModel", name := "room", desc := "(I)I" } : Jvm.MethodName)) ∈ lw_all := lw_g (lw_at lw_m2 26 rfl) rfl

theorem q50 : (Jvm.Cond.arrayClass Jvm.ClassFile.FieldType.byte) ∈ lw_all := lw_g (lw_at lw_m1 30 rfl) rfl
set_option maxRecDepth 100000
theorem q205 : (Jvm.Cond.arrayClass Jvm.ClassFile.FieldType.boolean) ∈ lw_all := lw_g (lw_at lw_m1 185 rfl) rfl
end
section
set_option maxRecDepth 100000
theorem dX0_init_0 : decode cX0_init 0 = .ok (.aload_n 0, 1) := by decide +kernel
theorem dX0_init_1 : decode cX0_init 1 = .ok (.invokespecial 1, 3) := by decide +kernel
theorem dX0_init_4 : decode cX0_init 4 = .ok (.aload_n 0, 1) := by decide +kernel
theorem dX0_init_5 : decode cX0_init 5 = .ok (.iconst 2, 1) := by decide +kernel
theorem dX0_init_6 : decode cX0_init 6 = .ok (.newarray .byte, 2) := by decide +kernel
theorem dX0_init_8 : decode cX0_init 8 = .ok (.putfield 7, 3) := by decide +kernel
theorem dX0_init_11 : decode cX0_init 11 = .ok (.aload_n 0, 1) := by decide +kernel
theorem dX0_init_12 : decode cX0_init 12 = .ok (.bipush 10, 2) := by decide +kernel
theorem dX0_init_14 : decode cX0_init 14 = .ok (.newarray .byte, 2) := by decide +kernel
theorem dX0_init_16 : decode cX0_init 16 = .ok (.putfield 13, 3) := by decide +kernel
theorem dX0_init_19 : decode cX0_init 19 = .ok (.aload_n 0, 1) := by decide +kernel
theorem dX0_init_20 : decode cX0_init 20 = .ok (.bipush 26, 2) := by decide +kernel
theorem dX0_init_22 : decode cX0_init 22 = .ok (.newarray .byte, 2) := by decide +kernel
theorem dX0_init_24 : decode cX0_init 24 = .ok (.putfield 16, 3) := by decide +kernel
theorem dX0_init_27 : decode cX0_init 27 = .ok (.aload_n 0, 1) := by decide +kernel
theorem dX0_init_28 : decode cX0_init 28 = .ok (.iconst 2, 1) := by decide +kernel
theorem dX0_init_29 : decode cX0_init 29 = .ok (.newarray .byte, 2) := by decide +kernel
theorem dX0_init_31 : decode cX0_init 31 = .ok (.putfield 19, 3) := by decide +kernel
theorem dX0_init_34 : decode cX0_init 34 = .ok (.aload_n 0, 1) := by decide +kernel
theorem dX0_init_35 : decode cX0_init 35 = .ok (.sipush 169, 3) := by decide +kernel
theorem dX0_init_38 : decode cX0_init 38 = .ok (.newarray .byte, 2) := by decide +kernel
theorem dX0_init_40 : decode cX0_init 40 = .ok (.putfield 22, 3) := by decide +kernel
theorem dX0_init_43 : decode cX0_init 43 = .ok (.aload_n 0, 1) := by decide +kernel
theorem dX0_init_44 : decode cX0_init 44 = .ok (.sipush 128, 3) := by decide +kernel
theorem dX0_init_47 : decode cX0_init 47 = .ok (.newarray .byte, 2) := by decide +kernel
theorem dX0_init_49 : decode cX0_init 49 = .ok (.putfield 25, 3) := by decide +kernel
theorem dX0_init_52 : decode cX0_init 52 = .ok (.return_, 1) := by decide +kernel
theorem dX0_add_0 : decode cX0_add 0 = .ok (.iload_n 1, 1) := by decide +kernel
theorem dX0_add_1 : decode cX0_add 1 = .ok (.invokestatic 44, 3) := by decide +kernel
theorem dX0_add_4 : decode cX0_add 4 = .ok (.ifCond .eq 23, 3) := by decide +kernel
theorem dX0_add_7 : decode cX0_add 7 = .ok (.iload_n 2, 1) := by decide +kernel
theorem dX0_add_8 : decode cX0_add 8 = .ok (.iconst 1, 1) := by decide +kernel
theorem dX0_add_9 : decode cX0_add 9 = .ok (.if_icmp .lt 18, 3) := by decide +kernel
theorem dX0_add_12 : decode cX0_add 12 = .ok (.iload_n 2, 1) := by decide +kernel
theorem dX0_add_13 : decode cX0_add 13 = .ok (.bipush 127, 2) := by decide +kernel
theorem dX0_add_15 : decode cX0_add 15 = .ok (.if_icmp .gt 12, 3) := by decide +kernel
theorem dX0_add_18 : decode cX0_add 18 = .ok (.aload_n 0, 1) := by decide +kernel
theorem dX0_add_19 : decode cX0_add 19 = .ok (.iload_n 1, 1) := by decide +kernel
theorem dX0_add_20 : decode cX0_add 20 = .ok (.iload_n 2, 1) := by decide +kernel
theorem dX0_add_21 : decode cX0_add 21 = .ok (.invokevirtual 47, 3) := by decide +kernel
theorem dX0_add_24 : decode cX0_add 24 = .ok (.ifCond .ne 5, 3) := by decide +kernel
theorem dX0_add_27 : decode cX0_add 27 = .ok (.iconst 0, 1) := by decide +kernel
theorem dX0_add_28 : decode cX0_add 28 = .ok (.ireturn, 1) := by decide +kernel
theorem dX0_add_29 : decode cX0_add 29 = .ok (.aload_n 0, 1) := by decide +kernel
theorem dX0_add_30 : decode cX0_add 30 = .ok (.iload_n 1, 1) := by decide +kernel
theorem dX0_add_31 : decode cX0_add 31 = .ok (.iload_n 2, 1) := by decide +kernel
theorem dX0_add_32 : decode cX0_add 32 = .ok (.invokevirtual 50, 3) := by decide +kernel
theorem dX0_add_35 : decode cX0_add 35 = .ok (.ifCond .ne 31, 3) := by decide +kernel
theorem dX0_add_38 : decode cX0_add 38 = .ok (.aload_n 0, 1) := by decide +kernel
theorem dX0_add_39 : decode cX0_add 39 = .ok (.getfield 13, 3) := by decide +kernel
theorem dX0_add_42 : decode cX0_add 42 = .ok (.iload_n 1, 1) := by decide +kernel
theorem dX0_add_43 : decode cX0_add 43 = .ok (.iconst 5, 1) := by decide +kernel
theorem dX0_add_44 : decode cX0_add 44 = .ok (.imul, 1) := by decide +kernel
theorem dX0_add_45 : decode cX0_add 45 = .ok (.aload_n 0, 1) := by decide +kernel
theorem dX0_add_46 : decode cX0_add 46 = .ok (.getfield 7, 3) := by decide +kernel
theorem dX0_add_49 : decode cX0_add 49 = .ok (.iload_n 1, 1) := by decide +kernel
theorem dX0_add_50 : decode cX0_add 50 = .ok (.baload, 1) := by decide +kernel
theorem dX0_add_51 : decode cX0_add 51 = .ok (.iadd, 1) := by decide +kernel
theorem dX0_add_52 : decode cX0_add 52 = .ok (.iload_n 2, 1) := by decide +kernel
theorem dX0_add_53 : decode cX0_add 53 = .ok (.i2b, 1) := by decide +kernel
theorem dX0_add_54 : decode cX0_add 54 = .ok (.bastore, 1) := by decide +kernel
theorem dX0_add_55 : decode cX0_add 55 = .ok (.aload_n 0, 1) := by decide +kernel
theorem dX0_add_56 : decode cX0_add 56 = .ok (.getfield 7, 3) := by decide +kernel
theorem dX0_add_59 : decode cX0_add 59 = .ok (.iload_n 1, 1) := by decide +kernel
theorem dX0_add_60 : decode cX0_add 60 = .ok (.dup2, 1) := by decide +kernel
theorem dX0_add_61 : decode cX0_add 61 = .ok (.baload, 1) := by decide +kernel
theorem dX0_add_62 : decode cX0_add 62 = .ok (.iconst 1, 1) := by decide +kernel
theorem dX0_add_63 : decode cX0_add 63 = .ok (.iadd, 1) := by decide +kernel
theorem dX0_add_64 : decode cX0_add 64 = .ok (.i2b, 1) := by decide +kernel
theorem dX0_add_65 : decode cX0_add 65 = .ok (.bastore, 1) := by decide +kernel
theorem dX0_add_66 : decode cX0_add 66 = .ok (.iconst 1, 1) := by decide +kernel
theorem dX0_add_67 : decode cX0_add 67 = .ok (.ireturn, 1) := by decide +kernel
theorem dX0_isTree_0 : decode cX0_isTree 0 = .ok (.iload_n 0, 1) := by decide +kernel
theorem dX0_isTree_1 : decode cX0_isTree 1 = .ok (.ifCond .eq 8, 3) := by decide +kernel
theorem dX0_isTree_4 : decode cX0_isTree 4 = .ok (.iload_n 0, 1) := by decide +kernel
theorem dX0_isTree_5 : decode cX0_isTree 5 = .ok (.iconst 1, 1) := by decide +kernel
theorem dX0_isTree_6 : decode cX0_isTree 6 = .ok (.if_icmp .ne 7, 3) := by decide +kernel
theorem dX0_isTree_9 : decode cX0_isTree 9 = .ok (.iconst 1, 1) := by decide +kernel
theorem dX0_isTree_10 : decode cX0_isTree 10 = .ok (.goto 4, 3) := by decide +kernel
theorem dX0_isTree_13 : decode cX0_isTree 13 = .ok (.iconst 0, 1) := by decide +kernel
theorem dX0_isTree_14 : decode cX0_isTree 14 = .ok (.ireturn, 1) := by decide +kernel
theorem dX0_canAdd_0 : decode cX0_canAdd 0 = .ok (.iconst 0, 1) := by decide +kernel
theorem dX0_canAdd_1 : decode cX0_canAdd 1 = .ok (.istore_n 3, 1) := by decide +kernel
theorem dX0_canAdd_2 : decode cX0_canAdd 2 = .ok (.iload_n 3, 1) := by decide +kernel
theorem dX0_canAdd_3 : decode cX0_canAdd 3 = .ok (.aload_n 0, 1) := by decide +kernel
theorem dX0_canAdd_4 : decode cX0_canAdd 4 = .ok (.getfield 7, 3) := by decide +kernel
theorem dX0_canAdd_7 : decode cX0_canAdd 7 = .ok (.iload_n 1, 1) := by decide +kernel
theorem dX0_canAdd_8 : decode cX0_canAdd 8 = .ok (.baload, 1) := by decide +kernel
theorem dX0_canAdd_9 : decode cX0_canAdd 9 = .ok (.if_icmp .ge 28, 3) := by decide +kernel
theorem dX0_canAdd_12 : decode cX0_canAdd 12 = .ok (.iload_n 2, 1) := by decide +kernel
theorem dX0_canAdd_13 : decode cX0_canAdd 13 = .ok (.aload_n 0, 1) := by decide +kernel
theorem dX0_canAdd_14 : decode cX0_canAdd 14 = .ok (.getfield 13, 3) := by decide +kernel
theorem dX0_canAdd_17 : decode cX0_canAdd 17 = .ok (.iload_n 1, 1) := by decide +kernel
theorem dX0_canAdd_18 : decode cX0_canAdd 18 = .ok (.iconst 5, 1) := by decide +kernel
theorem dX0_canAdd_19 : decode cX0_canAdd 19 = .ok (.imul, 1) := by decide +kernel
theorem dX0_canAdd_20 : decode cX0_canAdd 20 = .ok (.iload_n 3, 1) := by decide +kernel
theorem dX0_canAdd_21 : decode cX0_canAdd 21 = .ok (.iadd, 1) := by decide +kernel
theorem dX0_canAdd_22 : decode cX0_canAdd 22 = .ok (.baload, 1) := by decide +kernel
theorem dX0_canAdd_23 : decode cX0_canAdd 23 = .ok (.invokestatic 40, 3) := by decide +kernel
theorem dX0_canAdd_26 : decode cX0_canAdd 26 = .ok (.ifCond .ne 5, 3) := by decide +kernel
theorem dX0_canAdd_29 : decode cX0_canAdd 29 = .ok (.iconst 0, 1) := by decide +kernel
theorem dX0_canAdd_30 : decode cX0_canAdd 30 = .ok (.ireturn, 1) := by decide +kernel
theorem dX0_canAdd_31 : decode cX0_canAdd 31 = .ok (.iinc 3 1, 3) := by decide +kernel
theorem dX0_canAdd_34 : decode cX0_canAdd 34 = .ok (.goto (-32), 3) := by decide +kernel
theorem dX0_canAdd_37 : decode cX0_canAdd 37 = .ok (.iconst 1, 1) := by decide +kernel
theorem dX0_canAdd_38 : decode cX0_canAdd 38 = .ok (.ireturn, 1) := by decide +kernel
theorem dX0_goTogether_0 : decode cX0_goTogether 0 = .ok (.iload_n 0, 1) := by decide +kernel
theorem dX0_goTogether_1 : decode cX0_goTogether 1 = .ok (.iload_n 1, 1) := by decide +kernel
theorem dX0_goTogether_2 : decode cX0_goTogether 2 = .ok (.iand, 1) := by decide +kernel
theorem dX0_goTogether_3 : decode cX0_goTogether 3 = .ok (.istore_n 2, 1) := by decide +kernel
theorem dX0_goTogether_4 : decode cX0_goTogether 4 = .ok (.iload_n 2, 1) := by decide +kernel
theorem dX0_goTogether_5 : decode cX0_goTogether 5 = .ok (.ifCond .eq 13, 3) := by decide +kernel
theorem dX0_goTogether_8 : decode cX0_goTogether 8 = .ok (.iload_n 2, 1) := by decide +kernel
theorem dX0_goTogether_9 : decode cX0_goTogether 9 = .ok (.iload_n 0, 1) := by decide +kernel
theorem dX0_goTogether_10 : decode cX0_goTogether 10 = .ok (.if_icmp .eq 8, 3) := by decide +kernel
theorem dX0_goTogether_13 : decode cX0_goTogether 13 = .ok (.iload_n 2, 1) := by decide +kernel
theorem dX0_goTogether_14 : decode cX0_goTogether 14 = .ok (.iload_n 1, 1) := by decide +kernel
theorem dX0_goTogether_15 : decode cX0_goTogether 15 = .ok (.if_icmp .ne 7, 3) := by decide +kernel
theorem dX0_goTogether_18 : decode cX0_goTogether 18 = .ok (.iconst 1, 1) := by decide +kernel
theorem dX0_goTogether_19 : decode cX0_goTogether 19 = .ok (.goto 4, 3) := by decide +kernel
theorem dX0_goTogether_22 : decode cX0_goTogether 22 = .ok (.iconst 0, 1) := by decide +kernel
theorem dX0_goTogether_23 : decode cX0_goTogether 23 = .ok (.ireturn, 1) := by decide +kernel
theorem dX0_hasGroup_0 : decode cX0_hasGroup 0 = .ok (.iload_n 2, 1) := by decide +kernel
theorem dX0_hasGroup_1 : decode cX0_hasGroup 1 = .ok (.invokestatic 32, 3) := by decide +kernel
theorem dX0_hasGroup_4 : decode cX0_hasGroup 4 = .ok (.ifCond .ne 12, 3) := by decide +kernel
theorem dX0_hasGroup_7 : decode cX0_hasGroup 7 = .ok (.aload_n 0, 1) := by decide +kernel
theorem dX0_hasGroup_8 : decode cX0_hasGroup 8 = .ok (.iload_n 1, 1) := by decide +kernel
theorem dX0_hasGroup_9 : decode cX0_hasGroup 9 = .ok (.iload_n 2, 1) := by decide +kernel
theorem dX0_hasGroup_10 : decode cX0_hasGroup 10 = .ok (.invokevirtual 36, 3) := by decide +kernel
theorem dX0_hasGroup_13 : decode cX0_hasGroup 13 = .ok (.ifCond .lt 7, 3) := by decide +kernel
theorem dX0_hasGroup_16 : decode cX0_hasGroup 16 = .ok (.iconst 1, 1) := by decide +kernel
theorem dX0_hasGroup_17 : decode cX0_hasGroup 17 = .ok (.goto 4, 3) := by decide +kernel
theorem dX0_hasGroup_20 : decode cX0_hasGroup 20 = .ok (.iconst 0, 1) := by decide +kernel
theorem dX0_hasGroup_21 : decode cX0_hasGroup 21 = .ok (.ireturn, 1) := by decide +kernel
theorem dX0_everyTreeHas_0 : decode cX0_everyTreeHas 0 = .ok (.iload_n 0, 1) := by decide +kernel
theorem dX0_everyTreeHas_1 : decode cX0_everyTreeHas 1 = .ok (.bipush 127, 2) := by decide +kernel
theorem dX0_everyTreeHas_3 : decode cX0_everyTreeHas 3 = .ok (.if_icmp .eq 11, 3) := by decide +kernel
theorem dX0_everyTreeHas_6 : decode cX0_everyTreeHas 6 = .ok (.iload_n 0, 1) := by decide +kernel
theorem dX0_everyTreeHas_7 : decode cX0_everyTreeHas 7 = .ok (.invokestatic 28, 3) := by decide +kernel
theorem dX0_everyTreeHas_10 : decode cX0_everyTreeHas 10 = .ok (.iconst 1, 1) := by decide +kernel
theorem dX0_everyTreeHas_11 : decode cX0_everyTreeHas 11 = .ok (.if_icmp .ne 7, 3) := by decide +kernel
theorem dX0_everyTreeHas_14 : decode cX0_everyTreeHas 14 = .ok (.iconst 1, 1) := by decide +kernel
theorem dX0_everyTreeHas_15 : decode cX0_everyTreeHas 15 = .ok (.goto 4, 3) := by decide +kernel
theorem dX0_everyTreeHas_18 : decode cX0_everyTreeHas 18 = .ok (.iconst 0, 1) := by decide +kernel
theorem dX0_everyTreeHas_19 : decode cX0_everyTreeHas 19 = .ok (.ireturn, 1) := by decide +kernel
theorem dX0_ones_0 : decode cX0_ones 0 = .ok (.iconst 0, 1) := by decide +kernel
theorem dX0_ones_1 : decode cX0_ones 1 = .ok (.istore_n 1, 1) := by decide +kernel
theorem dX0_ones_2 : decode cX0_ones 2 = .ok (.iconst 0, 1) := by decide +kernel
theorem dX0_ones_3 : decode cX0_ones 3 = .ok (.istore_n 2, 1) := by decide +kernel
theorem dX0_ones_4 : decode cX0_ones 4 = .ok (.iload_n 2, 1) := by decide +kernel
theorem dX0_ones_5 : decode cX0_ones 5 = .ok (.bipush 7, 2) := by decide +kernel
theorem dX0_ones_7 : decode cX0_ones 7 = .ok (.if_icmp .ge 17, 3) := by decide +kernel
theorem dX0_ones_10 : decode cX0_ones 10 = .ok (.iload_n 1, 1) := by decide +kernel
theorem dX0_ones_11 : decode cX0_ones 11 = .ok (.iload_n 0, 1) := by decide +kernel
theorem dX0_ones_12 : decode cX0_ones 12 = .ok (.iload_n 2, 1) := by decide +kernel
theorem dX0_ones_13 : decode cX0_ones 13 = .ok (.ishr, 1) := by decide +kernel
theorem dX0_ones_14 : decode cX0_ones 14 = .ok (.iconst 1, 1) := by decide +kernel
theorem dX0_ones_15 : decode cX0_ones 15 = .ok (.iand, 1) := by decide +kernel
theorem dX0_ones_16 : decode cX0_ones 16 = .ok (.iadd, 1) := by decide +kernel
theorem dX0_ones_17 : decode cX0_ones 17 = .ok (.istore_n 1, 1) := by decide +kernel
theorem dX0_ones_18 : decode cX0_ones 18 = .ok (.iinc 2 1, 3) := by decide +kernel
theorem dX0_ones_21 : decode cX0_ones 21 = .ok (.goto (-17), 3) := by decide +kernel
theorem dX0_ones_24 : decode cX0_ones 24 = .ok (.iload_n 1, 1) := by decide +kernel
theorem dX0_ones_25 : decode cX0_ones 25 = .ok (.ireturn, 1) := by decide +kernel
theorem dX0_find_0 : decode cX0_find 0 = .ok (.iconst 0, 1) := by decide +kernel
theorem dX0_find_1 : decode cX0_find 1 = .ok (.istore_n 3, 1) := by decide +kernel
theorem dX0_find_2 : decode cX0_find 2 = .ok (.iload_n 3, 1) := by decide +kernel
theorem dX0_find_3 : decode cX0_find 3 = .ok (.aload_n 0, 1) := by decide +kernel
theorem dX0_find_4 : decode cX0_find 4 = .ok (.getfield 7, 3) := by decide +kernel
theorem dX0_find_7 : decode cX0_find 7 = .ok (.iload_n 1, 1) := by decide +kernel
theorem dX0_find_8 : decode cX0_find 8 = .ok (.baload, 1) := by decide +kernel
theorem dX0_find_9 : decode cX0_find 9 = .ok (.if_icmp .ge 25, 3) := by decide +kernel
theorem dX0_find_12 : decode cX0_find 12 = .ok (.aload_n 0, 1) := by decide +kernel
theorem dX0_find_13 : decode cX0_find 13 = .ok (.getfield 13, 3) := by decide +kernel
theorem dX0_find_16 : decode cX0_find 16 = .ok (.iload_n 1, 1) := by decide +kernel
theorem dX0_find_17 : decode cX0_find 17 = .ok (.iconst 5, 1) := by decide +kernel
theorem dX0_find_18 : decode cX0_find 18 = .ok (.imul, 1) := by decide +kernel
theorem dX0_find_19 : decode cX0_find 19 = .ok (.iload_n 3, 1) := by decide +kernel
theorem dX0_find_20 : decode cX0_find 20 = .ok (.iadd, 1) := by decide +kernel
theorem dX0_find_21 : decode cX0_find 21 = .ok (.baload, 1) := by decide +kernel
theorem dX0_find_22 : decode cX0_find 22 = .ok (.iload_n 2, 1) := by decide +kernel
theorem dX0_find_23 : decode cX0_find 23 = .ok (.if_icmp .ne 5, 3) := by decide +kernel
theorem dX0_find_26 : decode cX0_find 26 = .ok (.iload_n 3, 1) := by decide +kernel
theorem dX0_find_27 : decode cX0_find 27 = .ok (.ireturn, 1) := by decide +kernel
theorem dX0_find_28 : decode cX0_find 28 = .ok (.iinc 3 1, 3) := by decide +kernel
theorem dX0_find_31 : decode cX0_find 31 = .ok (.goto (-29), 3) := by decide +kernel
theorem dX0_find_34 : decode cX0_find 34 = .ok (.iconst (-1), 1) := by decide +kernel
theorem dX0_find_35 : decode cX0_find 35 = .ok (.ireturn, 1) := by decide +kernel
theorem dX0_remove_0 : decode cX0_remove 0 = .ok (.iload_n 1, 1) := by decide +kernel
theorem dX0_remove_1 : decode cX0_remove 1 = .ok (.invokestatic 44, 3) := by decide +kernel
theorem dX0_remove_4 : decode cX0_remove 4 = .ok (.ifCond .eq 12, 3) := by decide +kernel
theorem dX0_remove_7 : decode cX0_remove 7 = .ok (.aload_n 0, 1) := by decide +kernel
theorem dX0_remove_8 : decode cX0_remove 8 = .ok (.iload_n 1, 1) := by decide +kernel
theorem dX0_remove_9 : decode cX0_remove 9 = .ok (.iload_n 2, 1) := by decide +kernel
theorem dX0_remove_10 : decode cX0_remove 10 = .ok (.invokevirtual 36, 3) := by decide +kernel
theorem dX0_remove_13 : decode cX0_remove 13 = .ok (.goto 4, 3) := by decide +kernel
theorem dX0_remove_16 : decode cX0_remove 16 = .ok (.iconst (-1), 1) := by decide +kernel
theorem dX0_remove_17 : decode cX0_remove 17 = .ok (.istore_n 3, 1) := by decide +kernel
theorem dX0_remove_18 : decode cX0_remove 18 = .ok (.iload_n 3, 1) := by decide +kernel
theorem dX0_remove_19 : decode cX0_remove 19 = .ok (.ifCond .ge 5, 3) := by decide +kernel
theorem dX0_remove_22 : decode cX0_remove 22 = .ok (.iconst 0, 1) := by decide +kernel
theorem dX0_remove_23 : decode cX0_remove 23 = .ok (.ireturn, 1) := by decide +kernel
theorem dX0_remove_24 : decode cX0_remove 24 = .ok (.aload_n 0, 1) := by decide +kernel
theorem dX0_remove_25 : decode cX0_remove 25 = .ok (.getfield 7, 3) := by decide +kernel
theorem dX0_remove_28 : decode cX0_remove 28 = .ok (.iload_n 1, 1) := by decide +kernel
theorem dX0_remove_29 : decode cX0_remove 29 = .ok (.dup2, 1) := by decide +kernel
theorem dX0_remove_30 : decode cX0_remove 30 = .ok (.baload, 1) := by decide +kernel
theorem dX0_remove_31 : decode cX0_remove 31 = .ok (.iconst 1, 1) := by decide +kernel
theorem dX0_remove_32 : decode cX0_remove 32 = .ok (.isub, 1) := by decide +kernel
theorem dX0_remove_33 : decode cX0_remove 33 = .ok (.i2b, 1) := by decide +kernel
theorem dX0_remove_34 : decode cX0_remove 34 = .ok (.bastore, 1) := by decide +kernel
theorem dX0_remove_35 : decode cX0_remove 35 = .ok (.aload_n 0, 1) := by decide +kernel
theorem dX0_remove_36 : decode cX0_remove 36 = .ok (.getfield 13, 3) := by decide +kernel
theorem dX0_remove_39 : decode cX0_remove 39 = .ok (.iload_n 1, 1) := by decide +kernel
theorem dX0_remove_40 : decode cX0_remove 40 = .ok (.iconst 5, 1) := by decide +kernel
theorem dX0_remove_41 : decode cX0_remove 41 = .ok (.imul, 1) := by decide +kernel
theorem dX0_remove_42 : decode cX0_remove 42 = .ok (.iload_n 3, 1) := by decide +kernel
theorem dX0_remove_43 : decode cX0_remove 43 = .ok (.iadd, 1) := by decide +kernel
theorem dX0_remove_44 : decode cX0_remove 44 = .ok (.aload_n 0, 1) := by decide +kernel
theorem dX0_remove_45 : decode cX0_remove 45 = .ok (.getfield 13, 3) := by decide +kernel
theorem dX0_remove_48 : decode cX0_remove 48 = .ok (.iload_n 1, 1) := by decide +kernel
theorem dX0_remove_49 : decode cX0_remove 49 = .ok (.iconst 5, 1) := by decide +kernel
theorem dX0_remove_50 : decode cX0_remove 50 = .ok (.imul, 1) := by decide +kernel
theorem dX0_remove_51 : decode cX0_remove 51 = .ok (.aload_n 0, 1) := by decide +kernel
theorem dX0_remove_52 : decode cX0_remove 52 = .ok (.getfield 7, 3) := by decide +kernel
theorem dX0_remove_55 : decode cX0_remove 55 = .ok (.iload_n 1, 1) := by decide +kernel
theorem dX0_remove_56 : decode cX0_remove 56 = .ok (.baload, 1) := by decide +kernel
theorem dX0_remove_57 : decode cX0_remove 57 = .ok (.iadd, 1) := by decide +kernel
theorem dX0_remove_58 : decode cX0_remove 58 = .ok (.baload, 1) := by decide +kernel
theorem dX0_remove_59 : decode cX0_remove 59 = .ok (.bastore, 1) := by decide +kernel
theorem dX0_remove_60 : decode cX0_remove 60 = .ok (.iconst 1, 1) := by decide +kernel
theorem dX0_remove_61 : decode cX0_remove 61 = .ok (.ireturn, 1) := by decide +kernel
theorem dX0_clear_0 : decode cX0_clear 0 = .ok (.iload_n 1, 1) := by decide +kernel
theorem dX0_clear_1 : decode cX0_clear 1 = .ok (.invokestatic 44, 3) := by decide +kernel
theorem dX0_clear_4 : decode cX0_clear 4 = .ok (.ifCond .ne 5, 3) := by decide +kernel
theorem dX0_clear_7 : decode cX0_clear 7 = .ok (.iconst 0, 1) := by decide +kernel
theorem dX0_clear_8 : decode cX0_clear 8 = .ok (.ireturn, 1) := by decide +kernel
theorem dX0_clear_9 : decode cX0_clear 9 = .ok (.aload_n 0, 1) := by decide +kernel
theorem dX0_clear_10 : decode cX0_clear 10 = .ok (.getfield 7, 3) := by decide +kernel
theorem dX0_clear_13 : decode cX0_clear 13 = .ok (.iload_n 1, 1) := by decide +kernel
theorem dX0_clear_14 : decode cX0_clear 14 = .ok (.iconst 0, 1) := by decide +kernel
theorem dX0_clear_15 : decode cX0_clear 15 = .ok (.bastore, 1) := by decide +kernel
theorem dX0_clear_16 : decode cX0_clear 16 = .ok (.iconst 1, 1) := by decide +kernel
theorem dX0_clear_17 : decode cX0_clear 17 = .ok (.ireturn, 1) := by decide +kernel
theorem dX0_groups_0 : decode cX0_groups 0 = .ok (.iload_n 1, 1) := by decide +kernel
theorem dX0_groups_1 : decode cX0_groups 1 = .ok (.invokestatic 44, 3) := by decide +kernel
theorem dX0_groups_4 : decode cX0_groups 4 = .ok (.ifCond .eq 15, 3) := by decide +kernel
theorem dX0_groups_7 : decode cX0_groups 7 = .ok (.bipush 8, 2) := by decide +kernel
theorem dX0_groups_9 : decode cX0_groups 9 = .ok (.aload_n 0, 1) := by decide +kernel
theorem dX0_groups_10 : decode cX0_groups 10 = .ok (.getfield 7, 3) := by decide +kernel
theorem dX0_groups_13 : decode cX0_groups 13 = .ok (.iload_n 1, 1) := by decide +kernel
theorem dX0_groups_14 : decode cX0_groups 14 = .ok (.baload, 1) := by decide +kernel
theorem dX0_groups_15 : decode cX0_groups 15 = .ok (.iadd, 1) := by decide +kernel
theorem dX0_groups_16 : decode cX0_groups 16 = .ok (.goto 4, 3) := by decide +kernel
theorem dX0_groups_19 : decode cX0_groups 19 = .ok (.iconst (-1), 1) := by decide +kernel
theorem dX0_groups_20 : decode cX0_groups 20 = .ok (.ireturn, 1) := by decide +kernel
theorem dX0_join_0 : decode cX0_join 0 = .ok (.iload_n 1, 1) := by decide +kernel
theorem dX0_join_1 : decode cX0_join 1 = .ok (.invokestatic 44, 3) := by decide +kernel
theorem dX0_join_4 : decode cX0_join 4 = .ok (.ifCond .eq 22, 3) := by decide +kernel
theorem dX0_join_7 : decode cX0_join 7 = .ok (.iload_n 2, 1) := by decide +kernel
theorem dX0_join_8 : decode cX0_join 8 = .ok (.ifCond .lt 18, 3) := by decide +kernel
theorem dX0_join_11 : decode cX0_join 11 = .ok (.iload_n 2, 1) := by decide +kernel
theorem dX0_join_12 : decode cX0_join 12 = .ok (.bipush 127, 2) := by decide +kernel
theorem dX0_join_14 : decode cX0_join 14 = .ok (.if_icmp .gt 12, 3) := by decide +kernel
theorem dX0_join_17 : decode cX0_join 17 = .ok (.aload_n 0, 1) := by decide +kernel
theorem dX0_join_18 : decode cX0_join 18 = .ok (.iload_n 1, 1) := by decide +kernel
theorem dX0_join_19 : decode cX0_join 19 = .ok (.iload_n 2, 1) := by decide +kernel
theorem dX0_join_20 : decode cX0_join 20 = .ok (.invokevirtual 53, 3) := by decide +kernel
theorem dX0_join_23 : decode cX0_join 23 = .ok (.goto 4, 3) := by decide +kernel
theorem dX0_join_26 : decode cX0_join 26 = .ok (.iconst (-1), 1) := by decide +kernel
theorem dX0_join_27 : decode cX0_join 27 = .ok (.ireturn, 1) := by decide +kernel
theorem dX0_joinOf_0 : decode cX0_joinOf 0 = .ok (.iload_n 2, 1) := by decide +kernel
theorem dX0_joinOf_1 : decode cX0_joinOf 1 = .ok (.ifCond .eq 11, 3) := by decide +kernel
theorem dX0_joinOf_4 : decode cX0_joinOf 4 = .ok (.iload_n 2, 1) := by decide +kernel
theorem dX0_joinOf_5 : decode cX0_joinOf 5 = .ok (.invokestatic 28, 3) := by decide +kernel
theorem dX0_joinOf_8 : decode cX0_joinOf 8 = .ok (.iconst 1, 1) := by decide +kernel
theorem dX0_joinOf_9 : decode cX0_joinOf 9 = .ok (.if_icmp .ne 5, 3) := by decide +kernel
theorem dX0_joinOf_12 : decode cX0_joinOf 12 = .ok (.iload_n 2, 1) := by decide +kernel
theorem dX0_joinOf_13 : decode cX0_joinOf 13 = .ok (.ireturn, 1) := by decide +kernel
theorem dX0_joinOf_14 : decode cX0_joinOf 14 = .ok (.bipush 127, 2) := by decide +kernel
theorem dX0_joinOf_16 : decode cX0_joinOf 16 = .ok (.istore_n 3, 1) := by decide +kernel
theorem dX0_joinOf_17 : decode cX0_joinOf 17 = .ok (.iconst 0, 1) := by decide +kernel
theorem dX0_joinOf_18 : decode cX0_joinOf 18 = .ok (.istore 4, 2) := by decide +kernel
theorem dX0_joinOf_20 : decode cX0_joinOf 20 = .ok (.iload 4, 2) := by decide +kernel
theorem dX0_joinOf_22 : decode cX0_joinOf 22 = .ok (.aload_n 0, 1) := by decide +kernel
theorem dX0_joinOf_23 : decode cX0_joinOf 23 = .ok (.getfield 7, 3) := by decide +kernel
theorem dX0_joinOf_26 : decode cX0_joinOf 26 = .ok (.iload_n 1, 1) := by decide +kernel
theorem dX0_joinOf_27 : decode cX0_joinOf 27 = .ok (.baload, 1) := by decide +kernel
theorem dX0_joinOf_28 : decode cX0_joinOf 28 = .ok (.if_icmp .ge 50, 3) := by decide +kernel
theorem dX0_joinOf_31 : decode cX0_joinOf 31 = .ok (.aload_n 0, 1) := by decide +kernel
theorem dX0_joinOf_32 : decode cX0_joinOf 32 = .ok (.getfield 13, 3) := by decide +kernel
theorem dX0_joinOf_35 : decode cX0_joinOf 35 = .ok (.iload_n 1, 1) := by decide +kernel
theorem dX0_joinOf_36 : decode cX0_joinOf 36 = .ok (.iconst 5, 1) := by decide +kernel
theorem dX0_joinOf_37 : decode cX0_joinOf 37 = .ok (.imul, 1) := by decide +kernel
theorem dX0_joinOf_38 : decode cX0_joinOf 38 = .ok (.iload 4, 2) := by decide +kernel
theorem dX0_joinOf_40 : decode cX0_joinOf 40 = .ok (.iadd, 1) := by decide +kernel
theorem dX0_joinOf_41 : decode cX0_joinOf 41 = .ok (.baload, 1) := by decide +kernel
theorem dX0_joinOf_42 : decode cX0_joinOf 42 = .ok (.istore 5, 2) := by decide +kernel
theorem dX0_joinOf_44 : decode cX0_joinOf 44 = .ok (.iload_n 2, 1) := by decide +kernel
theorem dX0_joinOf_45 : decode cX0_joinOf 45 = .ok (.iload 5, 2) := by decide +kernel
theorem dX0_joinOf_47 : decode cX0_joinOf 47 = .ok (.iconst (-1), 1) := by decide +kernel
theorem dX0_joinOf_48 : decode cX0_joinOf 48 = .ok (.ixor, 1) := by decide +kernel
theorem dX0_joinOf_49 : decode cX0_joinOf 49 = .ok (.iand, 1) := by decide +kernel
theorem dX0_joinOf_50 : decode cX0_joinOf 50 = .ok (.ifCond .ne 20, 3) := by decide +kernel
theorem dX0_joinOf_53 : decode cX0_joinOf 53 = .ok (.iload 5, 2) := by decide +kernel
theorem dX0_joinOf_55 : decode cX0_joinOf 55 = .ok (.invokestatic 28, 3) := by decide +kernel
theorem dX0_joinOf_58 : decode cX0_joinOf 58 = .ok (.iload_n 3, 1) := by decide +kernel
theorem dX0_joinOf_59 : decode cX0_joinOf 59 = .ok (.invokestatic 28, 3) := by decide +kernel
theorem dX0_joinOf_62 : decode cX0_joinOf 62 = .ok (.if_icmp .ge 8, 3) := by decide +kernel
theorem dX0_joinOf_65 : decode cX0_joinOf 65 = .ok (.iload 5, 2) := by decide +kernel
theorem dX0_joinOf_67 : decode cX0_joinOf 67 = .ok (.goto 4, 3) := by decide +kernel
theorem dX0_joinOf_70 : decode cX0_joinOf 70 = .ok (.iload_n 3, 1) := by decide +kernel
theorem dX0_joinOf_71 : decode cX0_joinOf 71 = .ok (.istore_n 3, 1) := by decide +kernel
theorem dX0_joinOf_72 : decode cX0_joinOf 72 = .ok (.iinc 4 1, 3) := by decide +kernel
theorem dX0_joinOf_75 : decode cX0_joinOf 75 = .ok (.goto (-55), 3) := by decide +kernel
theorem dX0_joinOf_78 : decode cX0_joinOf 78 = .ok (.iload_n 3, 1) := by decide +kernel
theorem dX0_joinOf_79 : decode cX0_joinOf 79 = .ok (.ireturn, 1) := by decide +kernel
theorem dX0_says_0 : decode cX0_says 0 = .ok (.iload_n 1, 1) := by decide +kernel
theorem dX0_says_1 : decode cX0_says 1 = .ok (.invokestatic 44, 3) := by decide +kernel
theorem dX0_says_4 : decode cX0_says 4 = .ok (.ifCond .eq 42, 3) := by decide +kernel
theorem dX0_says_7 : decode cX0_says 7 = .ok (.iload_n 2, 1) := by decide +kernel
theorem dX0_says_8 : decode cX0_says 8 = .ok (.invokestatic 56, 3) := by decide +kernel
theorem dX0_says_11 : decode cX0_says 11 = .ok (.ifCond .eq 35, 3) := by decide +kernel
theorem dX0_says_14 : decode cX0_says 14 = .ok (.iload_n 3, 1) := by decide +kernel
theorem dX0_says_15 : decode cX0_says 15 = .ok (.invokestatic 56, 3) := by decide +kernel
theorem dX0_says_18 : decode cX0_says 18 = .ok (.ifCond .eq 28, 3) := by decide +kernel
theorem dX0_says_21 : decode cX0_says 21 = .ok (.iload 4, 2) := by decide +kernel
theorem dX0_says_23 : decode cX0_says 23 = .ok (.invokestatic 56, 3) := by decide +kernel
theorem dX0_says_26 : decode cX0_says 26 = .ok (.ifCond .eq 20, 3) := by decide +kernel
theorem dX0_says_29 : decode cX0_says 29 = .ok (.iload_n 2, 1) := by decide +kernel
theorem dX0_says_30 : decode cX0_says 30 = .ok (.iload_n 3, 1) := by decide +kernel
theorem dX0_says_31 : decode cX0_says 31 = .ok (.if_icmp .eq 15, 3) := by decide +kernel
theorem dX0_says_34 : decode cX0_says 34 = .ok (.iload_n 2, 1) := by decide +kernel
theorem dX0_says_35 : decode cX0_says 35 = .ok (.iload 4, 2) := by decide +kernel
theorem dX0_says_37 : decode cX0_says 37 = .ok (.if_icmp .eq 9, 3) := by decide +kernel
theorem dX0_says_40 : decode cX0_says 40 = .ok (.iload_n 3, 1) := by decide +kernel
theorem dX0_says_41 : decode cX0_says 41 = .ok (.iload 4, 2) := by decide +kernel
theorem dX0_says_43 : decode cX0_says 43 = .ok (.if_icmp .ne 5, 3) := by decide +kernel
theorem dX0_says_46 : decode cX0_says 46 = .ok (.iconst (-1), 1) := by decide +kernel
theorem dX0_says_47 : decode cX0_says 47 = .ok (.ireturn, 1) := by decide +kernel
theorem dX0_says_48 : decode cX0_says 48 = .ok (.aload_n 0, 1) := by decide +kernel
theorem dX0_says_49 : decode cX0_says 49 = .ok (.iload_n 1, 1) := by decide +kernel
theorem dX0_says_50 : decode cX0_says 50 = .ok (.iload_n 2, 1) := by decide +kernel
theorem dX0_says_51 : decode cX0_says 51 = .ok (.iload_n 3, 1) := by decide +kernel
theorem dX0_says_52 : decode cX0_says 52 = .ok (.iload 4, 2) := by decide +kernel
theorem dX0_says_54 : decode cX0_says 54 = .ok (.invokevirtual 59, 3) := by decide +kernel
theorem dX0_says_57 : decode cX0_says 57 = .ok (.ireturn, 1) := by decide +kernel
theorem dX0_isMember_0 : decode cX0_isMember 0 = .ok (.iload_n 0, 1) := by decide +kernel
theorem dX0_isMember_1 : decode cX0_isMember 1 = .ok (.ifCond .lt 13, 3) := by decide +kernel
theorem dX0_isMember_4 : decode cX0_isMember 4 = .ok (.iload_n 0, 1) := by decide +kernel
theorem dX0_isMember_5 : decode cX0_isMember 5 = .ok (.bipush 7, 2) := by decide +kernel
theorem dX0_isMember_7 : decode cX0_isMember 7 = .ok (.if_icmp .ge 7, 3) := by decide +kernel
theorem dX0_isMember_10 : decode cX0_isMember 10 = .ok (.iconst 1, 1) := by decide +kernel
theorem dX0_isMember_11 : decode cX0_isMember 11 = .ok (.goto 4, 3) := by decide +kernel
theorem dX0_isMember_14 : decode cX0_isMember 14 = .ok (.iconst 0, 1) := by decide +kernel
theorem dX0_isMember_15 : decode cX0_isMember 15 = .ok (.ireturn, 1) := by decide +kernel
theorem dX0_lastOf_0 : decode cX0_lastOf 0 = .ok (.aload_n 0, 1) := by decide +kernel
theorem dX0_lastOf_1 : decode cX0_lastOf 1 = .ok (.iload_n 1, 1) := by decide +kernel
theorem dX0_lastOf_2 : decode cX0_lastOf 2 = .ok (.iconst 1, 1) := by decide +kernel
theorem dX0_lastOf_3 : decode cX0_lastOf 3 = .ok (.iload_n 2, 1) := by decide +kernel
theorem dX0_lastOf_4 : decode cX0_lastOf 4 = .ok (.ishl, 1) := by decide +kernel
theorem dX0_lastOf_5 : decode cX0_lastOf 5 = .ok (.iconst 1, 1) := by decide +kernel
theorem dX0_lastOf_6 : decode cX0_lastOf 6 = .ok (.iload_n 3, 1) := by decide +kernel
theorem dX0_lastOf_7 : decode cX0_lastOf 7 = .ok (.ishl, 1) := by decide +kernel
theorem dX0_lastOf_8 : decode cX0_lastOf 8 = .ok (.ior, 1) := by decide +kernel
theorem dX0_lastOf_9 : decode cX0_lastOf 9 = .ok (.invokevirtual 53, 3) := by decide +kernel
theorem dX0_lastOf_12 : decode cX0_lastOf 12 = .ok (.istore 5, 2) := by decide +kernel
theorem dX0_lastOf_14 : decode cX0_lastOf 14 = .ok (.iload 5, 2) := by decide +kernel
theorem dX0_lastOf_16 : decode cX0_lastOf 16 = .ok (.iload 4, 2) := by decide +kernel
theorem dX0_lastOf_18 : decode cX0_lastOf 18 = .ok (.ishr, 1) := by decide +kernel
theorem dX0_lastOf_19 : decode cX0_lastOf 19 = .ok (.iconst 1, 1) := by decide +kernel
theorem dX0_lastOf_20 : decode cX0_lastOf 20 = .ok (.iand, 1) := by decide +kernel
theorem dX0_lastOf_21 : decode cX0_lastOf 21 = .ok (.ifCond .ne 5, 3) := by decide +kernel
theorem dX0_lastOf_24 : decode cX0_lastOf 24 = .ok (.iconst 2, 1) := by decide +kernel
theorem dX0_lastOf_25 : decode cX0_lastOf 25 = .ok (.ireturn, 1) := by decide +kernel
theorem dX0_lastOf_26 : decode cX0_lastOf 26 = .ok (.aload_n 0, 1) := by decide +kernel
theorem dX0_lastOf_27 : decode cX0_lastOf 27 = .ok (.iload_n 1, 1) := by decide +kernel
theorem dX0_lastOf_28 : decode cX0_lastOf 28 = .ok (.iconst 1, 1) := by decide +kernel
theorem dX0_lastOf_29 : decode cX0_lastOf 29 = .ok (.iload_n 2, 1) := by decide +kernel
theorem dX0_lastOf_30 : decode cX0_lastOf 30 = .ok (.ishl, 1) := by decide +kernel
theorem dX0_lastOf_31 : decode cX0_lastOf 31 = .ok (.iconst 1, 1) := by decide +kernel
theorem dX0_lastOf_32 : decode cX0_lastOf 32 = .ok (.iload 4, 2) := by decide +kernel
theorem dX0_lastOf_34 : decode cX0_lastOf 34 = .ok (.ishl, 1) := by decide +kernel
theorem dX0_lastOf_35 : decode cX0_lastOf 35 = .ok (.ior, 1) := by decide +kernel
theorem dX0_lastOf_36 : decode cX0_lastOf 36 = .ok (.invokevirtual 53, 3) := by decide +kernel
theorem dX0_lastOf_39 : decode cX0_lastOf 39 = .ok (.istore 5, 2) := by decide +kernel
theorem dX0_lastOf_41 : decode cX0_lastOf 41 = .ok (.iload 5, 2) := by decide +kernel
theorem dX0_lastOf_43 : decode cX0_lastOf 43 = .ok (.iload_n 3, 1) := by decide +kernel
theorem dX0_lastOf_44 : decode cX0_lastOf 44 = .ok (.ishr, 1) := by decide +kernel
theorem dX0_lastOf_45 : decode cX0_lastOf 45 = .ok (.iconst 1, 1) := by decide +kernel
theorem dX0_lastOf_46 : decode cX0_lastOf 46 = .ok (.iand, 1) := by decide +kernel
theorem dX0_lastOf_47 : decode cX0_lastOf 47 = .ok (.ifCond .ne 5, 3) := by decide +kernel
theorem dX0_lastOf_50 : decode cX0_lastOf 50 = .ok (.iconst 1, 1) := by decide +kernel
theorem dX0_lastOf_51 : decode cX0_lastOf 51 = .ok (.ireturn, 1) := by decide +kernel
theorem dX0_lastOf_52 : decode cX0_lastOf 52 = .ok (.aload_n 0, 1) := by decide +kernel
theorem dX0_lastOf_53 : decode cX0_lastOf 53 = .ok (.iload_n 1, 1) := by decide +kernel
theorem dX0_lastOf_54 : decode cX0_lastOf 54 = .ok (.iconst 1, 1) := by decide +kernel
theorem dX0_lastOf_55 : decode cX0_lastOf 55 = .ok (.iload_n 3, 1) := by decide +kernel
theorem dX0_lastOf_56 : decode cX0_lastOf 56 = .ok (.ishl, 1) := by decide +kernel
theorem dX0_lastOf_57 : decode cX0_lastOf 57 = .ok (.iconst 1, 1) := by decide +kernel
theorem dX0_lastOf_58 : decode cX0_lastOf 58 = .ok (.iload 4, 2) := by decide +kernel
theorem dX0_lastOf_60 : decode cX0_lastOf 60 = .ok (.ishl, 1) := by decide +kernel
theorem dX0_lastOf_61 : decode cX0_lastOf 61 = .ok (.ior, 1) := by decide +kernel
theorem dX0_lastOf_62 : decode cX0_lastOf 62 = .ok (.invokevirtual 53, 3) := by decide +kernel
theorem dX0_lastOf_65 : decode cX0_lastOf 65 = .ok (.istore 5, 2) := by decide +kernel
theorem dX0_lastOf_67 : decode cX0_lastOf 67 = .ok (.iload 5, 2) := by decide +kernel
theorem dX0_lastOf_69 : decode cX0_lastOf 69 = .ok (.iload_n 2, 1) := by decide +kernel
theorem dX0_lastOf_70 : decode cX0_lastOf 70 = .ok (.ishr, 1) := by decide +kernel
theorem dX0_lastOf_71 : decode cX0_lastOf 71 = .ok (.iconst 1, 1) := by decide +kernel
theorem dX0_lastOf_72 : decode cX0_lastOf 72 = .ok (.iand, 1) := by decide +kernel
theorem dX0_lastOf_73 : decode cX0_lastOf 73 = .ok (.ifCond .ne 7, 3) := by decide +kernel
theorem dX0_lastOf_76 : decode cX0_lastOf 76 = .ok (.iconst 0, 1) := by decide +kernel
theorem dX0_lastOf_77 : decode cX0_lastOf 77 = .ok (.goto 4, 3) := by decide +kernel
theorem dX0_lastOf_80 : decode cX0_lastOf 80 = .ok (.iconst 3, 1) := by decide +kernel
theorem dX0_lastOf_81 : decode cX0_lastOf 81 = .ok (.ireturn, 1) := by decide +kernel
theorem dX0_decided_0 : decode cX0_decided 0 = .ok (.iload_n 1, 1) := by decide +kernel
theorem dX0_decided_1 : decode cX0_decided 1 = .ok (.invokestatic 44, 3) := by decide +kernel
theorem dX0_decided_4 : decode cX0_decided 4 = .ok (.ifCond .ne 5, 3) := by decide +kernel
theorem dX0_decided_7 : decode cX0_decided 7 = .ok (.iconst (-1), 1) := by decide +kernel
theorem dX0_decided_8 : decode cX0_decided 8 = .ok (.ireturn, 1) := by decide +kernel
theorem dX0_decided_9 : decode cX0_decided 9 = .ok (.iconst 0, 1) := by decide +kernel
theorem dX0_decided_10 : decode cX0_decided 10 = .ok (.istore_n 2, 1) := by decide +kernel
theorem dX0_decided_11 : decode cX0_decided 11 = .ok (.iconst 0, 1) := by decide +kernel
theorem dX0_decided_12 : decode cX0_decided 12 = .ok (.istore_n 3, 1) := by decide +kernel
theorem dX0_decided_13 : decode cX0_decided 13 = .ok (.iload_n 3, 1) := by decide +kernel
theorem dX0_decided_14 : decode cX0_decided 14 = .ok (.sipush 343, 3) := by decide +kernel
theorem dX0_decided_17 : decode cX0_decided 17 = .ok (.if_icmp .ge 67, 3) := by decide +kernel
theorem dX0_decided_20 : decode cX0_decided 20 = .ok (.iload_n 3, 1) := by decide +kernel
theorem dX0_decided_21 : decode cX0_decided 21 = .ok (.bipush 49, 2) := by decide +kernel
theorem dX0_decided_23 : decode cX0_decided 23 = .ok (.idiv, 1) := by decide +kernel
theorem dX0_decided_24 : decode cX0_decided 24 = .ok (.istore 4, 2) := by decide +kernel
theorem dX0_decided_26 : decode cX0_decided 26 = .ok (.iload_n 3, 1) := by decide +kernel
theorem dX0_decided_27 : decode cX0_decided 27 = .ok (.bipush 7, 2) := by decide +kernel
theorem dX0_decided_29 : decode cX0_decided 29 = .ok (.idiv, 1) := by decide +kernel
theorem dX0_decided_30 : decode cX0_decided 30 = .ok (.bipush 7, 2) := by decide +kernel
theorem dX0_decided_32 : decode cX0_decided 32 = .ok (.irem, 1) := by decide +kernel
theorem dX0_decided_33 : decode cX0_decided 33 = .ok (.istore 5, 2) := by decide +kernel
theorem dX0_decided_35 : decode cX0_decided 35 = .ok (.iload_n 3, 1) := by decide +kernel
theorem dX0_decided_36 : decode cX0_decided 36 = .ok (.bipush 7, 2) := by decide +kernel
theorem dX0_decided_38 : decode cX0_decided 38 = .ok (.irem, 1) := by decide +kernel
theorem dX0_decided_39 : decode cX0_decided 39 = .ok (.istore 6, 2) := by decide +kernel
theorem dX0_decided_41 : decode cX0_decided 41 = .ok (.iload_n 2, 1) := by decide +kernel
theorem dX0_decided_42 : decode cX0_decided 42 = .ok (.iload 4, 2) := by decide +kernel
theorem dX0_decided_44 : decode cX0_decided 44 = .ok (.iload 5, 2) := by decide +kernel
theorem dX0_decided_46 : decode cX0_decided 46 = .ok (.if_icmp .ge 29, 3) := by decide +kernel
theorem dX0_decided_49 : decode cX0_decided 49 = .ok (.iload 5, 2) := by decide +kernel
theorem dX0_decided_51 : decode cX0_decided 51 = .ok (.iload 6, 2) := by decide +kernel
theorem dX0_decided_53 : decode cX0_decided 53 = .ok (.if_icmp .ge 22, 3) := by decide +kernel
theorem dX0_decided_56 : decode cX0_decided 56 = .ok (.aload_n 0, 1) := by decide +kernel
theorem dX0_decided_57 : decode cX0_decided 57 = .ok (.iload_n 1, 1) := by decide +kernel
theorem dX0_decided_58 : decode cX0_decided 58 = .ok (.iload 4, 2) := by decide +kernel
theorem dX0_decided_60 : decode cX0_decided 60 = .ok (.iload 5, 2) := by decide +kernel
theorem dX0_decided_62 : decode cX0_decided 62 = .ok (.iload 6, 2) := by decide +kernel
theorem dX0_decided_64 : decode cX0_decided 64 = .ok (.invokevirtual 59, 3) := by decide +kernel
theorem dX0_decided_67 : decode cX0_decided 67 = .ok (.iconst 3, 1) := by decide +kernel
theorem dX0_decided_68 : decode cX0_decided 68 = .ok (.if_icmp .eq 7, 3) := by decide +kernel
theorem dX0_decided_71 : decode cX0_decided 71 = .ok (.iconst 1, 1) := by decide +kernel
theorem dX0_decided_72 : decode cX0_decided 72 = .ok (.goto 4, 3) := by decide +kernel
theorem dX0_decided_75 : decode cX0_decided 75 = .ok (.iconst 0, 1) := by decide +kernel
theorem dX0_decided_76 : decode cX0_decided 76 = .ok (.iadd, 1) := by decide +kernel
theorem dX0_decided_77 : decode cX0_decided 77 = .ok (.istore_n 2, 1) := by decide +kernel
theorem dX0_decided_78 : decode cX0_decided 78 = .ok (.iinc 3 1, 3) := by decide +kernel
theorem dX0_decided_81 : decode cX0_decided 81 = .ok (.goto (-68), 3) := by decide +kernel
theorem dX0_decided_84 : decode cX0_decided 84 = .ok (.iload_n 2, 1) := by decide +kernel
theorem dX0_decided_85 : decode cX0_decided 85 = .ok (.ireturn, 1) := by decide +kernel
theorem dX0_groupDistance_0 : decode cX0_groupDistance 0 = .ok (.aload_n 0, 1) := by decide +kernel
theorem dX0_groupDistance_1 : decode cX0_groupDistance 1 = .ok (.invokevirtual 63, 3) := by decide +kernel
theorem dX0_groupDistance_4 : decode cX0_groupDistance 4 = .ok (.bipush 7, 2) := by decide +kernel
theorem dX0_groupDistance_6 : decode cX0_groupDistance 6 = .ok (.isub, 1) := by decide +kernel
theorem dX0_groupDistance_7 : decode cX0_groupDistance 7 = .ok (.iconst 1, 1) := by decide +kernel
theorem dX0_groupDistance_8 : decode cX0_groupDistance 8 = .ok (.isub, 1) := by decide +kernel
theorem dX0_groupDistance_9 : decode cX0_groupDistance 9 = .ok (.istore_n 1, 1) := by decide +kernel
theorem dX0_groupDistance_10 : decode cX0_groupDistance 10 = .ok (.aload_n 0, 1) := by decide +kernel
theorem dX0_groupDistance_11 : decode cX0_groupDistance 11 = .ok (.getfield 7, 3) := by decide +kernel
theorem dX0_groupDistance_14 : decode cX0_groupDistance 14 = .ok (.iconst 0, 1) := by decide +kernel
theorem dX0_groupDistance_15 : decode cX0_groupDistance 15 = .ok (.baload, 1) := by decide +kernel
theorem dX0_groupDistance_16 : decode cX0_groupDistance 16 = .ok (.aload_n 0, 1) := by decide +kernel
theorem dX0_groupDistance_17 : decode cX0_groupDistance 17 = .ok (.getfield 7, 3) := by decide +kernel
theorem dX0_groupDistance_20 : decode cX0_groupDistance 20 = .ok (.iconst 1, 1) := by decide +kernel
theorem dX0_groupDistance_21 : decode cX0_groupDistance 21 = .ok (.baload, 1) := by decide +kernel
theorem dX0_groupDistance_22 : decode cX0_groupDistance 22 = .ok (.iadd, 1) := by decide +kernel
theorem dX0_groupDistance_23 : decode cX0_groupDistance 23 = .ok (.iconst 2, 1) := by decide +kernel
theorem dX0_groupDistance_24 : decode cX0_groupDistance 24 = .ok (.iload_n 1, 1) := by decide +kernel
theorem dX0_groupDistance_25 : decode cX0_groupDistance 25 = .ok (.imul, 1) := by decide +kernel
theorem dX0_groupDistance_26 : decode cX0_groupDistance 26 = .ok (.isub, 1) := by decide +kernel
theorem dX0_groupDistance_27 : decode cX0_groupDistance 27 = .ok (.ireturn, 1) := by decide +kernel
theorem dX0_common_0 : decode cX0_common 0 = .ok (.bipush 8, 2) := by decide +kernel
theorem dX0_common_2 : decode cX0_common 2 = .ok (.istore_n 1, 1) := by decide +kernel
theorem dX0_common_3 : decode cX0_common 3 = .ok (.iconst 0, 1) := by decide +kernel
theorem dX0_common_4 : decode cX0_common 4 = .ok (.istore_n 2, 1) := by decide +kernel
theorem dX0_common_5 : decode cX0_common 5 = .ok (.iload_n 2, 1) := by decide +kernel
theorem dX0_common_6 : decode cX0_common 6 = .ok (.aload_n 0, 1) := by decide +kernel
theorem dX0_common_7 : decode cX0_common 7 = .ok (.getfield 7, 3) := by decide +kernel
theorem dX0_common_10 : decode cX0_common 10 = .ok (.iconst 0, 1) := by decide +kernel
theorem dX0_common_11 : decode cX0_common 11 = .ok (.baload, 1) := by decide +kernel
theorem dX0_common_12 : decode cX0_common 12 = .ok (.if_icmp .ge 31, 3) := by decide +kernel
theorem dX0_common_15 : decode cX0_common 15 = .ok (.iload_n 1, 1) := by decide +kernel
theorem dX0_common_16 : decode cX0_common 16 = .ok (.aload_n 0, 1) := by decide +kernel
theorem dX0_common_17 : decode cX0_common 17 = .ok (.iconst 1, 1) := by decide +kernel
theorem dX0_common_18 : decode cX0_common 18 = .ok (.aload_n 0, 1) := by decide +kernel
theorem dX0_common_19 : decode cX0_common 19 = .ok (.getfield 13, 3) := by decide +kernel
theorem dX0_common_22 : decode cX0_common 22 = .ok (.iload_n 2, 1) := by decide +kernel
theorem dX0_common_23 : decode cX0_common 23 = .ok (.baload, 1) := by decide +kernel
theorem dX0_common_24 : decode cX0_common 24 = .ok (.invokevirtual 36, 3) := by decide +kernel
theorem dX0_common_27 : decode cX0_common 27 = .ok (.ifCond .lt 7, 3) := by decide +kernel
theorem dX0_common_30 : decode cX0_common 30 = .ok (.iconst 1, 1) := by decide +kernel
theorem dX0_common_31 : decode cX0_common 31 = .ok (.goto 4, 3) := by decide +kernel
theorem dX0_common_34 : decode cX0_common 34 = .ok (.iconst 0, 1) := by decide +kernel
theorem dX0_common_35 : decode cX0_common 35 = .ok (.iadd, 1) := by decide +kernel
theorem dX0_common_36 : decode cX0_common 36 = .ok (.istore_n 1, 1) := by decide +kernel
theorem dX0_common_37 : decode cX0_common 37 = .ok (.iinc 2 1, 3) := by decide +kernel
theorem dX0_common_40 : decode cX0_common 40 = .ok (.goto (-35), 3) := by decide +kernel
theorem dX0_common_43 : decode cX0_common 43 = .ok (.iload_n 1, 1) := by decide +kernel
theorem dX0_common_44 : decode cX0_common 44 = .ok (.ireturn, 1) := by decide +kernel
theorem dX0_tripleDistance_0 : decode cX0_tripleDistance 0 = .ok (.aload_n 0, 1) := by decide +kernel
theorem dX0_tripleDistance_1 : decode cX0_tripleDistance 1 = .ok (.bipush 127, 2) := by decide +kernel
theorem dX0_tripleDistance_3 : decode cX0_tripleDistance 3 = .ok (.invokevirtual 67, 3) := by decide +kernel
theorem dX0_tripleDistance_6 : decode cX0_tripleDistance 6 = .ok (.ireturn, 1) := by decide +kernel
theorem dX0_conflicts_0 : decode cX0_conflicts 0 = .ok (.iconst 0, 1) := by decide +kernel
theorem dX0_conflicts_1 : decode cX0_conflicts 1 = .ok (.istore_n 2, 1) := by decide +kernel
theorem dX0_conflicts_2 : decode cX0_conflicts 2 = .ok (.iconst 0, 1) := by decide +kernel
theorem dX0_conflicts_3 : decode cX0_conflicts 3 = .ok (.istore_n 3, 1) := by decide +kernel
theorem dX0_conflicts_4 : decode cX0_conflicts 4 = .ok (.iload_n 3, 1) := by decide +kernel
theorem dX0_conflicts_5 : decode cX0_conflicts 5 = .ok (.sipush 343, 3) := by decide +kernel
theorem dX0_conflicts_8 : decode cX0_conflicts 8 = .ok (.if_icmp .ge 112, 3) := by decide +kernel
theorem dX0_conflicts_11 : decode cX0_conflicts 11 = .ok (.iload_n 3, 1) := by decide +kernel
theorem dX0_conflicts_12 : decode cX0_conflicts 12 = .ok (.bipush 49, 2) := by decide +kernel
theorem dX0_conflicts_14 : decode cX0_conflicts 14 = .ok (.idiv, 1) := by decide +kernel
theorem dX0_conflicts_15 : decode cX0_conflicts 15 = .ok (.istore 4, 2) := by decide +kernel
theorem dX0_conflicts_17 : decode cX0_conflicts 17 = .ok (.iload_n 3, 1) := by decide +kernel
theorem dX0_conflicts_18 : decode cX0_conflicts 18 = .ok (.bipush 7, 2) := by decide +kernel
theorem dX0_conflicts_20 : decode cX0_conflicts 20 = .ok (.idiv, 1) := by decide +kernel
theorem dX0_conflicts_21 : decode cX0_conflicts 21 = .ok (.bipush 7, 2) := by decide +kernel
theorem dX0_conflicts_23 : decode cX0_conflicts 23 = .ok (.irem, 1) := by decide +kernel
theorem dX0_conflicts_24 : decode cX0_conflicts 24 = .ok (.istore 5, 2) := by decide +kernel
theorem dX0_conflicts_26 : decode cX0_conflicts 26 = .ok (.iload_n 3, 1) := by decide +kernel
theorem dX0_conflicts_27 : decode cX0_conflicts 27 = .ok (.bipush 7, 2) := by decide +kernel
theorem dX0_conflicts_29 : decode cX0_conflicts 29 = .ok (.irem, 1) := by decide +kernel
theorem dX0_conflicts_30 : decode cX0_conflicts 30 = .ok (.istore 6, 2) := by decide +kernel
theorem dX0_conflicts_32 : decode cX0_conflicts 32 = .ok (.iload_n 1, 1) := by decide +kernel
theorem dX0_conflicts_33 : decode cX0_conflicts 33 = .ok (.iload 4, 2) := by decide +kernel
theorem dX0_conflicts_35 : decode cX0_conflicts 35 = .ok (.ishr, 1) := by decide +kernel
theorem dX0_conflicts_36 : decode cX0_conflicts 36 = .ok (.iload_n 1, 1) := by decide +kernel
theorem dX0_conflicts_37 : decode cX0_conflicts 37 = .ok (.iload 5, 2) := by decide +kernel
theorem dX0_conflicts_39 : decode cX0_conflicts 39 = .ok (.ishr, 1) := by decide +kernel
theorem dX0_conflicts_40 : decode cX0_conflicts 40 = .ok (.iand, 1) := by decide +kernel
theorem dX0_conflicts_41 : decode cX0_conflicts 41 = .ok (.iload_n 1, 1) := by decide +kernel
theorem dX0_conflicts_42 : decode cX0_conflicts 42 = .ok (.iload 6, 2) := by decide +kernel
theorem dX0_conflicts_44 : decode cX0_conflicts 44 = .ok (.ishr, 1) := by decide +kernel
theorem dX0_conflicts_45 : decode cX0_conflicts 45 = .ok (.iand, 1) := by decide +kernel
end
section
set_option maxRecDepth 100000
theorem dX0_conflicts_46 : decode cX0_conflicts 46 = .ok (.iconst 1, 1) := by decide +kernel
theorem dX0_conflicts_47 : decode cX0_conflicts 47 = .ok (.iand, 1) := by decide +kernel
theorem dX0_conflicts_48 : decode cX0_conflicts 48 = .ok (.ifCond .eq 7, 3) := by decide +kernel
theorem dX0_conflicts_51 : decode cX0_conflicts 51 = .ok (.iconst 1, 1) := by decide +kernel
theorem dX0_conflicts_52 : decode cX0_conflicts 52 = .ok (.goto 4, 3) := by decide +kernel
theorem dX0_conflicts_55 : decode cX0_conflicts 55 = .ok (.iconst 0, 1) := by decide +kernel
theorem dX0_conflicts_56 : decode cX0_conflicts 56 = .ok (.istore 7, 2) := by decide +kernel
theorem dX0_conflicts_58 : decode cX0_conflicts 58 = .ok (.iload 7, 2) := by decide +kernel
theorem dX0_conflicts_60 : decode cX0_conflicts 60 = .ok (.ifCond .eq 54, 3) := by decide +kernel
theorem dX0_conflicts_63 : decode cX0_conflicts 63 = .ok (.iload 4, 2) := by decide +kernel
theorem dX0_conflicts_65 : decode cX0_conflicts 65 = .ok (.iload 5, 2) := by decide +kernel
theorem dX0_conflicts_67 : decode cX0_conflicts 67 = .ok (.if_icmp .ge 47, 3) := by decide +kernel
theorem dX0_conflicts_70 : decode cX0_conflicts 70 = .ok (.iload 5, 2) := by decide +kernel
theorem dX0_conflicts_72 : decode cX0_conflicts 72 = .ok (.iload 6, 2) := by decide +kernel
theorem dX0_conflicts_74 : decode cX0_conflicts 74 = .ok (.if_icmp .ge 40, 3) := by decide +kernel
theorem dX0_conflicts_77 : decode cX0_conflicts 77 = .ok (.aload_n 0, 1) := by decide +kernel
theorem dX0_conflicts_78 : decode cX0_conflicts 78 = .ok (.iconst 0, 1) := by decide +kernel
theorem dX0_conflicts_79 : decode cX0_conflicts 79 = .ok (.iload 4, 2) := by decide +kernel
theorem dX0_conflicts_81 : decode cX0_conflicts 81 = .ok (.iload 5, 2) := by decide +kernel
theorem dX0_conflicts_83 : decode cX0_conflicts 83 = .ok (.iload 6, 2) := by decide +kernel
theorem dX0_conflicts_85 : decode cX0_conflicts 85 = .ok (.invokevirtual 59, 3) := by decide +kernel
theorem dX0_conflicts_88 : decode cX0_conflicts 88 = .ok (.istore 8, 2) := by decide +kernel
theorem dX0_conflicts_90 : decode cX0_conflicts 90 = .ok (.iload_n 2, 1) := by decide +kernel
theorem dX0_conflicts_91 : decode cX0_conflicts 91 = .ok (.iload 8, 2) := by decide +kernel
theorem dX0_conflicts_93 : decode cX0_conflicts 93 = .ok (.aload_n 0, 1) := by decide +kernel
theorem dX0_conflicts_94 : decode cX0_conflicts 94 = .ok (.iconst 1, 1) := by decide +kernel
theorem dX0_conflicts_95 : decode cX0_conflicts 95 = .ok (.iload 4, 2) := by decide +kernel
theorem dX0_conflicts_97 : decode cX0_conflicts 97 = .ok (.iload 5, 2) := by decide +kernel
theorem dX0_conflicts_99 : decode cX0_conflicts 99 = .ok (.iload 6, 2) := by decide +kernel
theorem dX0_conflicts_101 : decode cX0_conflicts 101 = .ok (.invokevirtual 59, 3) := by decide +kernel
theorem dX0_conflicts_104 : decode cX0_conflicts 104 = .ok (.if_icmp .eq 7, 3) := by decide +kernel
theorem dX0_conflicts_107 : decode cX0_conflicts 107 = .ok (.iconst 1, 1) := by decide +kernel
theorem dX0_conflicts_108 : decode cX0_conflicts 108 = .ok (.goto 4, 3) := by decide +kernel
theorem dX0_conflicts_111 : decode cX0_conflicts 111 = .ok (.iconst 0, 1) := by decide +kernel
theorem dX0_conflicts_112 : decode cX0_conflicts 112 = .ok (.iadd, 1) := by decide +kernel
theorem dX0_conflicts_113 : decode cX0_conflicts 113 = .ok (.istore_n 2, 1) := by decide +kernel
theorem dX0_conflicts_114 : decode cX0_conflicts 114 = .ok (.iinc 3 1, 3) := by decide +kernel
theorem dX0_conflicts_117 : decode cX0_conflicts 117 = .ok (.goto (-113), 3) := by decide +kernel
theorem dX0_conflicts_120 : decode cX0_conflicts 120 = .ok (.iload_n 2, 1) := by decide +kernel
theorem dX0_conflicts_121 : decode cX0_conflicts 121 = .ok (.ireturn, 1) := by decide +kernel
theorem dX0_agreement_0 : decode cX0_agreement 0 = .ok (.aload_n 0, 1) := by decide +kernel
theorem dX0_agreement_1 : decode cX0_agreement 1 = .ok (.invokevirtual 88, 3) := by decide +kernel
theorem dX0_agreement_4 : decode cX0_agreement 4 = .ok (.ireturn, 1) := by decide +kernel
theorem dX0_solve_0 : decode cX0_solve 0 = .ok (.aload_n 0, 1) := by decide +kernel
theorem dX0_solve_1 : decode cX0_solve 1 = .ok (.iconst 0, 1) := by decide +kernel
theorem dX0_solve_2 : decode cX0_solve 2 = .ok (.invokevirtual 70, 3) := by decide +kernel
theorem dX0_solve_5 : decode cX0_solve 5 = .ok (.aload_n 0, 1) := by decide +kernel
theorem dX0_solve_6 : decode cX0_solve 6 = .ok (.iconst 1, 1) := by decide +kernel
theorem dX0_solve_7 : decode cX0_solve 7 = .ok (.invokevirtual 70, 3) := by decide +kernel
theorem dX0_solve_10 : decode cX0_solve 10 = .ok (.iconst 0, 1) := by decide +kernel
theorem dX0_solve_11 : decode cX0_solve 11 = .ok (.istore_n 1, 1) := by decide +kernel
theorem dX0_solve_12 : decode cX0_solve 12 = .ok (.iload_n 1, 1) := by decide +kernel
theorem dX0_solve_13 : decode cX0_solve 13 = .ok (.aload_n 0, 1) := by decide +kernel
theorem dX0_solve_14 : decode cX0_solve 14 = .ok (.getfield 19, 3) := by decide +kernel
theorem dX0_solve_17 : decode cX0_solve 17 = .ok (.iconst 0, 1) := by decide +kernel
theorem dX0_solve_18 : decode cX0_solve 18 = .ok (.baload, 1) := by decide +kernel
theorem dX0_solve_19 : decode cX0_solve 19 = .ok (.if_icmp .ge 45, 3) := by decide +kernel
theorem dX0_solve_22 : decode cX0_solve 22 = .ok (.iconst 0, 1) := by decide +kernel
theorem dX0_solve_23 : decode cX0_solve 23 = .ok (.istore_n 2, 1) := by decide +kernel
theorem dX0_solve_24 : decode cX0_solve 24 = .ok (.iload_n 2, 1) := by decide +kernel
theorem dX0_solve_25 : decode cX0_solve 25 = .ok (.aload_n 0, 1) := by decide +kernel
theorem dX0_solve_26 : decode cX0_solve 26 = .ok (.getfield 19, 3) := by decide +kernel
theorem dX0_solve_29 : decode cX0_solve 29 = .ok (.iconst 1, 1) := by decide +kernel
theorem dX0_solve_30 : decode cX0_solve 30 = .ok (.baload, 1) := by decide +kernel
theorem dX0_solve_31 : decode cX0_solve 31 = .ok (.if_icmp .ge 27, 3) := by decide +kernel
theorem dX0_solve_34 : decode cX0_solve 34 = .ok (.aload_n 0, 1) := by decide +kernel
theorem dX0_solve_35 : decode cX0_solve 35 = .ok (.getfield 22, 3) := by decide +kernel
theorem dX0_solve_38 : decode cX0_solve 38 = .ok (.iload_n 1, 1) := by decide +kernel
theorem dX0_solve_39 : decode cX0_solve 39 = .ok (.bipush 13, 2) := by decide +kernel
theorem dX0_solve_41 : decode cX0_solve 41 = .ok (.imul, 1) := by decide +kernel
theorem dX0_solve_42 : decode cX0_solve 42 = .ok (.iload_n 2, 1) := by decide +kernel
theorem dX0_solve_43 : decode cX0_solve 43 = .ok (.iadd, 1) := by decide +kernel
theorem dX0_solve_44 : decode cX0_solve 44 = .ok (.aload_n 0, 1) := by decide +kernel
theorem dX0_solve_45 : decode cX0_solve 45 = .ok (.iload_n 1, 1) := by decide +kernel
theorem dX0_solve_46 : decode cX0_solve 46 = .ok (.iload_n 2, 1) := by decide +kernel
theorem dX0_solve_47 : decode cX0_solve 47 = .ok (.invokevirtual 74, 3) := by decide +kernel
theorem dX0_solve_50 : decode cX0_solve 50 = .ok (.i2b, 1) := by decide +kernel
theorem dX0_solve_51 : decode cX0_solve 51 = .ok (.bastore, 1) := by decide +kernel
theorem dX0_solve_52 : decode cX0_solve 52 = .ok (.iinc 2 1, 3) := by decide +kernel
theorem dX0_solve_55 : decode cX0_solve 55 = .ok (.goto (-31), 3) := by decide +kernel
theorem dX0_solve_58 : decode cX0_solve 58 = .ok (.iinc 1 1, 3) := by decide +kernel
theorem dX0_solve_61 : decode cX0_solve 61 = .ok (.goto (-49), 3) := by decide +kernel
theorem dX0_solve_64 : decode cX0_solve 64 = .ok (.aload_n 0, 1) := by decide +kernel
theorem dX0_solve_65 : decode cX0_solve 65 = .ok (.getfield 22, 3) := by decide +kernel
theorem dX0_solve_68 : decode cX0_solve 68 = .ok (.aload_n 0, 1) := by decide +kernel
theorem dX0_solve_69 : decode cX0_solve 69 = .ok (.getfield 19, 3) := by decide +kernel
theorem dX0_solve_72 : decode cX0_solve 72 = .ok (.iconst 0, 1) := by decide +kernel
theorem dX0_solve_73 : decode cX0_solve 73 = .ok (.baload, 1) := by decide +kernel
theorem dX0_solve_74 : decode cX0_solve 74 = .ok (.iconst 1, 1) := by decide +kernel
theorem dX0_solve_75 : decode cX0_solve 75 = .ok (.isub, 1) := by decide +kernel
theorem dX0_solve_76 : decode cX0_solve 76 = .ok (.bipush 13, 2) := by decide +kernel
theorem dX0_solve_78 : decode cX0_solve 78 = .ok (.imul, 1) := by decide +kernel
theorem dX0_solve_79 : decode cX0_solve 79 = .ok (.aload_n 0, 1) := by decide +kernel
theorem dX0_solve_80 : decode cX0_solve 80 = .ok (.getfield 19, 3) := by decide +kernel
theorem dX0_solve_83 : decode cX0_solve 83 = .ok (.iconst 1, 1) := by decide +kernel
theorem dX0_solve_84 : decode cX0_solve 84 = .ok (.baload, 1) := by decide +kernel
theorem dX0_solve_85 : decode cX0_solve 85 = .ok (.iadd, 1) := by decide +kernel
theorem dX0_solve_86 : decode cX0_solve 86 = .ok (.iconst 1, 1) := by decide +kernel
theorem dX0_solve_87 : decode cX0_solve 87 = .ok (.isub, 1) := by decide +kernel
theorem dX0_solve_88 : decode cX0_solve 88 = .ok (.baload, 1) := by decide +kernel
theorem dX0_solve_89 : decode cX0_solve 89 = .ok (.ireturn, 1) := by decide +kernel
theorem dX0_list_0 : decode cX0_list 0 = .ok (.iconst 0, 1) := by decide +kernel
theorem dX0_list_1 : decode cX0_list 1 = .ok (.istore_n 2, 1) := by decide +kernel
theorem dX0_list_2 : decode cX0_list 2 = .ok (.iconst 1, 1) := by decide +kernel
theorem dX0_list_3 : decode cX0_list 3 = .ok (.istore_n 3, 1) := by decide +kernel
theorem dX0_list_4 : decode cX0_list 4 = .ok (.iload_n 3, 1) := by decide +kernel
theorem dX0_list_5 : decode cX0_list 5 = .ok (.bipush 7, 2) := by decide +kernel
theorem dX0_list_7 : decode cX0_list 7 = .ok (.if_icmp .gt 61, 3) := by decide +kernel
theorem dX0_list_10 : decode cX0_list 10 = .ok (.iconst 1, 1) := by decide +kernel
theorem dX0_list_11 : decode cX0_list 11 = .ok (.istore 4, 2) := by decide +kernel
theorem dX0_list_13 : decode cX0_list 13 = .ok (.iload 4, 2) := by decide +kernel
theorem dX0_list_15 : decode cX0_list 15 = .ok (.bipush 127, 2) := by decide +kernel
theorem dX0_list_17 : decode cX0_list 17 = .ok (.if_icmp .gt 45, 3) := by decide +kernel
theorem dX0_list_20 : decode cX0_list 20 = .ok (.iload 4, 2) := by decide +kernel
theorem dX0_list_22 : decode cX0_list 22 = .ok (.invokestatic 28, 3) := by decide +kernel
theorem dX0_list_25 : decode cX0_list 25 = .ok (.iload_n 3, 1) := by decide +kernel
theorem dX0_list_26 : decode cX0_list 26 = .ok (.if_icmp .ne 30, 3) := by decide +kernel
theorem dX0_list_29 : decode cX0_list 29 = .ok (.aload_n 0, 1) := by decide +kernel
theorem dX0_list_30 : decode cX0_list 30 = .ok (.iload_n 1, 1) := by decide +kernel
theorem dX0_list_31 : decode cX0_list 31 = .ok (.iload 4, 2) := by decide +kernel
theorem dX0_list_33 : decode cX0_list 33 = .ok (.invokevirtual 50, 3) := by decide +kernel
theorem dX0_list_36 : decode cX0_list 36 = .ok (.ifCond .eq 20, 3) := by decide +kernel
theorem dX0_list_39 : decode cX0_list 39 = .ok (.aload_n 0, 1) := by decide +kernel
theorem dX0_list_40 : decode cX0_list 40 = .ok (.getfield 16, 3) := by decide +kernel
theorem dX0_list_43 : decode cX0_list 43 = .ok (.iload_n 1, 1) := by decide +kernel
theorem dX0_list_44 : decode cX0_list 44 = .ok (.bipush 13, 2) := by decide +kernel
theorem dX0_list_46 : decode cX0_list 46 = .ok (.imul, 1) := by decide +kernel
theorem dX0_list_47 : decode cX0_list 47 = .ok (.iload_n 2, 1) := by decide +kernel
theorem dX0_list_48 : decode cX0_list 48 = .ok (.iadd, 1) := by decide +kernel
theorem dX0_list_49 : decode cX0_list 49 = .ok (.iload 4, 2) := by decide +kernel
theorem dX0_list_51 : decode cX0_list 51 = .ok (.i2b, 1) := by decide +kernel
theorem dX0_list_52 : decode cX0_list 52 = .ok (.bastore, 1) := by decide +kernel
theorem dX0_list_53 : decode cX0_list 53 = .ok (.iinc 2 1, 3) := by decide +kernel
theorem dX0_list_56 : decode cX0_list 56 = .ok (.iinc 4 1, 3) := by decide +kernel
theorem dX0_list_59 : decode cX0_list 59 = .ok (.goto (-46), 3) := by decide +kernel
theorem dX0_list_62 : decode cX0_list 62 = .ok (.iinc 3 1, 3) := by decide +kernel
theorem dX0_list_65 : decode cX0_list 65 = .ok (.goto (-61), 3) := by decide +kernel
theorem dX0_list_68 : decode cX0_list 68 = .ok (.aload_n 0, 1) := by decide +kernel
theorem dX0_list_69 : decode cX0_list 69 = .ok (.getfield 19, 3) := by decide +kernel
theorem dX0_list_72 : decode cX0_list 72 = .ok (.iload_n 1, 1) := by decide +kernel
theorem dX0_list_73 : decode cX0_list 73 = .ok (.iload_n 2, 1) := by decide +kernel
theorem dX0_list_74 : decode cX0_list 74 = .ok (.i2b, 1) := by decide +kernel
theorem dX0_list_75 : decode cX0_list 75 = .ok (.bastore, 1) := by decide +kernel
theorem dX0_list_76 : decode cX0_list 76 = .ok (.return_, 1) := by decide +kernel
theorem dX0_below_0 : decode cX0_below 0 = .ok (.aload_n 0, 1) := by decide +kernel
theorem dX0_below_1 : decode cX0_below 1 = .ok (.getfield 16, 3) := by decide +kernel
theorem dX0_below_4 : decode cX0_below 4 = .ok (.iload_n 1, 1) := by decide +kernel
theorem dX0_below_5 : decode cX0_below 5 = .ok (.baload, 1) := by decide +kernel
theorem dX0_below_6 : decode cX0_below 6 = .ok (.istore_n 3, 1) := by decide +kernel
theorem dX0_below_7 : decode cX0_below 7 = .ok (.aload_n 0, 1) := by decide +kernel
theorem dX0_below_8 : decode cX0_below 8 = .ok (.getfield 16, 3) := by decide +kernel
theorem dX0_below_11 : decode cX0_below 11 = .ok (.bipush 13, 2) := by decide +kernel
theorem dX0_below_13 : decode cX0_below 13 = .ok (.iload_n 2, 1) := by decide +kernel
theorem dX0_below_14 : decode cX0_below 14 = .ok (.iadd, 1) := by decide +kernel
theorem dX0_below_15 : decode cX0_below 15 = .ok (.baload, 1) := by decide +kernel
theorem dX0_below_16 : decode cX0_below 16 = .ok (.istore 4, 2) := by decide +kernel
theorem dX0_below_18 : decode cX0_below 18 = .ok (.iload_n 3, 1) := by decide +kernel
theorem dX0_below_19 : decode cX0_below 19 = .ok (.invokestatic 28, 3) := by decide +kernel
theorem dX0_below_22 : decode cX0_below 22 = .ok (.iconst 1, 1) := by decide +kernel
theorem dX0_below_23 : decode cX0_below 23 = .ok (.if_icmp .eq 12, 3) := by decide +kernel
theorem dX0_below_26 : decode cX0_below 26 = .ok (.iload 4, 2) := by decide +kernel
theorem dX0_below_28 : decode cX0_below 28 = .ok (.invokestatic 28, 3) := by decide +kernel
theorem dX0_below_31 : decode cX0_below 31 = .ok (.iconst 1, 1) := by decide +kernel
theorem dX0_below_32 : decode cX0_below 32 = .ok (.if_icmp .ne 16, 3) := by decide +kernel
theorem dX0_below_35 : decode cX0_below 35 = .ok (.iload_n 3, 1) := by decide +kernel
theorem dX0_below_36 : decode cX0_below 36 = .ok (.iload 4, 2) := by decide +kernel
theorem dX0_below_38 : decode cX0_below 38 = .ok (.iand, 1) := by decide +kernel
theorem dX0_below_39 : decode cX0_below 39 = .ok (.ifCond .eq 7, 3) := by decide +kernel
theorem dX0_below_42 : decode cX0_below 42 = .ok (.iconst 1, 1) := by decide +kernel
theorem dX0_below_43 : decode cX0_below 43 = .ok (.goto 4, 3) := by decide +kernel
theorem dX0_below_46 : decode cX0_below 46 = .ok (.iconst 0, 1) := by decide +kernel
theorem dX0_below_47 : decode cX0_below 47 = .ok (.ireturn, 1) := by decide +kernel
theorem dX0_below_48 : decode cX0_below 48 = .ok (.aload_n 0, 1) := by decide +kernel
theorem dX0_below_49 : decode cX0_below 49 = .ok (.iload_n 1, 1) := by decide +kernel
theorem dX0_below_50 : decode cX0_below 50 = .ok (.iload_n 2, 1) := by decide +kernel
theorem dX0_below_51 : decode cX0_below 51 = .ok (.invokevirtual 77, 3) := by decide +kernel
theorem dX0_below_54 : decode cX0_below 54 = .ok (.istore 5, 2) := by decide +kernel
theorem dX0_below_56 : decode cX0_below 56 = .ok (.iconst 0, 1) := by decide +kernel
theorem dX0_below_57 : decode cX0_below 57 = .ok (.istore 6, 2) := by decide +kernel
theorem dX0_below_59 : decode cX0_below 59 = .ok (.iload 6, 2) := by decide +kernel
theorem dX0_below_61 : decode cX0_below 61 = .ok (.iload_n 1, 1) := by decide +kernel
theorem dX0_below_62 : decode cX0_below 62 = .ok (.if_icmp .ge 56, 3) := by decide +kernel
theorem dX0_below_65 : decode cX0_below 65 = .ok (.aload_n 0, 1) := by decide +kernel
theorem dX0_below_66 : decode cX0_below 66 = .ok (.iconst 0, 1) := by decide +kernel
theorem dX0_below_67 : decode cX0_below 67 = .ok (.iload_n 1, 1) := by decide +kernel
theorem dX0_below_68 : decode cX0_below 68 = .ok (.iload 6, 2) := by decide +kernel
theorem dX0_below_70 : decode cX0_below 70 = .ok (.invokevirtual 80, 3) := by decide +kernel
theorem dX0_below_73 : decode cX0_below 73 = .ok (.ifCond .eq 35, 3) := by decide +kernel
theorem dX0_below_76 : decode cX0_below 76 = .ok (.aload_n 0, 1) := by decide +kernel
theorem dX0_below_77 : decode cX0_below 77 = .ok (.getfield 22, 3) := by decide +kernel
theorem dX0_below_80 : decode cX0_below 80 = .ok (.iload 6, 2) := by decide +kernel
theorem dX0_below_82 : decode cX0_below 82 = .ok (.bipush 13, 2) := by decide +kernel
theorem dX0_below_84 : decode cX0_below 84 = .ok (.imul, 1) := by decide +kernel
theorem dX0_below_85 : decode cX0_below 85 = .ok (.iload_n 2, 1) := by decide +kernel
theorem dX0_below_86 : decode cX0_below 86 = .ok (.iadd, 1) := by decide +kernel
theorem dX0_below_87 : decode cX0_below 87 = .ok (.baload, 1) := by decide +kernel
theorem dX0_below_88 : decode cX0_below 88 = .ok (.iload 5, 2) := by decide +kernel
theorem dX0_below_90 : decode cX0_below 90 = .ok (.if_icmp .le 18, 3) := by decide +kernel
theorem dX0_below_93 : decode cX0_below 93 = .ok (.aload_n 0, 1) := by decide +kernel
theorem dX0_below_94 : decode cX0_below 94 = .ok (.getfield 22, 3) := by decide +kernel
theorem dX0_below_97 : decode cX0_below 97 = .ok (.iload 6, 2) := by decide +kernel
theorem dX0_below_99 : decode cX0_below 99 = .ok (.bipush 13, 2) := by decide +kernel
theorem dX0_below_101 : decode cX0_below 101 = .ok (.imul, 1) := by decide +kernel
theorem dX0_below_102 : decode cX0_below 102 = .ok (.iload_n 2, 1) := by decide +kernel
theorem dX0_below_103 : decode cX0_below 103 = .ok (.iadd, 1) := by decide +kernel
theorem dX0_below_104 : decode cX0_below 104 = .ok (.baload, 1) := by decide +kernel
theorem dX0_below_105 : decode cX0_below 105 = .ok (.goto 5, 3) := by decide +kernel
theorem dX0_below_108 : decode cX0_below 108 = .ok (.iload 5, 2) := by decide +kernel
theorem dX0_below_110 : decode cX0_below 110 = .ok (.istore 5, 2) := by decide +kernel
theorem dX0_below_112 : decode cX0_below 112 = .ok (.iinc 6 1, 3) := by decide +kernel
theorem dX0_below_115 : decode cX0_below 115 = .ok (.goto (-56), 3) := by decide +kernel
theorem dX0_below_118 : decode cX0_below 118 = .ok (.iconst 0, 1) := by decide +kernel
theorem dX0_below_119 : decode cX0_below 119 = .ok (.istore 6, 2) := by decide +kernel
theorem dX0_below_121 : decode cX0_below 121 = .ok (.iload 6, 2) := by decide +kernel
theorem dX0_below_123 : decode cX0_below 123 = .ok (.iload_n 2, 1) := by decide +kernel
theorem dX0_below_124 : decode cX0_below 124 = .ok (.if_icmp .ge 56, 3) := by decide +kernel
theorem dX0_below_127 : decode cX0_below 127 = .ok (.aload_n 0, 1) := by decide +kernel
theorem dX0_below_128 : decode cX0_below 128 = .ok (.iconst 1, 1) := by decide +kernel
theorem dX0_below_129 : decode cX0_below 129 = .ok (.iload_n 2, 1) := by decide +kernel
theorem dX0_below_130 : decode cX0_below 130 = .ok (.iload 6, 2) := by decide +kernel
theorem dX0_below_132 : decode cX0_below 132 = .ok (.invokevirtual 80, 3) := by decide +kernel
theorem dX0_below_135 : decode cX0_below 135 = .ok (.ifCond .eq 35, 3) := by decide +kernel
theorem dX0_below_138 : decode cX0_below 138 = .ok (.aload_n 0, 1) := by decide +kernel
theorem dX0_below_139 : decode cX0_below 139 = .ok (.getfield 22, 3) := by decide +kernel
theorem dX0_below_142 : decode cX0_below 142 = .ok (.iload_n 1, 1) := by decide +kernel
theorem dX0_below_143 : decode cX0_below 143 = .ok (.bipush 13, 2) := by decide +kernel
theorem dX0_below_145 : decode cX0_below 145 = .ok (.imul, 1) := by decide +kernel
theorem dX0_below_146 : decode cX0_below 146 = .ok (.iload 6, 2) := by decide +kernel
theorem dX0_below_148 : decode cX0_below 148 = .ok (.iadd, 1) := by decide +kernel
theorem dX0_below_149 : decode cX0_below 149 = .ok (.baload, 1) := by decide +kernel
theorem dX0_below_150 : decode cX0_below 150 = .ok (.iload 5, 2) := by decide +kernel
theorem dX0_below_152 : decode cX0_below 152 = .ok (.if_icmp .le 18, 3) := by decide +kernel
theorem dX0_below_155 : decode cX0_below 155 = .ok (.aload_n 0, 1) := by decide +kernel
theorem dX0_below_156 : decode cX0_below 156 = .ok (.getfield 22, 3) := by decide +kernel
theorem dX0_below_159 : decode cX0_below 159 = .ok (.iload_n 1, 1) := by decide +kernel
theorem dX0_below_160 : decode cX0_below 160 = .ok (.bipush 13, 2) := by decide +kernel
theorem dX0_below_162 : decode cX0_below 162 = .ok (.imul, 1) := by decide +kernel
theorem dX0_below_163 : decode cX0_below 163 = .ok (.iload 6, 2) := by decide +kernel
theorem dX0_below_165 : decode cX0_below 165 = .ok (.iadd, 1) := by decide +kernel
theorem dX0_below_166 : decode cX0_below 166 = .ok (.baload, 1) := by decide +kernel
theorem dX0_below_167 : decode cX0_below 167 = .ok (.goto 5, 3) := by decide +kernel
theorem dX0_below_170 : decode cX0_below 170 = .ok (.iload 5, 2) := by decide +kernel
theorem dX0_below_172 : decode cX0_below 172 = .ok (.istore 5, 2) := by decide +kernel
theorem dX0_below_174 : decode cX0_below 174 = .ok (.iinc 6 1, 3) := by decide +kernel
theorem dX0_below_177 : decode cX0_below 177 = .ok (.goto (-56), 3) := by decide +kernel
theorem dX0_below_180 : decode cX0_below 180 = .ok (.iload 5, 2) := by decide +kernel
theorem dX0_below_182 : decode cX0_below 182 = .ok (.ireturn, 1) := by decide +kernel
theorem dX0_matchParts_0 : decode cX0_matchParts 0 = .ok (.iconst 0, 1) := by decide +kernel
theorem dX0_matchParts_1 : decode cX0_matchParts 1 = .ok (.istore_n 3, 1) := by decide +kernel
theorem dX0_matchParts_2 : decode cX0_matchParts 2 = .ok (.iload_n 3, 1) := by decide +kernel
theorem dX0_matchParts_3 : decode cX0_matchParts 3 = .ok (.sipush 128, 3) := by decide +kernel
theorem dX0_matchParts_6 : decode cX0_matchParts 6 = .ok (.if_icmp .ge 16, 3) := by decide +kernel
theorem dX0_matchParts_9 : decode cX0_matchParts 9 = .ok (.aload_n 0, 1) := by decide +kernel
theorem dX0_matchParts_10 : decode cX0_matchParts 10 = .ok (.getfield 25, 3) := by decide +kernel
theorem dX0_matchParts_13 : decode cX0_matchParts 13 = .ok (.iload_n 3, 1) := by decide +kernel
theorem dX0_matchParts_14 : decode cX0_matchParts 14 = .ok (.iconst 0, 1) := by decide +kernel
theorem dX0_matchParts_15 : decode cX0_matchParts 15 = .ok (.bastore, 1) := by decide +kernel
theorem dX0_matchParts_16 : decode cX0_matchParts 16 = .ok (.iinc 3 1, 3) := by decide +kernel
theorem dX0_matchParts_19 : decode cX0_matchParts 19 = .ok (.goto (-17), 3) := by decide +kernel
theorem dX0_matchParts_22 : decode cX0_matchParts 22 = .ok (.iconst 0, 1) := by decide +kernel
theorem dX0_matchParts_23 : decode cX0_matchParts 23 = .ok (.istore_n 3, 1) := by decide +kernel
theorem dX0_matchParts_24 : decode cX0_matchParts 24 = .ok (.iload_n 3, 1) := by decide +kernel
theorem dX0_matchParts_25 : decode cX0_matchParts 25 = .ok (.iload_n 1, 1) := by decide +kernel
theorem dX0_matchParts_26 : decode cX0_matchParts 26 = .ok (.if_icmp .ge 42, 3) := by decide +kernel
theorem dX0_matchParts_29 : decode cX0_matchParts 29 = .ok (.aload_n 0, 1) := by decide +kernel
theorem dX0_matchParts_30 : decode cX0_matchParts 30 = .ok (.iconst 0, 1) := by decide +kernel
theorem dX0_matchParts_31 : decode cX0_matchParts 31 = .ok (.iload_n 1, 1) := by decide +kernel
theorem dX0_matchParts_32 : decode cX0_matchParts 32 = .ok (.iload_n 3, 1) := by decide +kernel
theorem dX0_matchParts_33 : decode cX0_matchParts 33 = .ok (.invokevirtual 80, 3) := by decide +kernel
theorem dX0_matchParts_36 : decode cX0_matchParts 36 = .ok (.ifCond .eq 26, 3) := by decide +kernel
theorem dX0_matchParts_39 : decode cX0_matchParts 39 = .ok (.bipush 127, 2) := by decide +kernel
theorem dX0_matchParts_41 : decode cX0_matchParts 41 = .ok (.istore 4, 2) := by decide +kernel
theorem dX0_matchParts_43 : decode cX0_matchParts 43 = .ok (.iload 4, 2) := by decide +kernel
theorem dX0_matchParts_45 : decode cX0_matchParts 45 = .ok (.ifCond .lt 17, 3) := by decide +kernel
theorem dX0_matchParts_48 : decode cX0_matchParts 48 = .ok (.aload_n 0, 1) := by decide +kernel
theorem dX0_matchParts_49 : decode cX0_matchParts 49 = .ok (.iload_n 3, 1) := by decide +kernel
theorem dX0_matchParts_50 : decode cX0_matchParts 50 = .ok (.iload_n 2, 1) := by decide +kernel
theorem dX0_matchParts_51 : decode cX0_matchParts 51 = .ok (.iload 4, 2) := by decide +kernel
theorem dX0_matchParts_53 : decode cX0_matchParts 53 = .ok (.invokevirtual 84, 3) := by decide +kernel
theorem dX0_matchParts_56 : decode cX0_matchParts 56 = .ok (.iinc 4 (-1), 3) := by decide +kernel
theorem dX0_matchParts_59 : decode cX0_matchParts 59 = .ok (.goto (-16), 3) := by decide +kernel
theorem dX0_matchParts_62 : decode cX0_matchParts 62 = .ok (.iinc 3 1, 3) := by decide +kernel
theorem dX0_matchParts_65 : decode cX0_matchParts 65 = .ok (.goto (-41), 3) := by decide +kernel
theorem dX0_matchParts_68 : decode cX0_matchParts 68 = .ok (.aload_n 0, 1) := by decide +kernel
theorem dX0_matchParts_69 : decode cX0_matchParts 69 = .ok (.getfield 25, 3) := by decide +kernel
theorem dX0_matchParts_72 : decode cX0_matchParts 72 = .ok (.bipush 127, 2) := by decide +kernel
theorem dX0_matchParts_74 : decode cX0_matchParts 74 = .ok (.baload, 1) := by decide +kernel
theorem dX0_matchParts_75 : decode cX0_matchParts 75 = .ok (.ireturn, 1) := by decide +kernel
theorem dX0_isPart_0 : decode cX0_isPart 0 = .ok (.aload_n 0, 1) := by decide +kernel
theorem dX0_isPart_1 : decode cX0_isPart 1 = .ok (.getfield 16, 3) := by decide +kernel
theorem dX0_isPart_4 : decode cX0_isPart 4 = .ok (.iload_n 1, 1) := by decide +kernel
theorem dX0_isPart_5 : decode cX0_isPart 5 = .ok (.bipush 13, 2) := by decide +kernel
theorem dX0_isPart_7 : decode cX0_isPart 7 = .ok (.imul, 1) := by decide +kernel
theorem dX0_isPart_8 : decode cX0_isPart 8 = .ok (.iload_n 2, 1) := by decide +kernel
theorem dX0_isPart_9 : decode cX0_isPart 9 = .ok (.iadd, 1) := by decide +kernel
theorem dX0_isPart_10 : decode cX0_isPart 10 = .ok (.baload, 1) := by decide +kernel
theorem dX0_isPart_11 : decode cX0_isPart 11 = .ok (.istore 4, 2) := by decide +kernel
theorem dX0_isPart_13 : decode cX0_isPart 13 = .ok (.aload_n 0, 1) := by decide +kernel
theorem dX0_isPart_14 : decode cX0_isPart 14 = .ok (.getfield 16, 3) := by decide +kernel
theorem dX0_isPart_17 : decode cX0_isPart 17 = .ok (.iload_n 1, 1) := by decide +kernel
theorem dX0_isPart_18 : decode cX0_isPart 18 = .ok (.bipush 13, 2) := by decide +kernel
theorem dX0_isPart_20 : decode cX0_isPart 20 = .ok (.imul, 1) := by decide +kernel
theorem dX0_isPart_21 : decode cX0_isPart 21 = .ok (.iload_n 3, 1) := by decide +kernel
theorem dX0_isPart_22 : decode cX0_isPart 22 = .ok (.iadd, 1) := by decide +kernel
theorem dX0_isPart_23 : decode cX0_isPart 23 = .ok (.baload, 1) := by decide +kernel
theorem dX0_isPart_24 : decode cX0_isPart 24 = .ok (.istore 5, 2) := by decide +kernel
theorem dX0_isPart_26 : decode cX0_isPart 26 = .ok (.iload_n 2, 1) := by decide +kernel
theorem dX0_isPart_27 : decode cX0_isPart 27 = .ok (.iload_n 3, 1) := by decide +kernel
theorem dX0_isPart_28 : decode cX0_isPart 28 = .ok (.if_icmp .eq 13, 3) := by decide +kernel
theorem dX0_isPart_31 : decode cX0_isPart 31 = .ok (.iload 5, 2) := by decide +kernel
theorem dX0_isPart_33 : decode cX0_isPart 33 = .ok (.iload 4, 2) := by decide +kernel
theorem dX0_isPart_35 : decode cX0_isPart 35 = .ok (.iconst (-1), 1) := by decide +kernel
theorem dX0_isPart_36 : decode cX0_isPart 36 = .ok (.ixor, 1) := by decide +kernel
theorem dX0_isPart_37 : decode cX0_isPart 37 = .ok (.iand, 1) := by decide +kernel
theorem dX0_isPart_38 : decode cX0_isPart 38 = .ok (.ifCond .eq 5, 3) := by decide +kernel
theorem dX0_isPart_41 : decode cX0_isPart 41 = .ok (.iconst 0, 1) := by decide +kernel
theorem dX0_isPart_42 : decode cX0_isPart 42 = .ok (.ireturn, 1) := by decide +kernel
theorem dX0_isPart_43 : decode cX0_isPart 43 = .ok (.iconst 0, 1) := by decide +kernel
theorem dX0_isPart_44 : decode cX0_isPart 44 = .ok (.istore 6, 2) := by decide +kernel
theorem dX0_isPart_46 : decode cX0_isPart 46 = .ok (.iload 6, 2) := by decide +kernel
theorem dX0_isPart_48 : decode cX0_isPart 48 = .ok (.aload_n 0, 1) := by decide +kernel
theorem dX0_isPart_49 : decode cX0_isPart 49 = .ok (.getfield 19, 3) := by decide +kernel
theorem dX0_isPart_52 : decode cX0_isPart 52 = .ok (.iload_n 1, 1) := by decide +kernel
theorem dX0_isPart_53 : decode cX0_isPart 53 = .ok (.baload, 1) := by decide +kernel
theorem dX0_isPart_54 : decode cX0_isPart 54 = .ok (.if_icmp .ge 57, 3) := by decide +kernel
theorem dX0_isPart_57 : decode cX0_isPart 57 = .ok (.aload_n 0, 1) := by decide +kernel
theorem dX0_isPart_58 : decode cX0_isPart 58 = .ok (.getfield 16, 3) := by decide +kernel
theorem dX0_isPart_61 : decode cX0_isPart 61 = .ok (.iload_n 1, 1) := by decide +kernel
theorem dX0_isPart_62 : decode cX0_isPart 62 = .ok (.bipush 13, 2) := by decide +kernel
theorem dX0_isPart_64 : decode cX0_isPart 64 = .ok (.imul, 1) := by decide +kernel
theorem dX0_isPart_65 : decode cX0_isPart 65 = .ok (.iload 6, 2) := by decide +kernel
theorem dX0_isPart_67 : decode cX0_isPart 67 = .ok (.iadd, 1) := by decide +kernel
theorem dX0_isPart_68 : decode cX0_isPart 68 = .ok (.baload, 1) := by decide +kernel
theorem dX0_isPart_69 : decode cX0_isPart 69 = .ok (.istore 7, 2) := by decide +kernel
theorem dX0_isPart_71 : decode cX0_isPart 71 = .ok (.iload 6, 2) := by decide +kernel
theorem dX0_isPart_73 : decode cX0_isPart 73 = .ok (.iload_n 2, 1) := by decide +kernel
theorem dX0_isPart_74 : decode cX0_isPart 74 = .ok (.if_icmp .eq 31, 3) := by decide +kernel
theorem dX0_isPart_77 : decode cX0_isPart 77 = .ok (.iload 6, 2) := by decide +kernel
theorem dX0_isPart_79 : decode cX0_isPart 79 = .ok (.iload_n 3, 1) := by decide +kernel
theorem dX0_isPart_80 : decode cX0_isPart 80 = .ok (.if_icmp .eq 25, 3) := by decide +kernel
theorem dX0_isPart_83 : decode cX0_isPart 83 = .ok (.iload 5, 2) := by decide +kernel
theorem dX0_isPart_85 : decode cX0_isPart 85 = .ok (.iload 7, 2) := by decide +kernel
theorem dX0_isPart_87 : decode cX0_isPart 87 = .ok (.iconst (-1), 1) := by decide +kernel
theorem dX0_isPart_88 : decode cX0_isPart 88 = .ok (.ixor, 1) := by decide +kernel
theorem dX0_isPart_89 : decode cX0_isPart 89 = .ok (.iand, 1) := by decide +kernel
theorem dX0_isPart_90 : decode cX0_isPart 90 = .ok (.ifCond .ne 15, 3) := by decide +kernel
theorem dX0_isPart_93 : decode cX0_isPart 93 = .ok (.iload 7, 2) := by decide +kernel
theorem dX0_isPart_95 : decode cX0_isPart 95 = .ok (.iload 4, 2) := by decide +kernel
theorem dX0_isPart_97 : decode cX0_isPart 97 = .ok (.iconst (-1), 1) := by decide +kernel
theorem dX0_isPart_98 : decode cX0_isPart 98 = .ok (.ixor, 1) := by decide +kernel
theorem dX0_isPart_99 : decode cX0_isPart 99 = .ok (.iand, 1) := by decide +kernel
theorem dX0_isPart_100 : decode cX0_isPart 100 = .ok (.ifCond .ne 5, 3) := by decide +kernel
theorem dX0_isPart_103 : decode cX0_isPart 103 = .ok (.iconst 0, 1) := by decide +kernel
theorem dX0_isPart_104 : decode cX0_isPart 104 = .ok (.ireturn, 1) := by decide +kernel
theorem dX0_isPart_105 : decode cX0_isPart 105 = .ok (.iinc 6 1, 3) := by decide +kernel
theorem dX0_isPart_108 : decode cX0_isPart 108 = .ok (.goto (-62), 3) := by decide +kernel
theorem dX0_isPart_111 : decode cX0_isPart 111 = .ok (.iconst 1, 1) := by decide +kernel
theorem dX0_isPart_112 : decode cX0_isPart 112 = .ok (.ireturn, 1) := by decide +kernel
theorem dX0_improve_0 : decode cX0_improve 0 = .ok (.iconst 0, 1) := by decide +kernel
theorem dX0_improve_1 : decode cX0_improve 1 = .ok (.istore 4, 2) := by decide +kernel
theorem dX0_improve_3 : decode cX0_improve 3 = .ok (.aload_n 0, 1) := by decide +kernel
theorem dX0_improve_4 : decode cX0_improve 4 = .ok (.getfield 25, 3) := by decide +kernel
theorem dX0_improve_7 : decode cX0_improve 7 = .ok (.iload_n 3, 1) := by decide +kernel
theorem dX0_improve_8 : decode cX0_improve 8 = .ok (.baload, 1) := by decide +kernel
theorem dX0_improve_9 : decode cX0_improve 9 = .ok (.istore 5, 2) := by decide +kernel
theorem dX0_improve_11 : decode cX0_improve 11 = .ok (.iconst 0, 1) := by decide +kernel
theorem dX0_improve_12 : decode cX0_improve 12 = .ok (.istore 6, 2) := by decide +kernel
theorem dX0_improve_14 : decode cX0_improve 14 = .ok (.iload 6, 2) := by decide +kernel
theorem dX0_improve_16 : decode cX0_improve 16 = .ok (.iload_n 2, 1) := by decide +kernel
theorem dX0_improve_17 : decode cX0_improve 17 = .ok (.if_icmp .ge 76, 3) := by decide +kernel
theorem dX0_improve_20 : decode cX0_improve 20 = .ok (.aload_n 0, 1) := by decide +kernel
theorem dX0_improve_21 : decode cX0_improve 21 = .ok (.iconst 1, 1) := by decide +kernel
theorem dX0_improve_22 : decode cX0_improve 22 = .ok (.iload_n 2, 1) := by decide +kernel
theorem dX0_improve_23 : decode cX0_improve 23 = .ok (.iload 6, 2) := by decide +kernel
theorem dX0_improve_25 : decode cX0_improve 25 = .ok (.invokevirtual 80, 3) := by decide +kernel
theorem dX0_improve_28 : decode cX0_improve 28 = .ok (.ifCond .eq 59, 3) := by decide +kernel
theorem dX0_improve_31 : decode cX0_improve 31 = .ok (.iload_n 3, 1) := by decide +kernel
theorem dX0_improve_32 : decode cX0_improve 32 = .ok (.iload 4, 2) := by decide +kernel
theorem dX0_improve_34 : decode cX0_improve 34 = .ok (.ishr, 1) := by decide +kernel
theorem dX0_improve_35 : decode cX0_improve 35 = .ok (.iconst 1, 1) := by decide +kernel
theorem dX0_improve_36 : decode cX0_improve 36 = .ok (.iand, 1) := by decide +kernel
theorem dX0_improve_37 : decode cX0_improve 37 = .ok (.ifCond .eq 47, 3) := by decide +kernel
theorem dX0_improve_40 : decode cX0_improve 40 = .ok (.aload_n 0, 1) := by decide +kernel
theorem dX0_improve_41 : decode cX0_improve 41 = .ok (.getfield 25, 3) := by decide +kernel
theorem dX0_improve_44 : decode cX0_improve 44 = .ok (.iload_n 3, 1) := by decide +kernel
theorem dX0_improve_45 : decode cX0_improve 45 = .ok (.iconst 1, 1) := by decide +kernel
theorem dX0_improve_46 : decode cX0_improve 46 = .ok (.iload 4, 2) := by decide +kernel
theorem dX0_improve_48 : decode cX0_improve 48 = .ok (.ishl, 1) := by decide +kernel
theorem dX0_improve_49 : decode cX0_improve 49 = .ok (.iconst (-1), 1) := by decide +kernel
theorem dX0_improve_50 : decode cX0_improve 50 = .ok (.ixor, 1) := by decide +kernel
theorem dX0_improve_51 : decode cX0_improve 51 = .ok (.iand, 1) := by decide +kernel
theorem dX0_improve_52 : decode cX0_improve 52 = .ok (.baload, 1) := by decide +kernel
theorem dX0_improve_53 : decode cX0_improve 53 = .ok (.aload_n 0, 1) := by decide +kernel
theorem dX0_improve_54 : decode cX0_improve 54 = .ok (.getfield 22, 3) := by decide +kernel
theorem dX0_improve_57 : decode cX0_improve 57 = .ok (.iload_n 1, 1) := by decide +kernel
theorem dX0_improve_58 : decode cX0_improve 58 = .ok (.bipush 13, 2) := by decide +kernel
theorem dX0_improve_60 : decode cX0_improve 60 = .ok (.imul, 1) := by decide +kernel
theorem dX0_improve_61 : decode cX0_improve 61 = .ok (.iload 6, 2) := by decide +kernel
theorem dX0_improve_63 : decode cX0_improve 63 = .ok (.iadd, 1) := by decide +kernel
theorem dX0_improve_64 : decode cX0_improve 64 = .ok (.baload, 1) := by decide +kernel
theorem dX0_improve_65 : decode cX0_improve 65 = .ok (.iadd, 1) := by decide +kernel
theorem dX0_improve_66 : decode cX0_improve 66 = .ok (.istore 7, 2) := by decide +kernel
theorem dX0_improve_68 : decode cX0_improve 68 = .ok (.iload 7, 2) := by decide +kernel
theorem dX0_improve_70 : decode cX0_improve 70 = .ok (.iload 5, 2) := by decide +kernel
theorem dX0_improve_72 : decode cX0_improve 72 = .ok (.if_icmp .le 8, 3) := by decide +kernel
theorem dX0_improve_75 : decode cX0_improve 75 = .ok (.iload 7, 2) := by decide +kernel
theorem dX0_improve_77 : decode cX0_improve 77 = .ok (.goto 5, 3) := by decide +kernel
theorem dX0_improve_80 : decode cX0_improve 80 = .ok (.iload 5, 2) := by decide +kernel
theorem dX0_improve_82 : decode cX0_improve 82 = .ok (.istore 5, 2) := by decide +kernel
theorem dX0_improve_84 : decode cX0_improve 84 = .ok (.iinc 4 1, 3) := by decide +kernel
theorem dX0_improve_87 : decode cX0_improve 87 = .ok (.iinc 6 1, 3) := by decide +kernel
theorem dX0_improve_90 : decode cX0_improve 90 = .ok (.goto (-76), 3) := by decide +kernel
theorem dX0_improve_93 : decode cX0_improve 93 = .ok (.aload_n 0, 1) := by decide +kernel
theorem dX0_improve_94 : decode cX0_improve 94 = .ok (.getfield 25, 3) := by decide +kernel
theorem dX0_improve_97 : decode cX0_improve 97 = .ok (.iload_n 3, 1) := by decide +kernel
theorem dX0_improve_98 : decode cX0_improve 98 = .ok (.iload 5, 2) := by decide +kernel
theorem dX0_improve_100 : decode cX0_improve 100 = .ok (.i2b, 1) := by decide +kernel
theorem dX0_improve_101 : decode cX0_improve 101 = .ok (.bastore, 1) := by decide +kernel
theorem dX0_improve_102 : decode cX0_improve 102 = .ok (.return_, 1) := by decide +kernel
theorem dX0_agreeingSet_0 : decode cX0_agreeingSet 0 = .ok (.aload_n 0, 1) := by decide +kernel
theorem dX0_agreeingSet_1 : decode cX0_agreeingSet 1 = .ok (.invokevirtual 88, 3) := by decide +kernel
theorem dX0_agreeingSet_4 : decode cX0_agreeingSet 4 = .ok (.istore_n 1, 1) := by decide +kernel
theorem dX0_agreeingSet_5 : decode cX0_agreeingSet 5 = .ok (.iconst 0, 1) := by decide +kernel
theorem dX0_agreeingSet_6 : decode cX0_agreeingSet 6 = .ok (.istore_n 2, 1) := by decide +kernel
theorem dX0_agreeingSet_7 : decode cX0_agreeingSet 7 = .ok (.iload_n 2, 1) := by decide +kernel
theorem dX0_agreeingSet_8 : decode cX0_agreeingSet 8 = .ok (.bipush 127, 2) := by decide +kernel
theorem dX0_agreeingSet_10 : decode cX0_agreeingSet 10 = .ok (.if_icmp .ge 27, 3) := by decide +kernel
theorem dX0_agreeingSet_13 : decode cX0_agreeingSet 13 = .ok (.iload_n 2, 1) := by decide +kernel
theorem dX0_agreeingSet_14 : decode cX0_agreeingSet 14 = .ok (.invokestatic 28, 3) := by decide +kernel
theorem dX0_agreeingSet_17 : decode cX0_agreeingSet 17 = .ok (.iload_n 1, 1) := by decide +kernel
theorem dX0_agreeingSet_18 : decode cX0_agreeingSet 18 = .ok (.if_icmp .ne 13, 3) := by decide +kernel
theorem dX0_agreeingSet_21 : decode cX0_agreeingSet 21 = .ok (.aload_n 0, 1) := by decide +kernel
theorem dX0_agreeingSet_22 : decode cX0_agreeingSet 22 = .ok (.iload_n 2, 1) := by decide +kernel
theorem dX0_agreeingSet_23 : decode cX0_agreeingSet 23 = .ok (.invokevirtual 67, 3) := by decide +kernel
theorem dX0_agreeingSet_26 : decode cX0_agreeingSet 26 = .ok (.ifCond .ne 5, 3) := by decide +kernel
theorem dX0_agreeingSet_29 : decode cX0_agreeingSet 29 = .ok (.iload_n 2, 1) := by decide +kernel
theorem dX0_agreeingSet_30 : decode cX0_agreeingSet 30 = .ok (.ireturn, 1) := by decide +kernel
theorem dX0_agreeingSet_31 : decode cX0_agreeingSet 31 = .ok (.iinc 2 1, 3) := by decide +kernel
theorem dX0_agreeingSet_34 : decode cX0_agreeingSet 34 = .ok (.goto (-27), 3) := by decide +kernel
theorem dX0_agreeingSet_37 : decode cX0_agreeingSet 37 = .ok (.bipush 127, 2) := by decide +kernel
theorem dX0_agreeingSet_39 : decode cX0_agreeingSet 39 = .ok (.ireturn, 1) := by decide +kernel
theorem dX0_agree_0 : decode cX0_agree 0 = .ok (.iload_n 1, 1) := by decide +kernel
theorem dX0_agree_1 : decode cX0_agree 1 = .ok (.ifCond .lt 21, 3) := by decide +kernel
theorem dX0_agree_4 : decode cX0_agree 4 = .ok (.iload_n 1, 1) := by decide +kernel
theorem dX0_agree_5 : decode cX0_agree 5 = .ok (.bipush 127, 2) := by decide +kernel
theorem dX0_agree_7 : decode cX0_agree 7 = .ok (.if_icmp .gt 15, 3) := by decide +kernel
theorem dX0_agree_10 : decode cX0_agree 10 = .ok (.aload_n 0, 1) := by decide +kernel
theorem dX0_agree_11 : decode cX0_agree 11 = .ok (.iload_n 1, 1) := by decide +kernel
theorem dX0_agree_12 : decode cX0_agree 12 = .ok (.invokevirtual 67, 3) := by decide +kernel
theorem dX0_agree_15 : decode cX0_agree 15 = .ok (.ifCond .ne 7, 3) := by decide +kernel
theorem dX0_agree_18 : decode cX0_agree 18 = .ok (.iconst 1, 1) := by decide +kernel
theorem dX0_agree_19 : decode cX0_agree 19 = .ok (.goto 4, 3) := by decide +kernel
theorem dX0_agree_22 : decode cX0_agree 22 = .ok (.iconst 0, 1) := by decide +kernel
theorem dX0_agree_23 : decode cX0_agree 23 = .ok (.ireturn, 1) := by decide +kernel
theorem dX0_together_0 : decode cX0_together 0 = .ok (.iconst 0, 1) := by decide +kernel
theorem dX0_together_1 : decode cX0_together 1 = .ok (.istore_n 1, 1) := by decide +kernel
theorem dX0_together_2 : decode cX0_together 2 = .ok (.iload_n 1, 1) := by decide +kernel
theorem dX0_together_3 : decode cX0_together 3 = .ok (.aload_n 0, 1) := by decide +kernel
theorem dX0_together_4 : decode cX0_together 4 = .ok (.getfield 7, 3) := by decide +kernel
theorem dX0_together_7 : decode cX0_together 7 = .ok (.iconst 0, 1) := by decide +kernel
theorem dX0_together_8 : decode cX0_together 8 = .ok (.baload, 1) := by decide +kernel
theorem dX0_together_9 : decode cX0_together 9 = .ok (.if_icmp .ge 25, 3) := by decide +kernel
theorem dX0_together_12 : decode cX0_together 12 = .ok (.aload_n 0, 1) := by decide +kernel
theorem dX0_together_13 : decode cX0_together 13 = .ok (.iconst 1, 1) := by decide +kernel
theorem dX0_together_14 : decode cX0_together 14 = .ok (.aload_n 0, 1) := by decide +kernel
theorem dX0_together_15 : decode cX0_together 15 = .ok (.getfield 13, 3) := by decide +kernel
theorem dX0_together_18 : decode cX0_together 18 = .ok (.iload_n 1, 1) := by decide +kernel
theorem dX0_together_19 : decode cX0_together 19 = .ok (.baload, 1) := by decide +kernel
theorem dX0_together_20 : decode cX0_together 20 = .ok (.invokevirtual 47, 3) := by decide +kernel
theorem dX0_together_23 : decode cX0_together 23 = .ok (.ifCond .ne 5, 3) := by decide +kernel
theorem dX0_together_26 : decode cX0_together 26 = .ok (.iconst 0, 1) := by decide +kernel
theorem dX0_together_27 : decode cX0_together 27 = .ok (.ireturn, 1) := by decide +kernel
theorem dX0_together_28 : decode cX0_together 28 = .ok (.iinc 1 1, 3) := by decide +kernel
theorem dX0_together_31 : decode cX0_together 31 = .ok (.goto (-29), 3) := by decide +kernel
theorem dX0_together_34 : decode cX0_together 34 = .ok (.iconst 1, 1) := by decide +kernel
theorem dX0_together_35 : decode cX0_together 35 = .ok (.ireturn, 1) := by decide +kernel
theorem dX0_depth_0 : decode cX0_depth 0 = .ok (.iload_n 1, 1) := by decide +kernel
theorem dX0_depth_1 : decode cX0_depth 1 = .ok (.invokestatic 44, 3) := by decide +kernel
theorem dX0_depth_4 : decode cX0_depth 4 = .ok (.ifCond .eq 10, 3) := by decide +kernel
theorem dX0_depth_7 : decode cX0_depth 7 = .ok (.iload_n 2, 1) := by decide +kernel
theorem dX0_depth_8 : decode cX0_depth 8 = .ok (.invokestatic 56, 3) := by decide +kernel
theorem dX0_depth_11 : decode cX0_depth 11 = .ok (.ifCond .ne 5, 3) := by decide +kernel
theorem dX0_depth_14 : decode cX0_depth 14 = .ok (.iconst (-1), 1) := by decide +kernel
theorem dX0_depth_15 : decode cX0_depth 15 = .ok (.ireturn, 1) := by decide +kernel
theorem dX0_depth_16 : decode cX0_depth 16 = .ok (.iconst 2, 1) := by decide +kernel
theorem dX0_depth_17 : decode cX0_depth 17 = .ok (.istore_n 3, 1) := by decide +kernel
theorem dX0_depth_18 : decode cX0_depth 18 = .ok (.iconst 0, 1) := by decide +kernel
theorem dX0_depth_19 : decode cX0_depth 19 = .ok (.istore 4, 2) := by decide +kernel
theorem dX0_depth_21 : decode cX0_depth 21 = .ok (.iload 4, 2) := by decide +kernel
theorem dX0_depth_23 : decode cX0_depth 23 = .ok (.aload_n 0, 1) := by decide +kernel
theorem dX0_depth_24 : decode cX0_depth 24 = .ok (.getfield 7, 3) := by decide +kernel
theorem dX0_depth_27 : decode cX0_depth 27 = .ok (.iload_n 1, 1) := by decide +kernel
theorem dX0_depth_28 : decode cX0_depth 28 = .ok (.baload, 1) := by decide +kernel
theorem dX0_depth_29 : decode cX0_depth 29 = .ok (.if_icmp .ge 27, 3) := by decide +kernel
theorem dX0_depth_32 : decode cX0_depth 32 = .ok (.iload_n 3, 1) := by decide +kernel
theorem dX0_depth_33 : decode cX0_depth 33 = .ok (.aload_n 0, 1) := by decide +kernel
theorem dX0_depth_34 : decode cX0_depth 34 = .ok (.getfield 13, 3) := by decide +kernel
theorem dX0_depth_37 : decode cX0_depth 37 = .ok (.iload_n 1, 1) := by decide +kernel
theorem dX0_depth_38 : decode cX0_depth 38 = .ok (.iconst 5, 1) := by decide +kernel
theorem dX0_depth_39 : decode cX0_depth 39 = .ok (.imul, 1) := by decide +kernel
theorem dX0_depth_40 : decode cX0_depth 40 = .ok (.iload 4, 2) := by decide +kernel
theorem dX0_depth_42 : decode cX0_depth 42 = .ok (.iadd, 1) := by decide +kernel
theorem dX0_depth_43 : decode cX0_depth 43 = .ok (.baload, 1) := by decide +kernel
theorem dX0_depth_44 : decode cX0_depth 44 = .ok (.iload_n 2, 1) := by decide +kernel
theorem dX0_depth_45 : decode cX0_depth 45 = .ok (.ishr, 1) := by decide +kernel
theorem dX0_depth_46 : decode cX0_depth 46 = .ok (.iconst 1, 1) := by decide +kernel
theorem dX0_depth_47 : decode cX0_depth 47 = .ok (.iand, 1) := by decide +kernel
theorem dX0_depth_48 : decode cX0_depth 48 = .ok (.iadd, 1) := by decide +kernel
theorem dX0_depth_49 : decode cX0_depth 49 = .ok (.istore_n 3, 1) := by decide +kernel
theorem dX0_depth_50 : decode cX0_depth 50 = .ok (.iinc 4 1, 3) := by decide +kernel
theorem dX0_depth_53 : decode cX0_depth 53 = .ok (.goto (-32), 3) := by decide +kernel
theorem dX0_depth_56 : decode cX0_depth 56 = .ok (.iload_n 3, 1) := by decide +kernel
theorem dX0_depth_57 : decode cX0_depth 57 = .ok (.ireturn, 1) := by decide +kernel
theorem dX0_room_0 : decode cX0_room 0 = .ok (.iload_n 1, 1) := by decide +kernel
theorem dX0_room_1 : decode cX0_room 1 = .ok (.invokestatic 44, 3) := by decide +kernel
theorem dX0_room_4 : decode cX0_room 4 = .ok (.ifCond .ne 5, 3) := by decide +kernel
theorem dX0_room_7 : decode cX0_room 7 = .ok (.iconst (-1), 1) := by decide +kernel
theorem dX0_room_8 : decode cX0_room 8 = .ok (.ireturn, 1) := by decide +kernel
theorem dX0_room_9 : decode cX0_room 9 = .ok (.iconst 0, 1) := by decide +kernel
theorem dX0_room_10 : decode cX0_room 10 = .ok (.istore_n 2, 1) := by decide +kernel
theorem dX0_room_11 : decode cX0_room 11 = .ok (.iconst 1, 1) := by decide +kernel
theorem dX0_room_12 : decode cX0_room 12 = .ok (.istore_n 3, 1) := by decide +kernel
theorem dX0_room_13 : decode cX0_room 13 = .ok (.iload_n 3, 1) := by decide +kernel
theorem dX0_room_14 : decode cX0_room 14 = .ok (.bipush 127, 2) := by decide +kernel
theorem dX0_room_16 : decode cX0_room 16 = .ok (.if_icmp .gt 35, 3) := by decide +kernel
theorem dX0_room_19 : decode cX0_room 19 = .ok (.iload_n 2, 1) := by decide +kernel
theorem dX0_room_20 : decode cX0_room 20 = .ok (.aload_n 0, 1) := by decide +kernel
theorem dX0_room_21 : decode cX0_room 21 = .ok (.iload_n 1, 1) := by decide +kernel
theorem dX0_room_22 : decode cX0_room 22 = .ok (.iload_n 3, 1) := by decide +kernel
theorem dX0_room_23 : decode cX0_room 23 = .ok (.invokevirtual 50, 3) := by decide +kernel
theorem dX0_room_26 : decode cX0_room 26 = .ok (.ifCond .ne 16, 3) := by decide +kernel
theorem dX0_room_29 : decode cX0_room 29 = .ok (.aload_n 0, 1) := by decide +kernel
theorem dX0_room_30 : decode cX0_room 30 = .ok (.iload_n 1, 1) := by decide +kernel
theorem dX0_room_31 : decode cX0_room 31 = .ok (.iload_n 3, 1) := by decide +kernel
theorem dX0_room_32 : decode cX0_room 32 = .ok (.invokevirtual 47, 3) := by decide +kernel
theorem dX0_room_35 : decode cX0_room 35 = .ok (.ifCond .eq 7, 3) := by decide +kernel
theorem dX0_room_38 : decode cX0_room 38 = .ok (.iconst 1, 1) := by decide +kernel
theorem dX0_room_39 : decode cX0_room 39 = .ok (.goto 4, 3) := by decide +kernel
theorem dX0_room_42 : decode cX0_room 42 = .ok (.iconst 0, 1) := by decide +kernel
theorem dX0_room_43 : decode cX0_room 43 = .ok (.iadd, 1) := by decide +kernel
theorem dX0_room_44 : decode cX0_room 44 = .ok (.istore_n 2, 1) := by decide +kernel
theorem dX0_room_45 : decode cX0_room 45 = .ok (.iinc 3 1, 3) := by decide +kernel
theorem dX0_room_48 : decode cX0_room 48 = .ok (.goto (-35), 3) := by decide +kernel
theorem dX0_room_51 : decode cX0_room 51 = .ok (.iload_n 2, 1) := by decide +kernel
theorem dX0_room_52 : decode cX0_room 52 = .ok (.ireturn, 1) := by decide +kernel
end
section
set_option maxRecDepth 100000
theorem dX1_init_0 : decode cX1_init 0 = .ok (.aload_n 0, 1) := by decide +kernel
theorem dX1_init_1 : decode cX1_init 1 = .ok (.invokespecial 1, 3) := by decide +kernel
theorem dX1_init_4 : decode cX1_init 4 = .ok (.aload_n 0, 1) := by decide +kernel
theorem dX1_init_5 : decode cX1_init 5 = .ok (.sipush 256, 3) := by decide +kernel
theorem dX1_init_8 : decode cX1_init 8 = .ok (.newarray .boolean, 2) := by decide +kernel
theorem dX1_init_10 : decode cX1_init 10 = .ok (.putfield 7, 3) := by decide +kernel
theorem dX1_init_13 : decode cX1_init 13 = .ok (.aload_n 0, 1) := by decide +kernel
theorem dX1_init_14 : decode cX1_init 14 = .ok (.iconst 0, 1) := by decide +kernel
theorem dX1_init_15 : decode cX1_init 15 = .ok (.invokevirtual 13, 3) := by decide +kernel
theorem dX1_init_18 : decode cX1_init 18 = .ok (.pop, 1) := by decide +kernel
theorem dX1_init_19 : decode cX1_init 19 = .ok (.aload_n 0, 1) := by decide +kernel
theorem dX1_init_20 : decode cX1_init 20 = .ok (.iconst 1, 1) := by decide +kernel
theorem dX1_init_21 : decode cX1_init 21 = .ok (.invokevirtual 13, 3) := by decide +kernel
theorem dX1_init_24 : decode cX1_init 24 = .ok (.pop, 1) := by decide +kernel
theorem dX1_init_25 : decode cX1_init 25 = .ok (.return_, 1) := by decide +kernel
theorem dX1_clear_0 : decode cX1_clear 0 = .ok (.iconst 1, 1) := by decide +kernel
theorem dX1_clear_1 : decode cX1_clear 1 = .ok (.istore_n 2, 1) := by decide +kernel
theorem dX1_clear_2 : decode cX1_clear 2 = .ok (.iload_n 2, 1) := by decide +kernel
theorem dX1_clear_3 : decode cX1_clear 3 = .ok (.sipush 128, 3) := by decide +kernel
theorem dX1_clear_6 : decode cX1_clear 6 = .ok (.if_icmp .ge 34, 3) := by decide +kernel
theorem dX1_clear_9 : decode cX1_clear 9 = .ok (.aload_n 0, 1) := by decide +kernel
theorem dX1_clear_10 : decode cX1_clear 10 = .ok (.iload_n 1, 1) := by decide +kernel
theorem dX1_clear_11 : decode cX1_clear 11 = .ok (.invokevirtual 25, 3) := by decide +kernel
theorem dX1_clear_14 : decode cX1_clear 14 = .ok (.ifCond .eq 26, 3) := by decide +kernel
theorem dX1_clear_17 : decode cX1_clear 17 = .ok (.aload_n 0, 1) := by decide +kernel
theorem dX1_clear_18 : decode cX1_clear 18 = .ok (.getfield 7, 3) := by decide +kernel
theorem dX1_clear_21 : decode cX1_clear 21 = .ok (.sipush 128, 3) := by decide +kernel
theorem dX1_clear_24 : decode cX1_clear 24 = .ok (.iload_n 1, 1) := by decide +kernel
theorem dX1_clear_25 : decode cX1_clear 25 = .ok (.imul, 1) := by decide +kernel
theorem dX1_clear_26 : decode cX1_clear 26 = .ok (.iload_n 2, 1) := by decide +kernel
theorem dX1_clear_27 : decode cX1_clear 27 = .ok (.iadd, 1) := by decide +kernel
theorem dX1_clear_28 : decode cX1_clear 28 = .ok (.aload_n 0, 1) := by decide +kernel
theorem dX1_clear_29 : decode cX1_clear 29 = .ok (.iload_n 2, 1) := by decide +kernel
theorem dX1_clear_30 : decode cX1_clear 30 = .ok (.invokevirtual 31, 3) := by decide +kernel
theorem dX1_clear_33 : decode cX1_clear 33 = .ok (.bastore, 1) := by decide +kernel
theorem dX1_clear_34 : decode cX1_clear 34 = .ok (.iinc 2 1, 3) := by decide +kernel
theorem dX1_clear_37 : decode cX1_clear 37 = .ok (.goto (-35), 3) := by decide +kernel
theorem dX1_clear_40 : decode cX1_clear 40 = .ok (.aload_n 0, 1) := by decide +kernel
theorem dX1_clear_41 : decode cX1_clear 41 = .ok (.iload_n 1, 1) := by decide +kernel
theorem dX1_clear_42 : decode cX1_clear 42 = .ok (.invokevirtual 25, 3) := by decide +kernel
theorem dX1_clear_45 : decode cX1_clear 45 = .ok (.ireturn, 1) := by decide +kernel
theorem dX1_tree_0 : decode cX1_tree 0 = .ok (.iload_n 1, 1) := by decide +kernel
theorem dX1_tree_1 : decode cX1_tree 1 = .ok (.ifCond .eq 8, 3) := by decide +kernel
theorem dX1_tree_4 : decode cX1_tree 4 = .ok (.iload_n 1, 1) := by decide +kernel
theorem dX1_tree_5 : decode cX1_tree 5 = .ok (.iconst 1, 1) := by decide +kernel
theorem dX1_tree_6 : decode cX1_tree 6 = .ok (.if_icmp .ne 7, 3) := by decide +kernel
theorem dX1_tree_9 : decode cX1_tree 9 = .ok (.iconst 1, 1) := by decide +kernel
theorem dX1_tree_10 : decode cX1_tree 10 = .ok (.goto 4, 3) := by decide +kernel
theorem dX1_tree_13 : decode cX1_tree 13 = .ok (.iconst 0, 1) := by decide +kernel
theorem dX1_tree_14 : decode cX1_tree 14 = .ok (.ireturn, 1) := by decide +kernel
theorem dX1_given_0 : decode cX1_given 0 = .ok (.aload_n 0, 1) := by decide +kernel
theorem dX1_given_1 : decode cX1_given 1 = .ok (.iload_n 1, 1) := by decide +kernel
theorem dX1_given_2 : decode cX1_given 2 = .ok (.invokevirtual 17, 3) := by decide +kernel
theorem dX1_given_5 : decode cX1_given 5 = .ok (.iconst 1, 1) := by decide +kernel
theorem dX1_given_6 : decode cX1_given 6 = .ok (.if_icmp .eq 9, 3) := by decide +kernel
theorem dX1_given_9 : decode cX1_given 9 = .ok (.iload_n 1, 1) := by decide +kernel
theorem dX1_given_10 : decode cX1_given 10 = .ok (.bipush 127, 2) := by decide +kernel
theorem dX1_given_12 : decode cX1_given 12 = .ok (.if_icmp .ne 7, 3) := by decide +kernel
theorem dX1_given_15 : decode cX1_given 15 = .ok (.iconst 1, 1) := by decide +kernel
theorem dX1_given_16 : decode cX1_given 16 = .ok (.goto 4, 3) := by decide +kernel
theorem dX1_given_19 : decode cX1_given 19 = .ok (.iconst 0, 1) := by decide +kernel
theorem dX1_given_20 : decode cX1_given 20 = .ok (.ireturn, 1) := by decide +kernel
theorem dX1_count_0 : decode cX1_count 0 = .ok (.iconst 0, 1) := by decide +kernel
theorem dX1_count_1 : decode cX1_count 1 = .ok (.istore_n 2, 1) := by decide +kernel
theorem dX1_count_2 : decode cX1_count 2 = .ok (.iconst 0, 1) := by decide +kernel
theorem dX1_count_3 : decode cX1_count 3 = .ok (.istore_n 3, 1) := by decide +kernel
theorem dX1_count_4 : decode cX1_count 4 = .ok (.iload_n 3, 1) := by decide +kernel
theorem dX1_count_5 : decode cX1_count 5 = .ok (.bipush 7, 2) := by decide +kernel
theorem dX1_count_7 : decode cX1_count 7 = .ok (.if_icmp .ge 17, 3) := by decide +kernel
theorem dX1_count_10 : decode cX1_count 10 = .ok (.iload_n 2, 1) := by decide +kernel
theorem dX1_count_11 : decode cX1_count 11 = .ok (.iload_n 1, 1) := by decide +kernel
theorem dX1_count_12 : decode cX1_count 12 = .ok (.iload_n 3, 1) := by decide +kernel
theorem dX1_count_13 : decode cX1_count 13 = .ok (.ishr, 1) := by decide +kernel
theorem dX1_count_14 : decode cX1_count 14 = .ok (.iconst 1, 1) := by decide +kernel
theorem dX1_count_15 : decode cX1_count 15 = .ok (.iand, 1) := by decide +kernel
theorem dX1_count_16 : decode cX1_count 16 = .ok (.iadd, 1) := by decide +kernel
theorem dX1_count_17 : decode cX1_count 17 = .ok (.istore_n 2, 1) := by decide +kernel
theorem dX1_count_18 : decode cX1_count 18 = .ok (.iinc 3 1, 3) := by decide +kernel
theorem dX1_count_21 : decode cX1_count 21 = .ok (.goto (-17), 3) := by decide +kernel
theorem dX1_count_24 : decode cX1_count 24 = .ok (.iload_n 2, 1) := by decide +kernel
theorem dX1_count_25 : decode cX1_count 25 = .ok (.ireturn, 1) := by decide +kernel
theorem dX1_add_0 : decode cX1_add 0 = .ok (.aload_n 0, 1) := by decide +kernel
theorem dX1_add_1 : decode cX1_add 1 = .ok (.iload_n 1, 1) := by decide +kernel
theorem dX1_add_2 : decode cX1_add 2 = .ok (.invokevirtual 25, 3) := by decide +kernel
theorem dX1_add_5 : decode cX1_add 5 = .ok (.ifCond .eq 23, 3) := by decide +kernel
theorem dX1_add_8 : decode cX1_add 8 = .ok (.iload_n 2, 1) := by decide +kernel
theorem dX1_add_9 : decode cX1_add 9 = .ok (.iconst 1, 1) := by decide +kernel
theorem dX1_add_10 : decode cX1_add 10 = .ok (.if_icmp .lt 18, 3) := by decide +kernel
theorem dX1_add_13 : decode cX1_add 13 = .ok (.iload_n 2, 1) := by decide +kernel
theorem dX1_add_14 : decode cX1_add 14 = .ok (.bipush 127, 2) := by decide +kernel
theorem dX1_add_16 : decode cX1_add 16 = .ok (.if_icmp .gt 12, 3) := by decide +kernel
theorem dX1_add_19 : decode cX1_add 19 = .ok (.aload_n 0, 1) := by decide +kernel
theorem dX1_add_20 : decode cX1_add 20 = .ok (.iload_n 1, 1) := by decide +kernel
theorem dX1_add_21 : decode cX1_add 21 = .ok (.iload_n 2, 1) := by decide +kernel
theorem dX1_add_22 : decode cX1_add 22 = .ok (.invokevirtual 28, 3) := by decide +kernel
theorem dX1_add_25 : decode cX1_add 25 = .ok (.ifCond .ne 5, 3) := by decide +kernel
theorem dX1_add_28 : decode cX1_add 28 = .ok (.iconst 0, 1) := by decide +kernel
theorem dX1_add_29 : decode cX1_add 29 = .ok (.ireturn, 1) := by decide +kernel
theorem dX1_add_30 : decode cX1_add 30 = .ok (.aload_n 0, 1) := by decide +kernel
theorem dX1_add_31 : decode cX1_add 31 = .ok (.getfield 7, 3) := by decide +kernel
theorem dX1_add_34 : decode cX1_add 34 = .ok (.sipush 128, 3) := by decide +kernel
theorem dX1_add_37 : decode cX1_add 37 = .ok (.iload_n 1, 1) := by decide +kernel
theorem dX1_add_38 : decode cX1_add 38 = .ok (.imul, 1) := by decide +kernel
theorem dX1_add_39 : decode cX1_add 39 = .ok (.iload_n 2, 1) := by decide +kernel
theorem dX1_add_40 : decode cX1_add 40 = .ok (.iadd, 1) := by decide +kernel
theorem dX1_add_41 : decode cX1_add 41 = .ok (.iconst 1, 1) := by decide +kernel
theorem dX1_add_42 : decode cX1_add 42 = .ok (.bastore, 1) := by decide +kernel
theorem dX1_add_43 : decode cX1_add 43 = .ok (.iconst 1, 1) := by decide +kernel
theorem dX1_add_44 : decode cX1_add 44 = .ok (.ireturn, 1) := by decide +kernel
theorem dX1_fits_0 : decode cX1_fits 0 = .ok (.iconst 1, 1) := by decide +kernel
theorem dX1_fits_1 : decode cX1_fits 1 = .ok (.istore_n 3, 1) := by decide +kernel
theorem dX1_fits_2 : decode cX1_fits 2 = .ok (.iconst 1, 1) := by decide +kernel
theorem dX1_fits_3 : decode cX1_fits 3 = .ok (.istore 4, 2) := by decide +kernel
theorem dX1_fits_5 : decode cX1_fits 5 = .ok (.iload 4, 2) := by decide +kernel
theorem dX1_fits_7 : decode cX1_fits 7 = .ok (.sipush 128, 3) := by decide +kernel
theorem dX1_fits_10 : decode cX1_fits 10 = .ok (.if_icmp .ge 45, 3) := by decide +kernel
theorem dX1_fits_13 : decode cX1_fits 13 = .ok (.iload_n 3, 1) := by decide +kernel
theorem dX1_fits_14 : decode cX1_fits 14 = .ok (.ifCond .eq 33, 3) := by decide +kernel
theorem dX1_fits_17 : decode cX1_fits 17 = .ok (.aload_n 0, 1) := by decide +kernel
theorem dX1_fits_18 : decode cX1_fits 18 = .ok (.getfield 7, 3) := by decide +kernel
theorem dX1_fits_21 : decode cX1_fits 21 = .ok (.sipush 128, 3) := by decide +kernel
theorem dX1_fits_24 : decode cX1_fits 24 = .ok (.iload_n 1, 1) := by decide +kernel
theorem dX1_fits_25 : decode cX1_fits 25 = .ok (.imul, 1) := by decide +kernel
theorem dX1_fits_26 : decode cX1_fits 26 = .ok (.iload 4, 2) := by decide +kernel
theorem dX1_fits_28 : decode cX1_fits 28 = .ok (.iadd, 1) := by decide +kernel
theorem dX1_fits_29 : decode cX1_fits 29 = .ok (.baload, 1) := by decide +kernel
theorem dX1_fits_30 : decode cX1_fits 30 = .ok (.ifCond .eq 13, 3) := by decide +kernel
theorem dX1_fits_33 : decode cX1_fits 33 = .ok (.aload_n 0, 1) := by decide +kernel
theorem dX1_fits_34 : decode cX1_fits 34 = .ok (.iload 4, 2) := by decide +kernel
theorem dX1_fits_36 : decode cX1_fits 36 = .ok (.iload_n 2, 1) := by decide +kernel
theorem dX1_fits_37 : decode cX1_fits 37 = .ok (.invokevirtual 21, 3) := by decide +kernel
theorem dX1_fits_40 : decode cX1_fits 40 = .ok (.ifCond .ne 7, 3) := by decide +kernel
theorem dX1_fits_43 : decode cX1_fits 43 = .ok (.iconst 1, 1) := by decide +kernel
theorem dX1_fits_44 : decode cX1_fits 44 = .ok (.goto 4, 3) := by decide +kernel
theorem dX1_fits_47 : decode cX1_fits 47 = .ok (.iconst 0, 1) := by decide +kernel
theorem dX1_fits_48 : decode cX1_fits 48 = .ok (.istore_n 3, 1) := by decide +kernel
theorem dX1_fits_49 : decode cX1_fits 49 = .ok (.iinc 4 1, 3) := by decide +kernel
theorem dX1_fits_52 : decode cX1_fits 52 = .ok (.goto (-47), 3) := by decide +kernel
theorem dX1_fits_55 : decode cX1_fits 55 = .ok (.iload_n 3, 1) := by decide +kernel
theorem dX1_fits_56 : decode cX1_fits 56 = .ok (.ireturn, 1) := by decide +kernel
theorem dX1_crosses_0 : decode cX1_crosses 0 = .ok (.iload_n 1, 1) := by decide +kernel
theorem dX1_crosses_1 : decode cX1_crosses 1 = .ok (.iload_n 2, 1) := by decide +kernel
theorem dX1_crosses_2 : decode cX1_crosses 2 = .ok (.iand, 1) := by decide +kernel
theorem dX1_crosses_3 : decode cX1_crosses 3 = .ok (.ifCond .eq 23, 3) := by decide +kernel
theorem dX1_crosses_6 : decode cX1_crosses 6 = .ok (.iload_n 1, 1) := by decide +kernel
theorem dX1_crosses_7 : decode cX1_crosses 7 = .ok (.iload_n 2, 1) := by decide +kernel
theorem dX1_crosses_8 : decode cX1_crosses 8 = .ok (.iconst (-1), 1) := by decide +kernel
theorem dX1_crosses_9 : decode cX1_crosses 9 = .ok (.ixor, 1) := by decide +kernel
theorem dX1_crosses_10 : decode cX1_crosses 10 = .ok (.iand, 1) := by decide +kernel
theorem dX1_crosses_11 : decode cX1_crosses 11 = .ok (.ifCond .eq 15, 3) := by decide +kernel
theorem dX1_crosses_14 : decode cX1_crosses 14 = .ok (.iload_n 2, 1) := by decide +kernel
theorem dX1_crosses_15 : decode cX1_crosses 15 = .ok (.iload_n 1, 1) := by decide +kernel
theorem dX1_crosses_16 : decode cX1_crosses 16 = .ok (.iconst (-1), 1) := by decide +kernel
theorem dX1_crosses_17 : decode cX1_crosses 17 = .ok (.ixor, 1) := by decide +kernel
theorem dX1_crosses_18 : decode cX1_crosses 18 = .ok (.iand, 1) := by decide +kernel
theorem dX1_crosses_19 : decode cX1_crosses 19 = .ok (.ifCond .eq 7, 3) := by decide +kernel
theorem dX1_crosses_22 : decode cX1_crosses 22 = .ok (.iconst 1, 1) := by decide +kernel
theorem dX1_crosses_23 : decode cX1_crosses 23 = .ok (.goto 4, 3) := by decide +kernel
theorem dX1_crosses_26 : decode cX1_crosses 26 = .ok (.iconst 0, 1) := by decide +kernel
theorem dX1_crosses_27 : decode cX1_crosses 27 = .ok (.ireturn, 1) := by decide +kernel
theorem dX1_remove_0 : decode cX1_remove 0 = .ok (.aload_n 0, 1) := by decide +kernel
theorem dX1_remove_1 : decode cX1_remove 1 = .ok (.iload_n 1, 1) := by decide +kernel
theorem dX1_remove_2 : decode cX1_remove 2 = .ok (.invokevirtual 25, 3) := by decide +kernel
theorem dX1_remove_5 : decode cX1_remove 5 = .ok (.ifCond .eq 37, 3) := by decide +kernel
theorem dX1_remove_8 : decode cX1_remove 8 = .ok (.iload_n 2, 1) := by decide +kernel
theorem dX1_remove_9 : decode cX1_remove 9 = .ok (.iconst 1, 1) := by decide +kernel
theorem dX1_remove_10 : decode cX1_remove 10 = .ok (.if_icmp .lt 32, 3) := by decide +kernel
theorem dX1_remove_13 : decode cX1_remove 13 = .ok (.iload_n 2, 1) := by decide +kernel
theorem dX1_remove_14 : decode cX1_remove 14 = .ok (.bipush 127, 2) := by decide +kernel
theorem dX1_remove_16 : decode cX1_remove 16 = .ok (.if_icmp .gt 26, 3) := by decide +kernel
theorem dX1_remove_19 : decode cX1_remove 19 = .ok (.aload_n 0, 1) := by decide +kernel
theorem dX1_remove_20 : decode cX1_remove 20 = .ok (.iload_n 2, 1) := by decide +kernel
theorem dX1_remove_21 : decode cX1_remove 21 = .ok (.invokevirtual 31, 3) := by decide +kernel
theorem dX1_remove_24 : decode cX1_remove 24 = .ok (.ifCond .ne 18, 3) := by decide +kernel
theorem dX1_remove_27 : decode cX1_remove 27 = .ok (.aload_n 0, 1) := by decide +kernel
theorem dX1_remove_28 : decode cX1_remove 28 = .ok (.getfield 7, 3) := by decide +kernel
theorem dX1_remove_31 : decode cX1_remove 31 = .ok (.sipush 128, 3) := by decide +kernel
theorem dX1_remove_34 : decode cX1_remove 34 = .ok (.iload_n 1, 1) := by decide +kernel
theorem dX1_remove_35 : decode cX1_remove 35 = .ok (.imul, 1) := by decide +kernel
theorem dX1_remove_36 : decode cX1_remove 36 = .ok (.iload_n 2, 1) := by decide +kernel
theorem dX1_remove_37 : decode cX1_remove 37 = .ok (.iadd, 1) := by decide +kernel
theorem dX1_remove_38 : decode cX1_remove 38 = .ok (.baload, 1) := by decide +kernel
theorem dX1_remove_39 : decode cX1_remove 39 = .ok (.ifCond .ne 5, 3) := by decide +kernel
theorem dX1_remove_42 : decode cX1_remove 42 = .ok (.iconst 0, 1) := by decide +kernel
theorem dX1_remove_43 : decode cX1_remove 43 = .ok (.ireturn, 1) := by decide +kernel
theorem dX1_remove_44 : decode cX1_remove 44 = .ok (.aload_n 0, 1) := by decide +kernel
theorem dX1_remove_45 : decode cX1_remove 45 = .ok (.getfield 7, 3) := by decide +kernel
theorem dX1_remove_48 : decode cX1_remove 48 = .ok (.sipush 128, 3) := by decide +kernel
theorem dX1_remove_51 : decode cX1_remove 51 = .ok (.iload_n 1, 1) := by decide +kernel
theorem dX1_remove_52 : decode cX1_remove 52 = .ok (.imul, 1) := by decide +kernel
theorem dX1_remove_53 : decode cX1_remove 53 = .ok (.iload_n 2, 1) := by decide +kernel
theorem dX1_remove_54 : decode cX1_remove 54 = .ok (.iadd, 1) := by decide +kernel
theorem dX1_remove_55 : decode cX1_remove 55 = .ok (.iconst 0, 1) := by decide +kernel
theorem dX1_remove_56 : decode cX1_remove 56 = .ok (.bastore, 1) := by decide +kernel
theorem dX1_remove_57 : decode cX1_remove 57 = .ok (.iconst 1, 1) := by decide +kernel
theorem dX1_remove_58 : decode cX1_remove 58 = .ok (.ireturn, 1) := by decide +kernel
theorem dX1_groups_0 : decode cX1_groups 0 = .ok (.iconst 0, 1) := by decide +kernel
theorem dX1_groups_1 : decode cX1_groups 1 = .ok (.istore_n 2, 1) := by decide +kernel
theorem dX1_groups_2 : decode cX1_groups 2 = .ok (.iconst 1, 1) := by decide +kernel
theorem dX1_groups_3 : decode cX1_groups 3 = .ok (.istore_n 3, 1) := by decide +kernel
theorem dX1_groups_4 : decode cX1_groups 4 = .ok (.iload_n 3, 1) := by decide +kernel
theorem dX1_groups_5 : decode cX1_groups 5 = .ok (.sipush 128, 3) := by decide +kernel
theorem dX1_groups_8 : decode cX1_groups 8 = .ok (.if_icmp .ge 40, 3) := by decide +kernel
theorem dX1_groups_11 : decode cX1_groups 11 = .ok (.aload_n 0, 1) := by decide +kernel
theorem dX1_groups_12 : decode cX1_groups 12 = .ok (.iload_n 1, 1) := by decide +kernel
theorem dX1_groups_13 : decode cX1_groups 13 = .ok (.invokevirtual 25, 3) := by decide +kernel
theorem dX1_groups_16 : decode cX1_groups 16 = .ok (.ifCond .eq 32, 3) := by decide +kernel
theorem dX1_groups_19 : decode cX1_groups 19 = .ok (.aload_n 0, 1) := by decide +kernel
theorem dX1_groups_20 : decode cX1_groups 20 = .ok (.getfield 7, 3) := by decide +kernel
theorem dX1_groups_23 : decode cX1_groups 23 = .ok (.sipush 128, 3) := by decide +kernel
theorem dX1_groups_26 : decode cX1_groups 26 = .ok (.iload_n 1, 1) := by decide +kernel
theorem dX1_groups_27 : decode cX1_groups 27 = .ok (.imul, 1) := by decide +kernel
theorem dX1_groups_28 : decode cX1_groups 28 = .ok (.iload_n 3, 1) := by decide +kernel
theorem dX1_groups_29 : decode cX1_groups 29 = .ok (.iadd, 1) := by decide +kernel
theorem dX1_groups_30 : decode cX1_groups 30 = .ok (.baload, 1) := by decide +kernel
theorem dX1_groups_31 : decode cX1_groups 31 = .ok (.ifCond .eq 9, 3) := by decide +kernel
theorem dX1_groups_34 : decode cX1_groups 34 = .ok (.iload_n 2, 1) := by decide +kernel
theorem dX1_groups_35 : decode cX1_groups 35 = .ok (.iconst 1, 1) := by decide +kernel
theorem dX1_groups_36 : decode cX1_groups 36 = .ok (.iadd, 1) := by decide +kernel
theorem dX1_groups_37 : decode cX1_groups 37 = .ok (.goto 4, 3) := by decide +kernel
theorem dX1_groups_40 : decode cX1_groups 40 = .ok (.iload_n 2, 1) := by decide +kernel
theorem dX1_groups_41 : decode cX1_groups 41 = .ok (.istore_n 2, 1) := by decide +kernel
theorem dX1_groups_42 : decode cX1_groups 42 = .ok (.iinc 3 1, 3) := by decide +kernel
theorem dX1_groups_45 : decode cX1_groups 45 = .ok (.goto (-41), 3) := by decide +kernel
theorem dX1_groups_48 : decode cX1_groups 48 = .ok (.aload_n 0, 1) := by decide +kernel
theorem dX1_groups_49 : decode cX1_groups 49 = .ok (.iload_n 1, 1) := by decide +kernel
theorem dX1_groups_50 : decode cX1_groups 50 = .ok (.invokevirtual 25, 3) := by decide +kernel
theorem dX1_groups_53 : decode cX1_groups 53 = .ok (.ifCond .eq 7, 3) := by decide +kernel
theorem dX1_groups_56 : decode cX1_groups 56 = .ok (.iload_n 2, 1) := by decide +kernel
theorem dX1_groups_57 : decode cX1_groups 57 = .ok (.goto 4, 3) := by decide +kernel
theorem dX1_groups_60 : decode cX1_groups 60 = .ok (.iconst (-1), 1) := by decide +kernel
theorem dX1_groups_61 : decode cX1_groups 61 = .ok (.ireturn, 1) := by decide +kernel
theorem dX1_join_0 : decode cX1_join 0 = .ok (.aload_n 0, 1) := by decide +kernel
theorem dX1_join_1 : decode cX1_join 1 = .ok (.iload_n 1, 1) := by decide +kernel
theorem dX1_join_2 : decode cX1_join 2 = .ok (.invokevirtual 25, 3) := by decide +kernel
theorem dX1_join_5 : decode cX1_join 5 = .ok (.ifCond .eq 13, 3) := by decide +kernel
theorem dX1_join_8 : decode cX1_join 8 = .ok (.iload_n 2, 1) := by decide +kernel
theorem dX1_join_9 : decode cX1_join 9 = .ok (.ifCond .lt 9, 3) := by decide +kernel
theorem dX1_join_12 : decode cX1_join 12 = .ok (.iload_n 2, 1) := by decide +kernel
theorem dX1_join_13 : decode cX1_join 13 = .ok (.bipush 127, 2) := by decide +kernel
theorem dX1_join_15 : decode cX1_join 15 = .ok (.if_icmp .le 5, 3) := by decide +kernel
theorem dX1_join_18 : decode cX1_join 18 = .ok (.iconst (-1), 1) := by decide +kernel
theorem dX1_join_19 : decode cX1_join 19 = .ok (.ireturn, 1) := by decide +kernel
theorem dX1_join_20 : decode cX1_join 20 = .ok (.bipush 127, 2) := by decide +kernel
theorem dX1_join_22 : decode cX1_join 22 = .ok (.istore_n 3, 1) := by decide +kernel
theorem dX1_join_23 : decode cX1_join 23 = .ok (.iconst 1, 1) := by decide +kernel
theorem dX1_join_24 : decode cX1_join 24 = .ok (.istore 4, 2) := by decide +kernel
theorem dX1_join_26 : decode cX1_join 26 = .ok (.iload 4, 2) := by decide +kernel
theorem dX1_join_28 : decode cX1_join 28 = .ok (.sipush 128, 3) := by decide +kernel
theorem dX1_join_31 : decode cX1_join 31 = .ok (.if_icmp .ge 55, 3) := by decide +kernel
theorem dX1_join_34 : decode cX1_join 34 = .ok (.aload_n 0, 1) := by decide +kernel
theorem dX1_join_35 : decode cX1_join 35 = .ok (.getfield 7, 3) := by decide +kernel
theorem dX1_join_38 : decode cX1_join 38 = .ok (.sipush 128, 3) := by decide +kernel
theorem dX1_join_41 : decode cX1_join 41 = .ok (.iload_n 1, 1) := by decide +kernel
theorem dX1_join_42 : decode cX1_join 42 = .ok (.imul, 1) := by decide +kernel
theorem dX1_join_43 : decode cX1_join 43 = .ok (.iload 4, 2) := by decide +kernel
theorem dX1_join_45 : decode cX1_join 45 = .ok (.iadd, 1) := by decide +kernel
theorem dX1_join_46 : decode cX1_join 46 = .ok (.baload, 1) := by decide +kernel
theorem dX1_join_47 : decode cX1_join 47 = .ok (.ifCond .eq 31, 3) := by decide +kernel
theorem dX1_join_50 : decode cX1_join 50 = .ok (.iload_n 2, 1) := by decide +kernel
theorem dX1_join_51 : decode cX1_join 51 = .ok (.iload 4, 2) := by decide +kernel
theorem dX1_join_53 : decode cX1_join 53 = .ok (.iconst (-1), 1) := by decide +kernel
theorem dX1_join_54 : decode cX1_join 54 = .ok (.ixor, 1) := by decide +kernel
theorem dX1_join_55 : decode cX1_join 55 = .ok (.iand, 1) := by decide +kernel
theorem dX1_join_56 : decode cX1_join 56 = .ok (.ifCond .ne 22, 3) := by decide +kernel
theorem dX1_join_59 : decode cX1_join 59 = .ok (.aload_n 0, 1) := by decide +kernel
theorem dX1_join_60 : decode cX1_join 60 = .ok (.iload 4, 2) := by decide +kernel
theorem dX1_join_62 : decode cX1_join 62 = .ok (.invokevirtual 17, 3) := by decide +kernel
theorem dX1_join_65 : decode cX1_join 65 = .ok (.aload_n 0, 1) := by decide +kernel
theorem dX1_join_66 : decode cX1_join 66 = .ok (.iload_n 3, 1) := by decide +kernel
theorem dX1_join_67 : decode cX1_join 67 = .ok (.invokevirtual 17, 3) := by decide +kernel
theorem dX1_join_70 : decode cX1_join 70 = .ok (.if_icmp .ge 8, 3) := by decide +kernel
theorem dX1_join_73 : decode cX1_join 73 = .ok (.iload 4, 2) := by decide +kernel
theorem dX1_join_75 : decode cX1_join 75 = .ok (.goto 4, 3) := by decide +kernel
theorem dX1_join_78 : decode cX1_join 78 = .ok (.iload_n 3, 1) := by decide +kernel
theorem dX1_join_79 : decode cX1_join 79 = .ok (.istore_n 3, 1) := by decide +kernel
theorem dX1_join_80 : decode cX1_join 80 = .ok (.iinc 4 1, 3) := by decide +kernel
theorem dX1_join_83 : decode cX1_join 83 = .ok (.goto (-57), 3) := by decide +kernel
theorem dX1_join_86 : decode cX1_join 86 = .ok (.iload_n 2, 1) := by decide +kernel
theorem dX1_join_87 : decode cX1_join 87 = .ok (.ifCond .ne 7, 3) := by decide +kernel
theorem dX1_join_90 : decode cX1_join 90 = .ok (.iconst 0, 1) := by decide +kernel
theorem dX1_join_91 : decode cX1_join 91 = .ok (.goto 4, 3) := by decide +kernel
theorem dX1_join_94 : decode cX1_join 94 = .ok (.iload_n 3, 1) := by decide +kernel
theorem dX1_join_95 : decode cX1_join 95 = .ok (.ireturn, 1) := by decide +kernel
theorem dX1_says_0 : decode cX1_says 0 = .ok (.aload_n 0, 1) := by decide +kernel
theorem dX1_says_1 : decode cX1_says 1 = .ok (.iload_n 1, 1) := by decide +kernel
theorem dX1_says_2 : decode cX1_says 2 = .ok (.invokevirtual 25, 3) := by decide +kernel
theorem dX1_says_5 : decode cX1_says 5 = .ok (.ifCond .eq 45, 3) := by decide +kernel
theorem dX1_says_8 : decode cX1_says 8 = .ok (.aload_n 0, 1) := by decide +kernel
theorem dX1_says_9 : decode cX1_says 9 = .ok (.iload_n 2, 1) := by decide +kernel
theorem dX1_says_10 : decode cX1_says 10 = .ok (.invokevirtual 34, 3) := by decide +kernel
theorem dX1_says_13 : decode cX1_says 13 = .ok (.ifCond .eq 37, 3) := by decide +kernel
theorem dX1_says_16 : decode cX1_says 16 = .ok (.aload_n 0, 1) := by decide +kernel
theorem dX1_says_17 : decode cX1_says 17 = .ok (.iload_n 3, 1) := by decide +kernel
theorem dX1_says_18 : decode cX1_says 18 = .ok (.invokevirtual 34, 3) := by decide +kernel
theorem dX1_says_21 : decode cX1_says 21 = .ok (.ifCond .eq 29, 3) := by decide +kernel
theorem dX1_says_24 : decode cX1_says 24 = .ok (.aload_n 0, 1) := by decide +kernel
theorem dX1_says_25 : decode cX1_says 25 = .ok (.iload 4, 2) := by decide +kernel
theorem dX1_says_27 : decode cX1_says 27 = .ok (.invokevirtual 34, 3) := by decide +kernel
theorem dX1_says_30 : decode cX1_says 30 = .ok (.ifCond .eq 20, 3) := by decide +kernel
theorem dX1_says_33 : decode cX1_says 33 = .ok (.iload_n 2, 1) := by decide +kernel
theorem dX1_says_34 : decode cX1_says 34 = .ok (.iload_n 3, 1) := by decide +kernel
theorem dX1_says_35 : decode cX1_says 35 = .ok (.if_icmp .eq 15, 3) := by decide +kernel
theorem dX1_says_38 : decode cX1_says 38 = .ok (.iload_n 2, 1) := by decide +kernel
theorem dX1_says_39 : decode cX1_says 39 = .ok (.iload 4, 2) := by decide +kernel
theorem dX1_says_41 : decode cX1_says 41 = .ok (.if_icmp .eq 9, 3) := by decide +kernel
theorem dX1_says_44 : decode cX1_says 44 = .ok (.iload_n 3, 1) := by decide +kernel
theorem dX1_says_45 : decode cX1_says 45 = .ok (.iload 4, 2) := by decide +kernel
theorem dX1_says_47 : decode cX1_says 47 = .ok (.if_icmp .ne 5, 3) := by decide +kernel
theorem dX1_says_50 : decode cX1_says 50 = .ok (.iconst (-1), 1) := by decide +kernel
theorem dX1_says_51 : decode cX1_says 51 = .ok (.ireturn, 1) := by decide +kernel
theorem dX1_says_52 : decode cX1_says 52 = .ok (.aload_n 0, 1) := by decide +kernel
theorem dX1_says_53 : decode cX1_says 53 = .ok (.iload_n 1, 1) := by decide +kernel
theorem dX1_says_54 : decode cX1_says 54 = .ok (.iload_n 3, 1) := by decide +kernel
theorem dX1_says_55 : decode cX1_says 55 = .ok (.iload 4, 2) := by decide +kernel
theorem dX1_says_57 : decode cX1_says 57 = .ok (.iload_n 2, 1) := by decide +kernel
theorem dX1_says_58 : decode cX1_says 58 = .ok (.invokevirtual 37, 3) := by decide +kernel
theorem dX1_says_61 : decode cX1_says 61 = .ok (.ifCond .eq 7, 3) := by decide +kernel
theorem dX1_says_64 : decode cX1_says 64 = .ok (.iconst 0, 1) := by decide +kernel
theorem dX1_says_65 : decode cX1_says 65 = .ok (.goto 36, 3) := by decide +kernel
theorem dX1_says_68 : decode cX1_says 68 = .ok (.aload_n 0, 1) := by decide +kernel
theorem dX1_says_69 : decode cX1_says 69 = .ok (.iload_n 1, 1) := by decide +kernel
theorem dX1_says_70 : decode cX1_says 70 = .ok (.iload_n 2, 1) := by decide +kernel
theorem dX1_says_71 : decode cX1_says 71 = .ok (.iload 4, 2) := by decide +kernel
theorem dX1_says_73 : decode cX1_says 73 = .ok (.iload_n 3, 1) := by decide +kernel
theorem dX1_says_74 : decode cX1_says 74 = .ok (.invokevirtual 37, 3) := by decide +kernel
theorem dX1_says_77 : decode cX1_says 77 = .ok (.ifCond .eq 7, 3) := by decide +kernel
theorem dX1_says_80 : decode cX1_says 80 = .ok (.iconst 1, 1) := by decide +kernel
theorem dX1_says_81 : decode cX1_says 81 = .ok (.goto 20, 3) := by decide +kernel
theorem dX1_says_84 : decode cX1_says 84 = .ok (.aload_n 0, 1) := by decide +kernel
theorem dX1_says_85 : decode cX1_says 85 = .ok (.iload_n 1, 1) := by decide +kernel
theorem dX1_says_86 : decode cX1_says 86 = .ok (.iload_n 2, 1) := by decide +kernel
theorem dX1_says_87 : decode cX1_says 87 = .ok (.iload_n 3, 1) := by decide +kernel
theorem dX1_says_88 : decode cX1_says 88 = .ok (.iload 4, 2) := by decide +kernel
theorem dX1_says_90 : decode cX1_says 90 = .ok (.invokevirtual 37, 3) := by decide +kernel
theorem dX1_says_93 : decode cX1_says 93 = .ok (.ifCond .eq 7, 3) := by decide +kernel
theorem dX1_says_96 : decode cX1_says 96 = .ok (.iconst 2, 1) := by decide +kernel
theorem dX1_says_97 : decode cX1_says 97 = .ok (.goto 4, 3) := by decide +kernel
theorem dX1_says_100 : decode cX1_says 100 = .ok (.iconst 3, 1) := by decide +kernel
theorem dX1_says_101 : decode cX1_says 101 = .ok (.ireturn, 1) := by decide +kernel
theorem dX1_member_0 : decode cX1_member 0 = .ok (.iload_n 1, 1) := by decide +kernel
theorem dX1_member_1 : decode cX1_member 1 = .ok (.ifCond .lt 13, 3) := by decide +kernel
theorem dX1_member_4 : decode cX1_member 4 = .ok (.iload_n 1, 1) := by decide +kernel
theorem dX1_member_5 : decode cX1_member 5 = .ok (.bipush 6, 2) := by decide +kernel
theorem dX1_member_7 : decode cX1_member 7 = .ok (.if_icmp .gt 7, 3) := by decide +kernel
theorem dX1_member_10 : decode cX1_member 10 = .ok (.iconst 1, 1) := by decide +kernel
theorem dX1_member_11 : decode cX1_member 11 = .ok (.goto 4, 3) := by decide +kernel
theorem dX1_member_14 : decode cX1_member 14 = .ok (.iconst 0, 1) := by decide +kernel
theorem dX1_member_15 : decode cX1_member 15 = .ok (.ireturn, 1) := by decide +kernel
theorem dX1_closer_0 : decode cX1_closer 0 = .ok (.iconst 0, 1) := by decide +kernel
theorem dX1_closer_1 : decode cX1_closer 1 = .ok (.istore 5, 2) := by decide +kernel
theorem dX1_closer_3 : decode cX1_closer 3 = .ok (.iconst 1, 1) := by decide +kernel
theorem dX1_closer_4 : decode cX1_closer 4 = .ok (.istore 6, 2) := by decide +kernel
theorem dX1_closer_6 : decode cX1_closer 6 = .ok (.iload 6, 2) := by decide +kernel
theorem dX1_closer_8 : decode cX1_closer 8 = .ok (.sipush 128, 3) := by decide +kernel
theorem dX1_closer_11 : decode cX1_closer 11 = .ok (.if_icmp .ge 67, 3) := by decide +kernel
theorem dX1_closer_14 : decode cX1_closer 14 = .ok (.iload 5, 2) := by decide +kernel
theorem dX1_closer_16 : decode cX1_closer 16 = .ok (.ifCond .ne 49, 3) := by decide +kernel
theorem dX1_closer_19 : decode cX1_closer 19 = .ok (.aload_n 0, 1) := by decide +kernel
theorem dX1_closer_20 : decode cX1_closer 20 = .ok (.getfield 7, 3) := by decide +kernel
theorem dX1_closer_23 : decode cX1_closer 23 = .ok (.sipush 128, 3) := by decide +kernel
theorem dX1_closer_26 : decode cX1_closer 26 = .ok (.iload_n 1, 1) := by decide +kernel
theorem dX1_closer_27 : decode cX1_closer 27 = .ok (.imul, 1) := by decide +kernel
theorem dX1_closer_28 : decode cX1_closer 28 = .ok (.iload 6, 2) := by decide +kernel
theorem dX1_closer_30 : decode cX1_closer 30 = .ok (.iadd, 1) := by decide +kernel
theorem dX1_closer_31 : decode cX1_closer 31 = .ok (.baload, 1) := by decide +kernel
theorem dX1_closer_32 : decode cX1_closer 32 = .ok (.ifCond .eq 37, 3) := by decide +kernel
theorem dX1_closer_35 : decode cX1_closer 35 = .ok (.iload 6, 2) := by decide +kernel
theorem dX1_closer_37 : decode cX1_closer 37 = .ok (.iload_n 2, 1) := by decide +kernel
theorem dX1_closer_38 : decode cX1_closer 38 = .ok (.ishr, 1) := by decide +kernel
theorem dX1_closer_39 : decode cX1_closer 39 = .ok (.iconst 1, 1) := by decide +kernel
theorem dX1_closer_40 : decode cX1_closer 40 = .ok (.iand, 1) := by decide +kernel
theorem dX1_closer_41 : decode cX1_closer 41 = .ok (.iconst 1, 1) := by decide +kernel
theorem dX1_closer_42 : decode cX1_closer 42 = .ok (.if_icmp .ne 27, 3) := by decide +kernel
theorem dX1_closer_45 : decode cX1_closer 45 = .ok (.iload 6, 2) := by decide +kernel
theorem dX1_closer_47 : decode cX1_closer 47 = .ok (.iload_n 3, 1) := by decide +kernel
theorem dX1_closer_48 : decode cX1_closer 48 = .ok (.ishr, 1) := by decide +kernel
theorem dX1_closer_49 : decode cX1_closer 49 = .ok (.iconst 1, 1) := by decide +kernel
theorem dX1_closer_50 : decode cX1_closer 50 = .ok (.iand, 1) := by decide +kernel
theorem dX1_closer_51 : decode cX1_closer 51 = .ok (.iconst 1, 1) := by decide +kernel
theorem dX1_closer_52 : decode cX1_closer 52 = .ok (.if_icmp .ne 17, 3) := by decide +kernel
theorem dX1_closer_55 : decode cX1_closer 55 = .ok (.iload 6, 2) := by decide +kernel
theorem dX1_closer_57 : decode cX1_closer 57 = .ok (.iload 4, 2) := by decide +kernel
theorem dX1_closer_59 : decode cX1_closer 59 = .ok (.ishr, 1) := by decide +kernel
theorem dX1_closer_60 : decode cX1_closer 60 = .ok (.iconst 1, 1) := by decide +kernel
theorem dX1_closer_61 : decode cX1_closer 61 = .ok (.iand, 1) := by decide +kernel
theorem dX1_closer_62 : decode cX1_closer 62 = .ok (.ifCond .ne 7, 3) := by decide +kernel
theorem dX1_closer_65 : decode cX1_closer 65 = .ok (.iconst 1, 1) := by decide +kernel
theorem dX1_closer_66 : decode cX1_closer 66 = .ok (.goto 4, 3) := by decide +kernel
theorem dX1_closer_69 : decode cX1_closer 69 = .ok (.iconst 0, 1) := by decide +kernel
theorem dX1_closer_70 : decode cX1_closer 70 = .ok (.istore 5, 2) := by decide +kernel
theorem dX1_closer_72 : decode cX1_closer 72 = .ok (.iinc 6 1, 3) := by decide +kernel
theorem dX1_closer_75 : decode cX1_closer 75 = .ok (.goto (-69), 3) := by decide +kernel
theorem dX1_closer_78 : decode cX1_closer 78 = .ok (.iload 5, 2) := by decide +kernel
theorem dX1_closer_80 : decode cX1_closer 80 = .ok (.ireturn, 1) := by decide +kernel
theorem dX1_decided_0 : decode cX1_decided 0 = .ok (.iconst 0, 1) := by decide +kernel
theorem dX1_decided_1 : decode cX1_decided 1 = .ok (.istore_n 2, 1) := by decide +kernel
theorem dX1_decided_2 : decode cX1_decided 2 = .ok (.iconst 0, 1) := by decide +kernel
theorem dX1_decided_3 : decode cX1_decided 3 = .ok (.istore_n 3, 1) := by decide +kernel
theorem dX1_decided_4 : decode cX1_decided 4 = .ok (.iload_n 3, 1) := by decide +kernel
theorem dX1_decided_5 : decode cX1_decided 5 = .ok (.sipush 128, 3) := by decide +kernel
theorem dX1_decided_8 : decode cX1_decided 8 = .ok (.if_icmp .ge 44, 3) := by decide +kernel
theorem dX1_decided_11 : decode cX1_decided 11 = .ok (.aload_n 0, 1) := by decide +kernel
theorem dX1_decided_12 : decode cX1_decided 12 = .ok (.iload_n 1, 1) := by decide +kernel
theorem dX1_decided_13 : decode cX1_decided 13 = .ok (.invokevirtual 25, 3) := by decide +kernel
theorem dX1_decided_16 : decode cX1_decided 16 = .ok (.ifCond .eq 36, 3) := by decide +kernel
theorem dX1_decided_19 : decode cX1_decided 19 = .ok (.aload_n 0, 1) := by decide +kernel
theorem dX1_decided_20 : decode cX1_decided 20 = .ok (.iload_n 3, 1) := by decide +kernel
theorem dX1_decided_21 : decode cX1_decided 21 = .ok (.invokevirtual 17, 3) := by decide +kernel
theorem dX1_decided_24 : decode cX1_decided 24 = .ok (.iconst 3, 1) := by decide +kernel
theorem dX1_decided_25 : decode cX1_decided 25 = .ok (.if_icmp .ne 19, 3) := by decide +kernel
theorem dX1_decided_28 : decode cX1_decided 28 = .ok (.aload_n 0, 1) := by decide +kernel
theorem dX1_decided_29 : decode cX1_decided 29 = .ok (.iload_n 1, 1) := by decide +kernel
theorem dX1_decided_30 : decode cX1_decided 30 = .ok (.iload_n 3, 1) := by decide +kernel
theorem dX1_decided_31 : decode cX1_decided 31 = .ok (.invokevirtual 45, 3) := by decide +kernel
theorem dX1_decided_34 : decode cX1_decided 34 = .ok (.iconst 3, 1) := by decide +kernel
theorem dX1_decided_35 : decode cX1_decided 35 = .ok (.if_icmp .eq 9, 3) := by decide +kernel
theorem dX1_decided_38 : decode cX1_decided 38 = .ok (.iload_n 2, 1) := by decide +kernel
theorem dX1_decided_39 : decode cX1_decided 39 = .ok (.iconst 1, 1) := by decide +kernel
theorem dX1_decided_40 : decode cX1_decided 40 = .ok (.iadd, 1) := by decide +kernel
theorem dX1_decided_41 : decode cX1_decided 41 = .ok (.goto 4, 3) := by decide +kernel
theorem dX1_decided_44 : decode cX1_decided 44 = .ok (.iload_n 2, 1) := by decide +kernel
theorem dX1_decided_45 : decode cX1_decided 45 = .ok (.istore_n 2, 1) := by decide +kernel
theorem dX1_decided_46 : decode cX1_decided 46 = .ok (.iinc 3 1, 3) := by decide +kernel
theorem dX1_decided_49 : decode cX1_decided 49 = .ok (.goto (-45), 3) := by decide +kernel
theorem dX1_decided_52 : decode cX1_decided 52 = .ok (.aload_n 0, 1) := by decide +kernel
theorem dX1_decided_53 : decode cX1_decided 53 = .ok (.iload_n 1, 1) := by decide +kernel
theorem dX1_decided_54 : decode cX1_decided 54 = .ok (.invokevirtual 25, 3) := by decide +kernel
theorem dX1_decided_57 : decode cX1_decided 57 = .ok (.ifCond .eq 7, 3) := by decide +kernel
theorem dX1_decided_60 : decode cX1_decided 60 = .ok (.iload_n 2, 1) := by decide +kernel
theorem dX1_decided_61 : decode cX1_decided 61 = .ok (.goto 4, 3) := by decide +kernel
theorem dX1_decided_64 : decode cX1_decided 64 = .ok (.iconst (-1), 1) := by decide +kernel
theorem dX1_decided_65 : decode cX1_decided 65 = .ok (.ireturn, 1) := by decide +kernel
theorem dX1_about_0 : decode cX1_about 0 = .ok (.iconst (-1), 1) := by decide +kernel
theorem dX1_about_1 : decode cX1_about 1 = .ok (.istore_n 3, 1) := by decide +kernel
theorem dX1_about_2 : decode cX1_about 2 = .ok (.iconst (-1), 1) := by decide +kernel
theorem dX1_about_3 : decode cX1_about 3 = .ok (.istore 4, 2) := by decide +kernel
theorem dX1_about_5 : decode cX1_about 5 = .ok (.iconst (-1), 1) := by decide +kernel
theorem dX1_about_6 : decode cX1_about 6 = .ok (.istore 5, 2) := by decide +kernel
theorem dX1_about_8 : decode cX1_about 8 = .ok (.iconst 0, 1) := by decide +kernel
theorem dX1_about_9 : decode cX1_about 9 = .ok (.istore 6, 2) := by decide +kernel
theorem dX1_about_11 : decode cX1_about 11 = .ok (.iload 6, 2) := by decide +kernel
theorem dX1_about_13 : decode cX1_about 13 = .ok (.bipush 7, 2) := by decide +kernel
theorem dX1_about_15 : decode cX1_about 15 = .ok (.if_icmp .ge 30, 3) := by decide +kernel
theorem dX1_about_18 : decode cX1_about 18 = .ok (.iload_n 2, 1) := by decide +kernel
theorem dX1_about_19 : decode cX1_about 19 = .ok (.iload 6, 2) := by decide +kernel
theorem dX1_about_21 : decode cX1_about 21 = .ok (.ishr, 1) := by decide +kernel
theorem dX1_about_22 : decode cX1_about 22 = .ok (.iconst 1, 1) := by decide +kernel
theorem dX1_about_23 : decode cX1_about 23 = .ok (.iand, 1) := by decide +kernel
theorem dX1_about_24 : decode cX1_about 24 = .ok (.iconst 1, 1) := by decide +kernel
theorem dX1_about_25 : decode cX1_about 25 = .ok (.if_icmp .ne 14, 3) := by decide +kernel
theorem dX1_about_28 : decode cX1_about 28 = .ok (.iload 4, 2) := by decide +kernel
theorem dX1_about_30 : decode cX1_about 30 = .ok (.istore_n 3, 1) := by decide +kernel
theorem dX1_about_31 : decode cX1_about 31 = .ok (.iload 5, 2) := by decide +kernel
theorem dX1_about_33 : decode cX1_about 33 = .ok (.istore 4, 2) := by decide +kernel
theorem dX1_about_35 : decode cX1_about 35 = .ok (.iload 6, 2) := by decide +kernel
theorem dX1_about_37 : decode cX1_about 37 = .ok (.istore 5, 2) := by decide +kernel
theorem dX1_about_39 : decode cX1_about 39 = .ok (.iinc 6 1, 3) := by decide +kernel
theorem dX1_about_42 : decode cX1_about 42 = .ok (.goto (-31), 3) := by decide +kernel
theorem dX1_about_45 : decode cX1_about 45 = .ok (.aload_n 0, 1) := by decide +kernel
theorem dX1_about_46 : decode cX1_about 46 = .ok (.iload_n 1, 1) := by decide +kernel
theorem dX1_about_47 : decode cX1_about 47 = .ok (.iload_n 3, 1) := by decide +kernel
theorem dX1_about_48 : decode cX1_about 48 = .ok (.iload 4, 2) := by decide +kernel
theorem dX1_about_50 : decode cX1_about 50 = .ok (.iload 5, 2) := by decide +kernel
theorem dX1_about_52 : decode cX1_about 52 = .ok (.invokevirtual 41, 3) := by decide +kernel
theorem dX1_about_55 : decode cX1_about 55 = .ok (.ireturn, 1) := by decide +kernel
theorem dX1_groupDistance_0 : decode cX1_groupDistance 0 = .ok (.iconst 0, 1) := by decide +kernel
theorem dX1_groupDistance_1 : decode cX1_groupDistance 1 = .ok (.istore_n 1, 1) := by decide +kernel
theorem dX1_groupDistance_2 : decode cX1_groupDistance 2 = .ok (.iconst 1, 1) := by decide +kernel
theorem dX1_groupDistance_3 : decode cX1_groupDistance 3 = .ok (.istore_n 2, 1) := by decide +kernel
theorem dX1_groupDistance_4 : decode cX1_groupDistance 4 = .ok (.iload_n 2, 1) := by decide +kernel
theorem dX1_groupDistance_5 : decode cX1_groupDistance 5 = .ok (.sipush 128, 3) := by decide +kernel
theorem dX1_groupDistance_8 : decode cX1_groupDistance 8 = .ok (.if_icmp .ge 36, 3) := by decide +kernel
theorem dX1_groupDistance_11 : decode cX1_groupDistance 11 = .ok (.aload_n 0, 1) := by decide +kernel
theorem dX1_groupDistance_12 : decode cX1_groupDistance 12 = .ok (.getfield 7, 3) := by decide +kernel
theorem dX1_groupDistance_15 : decode cX1_groupDistance 15 = .ok (.iload_n 2, 1) := by decide +kernel
theorem dX1_groupDistance_16 : decode cX1_groupDistance 16 = .ok (.baload, 1) := by decide +kernel
theorem dX1_groupDistance_17 : decode cX1_groupDistance 17 = .ok (.aload_n 0, 1) := by decide +kernel
theorem dX1_groupDistance_18 : decode cX1_groupDistance 18 = .ok (.getfield 7, 3) := by decide +kernel
theorem dX1_groupDistance_21 : decode cX1_groupDistance 21 = .ok (.sipush 128, 3) := by decide +kernel
theorem dX1_groupDistance_24 : decode cX1_groupDistance 24 = .ok (.iload_n 2, 1) := by decide +kernel
theorem dX1_groupDistance_25 : decode cX1_groupDistance 25 = .ok (.iadd, 1) := by decide +kernel
theorem dX1_groupDistance_26 : decode cX1_groupDistance 26 = .ok (.baload, 1) := by decide +kernel
theorem dX1_groupDistance_27 : decode cX1_groupDistance 27 = .ok (.if_icmp .eq 9, 3) := by decide +kernel
theorem dX1_groupDistance_30 : decode cX1_groupDistance 30 = .ok (.iload_n 1, 1) := by decide +kernel
theorem dX1_groupDistance_31 : decode cX1_groupDistance 31 = .ok (.iconst 1, 1) := by decide +kernel
theorem dX1_groupDistance_32 : decode cX1_groupDistance 32 = .ok (.iadd, 1) := by decide +kernel
theorem dX1_groupDistance_33 : decode cX1_groupDistance 33 = .ok (.goto 4, 3) := by decide +kernel
theorem dX1_groupDistance_36 : decode cX1_groupDistance 36 = .ok (.iload_n 1, 1) := by decide +kernel
theorem dX1_groupDistance_37 : decode cX1_groupDistance 37 = .ok (.istore_n 1, 1) := by decide +kernel
theorem dX1_groupDistance_38 : decode cX1_groupDistance 38 = .ok (.iinc 2 1, 3) := by decide +kernel
theorem dX1_groupDistance_41 : decode cX1_groupDistance 41 = .ok (.goto (-37), 3) := by decide +kernel
theorem dX1_groupDistance_44 : decode cX1_groupDistance 44 = .ok (.iload_n 1, 1) := by decide +kernel
theorem dX1_groupDistance_45 : decode cX1_groupDistance 45 = .ok (.ireturn, 1) := by decide +kernel
theorem dX1_tripleDistance_0 : decode cX1_tripleDistance 0 = .ok (.iconst 0, 1) := by decide +kernel
theorem dX1_tripleDistance_1 : decode cX1_tripleDistance 1 = .ok (.istore_n 1, 1) := by decide +kernel
theorem dX1_tripleDistance_2 : decode cX1_tripleDistance 2 = .ok (.iconst 0, 1) := by decide +kernel
theorem dX1_tripleDistance_3 : decode cX1_tripleDistance 3 = .ok (.istore_n 2, 1) := by decide +kernel
theorem dX1_tripleDistance_4 : decode cX1_tripleDistance 4 = .ok (.iload_n 2, 1) := by decide +kernel
theorem dX1_tripleDistance_5 : decode cX1_tripleDistance 5 = .ok (.sipush 128, 3) := by decide +kernel
theorem dX1_tripleDistance_8 : decode cX1_tripleDistance 8 = .ok (.if_icmp .ge 41, 3) := by decide +kernel
theorem dX1_tripleDistance_11 : decode cX1_tripleDistance 11 = .ok (.aload_n 0, 1) := by decide +kernel
theorem dX1_tripleDistance_12 : decode cX1_tripleDistance 12 = .ok (.iload_n 2, 1) := by decide +kernel
theorem dX1_tripleDistance_13 : decode cX1_tripleDistance 13 = .ok (.invokevirtual 17, 3) := by decide +kernel
theorem dX1_tripleDistance_16 : decode cX1_tripleDistance 16 = .ok (.iconst 3, 1) := by decide +kernel
theorem dX1_tripleDistance_17 : decode cX1_tripleDistance 17 = .ok (.if_icmp .ne 24, 3) := by decide +kernel
theorem dX1_tripleDistance_20 : decode cX1_tripleDistance 20 = .ok (.aload_n 0, 1) := by decide +kernel
theorem dX1_tripleDistance_21 : decode cX1_tripleDistance 21 = .ok (.iconst 0, 1) := by decide +kernel
theorem dX1_tripleDistance_22 : decode cX1_tripleDistance 22 = .ok (.iload_n 2, 1) := by decide +kernel
theorem dX1_tripleDistance_23 : decode cX1_tripleDistance 23 = .ok (.invokevirtual 45, 3) := by decide +kernel
theorem dX1_tripleDistance_26 : decode cX1_tripleDistance 26 = .ok (.aload_n 0, 1) := by decide +kernel
theorem dX1_tripleDistance_27 : decode cX1_tripleDistance 27 = .ok (.iconst 1, 1) := by decide +kernel
theorem dX1_tripleDistance_28 : decode cX1_tripleDistance 28 = .ok (.iload_n 2, 1) := by decide +kernel
theorem dX1_tripleDistance_29 : decode cX1_tripleDistance 29 = .ok (.invokevirtual 45, 3) := by decide +kernel
theorem dX1_tripleDistance_32 : decode cX1_tripleDistance 32 = .ok (.if_icmp .eq 9, 3) := by decide +kernel
theorem dX1_tripleDistance_35 : decode cX1_tripleDistance 35 = .ok (.iload_n 1, 1) := by decide +kernel
theorem dX1_tripleDistance_36 : decode cX1_tripleDistance 36 = .ok (.iconst 1, 1) := by decide +kernel
theorem dX1_tripleDistance_37 : decode cX1_tripleDistance 37 = .ok (.iadd, 1) := by decide +kernel
theorem dX1_tripleDistance_38 : decode cX1_tripleDistance 38 = .ok (.goto 4, 3) := by decide +kernel
theorem dX1_tripleDistance_41 : decode cX1_tripleDistance 41 = .ok (.iload_n 1, 1) := by decide +kernel
theorem dX1_tripleDistance_42 : decode cX1_tripleDistance 42 = .ok (.istore_n 1, 1) := by decide +kernel
theorem dX1_tripleDistance_43 : decode cX1_tripleDistance 43 = .ok (.iinc 2 1, 3) := by decide +kernel
theorem dX1_tripleDistance_46 : decode cX1_tripleDistance 46 = .ok (.goto (-42), 3) := by decide +kernel
theorem dX1_tripleDistance_49 : decode cX1_tripleDistance 49 = .ok (.iload_n 1, 1) := by decide +kernel
theorem dX1_tripleDistance_50 : decode cX1_tripleDistance 50 = .ok (.ireturn, 1) := by decide +kernel
theorem dX1_agreement_0 : decode cX1_agreement 0 = .ok (.iconst 0, 1) := by decide +kernel
theorem dX1_agreement_1 : decode cX1_agreement 1 = .ok (.istore_n 1, 1) := by decide +kernel
theorem dX1_agreement_2 : decode cX1_agreement 2 = .ok (.iconst 0, 1) := by decide +kernel
theorem dX1_agreement_3 : decode cX1_agreement 3 = .ok (.istore_n 2, 1) := by decide +kernel
theorem dX1_agreement_4 : decode cX1_agreement 4 = .ok (.iload_n 2, 1) := by decide +kernel
theorem dX1_agreement_5 : decode cX1_agreement 5 = .ok (.sipush 128, 3) := by decide +kernel
theorem dX1_agreement_8 : decode cX1_agreement 8 = .ok (.if_icmp .ge 34, 3) := by decide +kernel
theorem dX1_agreement_11 : decode cX1_agreement 11 = .ok (.aload_n 0, 1) := by decide +kernel
theorem dX1_agreement_12 : decode cX1_agreement 12 = .ok (.iload_n 2, 1) := by decide +kernel
theorem dX1_agreement_13 : decode cX1_agreement 13 = .ok (.invokevirtual 17, 3) := by decide +kernel
theorem dX1_agreement_16 : decode cX1_agreement 16 = .ok (.istore_n 3, 1) := by decide +kernel
theorem dX1_agreement_17 : decode cX1_agreement 17 = .ok (.iload_n 3, 1) := by decide +kernel
theorem dX1_agreement_18 : decode cX1_agreement 18 = .ok (.iload_n 1, 1) := by decide +kernel
theorem dX1_agreement_19 : decode cX1_agreement 19 = .ok (.if_icmp .le 15, 3) := by decide +kernel
theorem dX1_agreement_22 : decode cX1_agreement 22 = .ok (.aload_n 0, 1) := by decide +kernel
theorem dX1_agreement_23 : decode cX1_agreement 23 = .ok (.iload_n 2, 1) := by decide +kernel
theorem dX1_agreement_24 : decode cX1_agreement 24 = .ok (.invokevirtual 49, 3) := by decide +kernel
theorem dX1_agreement_27 : decode cX1_agreement 27 = .ok (.ifCond .eq 7, 3) := by decide +kernel
theorem dX1_agreement_30 : decode cX1_agreement 30 = .ok (.iload_n 3, 1) := by decide +kernel
theorem dX1_agreement_31 : decode cX1_agreement 31 = .ok (.goto 4, 3) := by decide +kernel
theorem dX1_agreement_34 : decode cX1_agreement 34 = .ok (.iload_n 1, 1) := by decide +kernel
theorem dX1_agreement_35 : decode cX1_agreement 35 = .ok (.istore_n 1, 1) := by decide +kernel
theorem dX1_agreement_36 : decode cX1_agreement 36 = .ok (.iinc 2 1, 3) := by decide +kernel
theorem dX1_agreement_39 : decode cX1_agreement 39 = .ok (.goto (-35), 3) := by decide +kernel
theorem dX1_agreement_42 : decode cX1_agreement 42 = .ok (.iload_n 1, 1) := by decide +kernel
theorem dX1_agreement_43 : decode cX1_agreement 43 = .ok (.ireturn, 1) := by decide +kernel
theorem dX1_agree_0 : decode cX1_agree 0 = .ok (.iload_n 1, 1) := by decide +kernel
theorem dX1_agree_1 : decode cX1_agree 1 = .ok (.ifCond .lt 13, 3) := by decide +kernel
theorem dX1_agree_4 : decode cX1_agree 4 = .ok (.iload_n 1, 1) := by decide +kernel
theorem dX1_agree_5 : decode cX1_agree 5 = .ok (.bipush 127, 2) := by decide +kernel
theorem dX1_agree_7 : decode cX1_agree 7 = .ok (.if_icmp .gt 7, 3) := by decide +kernel
theorem dX1_agree_10 : decode cX1_agree 10 = .ok (.iconst 1, 1) := by decide +kernel
theorem dX1_agree_11 : decode cX1_agree 11 = .ok (.goto 4, 3) := by decide +kernel
theorem dX1_agree_14 : decode cX1_agree 14 = .ok (.iconst 0, 1) := by decide +kernel
theorem dX1_agree_15 : decode cX1_agree 15 = .ok (.istore_n 2, 1) := by decide +kernel
theorem dX1_agree_16 : decode cX1_agree 16 = .ok (.iconst 0, 1) := by decide +kernel
theorem dX1_agree_17 : decode cX1_agree 17 = .ok (.istore_n 3, 1) := by decide +kernel
theorem dX1_agree_18 : decode cX1_agree 18 = .ok (.iload_n 3, 1) := by decide +kernel
theorem dX1_agree_19 : decode cX1_agree 19 = .ok (.sipush 128, 3) := by decide +kernel
theorem dX1_agree_22 : decode cX1_agree 22 = .ok (.if_icmp .ge 51, 3) := by decide +kernel
theorem dX1_agree_25 : decode cX1_agree 25 = .ok (.iload_n 2, 1) := by decide +kernel
theorem dX1_agree_26 : decode cX1_agree 26 = .ok (.ifCond .eq 47, 3) := by decide +kernel
theorem dX1_agree_29 : decode cX1_agree 29 = .ok (.iload_n 3, 1) := by decide +kernel
theorem dX1_agree_30 : decode cX1_agree 30 = .ok (.iload_n 1, 1) := by decide +kernel
theorem dX1_agree_31 : decode cX1_agree 31 = .ok (.iconst (-1), 1) := by decide +kernel
theorem dX1_agree_32 : decode cX1_agree 32 = .ok (.ixor, 1) := by decide +kernel
theorem dX1_agree_33 : decode cX1_agree 33 = .ok (.iand, 1) := by decide +kernel
theorem dX1_agree_34 : decode cX1_agree 34 = .ok (.ifCond .ne 27, 3) := by decide +kernel
theorem dX1_agree_37 : decode cX1_agree 37 = .ok (.aload_n 0, 1) := by decide +kernel
theorem dX1_agree_38 : decode cX1_agree 38 = .ok (.iload_n 3, 1) := by decide +kernel
theorem dX1_agree_39 : decode cX1_agree 39 = .ok (.invokevirtual 17, 3) := by decide +kernel
theorem dX1_agree_42 : decode cX1_agree 42 = .ok (.iconst 3, 1) := by decide +kernel
theorem dX1_agree_43 : decode cX1_agree 43 = .ok (.if_icmp .ne 18, 3) := by decide +kernel
theorem dX1_agree_46 : decode cX1_agree 46 = .ok (.aload_n 0, 1) := by decide +kernel
theorem dX1_agree_47 : decode cX1_agree 47 = .ok (.iconst 0, 1) := by decide +kernel
theorem dX1_agree_48 : decode cX1_agree 48 = .ok (.iload_n 3, 1) := by decide +kernel
theorem dX1_agree_49 : decode cX1_agree 49 = .ok (.invokevirtual 45, 3) := by decide +kernel
theorem dX1_agree_52 : decode cX1_agree 52 = .ok (.aload_n 0, 1) := by decide +kernel
theorem dX1_agree_53 : decode cX1_agree 53 = .ok (.iconst 1, 1) := by decide +kernel
theorem dX1_agree_54 : decode cX1_agree 54 = .ok (.iload_n 3, 1) := by decide +kernel
theorem dX1_agree_55 : decode cX1_agree 55 = .ok (.invokevirtual 45, 3) := by decide +kernel
theorem dX1_agree_58 : decode cX1_agree 58 = .ok (.if_icmp .ne 7, 3) := by decide +kernel
theorem dX1_agree_61 : decode cX1_agree 61 = .ok (.iconst 1, 1) := by decide +kernel
theorem dX1_agree_62 : decode cX1_agree 62 = .ok (.goto 4, 3) := by decide +kernel
theorem dX1_agree_65 : decode cX1_agree 65 = .ok (.iconst 0, 1) := by decide +kernel
theorem dX1_agree_66 : decode cX1_agree 66 = .ok (.istore_n 2, 1) := by decide +kernel
theorem dX1_agree_67 : decode cX1_agree 67 = .ok (.iinc 3 1, 3) := by decide +kernel
theorem dX1_agree_70 : decode cX1_agree 70 = .ok (.goto (-52), 3) := by decide +kernel
theorem dX1_agree_73 : decode cX1_agree 73 = .ok (.iload_n 2, 1) := by decide +kernel
theorem dX1_agree_74 : decode cX1_agree 74 = .ok (.ireturn, 1) := by decide +kernel
theorem dX1_agreeingSet_0 : decode cX1_agreeingSet 0 = .ok (.aload_n 0, 1) := by decide +kernel
theorem dX1_agreeingSet_1 : decode cX1_agreeingSet 1 = .ok (.invokevirtual 52, 3) := by decide +kernel
theorem dX1_agreeingSet_4 : decode cX1_agreeingSet 4 = .ok (.istore_n 1, 1) := by decide +kernel
theorem dX1_agreeingSet_5 : decode cX1_agreeingSet 5 = .ok (.iconst 0, 1) := by decide +kernel
theorem dX1_agreeingSet_6 : decode cX1_agreeingSet 6 = .ok (.istore_n 2, 1) := by decide +kernel
theorem dX1_agreeingSet_7 : decode cX1_agreeingSet 7 = .ok (.iload_n 2, 1) := by decide +kernel
theorem dX1_agreeingSet_8 : decode cX1_agreeingSet 8 = .ok (.sipush 128, 3) := by decide +kernel
theorem dX1_agreeingSet_11 : decode cX1_agreeingSet 11 = .ok (.if_icmp .ge 28, 3) := by decide +kernel
theorem dX1_agreeingSet_14 : decode cX1_agreeingSet 14 = .ok (.aload_n 0, 1) := by decide +kernel
theorem dX1_agreeingSet_15 : decode cX1_agreeingSet 15 = .ok (.iload_n 2, 1) := by decide +kernel
theorem dX1_agreeingSet_16 : decode cX1_agreeingSet 16 = .ok (.invokevirtual 17, 3) := by decide +kernel
theorem dX1_agreeingSet_19 : decode cX1_agreeingSet 19 = .ok (.iload_n 1, 1) := by decide +kernel
theorem dX1_agreeingSet_20 : decode cX1_agreeingSet 20 = .ok (.if_icmp .ne 13, 3) := by decide +kernel
theorem dX1_agreeingSet_23 : decode cX1_agreeingSet 23 = .ok (.aload_n 0, 1) := by decide +kernel
theorem dX1_agreeingSet_24 : decode cX1_agreeingSet 24 = .ok (.iload_n 2, 1) := by decide +kernel
theorem dX1_agreeingSet_25 : decode cX1_agreeingSet 25 = .ok (.invokevirtual 49, 3) := by decide +kernel
theorem dX1_agreeingSet_28 : decode cX1_agreeingSet 28 = .ok (.ifCond .eq 5, 3) := by decide +kernel
theorem dX1_agreeingSet_31 : decode cX1_agreeingSet 31 = .ok (.iload_n 2, 1) := by decide +kernel
theorem dX1_agreeingSet_32 : decode cX1_agreeingSet 32 = .ok (.ireturn, 1) := by decide +kernel
theorem dX1_agreeingSet_33 : decode cX1_agreeingSet 33 = .ok (.iinc 2 1, 3) := by decide +kernel
theorem dX1_agreeingSet_36 : decode cX1_agreeingSet 36 = .ok (.goto (-29), 3) := by decide +kernel
theorem dX1_agreeingSet_39 : decode cX1_agreeingSet 39 = .ok (.iconst 0, 1) := by decide +kernel
theorem dX1_agreeingSet_40 : decode cX1_agreeingSet 40 = .ok (.ireturn, 1) := by decide +kernel
theorem dX1_together_0 : decode cX1_together 0 = .ok (.iconst 1, 1) := by decide +kernel
theorem dX1_together_1 : decode cX1_together 1 = .ok (.istore_n 1, 1) := by decide +kernel
theorem dX1_together_2 : decode cX1_together 2 = .ok (.iconst 1, 1) := by decide +kernel
theorem dX1_together_3 : decode cX1_together 3 = .ok (.istore_n 2, 1) := by decide +kernel
theorem dX1_together_4 : decode cX1_together 4 = .ok (.iload_n 2, 1) := by decide +kernel
theorem dX1_together_5 : decode cX1_together 5 = .ok (.sipush 128, 3) := by decide +kernel
theorem dX1_together_8 : decode cX1_together 8 = .ok (.if_icmp .ge 41, 3) := by decide +kernel
theorem dX1_together_11 : decode cX1_together 11 = .ok (.iload_n 1, 1) := by decide +kernel
theorem dX1_together_12 : decode cX1_together 12 = .ok (.ifCond .eq 29, 3) := by decide +kernel
theorem dX1_together_15 : decode cX1_together 15 = .ok (.aload_n 0, 1) := by decide +kernel
theorem dX1_together_16 : decode cX1_together 16 = .ok (.getfield 7, 3) := by decide +kernel
theorem dX1_together_19 : decode cX1_together 19 = .ok (.sipush 128, 3) := by decide +kernel
theorem dX1_together_22 : decode cX1_together 22 = .ok (.iload_n 2, 1) := by decide +kernel
theorem dX1_together_23 : decode cX1_together 23 = .ok (.iadd, 1) := by decide +kernel
theorem dX1_together_24 : decode cX1_together 24 = .ok (.baload, 1) := by decide +kernel
theorem dX1_together_25 : decode cX1_together 25 = .ok (.ifCond .eq 12, 3) := by decide +kernel
theorem dX1_together_28 : decode cX1_together 28 = .ok (.aload_n 0, 1) := by decide +kernel
theorem dX1_together_29 : decode cX1_together 29 = .ok (.iconst 0, 1) := by decide +kernel
theorem dX1_together_30 : decode cX1_together 30 = .ok (.iload_n 2, 1) := by decide +kernel
theorem dX1_together_31 : decode cX1_together 31 = .ok (.invokevirtual 28, 3) := by decide +kernel
theorem dX1_together_34 : decode cX1_together 34 = .ok (.ifCond .eq 7, 3) := by decide +kernel
theorem dX1_together_37 : decode cX1_together 37 = .ok (.iconst 1, 1) := by decide +kernel
theorem dX1_together_38 : decode cX1_together 38 = .ok (.goto 4, 3) := by decide +kernel
theorem dX1_together_41 : decode cX1_together 41 = .ok (.iconst 0, 1) := by decide +kernel
theorem dX1_together_42 : decode cX1_together 42 = .ok (.istore_n 1, 1) := by decide +kernel
theorem dX1_together_43 : decode cX1_together 43 = .ok (.iinc 2 1, 3) := by decide +kernel
theorem dX1_together_46 : decode cX1_together 46 = .ok (.goto (-42), 3) := by decide +kernel
theorem dX1_together_49 : decode cX1_together 49 = .ok (.iload_n 1, 1) := by decide +kernel
theorem dX1_together_50 : decode cX1_together 50 = .ok (.ireturn, 1) := by decide +kernel
theorem dX1_common_0 : decode cX1_common 0 = .ok (.iconst 0, 1) := by decide +kernel
theorem dX1_common_1 : decode cX1_common 1 = .ok (.istore_n 1, 1) := by decide +kernel
theorem dX1_common_2 : decode cX1_common 2 = .ok (.iconst 1, 1) := by decide +kernel
theorem dX1_common_3 : decode cX1_common 3 = .ok (.istore_n 2, 1) := by decide +kernel
theorem dX1_common_4 : decode cX1_common 4 = .ok (.iload_n 2, 1) := by decide +kernel
theorem dX1_common_5 : decode cX1_common 5 = .ok (.sipush 128, 3) := by decide +kernel
theorem dX1_common_8 : decode cX1_common 8 = .ok (.if_icmp .ge 39, 3) := by decide +kernel
theorem dX1_common_11 : decode cX1_common 11 = .ok (.aload_n 0, 1) := by decide +kernel
theorem dX1_common_12 : decode cX1_common 12 = .ok (.getfield 7, 3) := by decide +kernel
theorem dX1_common_15 : decode cX1_common 15 = .ok (.iload_n 2, 1) := by decide +kernel
theorem dX1_common_16 : decode cX1_common 16 = .ok (.baload, 1) := by decide +kernel
theorem dX1_common_17 : decode cX1_common 17 = .ok (.ifCond .eq 22, 3) := by decide +kernel
theorem dX1_common_20 : decode cX1_common 20 = .ok (.aload_n 0, 1) := by decide +kernel
theorem dX1_common_21 : decode cX1_common 21 = .ok (.getfield 7, 3) := by decide +kernel
theorem dX1_common_24 : decode cX1_common 24 = .ok (.sipush 128, 3) := by decide +kernel
theorem dX1_common_27 : decode cX1_common 27 = .ok (.iload_n 2, 1) := by decide +kernel
theorem dX1_common_28 : decode cX1_common 28 = .ok (.iadd, 1) := by decide +kernel
theorem dX1_common_29 : decode cX1_common 29 = .ok (.baload, 1) := by decide +kernel
theorem dX1_common_30 : decode cX1_common 30 = .ok (.ifCond .eq 9, 3) := by decide +kernel
theorem dX1_common_33 : decode cX1_common 33 = .ok (.iload_n 1, 1) := by decide +kernel
theorem dX1_common_34 : decode cX1_common 34 = .ok (.iconst 1, 1) := by decide +kernel
theorem dX1_common_35 : decode cX1_common 35 = .ok (.iadd, 1) := by decide +kernel
theorem dX1_common_36 : decode cX1_common 36 = .ok (.goto 4, 3) := by decide +kernel
theorem dX1_common_39 : decode cX1_common 39 = .ok (.iload_n 1, 1) := by decide +kernel
theorem dX1_common_40 : decode cX1_common 40 = .ok (.istore_n 1, 1) := by decide +kernel
theorem dX1_common_41 : decode cX1_common 41 = .ok (.iinc 2 1, 3) := by decide +kernel
theorem dX1_common_44 : decode cX1_common 44 = .ok (.goto (-40), 3) := by decide +kernel
theorem dX1_common_47 : decode cX1_common 47 = .ok (.iload_n 1, 1) := by decide +kernel
theorem dX1_common_48 : decode cX1_common 48 = .ok (.ireturn, 1) := by decide +kernel
theorem dX1_depth_0 : decode cX1_depth 0 = .ok (.iconst 0, 1) := by decide +kernel
theorem dX1_depth_1 : decode cX1_depth 1 = .ok (.istore_n 3, 1) := by decide +kernel
theorem dX1_depth_2 : decode cX1_depth 2 = .ok (.iconst 1, 1) := by decide +kernel
theorem dX1_depth_3 : decode cX1_depth 3 = .ok (.istore 4, 2) := by decide +kernel
theorem dX1_depth_5 : decode cX1_depth 5 = .ok (.iload 4, 2) := by decide +kernel
theorem dX1_depth_7 : decode cX1_depth 7 = .ok (.sipush 128, 3) := by decide +kernel
theorem dX1_depth_10 : decode cX1_depth 10 = .ok (.if_icmp .ge 59, 3) := by decide +kernel
theorem dX1_depth_13 : decode cX1_depth 13 = .ok (.aload_n 0, 1) := by decide +kernel
theorem dX1_depth_14 : decode cX1_depth 14 = .ok (.iload_n 1, 1) := by decide +kernel
theorem dX1_depth_15 : decode cX1_depth 15 = .ok (.invokevirtual 25, 3) := by decide +kernel
theorem dX1_depth_18 : decode cX1_depth 18 = .ok (.ifCond .eq 51, 3) := by decide +kernel
theorem dX1_depth_21 : decode cX1_depth 21 = .ok (.aload_n 0, 1) := by decide +kernel
theorem dX1_depth_22 : decode cX1_depth 22 = .ok (.iload_n 2, 1) := by decide +kernel
theorem dX1_depth_23 : decode cX1_depth 23 = .ok (.invokevirtual 34, 3) := by decide +kernel
theorem dX1_depth_26 : decode cX1_depth 26 = .ok (.ifCond .eq 43, 3) := by decide +kernel
theorem dX1_depth_29 : decode cX1_depth 29 = .ok (.aload_n 0, 1) := by decide +kernel
theorem dX1_depth_30 : decode cX1_depth 30 = .ok (.getfield 7, 3) := by decide +kernel
theorem dX1_depth_33 : decode cX1_depth 33 = .ok (.sipush 128, 3) := by decide +kernel
theorem dX1_depth_36 : decode cX1_depth 36 = .ok (.iload_n 1, 1) := by decide +kernel
theorem dX1_depth_37 : decode cX1_depth 37 = .ok (.imul, 1) := by decide +kernel
theorem dX1_depth_38 : decode cX1_depth 38 = .ok (.iload 4, 2) := by decide +kernel
theorem dX1_depth_40 : decode cX1_depth 40 = .ok (.iadd, 1) := by decide +kernel
theorem dX1_depth_41 : decode cX1_depth 41 = .ok (.baload, 1) := by decide +kernel
theorem dX1_depth_42 : decode cX1_depth 42 = .ok (.ifCond .eq 19, 3) := by decide +kernel
theorem dX1_depth_45 : decode cX1_depth 45 = .ok (.iload 4, 2) := by decide +kernel
theorem dX1_depth_47 : decode cX1_depth 47 = .ok (.iload_n 2, 1) := by decide +kernel
theorem dX1_depth_48 : decode cX1_depth 48 = .ok (.ishr, 1) := by decide +kernel
theorem dX1_depth_49 : decode cX1_depth 49 = .ok (.iconst 1, 1) := by decide +kernel
theorem dX1_depth_50 : decode cX1_depth 50 = .ok (.iand, 1) := by decide +kernel
theorem dX1_depth_51 : decode cX1_depth 51 = .ok (.iconst 1, 1) := by decide +kernel
theorem dX1_depth_52 : decode cX1_depth 52 = .ok (.if_icmp .ne 9, 3) := by decide +kernel
theorem dX1_depth_55 : decode cX1_depth 55 = .ok (.iload_n 3, 1) := by decide +kernel
theorem dX1_depth_56 : decode cX1_depth 56 = .ok (.iconst 1, 1) := by decide +kernel
theorem dX1_depth_57 : decode cX1_depth 57 = .ok (.iadd, 1) := by decide +kernel
theorem dX1_depth_58 : decode cX1_depth 58 = .ok (.goto 4, 3) := by decide +kernel
theorem dX1_depth_61 : decode cX1_depth 61 = .ok (.iload_n 3, 1) := by decide +kernel
theorem dX1_depth_62 : decode cX1_depth 62 = .ok (.istore_n 3, 1) := by decide +kernel
theorem dX1_depth_63 : decode cX1_depth 63 = .ok (.iinc 4 1, 3) := by decide +kernel
theorem dX1_depth_66 : decode cX1_depth 66 = .ok (.goto (-61), 3) := by decide +kernel
theorem dX1_depth_69 : decode cX1_depth 69 = .ok (.aload_n 0, 1) := by decide +kernel
theorem dX1_depth_70 : decode cX1_depth 70 = .ok (.iload_n 1, 1) := by decide +kernel
theorem dX1_depth_71 : decode cX1_depth 71 = .ok (.invokevirtual 25, 3) := by decide +kernel
theorem dX1_depth_74 : decode cX1_depth 74 = .ok (.ifCond .eq 15, 3) := by decide +kernel
theorem dX1_depth_77 : decode cX1_depth 77 = .ok (.aload_n 0, 1) := by decide +kernel
theorem dX1_depth_78 : decode cX1_depth 78 = .ok (.iload_n 2, 1) := by decide +kernel
theorem dX1_depth_79 : decode cX1_depth 79 = .ok (.invokevirtual 34, 3) := by decide +kernel
theorem dX1_depth_82 : decode cX1_depth 82 = .ok (.ifCond .eq 7, 3) := by decide +kernel
theorem dX1_depth_85 : decode cX1_depth 85 = .ok (.iload_n 3, 1) := by decide +kernel
theorem dX1_depth_86 : decode cX1_depth 86 = .ok (.goto 4, 3) := by decide +kernel
theorem dX1_depth_89 : decode cX1_depth 89 = .ok (.iconst (-1), 1) := by decide +kernel
theorem dX1_depth_90 : decode cX1_depth 90 = .ok (.ireturn, 1) := by decide +kernel
theorem dX1_room_0 : decode cX1_room 0 = .ok (.iconst 0, 1) := by decide +kernel
theorem dX1_room_1 : decode cX1_room 1 = .ok (.istore_n 2, 1) := by decide +kernel
theorem dX1_room_2 : decode cX1_room 2 = .ok (.iconst 1, 1) := by decide +kernel
theorem dX1_room_3 : decode cX1_room 3 = .ok (.istore_n 3, 1) := by decide +kernel
theorem dX1_room_4 : decode cX1_room 4 = .ok (.iload_n 3, 1) := by decide +kernel
theorem dX1_room_5 : decode cX1_room 5 = .ok (.sipush 128, 3) := by decide +kernel
theorem dX1_room_8 : decode cX1_room 8 = .ok (.if_icmp .ge 49, 3) := by decide +kernel
theorem dX1_room_11 : decode cX1_room 11 = .ok (.aload_n 0, 1) := by decide +kernel
theorem dX1_room_12 : decode cX1_room 12 = .ok (.iload_n 1, 1) := by decide +kernel
theorem dX1_room_13 : decode cX1_room 13 = .ok (.invokevirtual 25, 3) := by decide +kernel
theorem dX1_room_16 : decode cX1_room 16 = .ok (.ifCond .eq 41, 3) := by decide +kernel
theorem dX1_room_19 : decode cX1_room 19 = .ok (.aload_n 0, 1) := by decide +kernel
theorem dX1_room_20 : decode cX1_room 20 = .ok (.getfield 7, 3) := by decide +kernel
theorem dX1_room_23 : decode cX1_room 23 = .ok (.sipush 128, 3) := by decide +kernel
theorem dX1_room_26 : decode cX1_room 26 = .ok (.iload_n 1, 1) := by decide +kernel
theorem dX1_room_27 : decode cX1_room 27 = .ok (.imul, 1) := by decide +kernel
theorem dX1_room_28 : decode cX1_room 28 = .ok (.iload_n 3, 1) := by decide +kernel
theorem dX1_room_29 : decode cX1_room 29 = .ok (.iadd, 1) := by decide +kernel
theorem dX1_room_30 : decode cX1_room 30 = .ok (.baload, 1) := by decide +kernel
theorem dX1_room_31 : decode cX1_room 31 = .ok (.ifCond .ne 18, 3) := by decide +kernel
theorem dX1_room_34 : decode cX1_room 34 = .ok (.aload_n 0, 1) := by decide +kernel
theorem dX1_room_35 : decode cX1_room 35 = .ok (.iload_n 1, 1) := by decide +kernel
theorem dX1_room_36 : decode cX1_room 36 = .ok (.iload_n 3, 1) := by decide +kernel
theorem dX1_room_37 : decode cX1_room 37 = .ok (.invokevirtual 28, 3) := by decide +kernel
theorem dX1_room_40 : decode cX1_room 40 = .ok (.ifCond .eq 9, 3) := by decide +kernel
theorem dX1_room_43 : decode cX1_room 43 = .ok (.iload_n 2, 1) := by decide +kernel
theorem dX1_room_44 : decode cX1_room 44 = .ok (.iconst 1, 1) := by decide +kernel
theorem dX1_room_45 : decode cX1_room 45 = .ok (.iadd, 1) := by decide +kernel
theorem dX1_room_46 : decode cX1_room 46 = .ok (.goto 4, 3) := by decide +kernel
theorem dX1_room_49 : decode cX1_room 49 = .ok (.iload_n 2, 1) := by decide +kernel
theorem dX1_room_50 : decode cX1_room 50 = .ok (.istore_n 2, 1) := by decide +kernel
theorem dX1_room_51 : decode cX1_room 51 = .ok (.iinc 3 1, 3) := by decide +kernel
theorem dX1_room_54 : decode cX1_room 54 = .ok (.goto (-50), 3) := by decide +kernel
theorem dX1_room_57 : decode cX1_room 57 = .ok (.aload_n 0, 1) := by decide +kernel
theorem dX1_room_58 : decode cX1_room 58 = .ok (.iload_n 1, 1) := by decide +kernel
theorem dX1_room_59 : decode cX1_room 59 = .ok (.invokevirtual 25, 3) := by decide +kernel
theorem dX1_room_62 : decode cX1_room 62 = .ok (.ifCond .eq 7, 3) := by decide +kernel
theorem dX1_room_65 : decode cX1_room 65 = .ok (.iload_n 2, 1) := by decide +kernel
theorem dX1_room_66 : decode cX1_room 66 = .ok (.goto 4, 3) := by decide +kernel
theorem dX1_room_69 : decode cX1_room 69 = .ok (.iconst (-1), 1) := by decide +kernel
theorem dX1_room_70 : decode cX1_room 70 = .ok (.ireturn, 1) := by decide +kernel
theorem dJ0_init_0 : decode cJ0_init 0 = .ok (.return_, 1) := by decide +kernel
end
section
set_option maxRecDepth 100000
theorem dL_law_0 : decode cL_law 0 = .ok (.new 7, 3) := by decide +kernel
theorem dL_law_3 : decode cL_law 3 = .ok (.dup, 1) := by decide +kernel
theorem dL_law_4 : decode cL_law 4 = .ok (.invokespecial 9, 3) := by decide +kernel
theorem dL_law_7 : decode cL_law 7 = .ok (.astore_n 1, 1) := by decide +kernel
theorem dL_law_8 : decode cL_law 8 = .ok (.new 10, 3) := by decide +kernel
theorem dL_law_11 : decode cL_law 11 = .ok (.dup, 1) := by decide +kernel
theorem dL_law_12 : decode cL_law 12 = .ok (.invokespecial 12, 3) := by decide +kernel
theorem dL_law_15 : decode cL_law 15 = .ok (.astore_n 2, 1) := by decide +kernel
theorem dL_law_16 : decode cL_law 16 = .ok (.iconst 0, 1) := by decide +kernel
theorem dL_law_17 : decode cL_law 17 = .ok (.istore_n 3, 1) := by decide +kernel
theorem dL_law_18 : decode cL_law 18 = .ok (.iload_n 3, 1) := by decide +kernel
theorem dL_law_19 : decode cL_law 19 = .ok (.aload_n 0, 1) := by decide +kernel
theorem dL_law_20 : decode cL_law 20 = .ok (.arraylength, 1) := by decide +kernel
theorem dL_law_21 : decode cL_law 21 = .ok (.iconst 5, 1) := by decide +kernel
theorem dL_law_22 : decode cL_law 22 = .ok (.isub, 1) := by decide +kernel
theorem dL_law_23 : decode cL_law 23 = .ok (.if_icmp .gt 473, 3) := by decide +kernel
theorem dL_law_26 : decode cL_law 26 = .ok (.aload_n 0, 1) := by decide +kernel
theorem dL_law_27 : decode cL_law 27 = .ok (.iload_n 3, 1) := by decide +kernel
theorem dL_law_28 : decode cL_law 28 = .ok (.iaload, 1) := by decide +kernel
theorem dL_law_29 : decode cL_law 29 = .ok (.bipush 15, 2) := by decide +kernel
theorem dL_law_31 : decode cL_law 31 = .ok (.iand, 1) := by decide +kernel
theorem dL_law_32 : decode cL_law 32 = .ok (.tableswitch 458 0 15 #[80, 113, 146, 169, 192, 225, 278, 301, 314, 327, 340, 353, 376, 389, 402, 435], 80) := by decide +kernel
theorem dL_law_112 : decode cL_law 112 = .ok (.aload_n 1, 1) := by decide +kernel
theorem dL_law_113 : decode cL_law 113 = .ok (.aload_n 0, 1) := by decide +kernel
theorem dL_law_114 : decode cL_law 114 = .ok (.iload_n 3, 1) := by decide +kernel
theorem dL_law_115 : decode cL_law 115 = .ok (.iconst 1, 1) := by decide +kernel
theorem dL_law_116 : decode cL_law 116 = .ok (.iadd, 1) := by decide +kernel
theorem dL_law_117 : decode cL_law 117 = .ok (.iaload, 1) := by decide +kernel
theorem dL_law_118 : decode cL_law 118 = .ok (.aload_n 0, 1) := by decide +kernel
theorem dL_law_119 : decode cL_law 119 = .ok (.iload_n 3, 1) := by decide +kernel
theorem dL_law_120 : decode cL_law 120 = .ok (.iconst 2, 1) := by decide +kernel
theorem dL_law_121 : decode cL_law 121 = .ok (.iadd, 1) := by decide +kernel
theorem dL_law_122 : decode cL_law 122 = .ok (.iaload, 1) := by decide +kernel
theorem dL_law_123 : decode cL_law 123 = .ok (.invokevirtual 13, 3) := by decide +kernel
theorem dL_law_126 : decode cL_law 126 = .ok (.aload_n 2, 1) := by decide +kernel
theorem dL_law_127 : decode cL_law 127 = .ok (.aload_n 0, 1) := by decide +kernel
theorem dL_law_128 : decode cL_law 128 = .ok (.iload_n 3, 1) := by decide +kernel
theorem dL_law_129 : decode cL_law 129 = .ok (.iconst 1, 1) := by decide +kernel
theorem dL_law_130 : decode cL_law 130 = .ok (.iadd, 1) := by decide +kernel
theorem dL_law_131 : decode cL_law 131 = .ok (.iaload, 1) := by decide +kernel
theorem dL_law_132 : decode cL_law 132 = .ok (.aload_n 0, 1) := by decide +kernel
theorem dL_law_133 : decode cL_law 133 = .ok (.iload_n 3, 1) := by decide +kernel
theorem dL_law_134 : decode cL_law 134 = .ok (.iconst 2, 1) := by decide +kernel
theorem dL_law_135 : decode cL_law 135 = .ok (.iadd, 1) := by decide +kernel
theorem dL_law_136 : decode cL_law 136 = .ok (.iaload, 1) := by decide +kernel
theorem dL_law_137 : decode cL_law 137 = .ok (.invokevirtual 17, 3) := by decide +kernel
theorem dL_law_140 : decode cL_law 140 = .ok (.if_icmp .eq 350, 3) := by decide +kernel
theorem dL_law_143 : decode cL_law 143 = .ok (.iconst 0, 1) := by decide +kernel
theorem dL_law_144 : decode cL_law 144 = .ok (.ireturn, 1) := by decide +kernel
theorem dL_law_145 : decode cL_law 145 = .ok (.aload_n 1, 1) := by decide +kernel
theorem dL_law_146 : decode cL_law 146 = .ok (.aload_n 0, 1) := by decide +kernel
theorem dL_law_147 : decode cL_law 147 = .ok (.iload_n 3, 1) := by decide +kernel
theorem dL_law_148 : decode cL_law 148 = .ok (.iconst 1, 1) := by decide +kernel
theorem dL_law_149 : decode cL_law 149 = .ok (.iadd, 1) := by decide +kernel
theorem dL_law_150 : decode cL_law 150 = .ok (.iaload, 1) := by decide +kernel
theorem dL_law_151 : decode cL_law 151 = .ok (.aload_n 0, 1) := by decide +kernel
theorem dL_law_152 : decode cL_law 152 = .ok (.iload_n 3, 1) := by decide +kernel
theorem dL_law_153 : decode cL_law 153 = .ok (.iconst 2, 1) := by decide +kernel
theorem dL_law_154 : decode cL_law 154 = .ok (.iadd, 1) := by decide +kernel
theorem dL_law_155 : decode cL_law 155 = .ok (.iaload, 1) := by decide +kernel
theorem dL_law_156 : decode cL_law 156 = .ok (.invokevirtual 18, 3) := by decide +kernel
theorem dL_law_159 : decode cL_law 159 = .ok (.aload_n 2, 1) := by decide +kernel
theorem dL_law_160 : decode cL_law 160 = .ok (.aload_n 0, 1) := by decide +kernel
theorem dL_law_161 : decode cL_law 161 = .ok (.iload_n 3, 1) := by decide +kernel
theorem dL_law_162 : decode cL_law 162 = .ok (.iconst 1, 1) := by decide +kernel
theorem dL_law_163 : decode cL_law 163 = .ok (.iadd, 1) := by decide +kernel
theorem dL_law_164 : decode cL_law 164 = .ok (.iaload, 1) := by decide +kernel
theorem dL_law_165 : decode cL_law 165 = .ok (.aload_n 0, 1) := by decide +kernel
theorem dL_law_166 : decode cL_law 166 = .ok (.iload_n 3, 1) := by decide +kernel
theorem dL_law_167 : decode cL_law 167 = .ok (.iconst 2, 1) := by decide +kernel
theorem dL_law_168 : decode cL_law 168 = .ok (.iadd, 1) := by decide +kernel
theorem dL_law_169 : decode cL_law 169 = .ok (.iaload, 1) := by decide +kernel
theorem dL_law_170 : decode cL_law 170 = .ok (.invokevirtual 21, 3) := by decide +kernel
theorem dL_law_173 : decode cL_law 173 = .ok (.if_icmp .eq 317, 3) := by decide +kernel
theorem dL_law_176 : decode cL_law 176 = .ok (.iconst 0, 1) := by decide +kernel
theorem dL_law_177 : decode cL_law 177 = .ok (.ireturn, 1) := by decide +kernel
theorem dL_law_178 : decode cL_law 178 = .ok (.aload_n 1, 1) := by decide +kernel
theorem dL_law_179 : decode cL_law 179 = .ok (.aload_n 0, 1) := by decide +kernel
theorem dL_law_180 : decode cL_law 180 = .ok (.iload_n 3, 1) := by decide +kernel
theorem dL_law_181 : decode cL_law 181 = .ok (.iconst 1, 1) := by decide +kernel
theorem dL_law_182 : decode cL_law 182 = .ok (.iadd, 1) := by decide +kernel
theorem dL_law_183 : decode cL_law 183 = .ok (.iaload, 1) := by decide +kernel
theorem dL_law_184 : decode cL_law 184 = .ok (.invokevirtual 22, 3) := by decide +kernel
theorem dL_law_187 : decode cL_law 187 = .ok (.aload_n 2, 1) := by decide +kernel
theorem dL_law_188 : decode cL_law 188 = .ok (.aload_n 0, 1) := by decide +kernel
theorem dL_law_189 : decode cL_law 189 = .ok (.iload_n 3, 1) := by decide +kernel
theorem dL_law_190 : decode cL_law 190 = .ok (.iconst 1, 1) := by decide +kernel
theorem dL_law_191 : decode cL_law 191 = .ok (.iadd, 1) := by decide +kernel
theorem dL_law_192 : decode cL_law 192 = .ok (.iaload, 1) := by decide +kernel
theorem dL_law_193 : decode cL_law 193 = .ok (.invokevirtual 26, 3) := by decide +kernel
theorem dL_law_196 : decode cL_law 196 = .ok (.if_icmp .eq 294, 3) := by decide +kernel
theorem dL_law_199 : decode cL_law 199 = .ok (.iconst 0, 1) := by decide +kernel
theorem dL_law_200 : decode cL_law 200 = .ok (.ireturn, 1) := by decide +kernel
theorem dL_law_201 : decode cL_law 201 = .ok (.aload_n 1, 1) := by decide +kernel
theorem dL_law_202 : decode cL_law 202 = .ok (.aload_n 0, 1) := by decide +kernel
theorem dL_law_203 : decode cL_law 203 = .ok (.iload_n 3, 1) := by decide +kernel
theorem dL_law_204 : decode cL_law 204 = .ok (.iconst 1, 1) := by decide +kernel
theorem dL_law_205 : decode cL_law 205 = .ok (.iadd, 1) := by decide +kernel
theorem dL_law_206 : decode cL_law 206 = .ok (.iaload, 1) := by decide +kernel
theorem dL_law_207 : decode cL_law 207 = .ok (.invokevirtual 27, 3) := by decide +kernel
theorem dL_law_210 : decode cL_law 210 = .ok (.aload_n 2, 1) := by decide +kernel
theorem dL_law_211 : decode cL_law 211 = .ok (.aload_n 0, 1) := by decide +kernel
theorem dL_law_212 : decode cL_law 212 = .ok (.iload_n 3, 1) := by decide +kernel
theorem dL_law_213 : decode cL_law 213 = .ok (.iconst 1, 1) := by decide +kernel
theorem dL_law_214 : decode cL_law 214 = .ok (.iadd, 1) := by decide +kernel
theorem dL_law_215 : decode cL_law 215 = .ok (.iaload, 1) := by decide +kernel
theorem dL_law_216 : decode cL_law 216 = .ok (.invokevirtual 31, 3) := by decide +kernel
theorem dL_law_219 : decode cL_law 219 = .ok (.if_icmp .eq 271, 3) := by decide +kernel
theorem dL_law_222 : decode cL_law 222 = .ok (.iconst 0, 1) := by decide +kernel
theorem dL_law_223 : decode cL_law 223 = .ok (.ireturn, 1) := by decide +kernel
theorem dL_law_224 : decode cL_law 224 = .ok (.aload_n 1, 1) := by decide +kernel
theorem dL_law_225 : decode cL_law 225 = .ok (.aload_n 0, 1) := by decide +kernel
theorem dL_law_226 : decode cL_law 226 = .ok (.iload_n 3, 1) := by decide +kernel
theorem dL_law_227 : decode cL_law 227 = .ok (.iconst 1, 1) := by decide +kernel
theorem dL_law_228 : decode cL_law 228 = .ok (.iadd, 1) := by decide +kernel
theorem dL_law_229 : decode cL_law 229 = .ok (.iaload, 1) := by decide +kernel
theorem dL_law_230 : decode cL_law 230 = .ok (.aload_n 0, 1) := by decide +kernel
theorem dL_law_231 : decode cL_law 231 = .ok (.iload_n 3, 1) := by decide +kernel
theorem dL_law_232 : decode cL_law 232 = .ok (.iconst 2, 1) := by decide +kernel
theorem dL_law_233 : decode cL_law 233 = .ok (.iadd, 1) := by decide +kernel
theorem dL_law_234 : decode cL_law 234 = .ok (.iaload, 1) := by decide +kernel
theorem dL_law_235 : decode cL_law 235 = .ok (.invokevirtual 32, 3) := by decide +kernel
theorem dL_law_238 : decode cL_law 238 = .ok (.aload_n 2, 1) := by decide +kernel
theorem dL_law_239 : decode cL_law 239 = .ok (.aload_n 0, 1) := by decide +kernel
theorem dL_law_240 : decode cL_law 240 = .ok (.iload_n 3, 1) := by decide +kernel
theorem dL_law_241 : decode cL_law 241 = .ok (.iconst 1, 1) := by decide +kernel
theorem dL_law_242 : decode cL_law 242 = .ok (.iadd, 1) := by decide +kernel
theorem dL_law_243 : decode cL_law 243 = .ok (.iaload, 1) := by decide +kernel
theorem dL_law_244 : decode cL_law 244 = .ok (.aload_n 0, 1) := by decide +kernel
theorem dL_law_245 : decode cL_law 245 = .ok (.iload_n 3, 1) := by decide +kernel
theorem dL_law_246 : decode cL_law 246 = .ok (.iconst 2, 1) := by decide +kernel
theorem dL_law_247 : decode cL_law 247 = .ok (.iadd, 1) := by decide +kernel
theorem dL_law_248 : decode cL_law 248 = .ok (.iaload, 1) := by decide +kernel
theorem dL_law_249 : decode cL_law 249 = .ok (.invokevirtual 36, 3) := by decide +kernel
theorem dL_law_252 : decode cL_law 252 = .ok (.if_icmp .eq 238, 3) := by decide +kernel
theorem dL_law_255 : decode cL_law 255 = .ok (.iconst 0, 1) := by decide +kernel
theorem dL_law_256 : decode cL_law 256 = .ok (.ireturn, 1) := by decide +kernel
theorem dL_law_257 : decode cL_law 257 = .ok (.aload_n 1, 1) := by decide +kernel
theorem dL_law_258 : decode cL_law 258 = .ok (.aload_n 0, 1) := by decide +kernel
theorem dL_law_259 : decode cL_law 259 = .ok (.iload_n 3, 1) := by decide +kernel
theorem dL_law_260 : decode cL_law 260 = .ok (.iconst 1, 1) := by decide +kernel
theorem dL_law_261 : decode cL_law 261 = .ok (.iadd, 1) := by decide +kernel
theorem dL_law_262 : decode cL_law 262 = .ok (.iaload, 1) := by decide +kernel
theorem dL_law_263 : decode cL_law 263 = .ok (.aload_n 0, 1) := by decide +kernel
theorem dL_law_264 : decode cL_law 264 = .ok (.iload_n 3, 1) := by decide +kernel
theorem dL_law_265 : decode cL_law 265 = .ok (.iconst 2, 1) := by decide +kernel
theorem dL_law_266 : decode cL_law 266 = .ok (.iadd, 1) := by decide +kernel
theorem dL_law_267 : decode cL_law 267 = .ok (.iaload, 1) := by decide +kernel
theorem dL_law_268 : decode cL_law 268 = .ok (.aload_n 0, 1) := by decide +kernel
theorem dL_law_269 : decode cL_law 269 = .ok (.iload_n 3, 1) := by decide +kernel
theorem dL_law_270 : decode cL_law 270 = .ok (.iconst 3, 1) := by decide +kernel
theorem dL_law_271 : decode cL_law 271 = .ok (.iadd, 1) := by decide +kernel
theorem dL_law_272 : decode cL_law 272 = .ok (.iaload, 1) := by decide +kernel
theorem dL_law_273 : decode cL_law 273 = .ok (.aload_n 0, 1) := by decide +kernel
theorem dL_law_274 : decode cL_law 274 = .ok (.iload_n 3, 1) := by decide +kernel
theorem dL_law_275 : decode cL_law 275 = .ok (.iconst 4, 1) := by decide +kernel
theorem dL_law_276 : decode cL_law 276 = .ok (.iadd, 1) := by decide +kernel
theorem dL_law_277 : decode cL_law 277 = .ok (.iaload, 1) := by decide +kernel
theorem dL_law_278 : decode cL_law 278 = .ok (.invokevirtual 37, 3) := by decide +kernel
theorem dL_law_281 : decode cL_law 281 = .ok (.aload_n 2, 1) := by decide +kernel
theorem dL_law_282 : decode cL_law 282 = .ok (.aload_n 0, 1) := by decide +kernel
theorem dL_law_283 : decode cL_law 283 = .ok (.iload_n 3, 1) := by decide +kernel
theorem dL_law_284 : decode cL_law 284 = .ok (.iconst 1, 1) := by decide +kernel
theorem dL_law_285 : decode cL_law 285 = .ok (.iadd, 1) := by decide +kernel
theorem dL_law_286 : decode cL_law 286 = .ok (.iaload, 1) := by decide +kernel
theorem dL_law_287 : decode cL_law 287 = .ok (.aload_n 0, 1) := by decide +kernel
theorem dL_law_288 : decode cL_law 288 = .ok (.iload_n 3, 1) := by decide +kernel
theorem dL_law_289 : decode cL_law 289 = .ok (.iconst 2, 1) := by decide +kernel
theorem dL_law_290 : decode cL_law 290 = .ok (.iadd, 1) := by decide +kernel
theorem dL_law_291 : decode cL_law 291 = .ok (.iaload, 1) := by decide +kernel
theorem dL_law_292 : decode cL_law 292 = .ok (.aload_n 0, 1) := by decide +kernel
theorem dL_law_293 : decode cL_law 293 = .ok (.iload_n 3, 1) := by decide +kernel
theorem dL_law_294 : decode cL_law 294 = .ok (.iconst 3, 1) := by decide +kernel
theorem dL_law_295 : decode cL_law 295 = .ok (.iadd, 1) := by decide +kernel
theorem dL_law_296 : decode cL_law 296 = .ok (.iaload, 1) := by decide +kernel
theorem dL_law_297 : decode cL_law 297 = .ok (.aload_n 0, 1) := by decide +kernel
theorem dL_law_298 : decode cL_law 298 = .ok (.iload_n 3, 1) := by decide +kernel
theorem dL_law_299 : decode cL_law 299 = .ok (.iconst 4, 1) := by decide +kernel
theorem dL_law_300 : decode cL_law 300 = .ok (.iadd, 1) := by decide +kernel
theorem dL_law_301 : decode cL_law 301 = .ok (.iaload, 1) := by decide +kernel
theorem dL_law_302 : decode cL_law 302 = .ok (.invokevirtual 41, 3) := by decide +kernel
theorem dL_law_305 : decode cL_law 305 = .ok (.if_icmp .eq 185, 3) := by decide +kernel
theorem dL_law_308 : decode cL_law 308 = .ok (.iconst 0, 1) := by decide +kernel
theorem dL_law_309 : decode cL_law 309 = .ok (.ireturn, 1) := by decide +kernel
theorem dL_law_310 : decode cL_law 310 = .ok (.aload_n 1, 1) := by decide +kernel
theorem dL_law_311 : decode cL_law 311 = .ok (.aload_n 0, 1) := by decide +kernel
theorem dL_law_312 : decode cL_law 312 = .ok (.iload_n 3, 1) := by decide +kernel
theorem dL_law_313 : decode cL_law 313 = .ok (.iconst 1, 1) := by decide +kernel
theorem dL_law_314 : decode cL_law 314 = .ok (.iadd, 1) := by decide +kernel
theorem dL_law_315 : decode cL_law 315 = .ok (.iaload, 1) := by decide +kernel
theorem dL_law_316 : decode cL_law 316 = .ok (.invokevirtual 42, 3) := by decide +kernel
theorem dL_law_319 : decode cL_law 319 = .ok (.aload_n 2, 1) := by decide +kernel
theorem dL_law_320 : decode cL_law 320 = .ok (.aload_n 0, 1) := by decide +kernel
theorem dL_law_321 : decode cL_law 321 = .ok (.iload_n 3, 1) := by decide +kernel
theorem dL_law_322 : decode cL_law 322 = .ok (.iconst 1, 1) := by decide +kernel
theorem dL_law_323 : decode cL_law 323 = .ok (.iadd, 1) := by decide +kernel
theorem dL_law_324 : decode cL_law 324 = .ok (.iaload, 1) := by decide +kernel
theorem dL_law_325 : decode cL_law 325 = .ok (.invokevirtual 45, 3) := by decide +kernel
theorem dL_law_328 : decode cL_law 328 = .ok (.if_icmp .eq 162, 3) := by decide +kernel
theorem dL_law_331 : decode cL_law 331 = .ok (.iconst 0, 1) := by decide +kernel
theorem dL_law_332 : decode cL_law 332 = .ok (.ireturn, 1) := by decide +kernel
theorem dL_law_333 : decode cL_law 333 = .ok (.aload_n 1, 1) := by decide +kernel
theorem dL_law_334 : decode cL_law 334 = .ok (.invokevirtual 46, 3) := by decide +kernel
theorem dL_law_337 : decode cL_law 337 = .ok (.aload_n 2, 1) := by decide +kernel
theorem dL_law_338 : decode cL_law 338 = .ok (.invokevirtual 50, 3) := by decide +kernel
theorem dL_law_341 : decode cL_law 341 = .ok (.if_icmp .eq 149, 3) := by decide +kernel
theorem dL_law_344 : decode cL_law 344 = .ok (.iconst 0, 1) := by decide +kernel
theorem dL_law_345 : decode cL_law 345 = .ok (.ireturn, 1) := by decide +kernel
theorem dL_law_346 : decode cL_law 346 = .ok (.aload_n 1, 1) := by decide +kernel
theorem dL_law_347 : decode cL_law 347 = .ok (.invokevirtual 51, 3) := by decide +kernel
theorem dL_law_350 : decode cL_law 350 = .ok (.aload_n 2, 1) := by decide +kernel
theorem dL_law_351 : decode cL_law 351 = .ok (.invokevirtual 54, 3) := by decide +kernel
theorem dL_law_354 : decode cL_law 354 = .ok (.if_icmp .eq 136, 3) := by decide +kernel
theorem dL_law_357 : decode cL_law 357 = .ok (.iconst 0, 1) := by decide +kernel
theorem dL_law_358 : decode cL_law 358 = .ok (.ireturn, 1) := by decide +kernel
theorem dL_law_359 : decode cL_law 359 = .ok (.aload_n 1, 1) := by decide +kernel
theorem dL_law_360 : decode cL_law 360 = .ok (.invokevirtual 55, 3) := by decide +kernel
theorem dL_law_363 : decode cL_law 363 = .ok (.aload_n 2, 1) := by decide +kernel
theorem dL_law_364 : decode cL_law 364 = .ok (.invokevirtual 58, 3) := by decide +kernel
theorem dL_law_367 : decode cL_law 367 = .ok (.if_icmp .eq 123, 3) := by decide +kernel
theorem dL_law_370 : decode cL_law 370 = .ok (.iconst 0, 1) := by decide +kernel
theorem dL_law_371 : decode cL_law 371 = .ok (.ireturn, 1) := by decide +kernel
theorem dL_law_372 : decode cL_law 372 = .ok (.aload_n 1, 1) := by decide +kernel
theorem dL_law_373 : decode cL_law 373 = .ok (.invokevirtual 59, 3) := by decide +kernel
theorem dL_law_376 : decode cL_law 376 = .ok (.aload_n 2, 1) := by decide +kernel
theorem dL_law_377 : decode cL_law 377 = .ok (.invokevirtual 62, 3) := by decide +kernel
theorem dL_law_380 : decode cL_law 380 = .ok (.if_icmp .eq 110, 3) := by decide +kernel
theorem dL_law_383 : decode cL_law 383 = .ok (.iconst 0, 1) := by decide +kernel
theorem dL_law_384 : decode cL_law 384 = .ok (.ireturn, 1) := by decide +kernel
theorem dL_law_385 : decode cL_law 385 = .ok (.aload_n 1, 1) := by decide +kernel
theorem dL_law_386 : decode cL_law 386 = .ok (.aload_n 0, 1) := by decide +kernel
theorem dL_law_387 : decode cL_law 387 = .ok (.iload_n 3, 1) := by decide +kernel
theorem dL_law_388 : decode cL_law 388 = .ok (.iconst 1, 1) := by decide +kernel
theorem dL_law_389 : decode cL_law 389 = .ok (.iadd, 1) := by decide +kernel
theorem dL_law_390 : decode cL_law 390 = .ok (.iaload, 1) := by decide +kernel
theorem dL_law_391 : decode cL_law 391 = .ok (.invokevirtual 63, 3) := by decide +kernel
theorem dL_law_394 : decode cL_law 394 = .ok (.aload_n 2, 1) := by decide +kernel
theorem dL_law_395 : decode cL_law 395 = .ok (.aload_n 0, 1) := by decide +kernel
theorem dL_law_396 : decode cL_law 396 = .ok (.iload_n 3, 1) := by decide +kernel
theorem dL_law_397 : decode cL_law 397 = .ok (.iconst 1, 1) := by decide +kernel
theorem dL_law_398 : decode cL_law 398 = .ok (.iadd, 1) := by decide +kernel
theorem dL_law_399 : decode cL_law 399 = .ok (.iaload, 1) := by decide +kernel
theorem dL_law_400 : decode cL_law 400 = .ok (.invokevirtual 66, 3) := by decide +kernel
theorem dL_law_403 : decode cL_law 403 = .ok (.if_icmp .eq 87, 3) := by decide +kernel
theorem dL_law_406 : decode cL_law 406 = .ok (.iconst 0, 1) := by decide +kernel
theorem dL_law_407 : decode cL_law 407 = .ok (.ireturn, 1) := by decide +kernel
theorem dL_law_408 : decode cL_law 408 = .ok (.aload_n 1, 1) := by decide +kernel
theorem dL_law_409 : decode cL_law 409 = .ok (.invokevirtual 67, 3) := by decide +kernel
theorem dL_law_412 : decode cL_law 412 = .ok (.aload_n 2, 1) := by decide +kernel
theorem dL_law_413 : decode cL_law 413 = .ok (.invokevirtual 71, 3) := by decide +kernel
theorem dL_law_416 : decode cL_law 416 = .ok (.if_icmp .eq 74, 3) := by decide +kernel
theorem dL_law_419 : decode cL_law 419 = .ok (.iconst 0, 1) := by decide +kernel
theorem dL_law_420 : decode cL_law 420 = .ok (.ireturn, 1) := by decide +kernel
theorem dL_law_421 : decode cL_law 421 = .ok (.aload_n 1, 1) := by decide +kernel
theorem dL_law_422 : decode cL_law 422 = .ok (.invokevirtual 72, 3) := by decide +kernel
theorem dL_law_425 : decode cL_law 425 = .ok (.aload_n 2, 1) := by decide +kernel
theorem dL_law_426 : decode cL_law 426 = .ok (.invokevirtual 75, 3) := by decide +kernel
theorem dL_law_429 : decode cL_law 429 = .ok (.if_icmp .eq 61, 3) := by decide +kernel
theorem dL_law_432 : decode cL_law 432 = .ok (.iconst 0, 1) := by decide +kernel
theorem dL_law_433 : decode cL_law 433 = .ok (.ireturn, 1) := by decide +kernel
theorem dL_law_434 : decode cL_law 434 = .ok (.aload_n 1, 1) := by decide +kernel
theorem dL_law_435 : decode cL_law 435 = .ok (.aload_n 0, 1) := by decide +kernel
theorem dL_law_436 : decode cL_law 436 = .ok (.iload_n 3, 1) := by decide +kernel
theorem dL_law_437 : decode cL_law 437 = .ok (.iconst 1, 1) := by decide +kernel
theorem dL_law_438 : decode cL_law 438 = .ok (.iadd, 1) := by decide +kernel
theorem dL_law_439 : decode cL_law 439 = .ok (.iaload, 1) := by decide +kernel
theorem dL_law_440 : decode cL_law 440 = .ok (.aload_n 0, 1) := by decide +kernel
theorem dL_law_441 : decode cL_law 441 = .ok (.iload_n 3, 1) := by decide +kernel
theorem dL_law_442 : decode cL_law 442 = .ok (.iconst 2, 1) := by decide +kernel
theorem dL_law_443 : decode cL_law 443 = .ok (.iadd, 1) := by decide +kernel
theorem dL_law_444 : decode cL_law 444 = .ok (.iaload, 1) := by decide +kernel
theorem dL_law_445 : decode cL_law 445 = .ok (.invokevirtual 76, 3) := by decide +kernel
theorem dL_law_448 : decode cL_law 448 = .ok (.aload_n 2, 1) := by decide +kernel
theorem dL_law_449 : decode cL_law 449 = .ok (.aload_n 0, 1) := by decide +kernel
theorem dL_law_450 : decode cL_law 450 = .ok (.iload_n 3, 1) := by decide +kernel
theorem dL_law_451 : decode cL_law 451 = .ok (.iconst 1, 1) := by decide +kernel
theorem dL_law_452 : decode cL_law 452 = .ok (.iadd, 1) := by decide +kernel
theorem dL_law_453 : decode cL_law 453 = .ok (.iaload, 1) := by decide +kernel
theorem dL_law_454 : decode cL_law 454 = .ok (.aload_n 0, 1) := by decide +kernel
theorem dL_law_455 : decode cL_law 455 = .ok (.iload_n 3, 1) := by decide +kernel
theorem dL_law_456 : decode cL_law 456 = .ok (.iconst 2, 1) := by decide +kernel
theorem dL_law_457 : decode cL_law 457 = .ok (.iadd, 1) := by decide +kernel
theorem dL_law_458 : decode cL_law 458 = .ok (.iaload, 1) := by decide +kernel
theorem dL_law_459 : decode cL_law 459 = .ok (.invokevirtual 79, 3) := by decide +kernel
theorem dL_law_462 : decode cL_law 462 = .ok (.if_icmp .eq 28, 3) := by decide +kernel
theorem dL_law_465 : decode cL_law 465 = .ok (.iconst 0, 1) := by decide +kernel
theorem dL_law_466 : decode cL_law 466 = .ok (.ireturn, 1) := by decide +kernel
theorem dL_law_467 : decode cL_law 467 = .ok (.aload_n 1, 1) := by decide +kernel
theorem dL_law_468 : decode cL_law 468 = .ok (.aload_n 0, 1) := by decide +kernel
theorem dL_law_469 : decode cL_law 469 = .ok (.iload_n 3, 1) := by decide +kernel
theorem dL_law_470 : decode cL_law 470 = .ok (.iconst 1, 1) := by decide +kernel
theorem dL_law_471 : decode cL_law 471 = .ok (.iadd, 1) := by decide +kernel
theorem dL_law_472 : decode cL_law 472 = .ok (.iaload, 1) := by decide +kernel
theorem dL_law_473 : decode cL_law 473 = .ok (.invokevirtual 80, 3) := by decide +kernel
theorem dL_law_476 : decode cL_law 476 = .ok (.aload_n 2, 1) := by decide +kernel
theorem dL_law_477 : decode cL_law 477 = .ok (.aload_n 0, 1) := by decide +kernel
theorem dL_law_478 : decode cL_law 478 = .ok (.iload_n 3, 1) := by decide +kernel
theorem dL_law_479 : decode cL_law 479 = .ok (.iconst 1, 1) := by decide +kernel
theorem dL_law_480 : decode cL_law 480 = .ok (.iadd, 1) := by decide +kernel
theorem dL_law_481 : decode cL_law 481 = .ok (.iaload, 1) := by decide +kernel
theorem dL_law_482 : decode cL_law 482 = .ok (.invokevirtual 83, 3) := by decide +kernel
theorem dL_law_485 : decode cL_law 485 = .ok (.if_icmp .eq 5, 3) := by decide +kernel
theorem dL_law_488 : decode cL_law 488 = .ok (.iconst 0, 1) := by decide +kernel
theorem dL_law_489 : decode cL_law 489 = .ok (.ireturn, 1) := by decide +kernel
theorem dL_law_490 : decode cL_law 490 = .ok (.iinc 3 5, 3) := by decide +kernel
theorem dL_law_493 : decode cL_law 493 = .ok (.goto (-475), 3) := by decide +kernel
theorem dL_law_496 : decode cL_law 496 = .ok (.iconst 1, 1) := by decide +kernel
theorem dL_law_497 : decode cL_law 497 = .ok (.ireturn, 1) := by decide +kernel
end
section
/-! THE WORDS OF THIS CLAIM AND ITS OWN ROWS: numbers as nI, read-only contracts (Ro), loops, joins -/
def tc_sum (f : Nat → Nat) : Nat → Nat
  | 0 => 0
  | n + 1 => tc_sum f n + f n
def tc_fold {α : Type} (f : Nat → α → α) (a : α) : Nat → α
  | 0 => a
  | n + 1 => f n (tc_fold f a n)
def tc_all (p : Nat → Bool) : Nat → Bool
  | 0 => true
  | n + 1 => tc_all p n && p n
def tc_any (p : Nat → Bool) : Nat → Bool
  | 0 => false
  | n + 1 => tc_any p n || p n
abbrev tB (b : Bool) : Int32 := nI b.toNat
def tc_dif (a b : Nat) : Nat := a &&& (127 ^^^ b)
def tc_pop (a : Nat) : Nat := tc_sum (fun m => (a >>> m) &&& 1) 7
theorem tc_all_iff {p : Nat → Bool} {n : Nat} : tc_all p n = true ↔ ∀ i, i < n → p i = true := by
  induction n with
  | zero => simp [tc_all]
  | succ n ih =>
    simp only [tc_all, Bool.and_eq_true, ih]
    constructor
    · rintro ⟨h1, h2⟩ i hi
      rcases Nat.lt_or_ge i n with q | q
      · exact h1 i q
      · rw [show i = n by omega]; exact h2
    · intro h
      exact ⟨fun i hi => h i (by omega), h n (by omega)⟩
theorem tc_any_iff {p : Nat → Bool} {n : Nat} : tc_any p n = true ↔ ∃ i, i < n ∧ p i = true := by
  induction n with
  | zero => simp [tc_any]
  | succ n ih =>
    simp only [tc_any, Bool.or_eq_true, ih]
    constructor
    · rintro (⟨i, h1, h2⟩ | h)
      · exact ⟨i, by omega, h2⟩
      · exact ⟨n, by omega, h⟩
    · rintro ⟨i, h1, h2⟩
      rcases Nat.lt_or_ge i n with q | q
      · exact Or.inl ⟨i, q, h2⟩
      · rw [show i = n by omega] at h2; exact Or.inr h2
theorem tc_sum_le {f : Nat → Nat} {n b : Nat} (h : ∀ i, i < n → f i ≤ b) : tc_sum f n ≤ n * b := by
  induction n with
  | zero => simp [tc_sum]
  | succ n ih =>
    have h1 := ih (fun i hi => h i (by omega))
    have h2 := h n (by omega)
    simp only [tc_sum, Nat.succ_mul]
    omega
theorem tc_pop_le (a : Nat) : tc_pop a ≤ 7 := by
  have := tc_sum_le (f := fun m => (a >>> m) &&& 1) (n := 7) (b := 1) (fun i _ => Nat.and_le_right)
  simpa [tc_pop] using this
theorem t_and (a b : Nat) : nI a &&& nI b = nI (a &&& b) := by
  apply Int32.toBitVec_inj.1
  show BitVec.ofNat 32 a &&& BitVec.ofNat 32 b = BitVec.ofNat 32 (a &&& b)
  apply BitVec.eq_of_getLsbD_eq
  intro i hi
  simp [hi]
theorem t_xor (a b : Nat) : nI a ^^^ nI b = nI (a ^^^ b) := by
  apply Int32.toBitVec_inj.1
  show BitVec.ofNat 32 a ^^^ BitVec.ofNat 32 b = BitVec.ofNat 32 (a ^^^ b)
  apply BitVec.eq_of_getLsbD_eq
  intro i hi
  simp [hi]
theorem t_or (a b : Nat) : nI a ||| nI b = nI (a ||| b) := by
  apply Int32.toBitVec_inj.1
  show BitVec.ofNat 32 a ||| BitVec.ofNat 32 b = BitVec.ofNat 32 (a ||| b)
  apply BitVec.eq_of_getLsbD_eq
  intro i hi
  simp [hi]
theorem t_bit127 : ∀ i, i < 7 → (4294967295 : Nat).testBit i = true ∧ (127 : Nat).testBit i = true := by decide +kernel
theorem t_dif {a b : Nat} (ha : a < 128) : nI a &&& (nI b ^^^ (-1)) = nI (tc_dif a b) := by
  rw [show (-1 : Int32) = nI 4294967295 from by decide, t_xor, t_and]
  congr 1
  apply Nat.eq_of_testBit_eq
  intro i
  unfold tc_dif
  simp only [Nat.testBit_and, Nat.testBit_xor]
  rcases Nat.lt_or_ge i 7 with h | h
  · rw [(t_bit127 i h).1, (t_bit127 i h).2, Bool.xor_comm]
  · have : a.testBit i = false := Nat.testBit_lt_two_pow (Nat.lt_of_lt_of_le ha (show 2 ^ 7 ≤ 2 ^ i from Nat.pow_le_pow_right (by decide) h))
    simp [this]
theorem t_cnt : ∀ n, n < 32 → ((nI n &&& 31).toBitVec.smod 32).toNat = n := by decide +kernel
theorem t_shr {a k : Nat} (ha : a < 2 ^ 31) (hk : k < 32) : nI a >>> (nI k &&& 31) = nI (a >>> k) := by
  rw [pk_shrN ha _ k (t_cnt k hk), Nat.shiftRight_eq_div_pow]
theorem t_shl {a k : Nat} (hk : k < 32) (h : a <<< k < 2 ^ 32) : nI a <<< (nI k &&& 31) = nI (a <<< k) := by
  rw [Nat.shiftLeft_eq] at h
  rw [pk_shlN _ k (t_cnt k hk) h, Nat.shiftLeft_eq]
theorem tk_i2b : ∀ a, a < 128 → (nI a).toInt8.toInt32 = nI a := by decide +kernel
theorem t_inc (a : Nat) : nI a + Int32.ofInt 1 = nI (a + 1) := nI_1 a
theorem t_dec (a : Nat) : nI (a + 1) + Int32.ofInt (-1) = nI a := pk_m1 a
theorem t_b0 (b : Bool) : tB b = 0 ↔ b = false := by cases b <;> decide
theorem t_binj {a b : Bool} (h : tB a = tB b) : a = b := by revert h; cases a <;> cases b <;> decide
theorem t_narb (b : Bool) : narrow .boolean (.int (tB b)) = .int (tB b) := by cases b <;> rfl
theorem t_eq0 {a : Nat} (h : a < 2 ^ 31) : nI a = 0 ↔ a = 0 := by
  rw [← nI_0, nI_eq h (by omega)]
/-! the worlds -/
abbrev vwCl : List vw_C := [(RX0, TX0, 6), (RX1, TX1, 1)]
abbrev tcT (dB dZ : ClassId) : List (ClassId × FieldType) := [(dB, .byte), (dZ, .boolean)]
abbrev tcK (D : va_G) (dB dZ : ClassId) (U : State) : Prop := va_K D vwCl (tcT dB dZ) U
abbrev wX (a : Nat → Nat) (dB : ClassId) (C X N K B M : Nat → Nat) : va_W := [(a 0, .inr (0, [.ref (a 1), .ref (a 2), .ref (a 3), .ref (a 4), .ref (a 5), .ref (a 6)])), (a 1, .inl (dB, 2, .inl (fun j => nI (C j)))), (a 2, .inl (dB, 10, .inl (fun j => nI (X j)))), (a 3, .inl (dB, 26, .inl (fun j => nI (N j)))), (a 4, .inl (dB, 2, .inl (fun j => nI (K j)))), (a 5, .inl (dB, 169, .inl (fun j => nI (B j)))), (a 6, .inl (dB, 128, .inl (fun j => nI (M j))))]
abbrev wM (a : Nat → Nat) (dZ : ClassId) (hs : Nat → Bool) : va_W := [(a 0, .inr (1, [.ref (a 1)])), (a 1, .inl (dZ, 256, .inl (fun j => tB (hs j))))]
/-! read-only contracts -/
def roP (as : List Value) (H : Heap) (D : va_G) (dB dZ : ClassId) : Array Value → State → Prop := fun v U => v = as.toArray ∧ U.heap = H ∧ tcK D dB dZ U
def roQ (H : Heap) (r : Int32) : Array Value → State → Outcome → State → Prop := fun _ _ o t => o = .returned (some (.int r)) ∧ t.heap = H
abbrev tcR (f n : Nat) : Room := { frames := f, cells := 0, slots := 0, locals := n }
abbrev Ro (l : Launch) (y : MethodName) (code : ByteArray) (nL : Nat) (ret : Option FieldType) (f n : Nat) (as : List Value) (H : Heap) (D : va_G) (dB dZ : ClassId) (r : Int32) : Prop := Met l y (ws_ y code nL ret) (tcR f n) (roP as H D dB dZ) (roQ H r) 0 0 (fun _ => False)
theorem Ro.ofW {l : Launch} {y : MethodName} {code : ByteArray} {nL : Nat} {ret : Option FieldType} {f n : Nat} {as : List Value} {H : Heap} {D : va_G} {dB dZ : ClassId} {r : Int32} (hy : plainName y.cls = true) (hlen : (lg_sl as).length ≤ nL)
    (body : ∀ (p : Program) (e : Env) (s : State) (m : MethodId) (below : List Frame) (meth : Method) (c : Code), p.tables.exec = Jvm.exec → c.code = code → meth.sig.returnType = ret → meth.locks = false → c.maxLocals = nL → s.vm.findClass y.cls = some m.cls → (∀ w ∈ lw_all, w.before as.toArray s = true) → tcK D dB dZ s → ∀ ls, lv_has ls nL (lv_args 0 as) → W p l e (tcR f n) s m as.toArray below meth c H [] 0 0 (MQ below (roQ H r) as.toArray s 0 0 (fun _ => False)) (F0 m 0 ls [])) : Ro l y code nL ret f n as H D dB dZ r := by
  refine Met.ofW (cc := code) (maxL := nL) (ret := ret) hy rfl ?_
  intro p e s m args below meth c s₁ B hml hv
  obtain ⟨rfl, hH, hK⟩ := hv
  have hts := atoms_spec (ws := ws_ y code nL ret) B.pre
  have hl := lv_entry as hlen
  rw [lg_entry_eq]
  subst hH
  exact body p e s m below meth c B.exec B.bytes B.returns B.notSynchronized hml (findClass_of_methodNamed B.named) (fun w h => hts w (List.mem_cons_of_mem _ h)) hK _ hl
section TC
variable {p : Program} {l : Launch} {e : Env} {R : Room} {s : State} {m : MethodId} {args : Array Value} {below : List Frame} {meth : Method} {c : Code} {H : Heap} {locs : List Loc} {cells slots : Nat} {Q : State → Prop}
variable {cc : ByteArray} {pc : Nat} {ls : Array Slot} {rest : List Value}
theorem ro_ret {r v : Int32} {ty : FieldType} (hx : p.tables.exec = Jvm.exec) (hb : c.code = cc) (hr : meth.sig.returnType = some ty) (hlocks : meth.locks = false) (hd : decode cc pc = .ok (.ireturn, 1)) (hn : narrow ty (.int v) = .int v) (hv : v = r) : W p l e R s m args below meth c H [] 0 0 (MQ below (roQ H r) args s 0 0 (fun _ => False)) (F0 m pc ls [.int v]) :=
  W.zret hx hb hr hn (fun t ht _ => ⟨by rw [hv], ht⟩) (fun q h => by cases h) hd hlocks
theorem ro_callV {y : MethodName} {code' : ByteArray} {nL nL' k index : Nat} {ret' : Option FieldType} {f n : Nat} {As : List Value} {b : Nat} {own C : String} {D : va_G} {dB dZ : ClassId} {r : Int32} {st : List Value} (F : CallFix p m c cc nL s args lw_all own) (hK : tcK D dB dZ s) (hM : Ro l y code' nL' ret' f n (.ref b :: As) H D dB dZ r) (cw : CallW R s args own C index y code' nL' ret' (ws_ y code' nL' ret') (tcR f n) 0 0 k) (hrec : ∃ cellB : Cell, H[b]? = some cellB ∧ cellB.vm.isStatics = false ∧ s.vm.findClass C = some cellB.cls) (hn : As.length = k) (hsize : ls.size = nL) (hst : st = As.reverse ++ .ref b :: rest) (hW : (rest.map fun v => v.category).sum ≤ 8) (hdg : decode cc pc = .ok (.invokevirtual index, 3)) (hf : cells ≤ R.cells ∧ slots ≤ R.slots)
    (kk : W p l e R s m args below meth c H locs cells slots Q (F0 m (pc + 3) ls (.int r :: rest))) : W p l e R s m args below meth c H locs cells slots Q (F0 m pc ls st) := by
  intro T hT X
  obtain ⟨v, st₀, t, T', L, h0, X', hL, e1, e2, ⟨hv, hh⟩, stp⟩ := va_runV (g := F0 m pc ls st) (rest := rest) F hM cw ⟨fun a U g mk q => ⟨q.1, q.2.1, va_K.moved (u := U) (U := U.calling g mk a) (Vm.Alike.refl U.vm) q.2.2⟩, hrec, fun U hU hW => ⟨rfl, hU, va_K.moved hW.alike hK⟩⟩ rfl hn hsize hst (lv_room hW) hdg hf T hT X
  cases hv
  have hL0 : L = [] := List.eq_nil_iff_forall_not_mem.mpr (fun q hq => hL q hq)
  subst hL0
  rw [List.append_nil] at X'
  obtain ⟨t2, a1, b1⟩ := kk T' (e1.trans hh) X'
  exact ⟨t2, stp t2 a1, b1⟩
theorem ro_callS {y : MethodName} {code' : ByteArray} {nL nL' k index : Nat} {ret' : Option FieldType} {f n : Nat} {As : List Value} {own : String} {D : va_G} {dB dZ : ClassId} {r : Int32} {st : List Value} (F : CallFix p m c cc nL s args lw_all own) (hK : tcK D dB dZ s) (hM : Ro l y code' nL' ret' f n As H D dB dZ r) (cw : CallB R s args own index y code' nL' ret' (ws_ y code' nL' ret') (tcR f n) 0 0 k ∧ (Cond.static y).before args s = true) (hn : As.length = k) (hsize : ls.size = nL) (hst : st = As.reverse ++ rest) (hW : (rest.map fun v => v.category).sum ≤ 8) (hdg : decode cc pc = .ok (.invokestatic index, 3)) (hf : cells ≤ R.cells ∧ slots ≤ R.slots)
    (kk : W p l e R s m args below meth c H locs cells slots Q (F0 m (pc + 3) ls (.int r :: rest))) : W p l e R s m args below meth c H locs cells slots Q (F0 m pc ls st) := by
  intro T hT X
  obtain ⟨v, st₀, t, T', L, h0, X', hL, e1, e2, ⟨hv, hh⟩, stp⟩ := va_runS (g := F0 m pc ls st) (rest := rest) F hM cw ⟨fun a U g mk q => ⟨q.1, q.2.1, va_K.moved (u := U) (U := U.calling g mk a) (Vm.Alike.refl U.vm) q.2.2⟩, fun U hU hW => ⟨rfl, hU, va_K.moved hW.alike hK⟩⟩ rfl hn hsize hst (lv_room hW) hdg hf T hT X
  cases hv
  have hL0 : L = [] := List.eq_nil_iff_forall_not_mem.mpr (fun q hq => hL q hq)
  subst hL0
  rw [List.append_nil] at X'
  obtain ⟨t2, a1, b1⟩ := kk T' (e1.trans hh) X'
  exact ⟨t2, stp t2 a1, b1⟩
/-- a loop that counts up from 0 to N, over one heap -/
theorem tc_for {nL head : Nat} {st : List Value} (N : Nat) (Inv : Nat → Prop) (lv : Nat → List (Nat × Value)) (h0 : Inv 0) (hl : lv_has ls nL (lv 0))
    (body : ∀ i, i < N → Inv i → (∀ ls, Inv (i + 1) → lv_has ls nL (lv (i + 1)) → W p l e R s m args below meth c H locs cells slots Q (F0 m head ls st)) → ∀ ls, lv_has ls nL (lv i) → W p l e R s m args below meth c H locs cells slots Q (F0 m head ls st))
    (exit : Inv N → ∀ ls, lv_has ls nL (lv N) → W p l e R s m args below meth c H locs cells slots Q (F0 m head ls st)) : W p l e R s m args below meth c H locs cells slots Q (F0 m head ls st) := by
  have h : ∀ n i, i + n = N → Inv i → ∀ ls, lv_has ls nL (lv i) → W p l e R s m args below meth c H locs cells slots Q (F0 m head ls st) := by
    intro n
    induction n with
    | zero =>
      intro i hi hv ls hl
      have : i = N := by omega
      subst this
      exact exit hv ls hl
    | succ n ih =>
      intro i hi hv ls hl
      exact body i (by omega) hv (fun ls hv' hl' => ih (i + 1) (by omega) hv' ls hl') ls hl
  exact h N 0 (by omega) h0 ls hl
/-- a place where roads meet: first the road to it, then what follows -/
theorem tc_at {st : List Value} (pc' : Nat) (st' : List Value) (h : W p l e R s m args below meth c H locs cells slots Q (F0 m pc' ls st') → W p l e R s m args below meth c H locs cells slots Q (F0 m pc ls st)) (k : W p l e R s m args below meth c H locs cells slots Q (F0 m pc' ls st')) : W p l e R s m args below meth c H locs cells slots Q (F0 m pc ls st) := h k
/-- the same where a local changed on the road -/
theorem tc_atL {st : List Value} {nL : Nat} (pc' : Nat) (st' : List Value) (lv' : List (Nat × Value)) (h : (∀ ls, lv_has ls nL lv' → W p l e R s m args below meth c H locs cells slots Q (F0 m pc' ls st')) → W p l e R s m args below meth c H locs cells slots Q (F0 m pc ls st)) (k : ∀ ls, lv_has ls nL lv' → W p l e R s m args below meth c H locs cells slots Q (F0 m pc' ls st')) : W p l e R s m args below meth c H locs cells slots Q (F0 m pc ls st) := h k
theorem tc_atV {st : List Value} {nL : Nat} (pc' : Nat) (st' : List Value) {α : Type} (v0 : α) (lv' : α → List (Nat × Value)) (h : (∀ v : α, v = v0 → ∀ ls, lv_has ls nL (lv' v) → W p l e R s m args below meth c H locs cells slots Q (F0 m pc' ls st')) → W p l e R s m args below meth c H locs cells slots Q (F0 m pc ls st)) (k : ∀ ls, lv_has ls nL (lv' v0) → W p l e R s m args below meth c H locs cells slots Q (F0 m pc' ls st')) : W p l e R s m args below meth c H locs cells slots Q (F0 m pc ls st) := h (fun v hv ls hl => k ls (hv ▸ hl))
theorem tc_beq2 {a b : Bool} {off : Int} {tgt : Nat} (hx : p.tables.exec = Jvm.exec) (hb : c.code = cc) (hd : decode cc pc = .ok (.if_icmp .eq off, 3)) (ht : (pc : Int) + off = (tgt : Int)) (kt : a = b → W p l e R s m args below meth c H locs cells slots Q (F0 m tgt ls rest)) (kf : ¬ a = b → W p l e R s m args below meth c H locs cells slots Q (F0 m (pc + 3) ls rest)) : W p l e R s m args below meth c H locs cells slots Q (F0 m pc ls (.int (tB b) :: .int (tB a) :: rest)) :=
  lv_icmp_eq hx hb hd ht (fun h => kt (t_binj h)) (fun h => kf fun q => h (by rw [q]))
theorem tc_top {x y : Int32} (h : x = y) (k : W p l e R s m args below meth c H locs cells slots Q (F0 m pc ls (.int y :: rest))) : W p l e R s m args below meth c H locs cells slots Q (F0 m pc ls (.int x :: rest)) := h ▸ k
theorem tc_topN {x y : Nat} (h : x = y) (k : W p l e R s m args below meth c H locs cells slots Q (F0 m pc ls (.int (nI y) :: rest))) : W p l e R s m args below meth c H locs cells slots Q (F0 m pc ls (.int (nI x) :: rest)) := h ▸ k
theorem tc_iadd {a b : Nat} (hx : p.tables.exec = Jvm.exec) (hb : c.code = cc) (hd : decode cc pc = .ok (.iadd, 1)) (k : W p l e R s m args below meth c H locs cells slots Q (F0 m (pc + 1) ls (.int (nI (a + b)) :: rest))) : W p l e R s m args below meth c H locs cells slots Q (F0 m pc ls (.int (nI b) :: .int (nI a) :: rest)) := lv_iadd hx hb hd (tc_top (nI_add a b) k)
theorem tc_isub {a b : Nat} (hx : p.tables.exec = Jvm.exec) (hb : c.code = cc) (hd : decode cc pc = .ok (.isub, 1)) (h : b ≤ a) (k : W p l e R s m args below meth c H locs cells slots Q (F0 m (pc + 1) ls (.int (nI (a - b)) :: rest))) : W p l e R s m args below meth c H locs cells slots Q (F0 m pc ls (.int (nI b) :: .int (nI a) :: rest)) := lv_isub hx hb hd (tc_top (pk_sub h) k)
theorem tc_imul {a b : Nat} (hx : p.tables.exec = Jvm.exec) (hb : c.code = cc) (hd : decode cc pc = .ok (.imul, 1)) (k : W p l e R s m args below meth c H locs cells slots Q (F0 m (pc + 1) ls (.int (nI (a * b)) :: rest))) : W p l e R s m args below meth c H locs cells slots Q (F0 m pc ls (.int (nI b) :: .int (nI a) :: rest)) := lv_imul hx hb hd (tc_top (pk_mul a b) k)
theorem tc_idiv {a b : Nat} (hx : p.tables.exec = Jvm.exec) (hb : c.code = cc) (hd : decode cc pc = .ok (.idiv, 1)) (ha : a < 2 ^ 31) (h0 : 0 < b) (h1 : b < 2 ^ 31) (k : W p l e R s m args below meth c H locs cells slots Q (F0 m (pc + 1) ls (.int (nI (a / b)) :: rest))) : W p l e R s m args below meth c H locs cells slots Q (F0 m pc ls (.int (nI b) :: .int (nI a) :: rest)) := lv_idiv hx hb hd (nI_ne0 h0 h1) (tc_top (pk_div ha h0 h1) k)
theorem tc_irem {a b : Nat} (hx : p.tables.exec = Jvm.exec) (hb : c.code = cc) (hd : decode cc pc = .ok (.irem, 1)) (ha : a < 2 ^ 31) (h0 : 0 < b) (h1 : b < 2 ^ 31) (k : W p l e R s m args below meth c H locs cells slots Q (F0 m (pc + 1) ls (.int (nI (a % b)) :: rest))) : W p l e R s m args below meth c H locs cells slots Q (F0 m pc ls (.int (nI b) :: .int (nI a) :: rest)) := lv_irem hx hb hd (nI_ne0 h0 h1) (tc_top (pk_rem ha h0 h1) k)
theorem tc_iand {a b : Nat} (hx : p.tables.exec = Jvm.exec) (hb : c.code = cc) (hd : decode cc pc = .ok (.iand, 1)) (k : W p l e R s m args below meth c H locs cells slots Q (F0 m (pc + 1) ls (.int (nI (a &&& b)) :: rest))) : W p l e R s m args below meth c H locs cells slots Q (F0 m pc ls (.int (nI b) :: .int (nI a) :: rest)) := lv_iand hx hb hd (tc_top (t_and a b) k)
theorem tc_iandn {a b : Nat} (hx : p.tables.exec = Jvm.exec) (hb : c.code = cc) (hd : decode cc pc = .ok (.iand, 1)) (h : a < 128) (k : W p l e R s m args below meth c H locs cells slots Q (F0 m (pc + 1) ls (.int (nI (tc_dif a b)) :: rest))) : W p l e R s m args below meth c H locs cells slots Q (F0 m pc ls (.int (nI b ^^^ (-1)) :: .int (nI a) :: rest)) := lv_iand hx hb hd (tc_top (t_dif h) k)
theorem tc_ior {a b : Nat} (hx : p.tables.exec = Jvm.exec) (hb : c.code = cc) (hd : decode cc pc = .ok (.ior, 1)) (k : W p l e R s m args below meth c H locs cells slots Q (F0 m (pc + 1) ls (.int (nI (a ||| b)) :: rest))) : W p l e R s m args below meth c H locs cells slots Q (F0 m pc ls (.int (nI b) :: .int (nI a) :: rest)) := lv_ior hx hb hd (tc_top (t_or a b) k)
theorem tc_ishl {a b : Nat} (hx : p.tables.exec = Jvm.exec) (hb : c.code = cc) (hd : decode cc pc = .ok (.ishl, 1)) (h : b < 32) (h2 : a <<< b < 2 ^ 32) (k : W p l e R s m args below meth c H locs cells slots Q (F0 m (pc + 1) ls (.int (nI (a <<< b)) :: rest))) : W p l e R s m args below meth c H locs cells slots Q (F0 m pc ls (.int (nI b) :: .int (nI a) :: rest)) := lv_ishl hx hb hd (tc_top (t_shl h h2) k)
theorem tc_ishr {a b : Nat} (hx : p.tables.exec = Jvm.exec) (hb : c.code = cc) (hd : decode cc pc = .ok (.ishr, 1)) (ha : a < 2 ^ 31) (h : b < 32) (k : W p l e R s m args below meth c H locs cells slots Q (F0 m (pc + 1) ls (.int (nI (a >>> b)) :: rest))) : W p l e R s m args below meth c H locs cells slots Q (F0 m pc ls (.int (nI b) :: .int (nI a) :: rest)) := lv_ishr hx hb hd (tc_top (t_shr ha h) k)
theorem tc_i2b {a : Nat} (hx : p.tables.exec = Jvm.exec) (hb : c.code = cc) (hd : decode cc pc = .ok (.i2b, 1)) (h : a < 128) (k : W p l e R s m args below meth c H locs cells slots Q (F0 m (pc + 1) ls (.int (nI a) :: rest))) : W p l e R s m args below meth c H locs cells slots Q (F0 m pc ls (.int (nI a) :: rest)) := lv_i2b hx hb hd (tk_i2b a h) k
theorem tc_ge {a b : Nat} {off : Int} {tgt : Nat} (hx : p.tables.exec = Jvm.exec) (hb : c.code = cc) (hd : decode cc pc = .ok (.if_icmp .ge off, 3)) (ht : (pc : Int) + off = (tgt : Int)) (ha : a < 2 ^ 31) (hb' : b < 2 ^ 31) (kt : b ≤ a → W p l e R s m args below meth c H locs cells slots Q (F0 m tgt ls rest)) (kf : a < b → W p l e R s m args below meth c H locs cells slots Q (F0 m (pc + 3) ls rest)) : W p l e R s m args below meth c H locs cells slots Q (F0 m pc ls (.int (nI b) :: .int (nI a) :: rest)) :=
  lv_icmp_ge hx hb hd ht (fun h => kt ((nI_leI hb' ha).mp h)) (fun h => kf (Nat.lt_of_not_le fun q => h ((nI_leI hb' ha).mpr q)))
theorem tc_lt {a b : Nat} {off : Int} {tgt : Nat} (hx : p.tables.exec = Jvm.exec) (hb : c.code = cc) (hd : decode cc pc = .ok (.if_icmp .lt off, 3)) (ht : (pc : Int) + off = (tgt : Int)) (ha : a < 2 ^ 31) (hb' : b < 2 ^ 31) (kt : a < b → W p l e R s m args below meth c H locs cells slots Q (F0 m tgt ls rest)) (kf : b ≤ a → W p l e R s m args below meth c H locs cells slots Q (F0 m (pc + 3) ls rest)) : W p l e R s m args below meth c H locs cells slots Q (F0 m pc ls (.int (nI b) :: .int (nI a) :: rest)) :=
  lv_icmp_lt hx hb hd ht (fun h => kt ((nI_ltI ha hb').mp h)) (fun h => kf (Nat.le_of_not_lt fun q => h ((nI_ltI ha hb').mpr q)))
theorem tc_gt {a b : Nat} {off : Int} {tgt : Nat} (hx : p.tables.exec = Jvm.exec) (hb : c.code = cc) (hd : decode cc pc = .ok (.if_icmp .gt off, 3)) (ht : (pc : Int) + off = (tgt : Int)) (ha : a < 2 ^ 31) (hb' : b < 2 ^ 31) (kt : b < a → W p l e R s m args below meth c H locs cells slots Q (F0 m tgt ls rest)) (kf : a ≤ b → W p l e R s m args below meth c H locs cells slots Q (F0 m (pc + 3) ls rest)) : W p l e R s m args below meth c H locs cells slots Q (F0 m pc ls (.int (nI b) :: .int (nI a) :: rest)) :=
  lv_icmp_gt hx hb hd ht (fun h => kt ((nI_ltI hb' ha).mp h)) (fun h => kf (Nat.le_of_not_lt fun q => h ((nI_ltI hb' ha).mpr q)))
theorem tc_le {a b : Nat} {off : Int} {tgt : Nat} (hx : p.tables.exec = Jvm.exec) (hb : c.code = cc) (hd : decode cc pc = .ok (.if_icmp .le off, 3)) (ht : (pc : Int) + off = (tgt : Int)) (ha : a < 2 ^ 31) (hb' : b < 2 ^ 31) (kt : a ≤ b → W p l e R s m args below meth c H locs cells slots Q (F0 m tgt ls rest)) (kf : b < a → W p l e R s m args below meth c H locs cells slots Q (F0 m (pc + 3) ls rest)) : W p l e R s m args below meth c H locs cells slots Q (F0 m pc ls (.int (nI b) :: .int (nI a) :: rest)) :=
  lv_icmp_le hx hb hd ht (fun h => kt ((nI_leI ha hb').mp h)) (fun h => kf (Nat.lt_of_not_le fun q => h ((nI_leI ha hb').mpr q)))
theorem tc_eq {a b : Nat} {off : Int} {tgt : Nat} (hx : p.tables.exec = Jvm.exec) (hb : c.code = cc) (hd : decode cc pc = .ok (.if_icmp .eq off, 3)) (ht : (pc : Int) + off = (tgt : Int)) (ha : a < 2 ^ 31) (hb' : b < 2 ^ 31) (kt : a = b → W p l e R s m args below meth c H locs cells slots Q (F0 m tgt ls rest)) (kf : ¬ a = b → W p l e R s m args below meth c H locs cells slots Q (F0 m (pc + 3) ls rest)) : W p l e R s m args below meth c H locs cells slots Q (F0 m pc ls (.int (nI b) :: .int (nI a) :: rest)) :=
  lv_icmp_eq hx hb hd ht (fun h => kt ((nI_eq ha hb').mp h)) (fun h => kf fun q => h ((nI_eq ha hb').mpr q))
theorem tc_ne {a b : Nat} {off : Int} {tgt : Nat} (hx : p.tables.exec = Jvm.exec) (hb : c.code = cc) (hd : decode cc pc = .ok (.if_icmp .ne off, 3)) (ht : (pc : Int) + off = (tgt : Int)) (ha : a < 2 ^ 31) (hb' : b < 2 ^ 31) (kt : ¬ a = b → W p l e R s m args below meth c H locs cells slots Q (F0 m tgt ls rest)) (kf : a = b → W p l e R s m args below meth c H locs cells slots Q (F0 m (pc + 3) ls rest)) : W p l e R s m args below meth c H locs cells slots Q (F0 m pc ls (.int (nI b) :: .int (nI a) :: rest)) :=
  lv_icmp_ne hx hb hd ht (fun h => kt fun q => h ((nI_eq ha hb').mpr q)) (fun h => kf ((nI_eq ha hb').mp h))
theorem tc_eq0 {a : Nat} {off : Int} {tgt : Nat} (hx : p.tables.exec = Jvm.exec) (hb : c.code = cc) (hd : decode cc pc = .ok (.ifCond .eq off, 3)) (ht : (pc : Int) + off = (tgt : Int)) (ha : a < 2 ^ 31) (kt : a = 0 → W p l e R s m args below meth c H locs cells slots Q (F0 m tgt ls rest)) (kf : ¬ a = 0 → W p l e R s m args below meth c H locs cells slots Q (F0 m (pc + 3) ls rest)) : W p l e R s m args below meth c H locs cells slots Q (F0 m pc ls (.int (nI a) :: rest)) :=
  lv_if_eq hx hb hd ht (fun h => kt ((t_eq0 ha).mp h)) (fun h => kf fun q => h ((t_eq0 ha).mpr q))
theorem tc_ne0 {a : Nat} {off : Int} {tgt : Nat} (hx : p.tables.exec = Jvm.exec) (hb : c.code = cc) (hd : decode cc pc = .ok (.ifCond .ne off, 3)) (ht : (pc : Int) + off = (tgt : Int)) (ha : a < 2 ^ 31) (kt : ¬ a = 0 → W p l e R s m args below meth c H locs cells slots Q (F0 m tgt ls rest)) (kf : a = 0 → W p l e R s m args below meth c H locs cells slots Q (F0 m (pc + 3) ls rest)) : W p l e R s m args below meth c H locs cells slots Q (F0 m pc ls (.int (nI a) :: rest)) :=
  lv_if_ne hx hb hd ht (fun h => kt fun q => h ((t_eq0 ha).mpr q)) (fun h => kf ((t_eq0 ha).mp h))
theorem tc_beq {b : Bool} {off : Int} {tgt : Nat} (hx : p.tables.exec = Jvm.exec) (hb : c.code = cc) (hd : decode cc pc = .ok (.ifCond .eq off, 3)) (ht : (pc : Int) + off = (tgt : Int)) (kt : b = false → W p l e R s m args below meth c H locs cells slots Q (F0 m tgt ls rest)) (kf : b = true → W p l e R s m args below meth c H locs cells slots Q (F0 m (pc + 3) ls rest)) : W p l e R s m args below meth c H locs cells slots Q (F0 m pc ls (.int (tB b) :: rest)) :=
  lv_if_eq hx hb hd ht (fun h => kt ((t_b0 b).mp h)) (fun h => kf (by cases b with | true => rfl | false => exact absurd rfl h))
theorem tc_bne {b : Bool} {off : Int} {tgt : Nat} (hx : p.tables.exec = Jvm.exec) (hb : c.code = cc) (hd : decode cc pc = .ok (.ifCond .ne off, 3)) (ht : (pc : Int) + off = (tgt : Int)) (kt : b = true → W p l e R s m args below meth c H locs cells slots Q (F0 m tgt ls rest)) (kf : b = false → W p l e R s m args below meth c H locs cells slots Q (F0 m (pc + 3) ls rest)) : W p l e R s m args below meth c H locs cells slots Q (F0 m pc ls (.int (tB b) :: rest)) :=
  lv_if_ne hx hb hd ht (fun h => kt (by cases b with | true => rfl | false => exact absurd rfl h)) (fun h => kf ((t_b0 b).mp h))
theorem tc_bald {D : va_G} {cl : List vw_C} {tys : List (ClassId × FieldType)} {ws : va_W} {a : Nat} (hx : p.tables.exec = Jvm.exec) (hb : c.code = cc) (hd : decode cc pc = .ok (.baload, 1)) (hK : va_K D cl tys s) (hP : va_P D cl ws H) (q0 t0 : Nat) {cA : ClassId} {n k : Nat} {g : Nat → Nat} (ha : ws[q0]? = some (a, .inl (cA, n, .inl (fun j => nI (g j))))) (ht : tys[t0]? = some (cA, .byte)) (hn : n < 2 ^ 31) (hk : k < n)
    (kk : W p l e R s m args below meth c H locs cells slots Q (F0 m (pc + 1) ls (.int (nI (g k)) :: rest))) : W p l e R s m args below meth c H locs cells slots Q (F0 m pc ls (.int (nI k) :: .ref a :: rest)) := by
  refine va_bald hx hb hK hP q0 t0 ha ht (vp_in_nI hk hn) hd ?_
  rw [nI_clamp (by omega)]
  exact kk
theorem tc_zald {D : va_G} {cl : List vw_C} {tys : List (ClassId × FieldType)} {ws : va_W} {a : Nat} (hx : p.tables.exec = Jvm.exec) (hb : c.code = cc) (hd : decode cc pc = .ok (.baload, 1)) (hK : va_K D cl tys s) (hP : va_P D cl ws H) (q0 t0 : Nat) {cA : ClassId} {n k : Nat} {g : Nat → Bool} (ha : ws[q0]? = some (a, .inl (cA, n, .inl (fun j => tB (g j))))) (ht : tys[t0]? = some (cA, .boolean)) (hn : n < 2 ^ 31) (hk : k < n)
    (kk : W p l e R s m args below meth c H locs cells slots Q (F0 m (pc + 1) ls (.int (tB (g k)) :: rest))) : W p l e R s m args below meth c H locs cells slots Q (F0 m pc ls (.int (nI k) :: .ref a :: rest)) := by
  refine va_zald hx hb hK hP q0 t0 ha ht (vp_in_nI hk hn) hd ?_
  rw [nI_clamp (by omega)]
  exact kk
theorem tc_getX {D : va_G} {dB dZ : ClassId} {a : Nat → Nat} {fs : List Value} {o : Nat} {ws : va_W} (hx : p.tables.exec = Jvm.exec) (hb : c.code = cc) (hts : ∀ w ∈ lw_all, w.before args s = true) (hown : s.vm.findClass RX0 = some m.cls) (hK : tcK D dB dZ s) (hP : va_P D vwCl ws H) (q0 : Nat) (he : ws[q0]? = some (o, .inr (0, fs))) (k : Nat) (hk : k < 6) {index : Nat} {v : Value} (hlink : Cond.fieldLink RX0 index RX0 (TX0 k).2.1 (TX0 k).2.2.1 ∈ lw_all) (hcl : (TX0 k).1 = RX0) (hv : fs[k]? = some v) (hd : decode cc pc = .ok (.getfield index, 3))
    (kk : W p l e R s m args below meth c H locs cells slots Q (F0 m (pc + 3) ls (v :: rest))) : W p l e R s m args below meth c H locs cells slots Q (F0 m pc ls (.ref o :: rest)) :=
  va_get (D := D) (ci := 0) (v := v) (C := RX0) (T := TX0) (N := 6) hx hb hts in_X0 hown hK hP q0 he rfl k hk (hts _ hlink) (fun _ h9 => by rw [hcl] at h9; exact h9) hv hd kk
theorem tc_getM {D : va_G} {dB dZ : ClassId} {fs : List Value} {o : Nat} {ws : va_W} (hx : p.tables.exec = Jvm.exec) (hb : c.code = cc) (hts : ∀ w ∈ lw_all, w.before args s = true) (hown : s.vm.findClass RX1 = some m.cls) (hK : tcK D dB dZ s) (hP : va_P D vwCl ws H) (q0 : Nat) (he : ws[q0]? = some (o, .inr (1, fs))) {index : Nat} {v : Value} (hlink : Cond.fieldLink RX1 index RX1 (TX1 0).2.1 (TX1 0).2.2.1 ∈ lw_all) (hv : fs[0]? = some v) (hd : decode cc pc = .ok (.getfield index, 3))
    (kk : W p l e R s m args below meth c H locs cells slots Q (F0 m (pc + 3) ls (v :: rest))) : W p l e R s m args below meth c H locs cells slots Q (F0 m pc ls (.ref o :: rest)) :=
  va_get (D := D) (ci := 1) (v := v) (C := RX1) (T := TX1) (N := 1) hx hb hts in_X1 hown hK hP q0 he rfl 0 (by decide) (hts _ hlink) (fun _ h9 => h9) hv hd kk
end TC
end
section
/-! WHAT THE METHODS OF TreeCompare COMPUTE, in plain words over counts (C) and extras (X) -/
def tx_isT (t : Int32) : Bool := decide (t = 0 ∨ t = nI 1)
def tx_isM (t : Int32) : Bool := decide (¬ t < 0 ∧ ¬ nI 7 ≤ t)
def tx_ev (g : Nat) : Bool := decide (g = 127 ∨ tc_pop g = 1)
def tx_go (g h : Nat) : Bool := decide (g &&& h = 0 ∨ g &&& h = g ∨ g &&& h = h)
def tx_first (p : Nat → Bool) : Nat → Option Nat
  | 0 => none
  | n + 1 => match tx_first p n with
    | some k => some k
    | none => if p n = true then some n else none
theorem tx_first_none {p : Nat → Bool} {n : Nat} : tx_first p n = none ↔ ∀ k, k < n → p k = false := by
  induction n with
  | zero => simp [tx_first]
  | succ n ih =>
    simp only [tx_first]
    constructor
    · intro h k hk
      cases hq : tx_first p n with
      | some j => rw [hq] at h; simp at h
      | none =>
        rw [hq] at h
        rcases Nat.lt_or_ge k n with q | q
        · exact ih.mp hq k q
        · rw [show k = n by omega]
          cases hp : p n with
          | false => rfl
          | true => simp [hp] at h
    · intro h
      rw [ih.mpr (fun k hk => h k (by omega)), h n (by omega)]
      rfl
theorem tx_first_some {p : Nat → Bool} {n k : Nat} : tx_first p n = some k ↔ k < n ∧ p k = true ∧ ∀ j, j < k → p j = false := by
  induction n with
  | zero => simp [tx_first]
  | succ n ih =>
    simp only [tx_first]
    cases hq : tx_first p n with
    | some j =>
      have h1 : tx_first p n = some k ↔ j = k := by rw [hq]; simp
      have h2 := ih
      rw [hq] at h2
      constructor
      · intro h
        obtain ⟨a, b, c⟩ := h2.mp h
        exact ⟨by omega, b, c⟩
      · rintro ⟨a, b, c⟩
        rcases Nat.lt_or_ge k n with q | q
        · exact h2.mpr ⟨q, b, c⟩
        · exfalso
          have hj : tx_first p n = none := tx_first_none.mpr (fun i hi => c i (by omega))
          rw [hq] at hj
          cases hj
    | none =>
      have hn := tx_first_none.mp hq
      constructor
      · intro h
        cases hp : p n with
        | false => simp [hp] at h
        | true =>
          have : n = k := by simpa [hp] using h
          subst this
          exact ⟨by omega, hp, hn⟩
      · rintro ⟨a, b, c⟩
        rcases Nat.lt_or_ge k n with q | q
        · rw [hn k q] at b; cases b
        · have : k = n := by omega
          subst this
          simp [b]
def tx_find (C X : Nat → Nat) (t : Nat) (g : Int32) : Int32 := match tx_first (fun k => decide (nI (X (t * 5 + k)) = g)) (C t) with
  | none => -1
  | some k => nI k
def tx_in (C X : Nat → Nat) (t g : Nat) : Bool := tc_any (fun k => decide (X (t * 5 + k) = g)) (C t)
def tx_has (C X : Nat → Nat) (t g : Nat) : Bool := tx_ev g || tx_in C X t g
def tx_can (C X : Nat → Nat) (t g : Nat) : Bool := tc_all (fun k => tx_go g (X (t * 5 + k))) (C t)
def tx_jstep (X : Nat → Nat) (t w k least : Nat) : Nat := if tc_dif w (X (t * 5 + k)) = 0 ∧ tc_pop (X (t * 5 + k)) < tc_pop least then X (t * 5 + k) else least
def tx_join (C X : Nat → Nat) (t w : Nat) : Nat := if w = 0 ∨ tc_pop w = 1 then w else tc_fold (tx_jstep X t w) 127 (C t)
def tx_last (C X : Nat → Nat) (t a b c : Nat) : Nat := if (tx_join C X t (1 <<< a ||| 1 <<< b) >>> c) &&& 1 = 0 then 2 else if (tx_join C X t (1 <<< a ||| 1 <<< c) >>> b) &&& 1 = 0 then 1 else if (tx_join C X t (1 <<< b ||| 1 <<< c) >>> a) &&& 1 = 0 then 0 else 3
def tx_dec (C X : Nat → Nat) (t : Nat) : Nat := tc_sum (fun i => if i / 49 < i / 7 % 7 ∧ i / 7 % 7 < i % 7 ∧ ¬ tx_last C X t (i / 49) (i / 7 % 7) (i % 7) = 3 then 1 else 0) 343
def tx_conf (C X : Nat → Nat) (w : Nat) : Nat := tc_sum (fun i => if ¬ ((w >>> (i / 49)) &&& (w >>> (i / 7 % 7))) &&& (w >>> (i % 7)) &&& 1 = 0 ∧ i / 49 < i / 7 % 7 ∧ i / 7 % 7 < i % 7 ∧ ¬ tx_last C X 0 (i / 49) (i / 7 % 7) (i % 7) = tx_last C X 1 (i / 49) (i / 7 % 7) (i % 7) then 1 else 0) 343
def tx_common (C X : Nat → Nat) : Nat := tc_fold (fun k n => n + (if tx_in C X 1 (X k) = true then 1 else 0)) 8 (C 0)
def tx_tog (C X : Nat → Nat) : Bool := tc_all (fun k => tx_can C X 1 (X k)) (C 0)
def tx_depth (C X : Nat → Nat) (t m : Nat) : Nat := tc_fold (fun k n => n + ((X (t * 5 + k) >>> m) &&& 1)) 2 (C t)
def tx_room (C X : Nat → Nat) (t : Nat) : Nat := tc_sum (fun i => if tx_has C X t (i + 1) = false ∧ tx_can C X t (i + 1) = true then 1 else 0) 127
theorem tc_r1 {b : Bool} (h : b = true) : nI 1 = tB b := by rw [h]; rfl
theorem tc_r0 {b : Bool} (h : b = false) : nI 0 = tB b := by rw [h]; rfl
theorem tc_all_false {p : Nat → Bool} {n i : Nat} (hi : i < n) (h : p i = false) : tc_all p n = false := by
  cases hq : tc_all p n with
  | false => rfl
  | true => rw [tc_all_iff.mp hq i hi] at h; cases h
theorem tc_all_s {p : Nat → Bool} {i : Nat} (h : tc_all p i = true) (hi : p i = true) : tc_all p (i + 1) = true := by simp [tc_all, h, hi]
theorem tc_shl_lt {k : Nat} (h : k < 32) : 1 <<< k < 2 ^ 32 := by
  rw [Nat.shiftLeft_eq, Nat.one_mul]
  exact Nat.lt_of_lt_of_le (Nat.pow_lt_pow_right (by decide) h) (by decide)
theorem tc_shl2_lt {a b : Nat} (ha : a < 7) (hb : b < 7) : 1 <<< a ||| 1 <<< b < 128 := by
  have h1 : 1 <<< a < 2 ^ 7 := by rw [Nat.shiftLeft_eq, Nat.one_mul]; exact Nat.pow_lt_pow_right (by decide) ha
  have h2 : 1 <<< b < 2 ^ 7 := by rw [Nat.shiftLeft_eq, Nat.one_mul]; exact Nat.pow_lt_pow_right (by decide) hb
  exact Nat.or_lt_two_pow h1 h2
theorem tx_fold_lt {X : Nat → Nat} (hX : ∀ j, X j < 128) (t w n : Nat) : tc_fold (tx_jstep X t w) 127 n < 128 := by
  induction n with
  | zero => exact Nat.lt_succ_self _
  | succ n ih =>
    show tx_jstep X t w n _ < 128
    unfold tx_jstep
    split
    · exact hX _
    · exact ih
theorem tx_join_lt {C X : Nat → Nat} (hX : ∀ j, X j < 128) (t : Nat) {w : Nat} (hw : w < 128) : tx_join C X t w < 128 := by
  unfold tx_join
  split
  · exact hw
  · exact tx_fold_lt hX t w _
theorem tx_last_le (C X : Nat → Nat) (t a b c : Nat) : tx_last C X t a b c ≤ 3 := by
  unfold tx_last
  split
  · omega
  · split
    · omega
    · split <;> omega
theorem tx_isT_n {t : Nat} (h : t < 2) : tx_isT (nI t) = true := by
  rcases (show t = 0 ∨ t = 1 by omega) with rfl | rfl <;> decide
theorem tx_isT_of {t : Int32} (h : tx_isT t = true) : ∃ k : Nat, k < 2 ∧ t = nI k := by
  rcases of_decide_eq_true h with h | h
  · exact ⟨0, by omega, h⟩
  · exact ⟨1, by omega, h⟩
theorem tx_isM_n {t : Nat} (h : t < 7) : tx_isM (nI t) = true := decide_eq_true ⟨nI_pos (by omega), nI_ge h (by omega)⟩
theorem tx_isM_of {t : Int32} (h : tx_isM t = true) : ∃ k : Nat, k < 7 ∧ t = nI k := by
  obtain ⟨h1, h2⟩ := of_decide_eq_true h
  obtain ⟨j, hj, rfl⟩ := nI_of h1
  refine ⟨j, ?_, rfl⟩
  rw [nI_leI (by omega) hj] at h2
  omega
theorem tx_find_neg {C X : Nat → Nat} (hC : ∀ j, C j ≤ 5) (hX : ∀ j, X j < 128) {t g : Nat} (hg : g < 128) : tx_find C X t (nI g) < 0 ↔ tx_in C X t g = false := by
  unfold tx_find tx_in
  cases hq : tx_first (fun k => decide (nI (X (t * 5 + k)) = nI g)) (C t) with
  | none =>
    have h := tx_first_none.mp hq
    constructor
    · intro _
      cases hp : tc_any (fun k => decide (X (t * 5 + k) = g)) (C t) with
      | false => rfl
      | true =>
        obtain ⟨i, hi, he⟩ := tc_any_iff.mp hp
        have h1 := h i hi
        rw [of_decide_eq_true he] at h1
        simp at h1
    · intro _
      show (-1 : Int32) < 0
      decide
  | some k =>
    obtain ⟨h1, h2, h3⟩ := tx_first_some.mp hq
    have hb := hC t
    constructor
    · intro h
      exact absurd h (nI_pos (by omega))
    · intro h
      exfalso
      have h4 := of_decide_eq_true h2
      have h5 := hX (t * 5 + k)
      rw [nI_eq (by omega) (by omega)] at h4
      have : tc_any (fun k => decide (X (t * 5 + k) = g)) (C t) = true := tc_any_iff.mpr ⟨k, h1, decide_eq_true h4⟩
      rw [h] at this
      cases this
theorem tx_jstep_pos {X : Nat → Nat} {t w k least : Nat} (h1 : tc_dif w (X (t * 5 + k)) = 0) (h2 : tc_pop (X (t * 5 + k)) < tc_pop least) : X (t * 5 + k) = tx_jstep X t w k least := by unfold tx_jstep; rw [if_pos ⟨h1, h2⟩]
theorem tx_jstep_neg1 {X : Nat → Nat} {t w k least : Nat} (h1 : ¬ tc_dif w (X (t * 5 + k)) = 0) : least = tx_jstep X t w k least := by unfold tx_jstep; rw [if_neg (fun h => h1 h.1)]
theorem tx_jstep_neg2 {X : Nat → Nat} {t w k least : Nat} (h2 : tc_pop least ≤ tc_pop (X (t * 5 + k))) : least = tx_jstep X t w k least := by unfold tx_jstep; rw [if_neg (fun h => absurd h.2 (by omega))]
def tx_pp (N : Nat → Nat) (t k l i : Nat) : Bool := decide (i = k ∨ i = l ∨ ¬ tc_dif (N (t * 13 + l)) (N (t * 13 + i)) = 0 ∨ ¬ tc_dif (N (t * 13 + i)) (N (t * 13 + k)) = 0)
def tx_part (N K : Nat → Nat) (t k l : Nat) : Bool := decide (¬ k = l ∧ tc_dif (N (t * 13 + l)) (N (t * 13 + k)) = 0) && tc_all (tx_pp N t k l) (K t)
def tx_gd (C X : Nat → Nat) : Nat := C 0 + C 1 - 2 * (tx_common C X - 7 - 1)
theorem tc_sum_mono {f : Nat → Nat} {n : Nat} (h : ∀ i, i < n → f i ≤ 1) : tc_sum f n ≤ n := by
  have := tc_sum_le (f := f) (n := n) (b := 1) h
  omega
theorem tx_conf_le (C X : Nat → Nat) (w : Nat) : tx_conf C X w ≤ 343 := tc_sum_mono (fun i _ => by split <;> omega)
theorem tc_fold_add (f : Nat → Nat) (a n : Nat) : tc_fold (fun k n => n + f k) a n = a + tc_sum f n := by
  induction n with
  | zero => rfl
  | succ n ih => simp only [tc_fold, tc_sum, ih]; omega
theorem tx_common_eq (C X : Nat → Nat) : tx_common C X = 8 + tc_sum (fun k => if tx_in C X 1 (X k) = true then 1 else 0) (C 0) := tc_fold_add _ _ _
theorem tx_depth_eq (C X : Nat → Nat) (t m : Nat) : tx_depth C X t m = 2 + tc_sum (fun k => (X (t * 5 + k) >>> m) &&& 1) (C t) := tc_fold_add _ _ _
theorem tx_common_le (C X : Nat → Nat) : tx_common C X ≤ 8 + C 0 ∧ 8 ≤ tx_common C X := by
  have : tc_sum (fun k => if tx_in C X 1 (X k) = true then 1 else 0) (C 0) ≤ C 0 := tc_sum_mono (fun i _ => by split <;> omega)
  rw [tx_common_eq]
  omega
end
section
/-! WHAT THE METHODS OF TreeCompareModel COMPUTE, in plain words over has (hs) -/
def tm_cr (g h : Nat) : Bool := decide (¬ g &&& h = 0 ∧ ¬ tc_dif g h = 0 ∧ ¬ tc_dif h g = 0)
def tm_giv (g : Nat) : Bool := decide (tc_pop g = 1 ∨ g = 127)
def tm_fits (hs : Nat → Bool) (t g : Nat) : Bool := tc_all (fun i => !(hs (128 * t + (i + 1)) && tm_cr (i + 1) g)) 127
def tm_groups (hs : Nat → Bool) (t : Nat) : Nat := tc_fold (fun i n => if hs (128 * t + (i + 1)) = true then n + 1 else n) 0 127
def tm_jstep (hs : Nat → Bool) (t w i best : Nat) : Nat := if hs (128 * t + (i + 1)) = true ∧ tc_dif w (i + 1) = 0 ∧ tc_pop (i + 1) < tc_pop best then i + 1 else best
def tm_join (hs : Nat → Bool) (t w : Nat) : Nat := if w = 0 then 0 else tc_fold (tm_jstep hs t w) 127 127
def tm_clo (hs : Nat → Bool) (t a b c i : Nat) : Bool := decide (hs (128 * t + (i + 1)) = true ∧ (i + 1) >>> a &&& 1 = 1 ∧ (i + 1) >>> b &&& 1 = 1 ∧ (i + 1) >>> c &&& 1 = 0)
def tm_closer (hs : Nat → Bool) (t a b c : Nat) : Bool := tc_any (tm_clo hs t a b c) 127
def tm_says (hs : Nat → Bool) (t a b c : Nat) : Nat := if tm_closer hs t b c a = true then 0 else if tm_closer hs t a c b = true then 1 else if tm_closer hs t a b c = true then 2 else 3
def tm_abs (w : Nat) (i : Nat) (v : Int32 × Int32 × Int32) : Int32 × Int32 × Int32 := if w >>> i &&& 1 = 1 then (v.2.1, v.2.2, nI i) else v
def tm_ab (w : Nat) (n : Nat) : Int32 × Int32 × Int32 := tc_fold (tm_abs w) (-1, -1, -1) n
def tm_1 (w : Nat) : Nat := (tm_ab w 7).1.toNatClampNeg
def tm_2 (w : Nat) : Nat := (tm_ab w 7).2.1.toNatClampNeg
def tm_3 (w : Nat) : Nat := (tm_ab w 7).2.2.toNatClampNeg
theorem tm_ab_spec : ∀ w, w < 128 → tc_pop w = 3 → tm_ab w 7 = (nI (tm_1 w), nI (tm_2 w), nI (tm_3 w)) ∧ tm_1 w < tm_2 w ∧ tm_2 w < tm_3 w ∧ tm_3 w < 7 := by decide +kernel
def tm_about (hs : Nat → Bool) (t w : Nat) : Nat := tm_says hs t (tm_1 w) (tm_2 w) (tm_3 w)
def tm_dec (hs : Nat → Bool) (t : Nat) : Nat := tc_fold (fun i n => if tc_pop i = 3 ∧ ¬ tm_about hs t i = 3 then n + 1 else n) 0 128
def tm_gd (hs : Nat → Bool) : Nat := tc_fold (fun i n => if hs (i + 1) = hs (128 + (i + 1)) then n else n + 1) 0 127
def tm_td (hs : Nat → Bool) : Nat := tc_fold (fun i n => if tc_pop i = 3 ∧ ¬ tm_about hs 0 i = tm_about hs 1 i then n + 1 else n) 0 128
def tm_ag (hs : Nat → Bool) (w i : Nat) : Bool := decide (¬ tc_dif i w = 0 ∨ ¬ tc_pop i = 3 ∨ tm_about hs 0 i = tm_about hs 1 i)
def tm_agree (hs : Nat → Bool) (w : Nat) : Bool := tc_all (tm_ag hs w) 128
def tm_agrs (hs : Nat → Bool) (i most : Nat) : Nat := if most < tc_pop i ∧ tm_agree hs i = true then tc_pop i else most
def tm_agr (hs : Nat → Bool) : Nat := tc_fold (tm_agrs hs) 0 128
def tm_aset (hs : Nat → Bool) : Nat := match tx_first (fun i => decide (tc_pop i = tm_agr hs ∧ tm_agree hs i = true)) 128 with
  | some k => k
  | none => 0
def tm_tog (hs : Nat → Bool) : Bool := tc_all (fun i => !hs (128 + (i + 1)) || tm_fits hs 0 (i + 1)) 127
def tm_com (hs : Nat → Bool) : Nat := tc_fold (fun i n => if hs (i + 1) = true ∧ hs (128 + (i + 1)) = true then n + 1 else n) 0 127
def tm_dep (hs : Nat → Bool) (t m : Nat) : Nat := tc_fold (fun i n => if hs (128 * t + (i + 1)) = true ∧ (i + 1) >>> m &&& 1 = 1 then n + 1 else n) 0 127
def tm_room (hs : Nat → Bool) (t : Nat) : Nat := tc_fold (fun i n => if hs (128 * t + (i + 1)) = false ∧ tm_fits hs t (i + 1) = true then n + 1 else n) 0 127
theorem tm_says_le (hs : Nat → Bool) (t a b c : Nat) : tm_says hs t a b c ≤ 3 := by
  unfold tm_says
  split
  · omega
  · split
    · omega
    · split <;> omega
theorem tm_about_le (hs : Nat → Bool) (t w : Nat) : tm_about hs t w ≤ 3 := tm_says_le _ _ _ _ _
theorem tm_jf_lt (hs : Nat → Bool) (t w n : Nat) (hn : n ≤ 127) : tc_fold (tm_jstep hs t w) 127 n < 128 := by
  induction n with
  | zero => exact Nat.lt_succ_self _
  | succ n ih =>
    show tm_jstep hs t w n _ < 128
    unfold tm_jstep
    split
    · omega
    · exact ih (by omega)
theorem tm_agr_le (hs : Nat → Bool) (n : Nat) : tc_fold (tm_agrs hs) 0 n ≤ 7 := by
  induction n with
  | zero => exact Nat.zero_le _
  | succ n ih =>
    show tm_agrs hs n _ ≤ 7
    unfold tm_agrs
    split
    · exact tc_pop_le n
    · exact ih
theorem tm_mem6 {t : Int32} : nI 6 < t ↔ nI 7 ≤ t := by
  rw [Int32.lt_iff_toInt_lt, Int32.le_iff_toInt_le]
  rw [nI_toInt (by omega), nI_toInt (by omega)]
  omega
end
section
theorem tx_first_s {p : Nat → Bool} {i : Nat} (h : tx_first p i = none) (hi : p i = false) : tx_first p (i + 1) = none := by simp [tx_first, h, hi]
theorem tx_find_at {C X : Nat → Nat} {t i : Nat} {g : Int32} (hi : i < C t) (h : tx_first (fun k => decide (nI (X (t * 5 + k)) = g)) i = none) (he : nI (X (t * 5 + i)) = g) : tx_find C X t g = nI i := by
  have : tx_first (fun k => decide (nI (X (t * 5 + k)) = g)) (C t) = some i := tx_first_some.mpr ⟨hi, decide_eq_true he, tx_first_none.mp h⟩
  unfold tx_find
  rw [this]
theorem tx_find_no {C X : Nat → Nat} {t : Nat} {g : Int32} (h : tx_first (fun k => decide (nI (X (t * 5 + k)) = g)) (C t) = none) : tx_find C X t g = -1 := by
  unfold tx_find
  rw [h]
theorem tx_has_1 {C X : Nat → Nat} (hC : ∀ j, C j ≤ 5) (hX : ∀ j, X j < 128) {t g : Nat} (hg : g < 128) (h : ¬ tx_find C X t (nI g) < 0) : tx_has C X t g = true := by
  rw [tx_find_neg hC hX hg] at h
  simp [tx_has, h]
theorem tx_has_0 {C X : Nat → Nat} (hC : ∀ j, C j ≤ 5) (hX : ∀ j, X j < 128) {t g : Nat} (hg : g < 128) (h0 : tx_ev g = false) (h : tx_find C X t (nI g) < 0) : tx_has C X t g = false := by
  rw [tx_find_neg hC hX hg] at h
  simp [tx_has, h, h0]
theorem tx_in_1 {C X : Nat → Nat} (hC : ∀ j, C j ≤ 5) (hX : ∀ j, X j < 128) {t g : Nat} (hg : g < 128) (h : ¬ tx_find C X t (nI g) < 0) : 1 = (if tx_in C X t g = true then 1 else 0) := by
  rw [tx_find_neg hC hX hg] at h
  simp [h]
theorem tx_in_0 {C X : Nat → Nat} (hC : ∀ j, C j ≤ 5) (hX : ∀ j, X j < 128) {t g : Nat} (hg : g < 128) (h : tx_find C X t (nI g) < 0) : 0 = (if tx_in C X t g = true then 1 else 0) := by
  rw [tx_find_neg hC hX hg] at h
  simp [h]
theorem tx_pp_1 {N : Nat → Nat} {t k l i : Nat} (h : i = k) : tx_pp N t k l i = true := decide_eq_true (Or.inl h)
theorem tx_pp_2 {N : Nat → Nat} {t k l i : Nat} (h : i = l) : tx_pp N t k l i = true := decide_eq_true (Or.inr (Or.inl h))
theorem tx_pp_3 {N : Nat → Nat} {t k l i : Nat} (h : ¬ tc_dif (N (t * 13 + l)) (N (t * 13 + i)) = 0) : tx_pp N t k l i = true := decide_eq_true (Or.inr (Or.inr (Or.inl h)))
theorem tx_pp_4 {N : Nat → Nat} {t k l i : Nat} (h : ¬ tc_dif (N (t * 13 + i)) (N (t * 13 + k)) = 0) : tx_pp N t k l i = true := decide_eq_true (Or.inr (Or.inr (Or.inr h)))
theorem tx_part_e {N K : Nat → Nat} {t k l : Nat} (h : k = l) : tx_part N K t k l = false := by simp [tx_part, h]
theorem tx_part_d {N K : Nat → Nat} {t k l : Nat} (h : ¬ tc_dif (N (t * 13 + l)) (N (t * 13 + k)) = 0) : tx_part N K t k l = false := by simp [tx_part, h]
theorem tx_part_1 {N K : Nat → Nat} {t k l : Nat} (h0 : ¬ k = l) (h : tc_dif (N (t * 13 + l)) (N (t * 13 + k)) = 0) (h2 : tc_all (tx_pp N t k l) (K t) = true) : tx_part N K t k l = true := by simp [tx_part, h, h0, h2]
theorem tx_part_0 {N K : Nat → Nat} {t k l i : Nat} (hi : i < K t) (h1 : ¬ i = k) (h2 : ¬ i = l) (h3 : tc_dif (N (t * 13 + l)) (N (t * 13 + i)) = 0) (h4 : tc_dif (N (t * 13 + i)) (N (t * 13 + k)) = 0) : tx_part N K t k l = false := by
  have : tc_all (tx_pp N t k l) (K t) = false := tc_all_false hi (decide_eq_false (fun h => by rcases h with h | h | h | h <;> contradiction))
  simp [tx_part, this]
set_option maxHeartbeats 4000000 in
set_option maxRecDepth 100000 in
/-- isTree -/
theorem ro_X0_isTree (l : Launch) (D : va_G) (dB dZ : ClassId) (H : Heap) (t : Int32) : Ro l yX0_isTree cX0_isTree 1 (some .boolean) 0 0 [.int t] H D dB dZ ((tB (tx_isT t))) := by
  refine Ro.ofW (by decide) (Nat.le_of_ble_eq_true rfl) (fun p e s m below meth c hx hb hr hlocks hml hown hts hK ls hl => ?_)
  have hl : lv_has ls 1 [(0, .int t)] := hl
  refine lv_iload_n hx hb dX0_isTree_0 rfl (lv_at hl 0 rfl) ?_
  refine lv_if_eq (tgt := 9) hx hb dX0_isTree_1 (by decide) (fun c_1 => ?_) (fun c_1 => ?_)
  · refine lv_iconst (v := nI 1) hx hb dX0_isTree_9 (by decide) ?_
    refine lv_goto (tgt := 14) hx hb dX0_isTree_10 (by decide) ?_
    exact ro_ret hx hb hr hlocks dX0_isTree_14 rfl (tc_r1 (by first | (simp [tx_isT, c_1]; done) | grind [tx_isT]))
  · refine lv_iload_n hx hb dX0_isTree_4 rfl (lv_at hl 0 rfl) ?_
    refine lv_iconst (v := nI 1) hx hb dX0_isTree_5 (by decide) ?_
    refine lv_icmp_ne (tgt := 13) hx hb dX0_isTree_6 (by decide) (fun c_2 => ?_) (fun c_2 => ?_)
    · refine lv_iconst (v := nI 0) hx hb dX0_isTree_13 (by decide) ?_
      exact ro_ret hx hb hr hlocks dX0_isTree_14 rfl (tc_r0 (by first | (simp [tx_isT, c_1, c_2]; done) | grind [tx_isT]))
    · refine lv_iconst (v := nI 1) hx hb dX0_isTree_9 (by decide) ?_
      refine lv_goto (tgt := 14) hx hb dX0_isTree_10 (by decide) ?_
      exact ro_ret hx hb hr hlocks dX0_isTree_14 rfl (tc_r1 (by first | (simp [tx_isT, c_1, c_2]; done) | grind [tx_isT]))
set_option maxHeartbeats 4000000 in
set_option maxRecDepth 100000 in
/-- isMember -/
theorem ro_X0_isMember (l : Launch) (D : va_G) (dB dZ : ClassId) (H : Heap) (t : Int32) : Ro l yX0_isMember cX0_isMember 1 (some .boolean) 0 0 [.int t] H D dB dZ ((tB (tx_isM t))) := by
  refine Ro.ofW (by decide) (Nat.le_of_ble_eq_true rfl) (fun p e s m below meth c hx hb hr hlocks hml hown hts hK ls hl => ?_)
  have hl : lv_has ls 1 [(0, .int t)] := hl
  refine lv_iload_n hx hb dX0_isMember_0 rfl (lv_at hl 0 rfl) ?_
  refine lv_if_lt (tgt := 14) hx hb dX0_isMember_1 (by decide) (fun c_1 => ?_) (fun c_1 => ?_)
  · refine lv_iconst (v := nI 0) hx hb dX0_isMember_14 (by decide) ?_
    exact ro_ret hx hb hr hlocks dX0_isMember_15 rfl (tc_r0 (by first | (simp [tx_isM, c_1]; done) | grind [tx_isM]))
  · refine lv_iload_n hx hb dX0_isMember_4 rfl (lv_at hl 0 rfl) ?_
    refine lv_bipush (v := nI 7) hx hb dX0_isMember_5 (by decide) ?_
    refine lv_icmp_ge (tgt := 14) hx hb dX0_isMember_7 (by decide) (fun c_2 => ?_) (fun c_2 => ?_)
    · refine lv_iconst (v := nI 0) hx hb dX0_isMember_14 (by decide) ?_
      exact ro_ret hx hb hr hlocks dX0_isMember_15 rfl (tc_r0 (by first | (simp [tx_isM, c_1, c_2]; done) | grind [tx_isM]))
    · refine lv_iconst (v := nI 1) hx hb dX0_isMember_10 (by decide) ?_
      refine lv_goto (tgt := 15) hx hb dX0_isMember_11 (by decide) ?_
      exact ro_ret hx hb hr hlocks dX0_isMember_15 rfl (tc_r1 (by first | (simp [tx_isM, c_1, c_2]; done) | grind [tx_isM]))
set_option maxHeartbeats 4000000 in
set_option maxRecDepth 100000 in
/-- ones: the bits of a set -/
theorem ro_X0_ones (l : Launch) (D : va_G) (dB dZ : ClassId) (H : Heap) (w : Nat) (hw : w < 128) : Ro l yX0_ones cX0_ones 3 (some .int) 0 0 [.int (nI w)] H D dB dZ ((nI (tc_pop w))) := by
  refine Ro.ofW (by decide) (Nat.le_of_ble_eq_true rfl) (fun p e s m below meth c hx hb hr hlocks hml hown hts hK ls hl => ?_)
  have hl : lv_has ls 3 [(0, .int (nI w))] := hl
  refine lv_iconst (v := nI 0) hx hb dX0_ones_0 (by decide) ?_
  refine lv_istore_n (lv' := [(1, .int (nI 0)), (0, .int (nI w))]) hx hb dX0_ones_1 rfl hl (by decide) rfl (fun ls hl => ?_)
  refine lv_iconst (v := nI 0) hx hb dX0_ones_2 (by decide) ?_
  refine lv_istore_n (lv' := [(2, .int (nI 0)), (1, .int (nI 0)), (0, .int (nI w))]) hx hb dX0_ones_3 rfl hl (by decide) rfl (fun ls hl => ?_)
  refine tc_for (nL := 3) 7 (fun _ => True) (fun i => [(2, .int (nI i)), (1, .int (nI (tc_sum (fun m => (w >>> m) &&& 1) i))), (0, .int (nI w))]) (trivial) (lv_sub hl [0, 1, 2] rfl) (fun i hi_i hv_1 ih_1 ls hl => ?_) (fun hv_1 ls hl => ?_)
  · have hl : lv_has ls 3 [(2, .int (nI i)), (1, .int (nI (tc_sum (fun m => (w >>> m) &&& 1) i))), (0, .int (nI w))] := hl
    refine lv_iload_n hx hb dX0_ones_4 rfl (lv_at hl 0 rfl) ?_
    refine lv_bipush (v := nI 7) hx hb dX0_ones_5 (by decide) ?_
    refine tc_ge (tgt := 24) hx hb dX0_ones_7 (by decide) (by omega) (by omega) (fun c_ => absurd c_ (by omega)) (fun _ => ?_)
    refine lv_iload_n hx hb dX0_ones_10 rfl (lv_at hl 1 rfl) ?_
    refine lv_iload_n hx hb dX0_ones_11 rfl (lv_at hl 2 rfl) ?_
    refine lv_iload_n hx hb dX0_ones_12 rfl (lv_at hl 0 rfl) ?_
    refine tc_ishr hx hb dX0_ones_13 (by omega) (by omega) ?_
    refine lv_iconst (v := nI 1) hx hb dX0_ones_14 (by decide) ?_
    refine tc_iand hx hb dX0_ones_15 ?_
    have hv_2 : (w >>> i) &&& 1 ≤ 1 := Nat.and_le_right
    refine tc_iadd hx hb dX0_ones_16 ?_
    refine lv_istore_n (lv' := [(1, .int (nI ((tc_sum (fun m => (w >>> m) &&& 1) i) + ((w >>> i) &&& 1)))), (2, .int (nI i)), (0, .int (nI w))]) hx hb dX0_ones_17 rfl hl (by decide) rfl (fun ls hl => ?_)
    refine lv_iinc (v := nI (i + 1)) (lv' := [(2, .int (nI (i + 1))), (1, .int (nI ((tc_sum (fun m => (w >>> m) &&& 1) i) + ((w >>> i) &&& 1)))), (0, .int (nI w))]) hx hb dX0_ones_18 hl (k := 1) rfl (t_inc _) (by decide) rfl (fun ls hl => ?_)
    refine lv_goto (tgt := 4) hx hb dX0_ones_21 (by decide) ?_
    exact ih_1 ls (trivial) (lv_sub hl [0, 1, 2] rfl)
  · have hl : lv_has ls 3 [(2, .int (nI 7)), (1, .int (nI (tc_sum (fun m => (w >>> m) &&& 1) 7))), (0, .int (nI w))] := hl
    refine lv_iload_n hx hb dX0_ones_4 rfl (lv_at hl 0 rfl) ?_
    refine lv_bipush (v := nI 7) hx hb dX0_ones_5 (by decide) ?_
    refine tc_ge (tgt := 24) hx hb dX0_ones_7 (by decide) (by omega) (by omega) (fun _ => ?_) (fun c_ => absurd c_ (by omega))
    refine lv_iload_n hx hb dX0_ones_24 rfl (lv_at hl 1 rfl) ?_
    exact ro_ret hx hb hr hlocks dX0_ones_25 rfl (rfl)
set_option maxHeartbeats 4000000 in
set_option maxRecDepth 100000 in
/-- everyTreeHas -/
theorem ro_X0_everyTreeHas (l : Launch) (D : va_G) (dB dZ : ClassId) (H : Heap) (g : Nat) (hg : g < 128) : Ro l yX0_everyTreeHas cX0_everyTreeHas 1 (some .boolean) 1 22 [.int (nI g)] H D dB dZ ((tB (tx_ev g))) := by
  refine Ro.ofW (by decide) (Nat.le_of_ble_eq_true rfl) (fun p e s m below meth c hx hb hr hlocks hml hown hts hK ls hl => ?_)
  have hl : lv_has ls 1 [(0, .int (nI g))] := hl
  refine lv_iload_n hx hb dX0_everyTreeHas_0 rfl (lv_at hl 0 rfl) ?_
  refine lv_bipush (v := nI 127) hx hb dX0_everyTreeHas_1 (by decide) ?_
  refine tc_eq (tgt := 14) hx hb dX0_everyTreeHas_3 (by decide) (by omega) (by omega) (fun c_1 => ?_) (fun c_1 => ?_)
  · refine lv_iconst (v := nI 1) hx hb dX0_everyTreeHas_14 (by decide) ?_
    refine lv_goto (tgt := 19) hx hb dX0_everyTreeHas_15 (by decide) ?_
    exact ro_ret hx hb hr hlocks dX0_everyTreeHas_19 rfl (tc_r1 (by first | (simp [tx_ev, c_1]; done) | grind [tx_ev]))
  · refine lv_iload_n hx hb dX0_everyTreeHas_6 rfl (lv_at hl 0 rfl) ?_
    refine ro_callS (As := [.int (nI g)]) (rest := []) ⟨hx, hb, hml, hown, hts⟩ hK (ro_X0_ones l D dB dZ H g (by omega)) (va_cwS 1 hts (lw_S q72 q73 q21 q74) rfl rfl rfl (by decide +kernel) ⟨Nat.le_of_ble_eq_true rfl, Nat.le_of_ble_eq_true rfl⟩) rfl hl.1 rfl (Nat.le_of_ble_eq_true rfl) dX0_everyTreeHas_7 ⟨Nat.le_of_ble_eq_true rfl, Nat.le_of_ble_eq_true rfl⟩ ?_
    have hv_2 := tc_pop_le g
    refine lv_iconst (v := nI 1) hx hb dX0_everyTreeHas_10 (by decide) ?_
    refine tc_ne (tgt := 18) hx hb dX0_everyTreeHas_11 (by decide) (by omega) (by omega) (fun c_3 => ?_) (fun c_3 => ?_)
    · refine lv_iconst (v := nI 0) hx hb dX0_everyTreeHas_18 (by decide) ?_
      exact ro_ret hx hb hr hlocks dX0_everyTreeHas_19 rfl (tc_r0 (by first | (simp [tx_ev, c_1, c_3]; done) | grind [tx_ev]))
    · refine lv_iconst (v := nI 1) hx hb dX0_everyTreeHas_14 (by decide) ?_
      refine lv_goto (tgt := 19) hx hb dX0_everyTreeHas_15 (by decide) ?_
      exact ro_ret hx hb hr hlocks dX0_everyTreeHas_19 rfl (tc_r1 (by first | (simp [tx_ev, c_1, c_3]; done) | grind [tx_ev]))
set_option maxHeartbeats 4000000 in
set_option maxRecDepth 100000 in
/-- goTogether -/
theorem ro_X0_goTogether (l : Launch) (D : va_G) (dB dZ : ClassId) (H : Heap) (g h : Nat) (hg : g < 128) (hh : h < 128) : Ro l yX0_goTogether cX0_goTogether 3 (some .boolean) 0 0 [.int (nI g), .int (nI h)] H D dB dZ ((tB (tx_go g h))) := by
  refine Ro.ofW (by decide) (Nat.le_of_ble_eq_true rfl) (fun p e s m below meth c hx hb hr hlocks hml hown hts hK ls hl => ?_)
  have hl : lv_has ls 3 [(0, .int (nI g)), (1, .int (nI h))] := hl
  have hgh : g &&& h ≤ g := Nat.and_le_left
  refine lv_iload_n hx hb dX0_goTogether_0 rfl (lv_at hl 0 rfl) ?_
  refine lv_iload_n hx hb dX0_goTogether_1 rfl (lv_at hl 1 rfl) ?_
  refine tc_iand hx hb dX0_goTogether_2 ?_
  have hv_1 : g &&& h ≤ g := Nat.and_le_left
  refine lv_istore_n (lv' := [(2, .int (nI (g &&& h))), (0, .int (nI g)), (1, .int (nI h))]) hx hb dX0_goTogether_3 rfl hl (by decide) rfl (fun ls hl => ?_)
  refine lv_iload_n hx hb dX0_goTogether_4 rfl (lv_at hl 0 rfl) ?_
  refine tc_eq0 (tgt := 18) hx hb dX0_goTogether_5 (by decide) (by omega) (fun c_2 => ?_) (fun c_2 => ?_)
  · refine lv_iconst (v := nI 1) hx hb dX0_goTogether_18 (by decide) ?_
    refine lv_goto (tgt := 23) hx hb dX0_goTogether_19 (by decide) ?_
    exact ro_ret hx hb hr hlocks dX0_goTogether_23 rfl (tc_r1 (by first | (simp [tx_go, c_2]; done) | grind [tx_go]))
  · refine lv_iload_n hx hb dX0_goTogether_8 rfl (lv_at hl 0 rfl) ?_
    refine lv_iload_n hx hb dX0_goTogether_9 rfl (lv_at hl 1 rfl) ?_
    refine tc_eq (tgt := 18) hx hb dX0_goTogether_10 (by decide) (by omega) (by omega) (fun c_3 => ?_) (fun c_3 => ?_)
    · refine lv_iconst (v := nI 1) hx hb dX0_goTogether_18 (by decide) ?_
      refine lv_goto (tgt := 23) hx hb dX0_goTogether_19 (by decide) ?_
      exact ro_ret hx hb hr hlocks dX0_goTogether_23 rfl (tc_r1 (by first | (simp [tx_go, c_2, c_3]; done) | grind [tx_go]))
    · refine lv_iload_n hx hb dX0_goTogether_13 rfl (lv_at hl 0 rfl) ?_
      refine lv_iload_n hx hb dX0_goTogether_14 rfl (lv_at hl 2 rfl) ?_
      refine tc_ne (tgt := 22) hx hb dX0_goTogether_15 (by decide) (by omega) (by omega) (fun c_4 => ?_) (fun c_4 => ?_)
      · refine lv_iconst (v := nI 0) hx hb dX0_goTogether_22 (by decide) ?_
        exact ro_ret hx hb hr hlocks dX0_goTogether_23 rfl (tc_r0 (by first | (simp [tx_go, c_2, c_3, c_4]; done) | grind [tx_go]))
      · refine lv_iconst (v := nI 1) hx hb dX0_goTogether_18 (by decide) ?_
        refine lv_goto (tgt := 23) hx hb dX0_goTogether_19 (by decide) ?_
        exact ro_ret hx hb hr hlocks dX0_goTogether_23 rfl (tc_r1 (by first | (simp [tx_go, c_2, c_3, c_4]; done) | grind [tx_go]))
set_option maxHeartbeats 4000000 in
set_option maxRecDepth 100000 in
/-- find: the place of an extra group, or -1 -/
theorem ro_X0_find (l : Launch) (D : va_G) (dB dZ : ClassId) (H : Heap) (a C X N K B M : Nat → Nat) (hP : va_P D vwCl (wX a dB C X N K B M) H) (hC : ∀ j, C j ≤ 5) (hX : ∀ j, X j < 128) (t : Nat) (ht : t < 2) (g : Int32) : Ro l yX0_find cX0_find 4 (some .int) 0 0 [.ref (a 0), .int (nI t), .int g] H D dB dZ ((tx_find C X t g)) := by
  refine Ro.ofW (by decide) (Nat.le_of_ble_eq_true rfl) (fun p e s m below meth c hx hb hr hlocks hml hown hts hK ls hl => ?_)
  have hl : lv_has ls 4 [(0, .ref (a 0)), (1, .int (nI t)), (2, .int g)] := hl
  refine lv_iconst (v := nI 0) hx hb dX0_find_0 (by decide) ?_
  refine lv_istore_n (lv' := [(3, .int (nI 0)), (0, .ref (a 0)), (1, .int (nI t)), (2, .int g)]) hx hb dX0_find_1 rfl hl (by decide) rfl (fun ls hl => ?_)
  refine tc_for (nL := 4) (C t) (fun i => tx_first (fun k => decide (nI (X (t * 5 + k)) = g)) i = none) (fun i => [(3, .int (nI i)), (0, .ref (a 0)), (1, .int (nI t)), (2, .int g)]) (rfl) (lv_sub hl [0, 1, 2, 3] rfl) (fun i hi_i hv_1 ih_1 ls hl => ?_) (fun hv_1 ls hl => ?_)
  · have hl : lv_has ls 4 [(3, .int (nI i)), (0, .ref (a 0)), (1, .int (nI t)), (2, .int g)] := hl
    have hct := hC t
    have hv_inv := hv_1
    refine lv_iload_n hx hb dX0_find_2 rfl (lv_at hl 0 rfl) ?_
    refine lv_aload_n hx hb dX0_find_3 rfl (lv_at hl 1 rfl) ?_
    refine tc_getX (a := a) (v := .ref (a 1)) hx hb hts hown hK hP 0 rfl 0 (by decide) q31 rfl rfl dX0_find_4 ?_
    refine lv_iload_n hx hb dX0_find_7 rfl (lv_at hl 2 rfl) ?_
    refine tc_bald (k := t) hx hb dX0_find_8 hK hP 1 0 rfl rfl (by decide) (by omega) ?_
    have hv_2 := hC t
    refine tc_ge (tgt := 34) hx hb dX0_find_9 (by decide) (by omega) (by omega) (fun c_ => absurd c_ (by omega)) (fun _ => ?_)
    refine lv_aload_n hx hb dX0_find_12 rfl (lv_at hl 1 rfl) ?_
    refine tc_getX (a := a) (v := .ref (a 2)) hx hb hts hown hK hP 0 rfl 1 (by decide) q32 rfl rfl dX0_find_13 ?_
    refine lv_iload_n hx hb dX0_find_16 rfl (lv_at hl 2 rfl) ?_
    refine lv_iconst (v := nI 5) hx hb dX0_find_17 (by decide) ?_
    refine tc_imul hx hb dX0_find_18 ?_
    refine lv_iload_n hx hb dX0_find_19 rfl (lv_at hl 0 rfl) ?_
    refine tc_iadd hx hb dX0_find_20 ?_
    refine tc_bald (k := ((t * 5) + i)) hx hb dX0_find_21 hK hP 2 0 rfl rfl (by decide) (by omega) ?_
    have hv_3 := hX ((t * 5) + i)
    refine lv_iload_n hx hb dX0_find_22 rfl (lv_at hl 3 rfl) ?_
    refine lv_icmp_ne (tgt := 28) hx hb dX0_find_23 (by decide) (fun c_4 => ?_) (fun c_4 => ?_)
    · refine lv_iinc (v := nI (i + 1)) (lv' := [(3, .int (nI (i + 1))), (0, .ref (a 0)), (1, .int (nI t)), (2, .int g)]) hx hb dX0_find_28 hl (k := 0) rfl (t_inc _) (by decide) rfl (fun ls hl => ?_)
      refine lv_goto (tgt := 2) hx hb dX0_find_31 (by decide) ?_
      exact ih_1 ls (tx_first_s hv_1 (decide_eq_false c_4)) (lv_sub hl [0, 1, 2, 3] rfl)
    · refine lv_iload_n hx hb dX0_find_26 rfl (lv_at hl 0 rfl) ?_
      exact ro_ret hx hb hr hlocks dX0_find_27 rfl ((tx_find_at hi_i hv_inv c_4).symm)
  · have hl : lv_has ls 4 [(3, .int (nI (C t))), (0, .ref (a 0)), (1, .int (nI t)), (2, .int g)] := hl
    have hct := hC t
    have hv_inv := hv_1
    refine lv_iload_n hx hb dX0_find_2 rfl (lv_at hl 0 rfl) ?_
    refine lv_aload_n hx hb dX0_find_3 rfl (lv_at hl 1 rfl) ?_
    refine tc_getX (a := a) (v := .ref (a 1)) hx hb hts hown hK hP 0 rfl 0 (by decide) q31 rfl rfl dX0_find_4 ?_
    refine lv_iload_n hx hb dX0_find_7 rfl (lv_at hl 2 rfl) ?_
    refine tc_bald (k := t) hx hb dX0_find_8 hK hP 1 0 rfl rfl (by decide) (by omega) ?_
    have hv_5 := hC t
    refine tc_ge (tgt := 34) hx hb dX0_find_9 (by decide) (by omega) (by omega) (fun _ => ?_) (fun c_ => absurd c_ (by omega))
    refine lv_iconst (v := -1) hx hb dX0_find_34 (by decide) ?_
    exact ro_ret hx hb hr hlocks dX0_find_35 rfl ((tx_find_no hv_inv).symm)
set_option maxHeartbeats 4000000 in
set_option maxRecDepth 100000 in
/-- hasGroup -/
theorem ro_X0_hasGroup (l : Launch) (D : va_G) (dB dZ : ClassId) (H : Heap) (a C X N K B M : Nat → Nat) (hP : va_P D vwCl (wX a dB C X N K B M) H) (hC : ∀ j, C j ≤ 5) (hX : ∀ j, X j < 128) (t : Nat) (ht : t < 2) (g : Nat) (hg : g < 128) : Ro l yX0_hasGroup cX0_hasGroup 3 (some .boolean) 2 42 [.ref (a 0), .int (nI t), .int (nI g)] H D dB dZ ((tB (tx_has C X t g))) := by
  refine Ro.ofW (by decide) (Nat.le_of_ble_eq_true rfl) (fun p e s m below meth c hx hb hr hlocks hml hown hts hK ls hl => ?_)
  have hl : lv_has ls 3 [(0, .ref (a 0)), (1, .int (nI t)), (2, .int (nI g))] := hl
  refine lv_iload_n hx hb dX0_hasGroup_0 rfl (lv_at hl 2 rfl) ?_
  refine ro_callS (As := [.int (nI g)]) (rest := []) ⟨hx, hb, hml, hown, hts⟩ hK (ro_X0_everyTreeHas l D dB dZ H g (by omega)) (va_cwS 1 hts (lw_S q69 q70 q21 q71) rfl rfl rfl (by decide +kernel) ⟨Nat.le_of_ble_eq_true rfl, Nat.le_of_ble_eq_true rfl⟩) rfl hl.1 rfl (Nat.le_of_ble_eq_true rfl) dX0_hasGroup_1 ⟨Nat.le_of_ble_eq_true rfl, Nat.le_of_ble_eq_true rfl⟩ ?_
  refine tc_bne (tgt := 16) hx hb dX0_hasGroup_4 (by decide) (fun c_1 => ?_) (fun c_1 => ?_)
  · refine lv_iconst (v := nI 1) hx hb dX0_hasGroup_16 (by decide) ?_
    refine lv_goto (tgt := 21) hx hb dX0_hasGroup_17 (by decide) ?_
    exact ro_ret hx hb hr hlocks dX0_hasGroup_21 rfl (tc_r1 (by simp [tx_has, c_1]))
  · refine lv_aload_n hx hb dX0_hasGroup_7 rfl (lv_at hl 0 rfl) ?_
    refine lv_iload_n hx hb dX0_hasGroup_8 rfl (lv_at hl 1 rfl) ?_
    refine lv_iload_n hx hb dX0_hasGroup_9 rfl (lv_at hl 2 rfl) ?_
    refine ro_callV (As := [.int (nI t), .int (nI g)]) (rest := []) ⟨hx, hb, hml, hown, hts⟩ hK (ro_X0_find l D dB dZ H a C X N K B M hP hC hX t (by omega) (nI g)) (cwV 2 hts (lw_V q75 q77 qs2 q21 q78) rfl rfl rfl (by decide +kernel) ⟨Nat.le_of_ble_eq_true rfl, Nat.le_of_ble_eq_true rfl⟩) (va_recv hK hP (ci := 0) (q0 := 0) rfl rfl) rfl hl.1 rfl (Nat.le_of_ble_eq_true rfl) dX0_hasGroup_10 ⟨Nat.le_of_ble_eq_true rfl, Nat.le_of_ble_eq_true rfl⟩ ?_
    refine lv_if_lt (tgt := 20) hx hb dX0_hasGroup_13 (by decide) (fun c_2 => ?_) (fun c_2 => ?_)
    · refine lv_iconst (v := nI 0) hx hb dX0_hasGroup_20 (by decide) ?_
      exact ro_ret hx hb hr hlocks dX0_hasGroup_21 rfl (tc_r0 (tx_has_0 hC hX hg c_1 c_2))
    · refine lv_iconst (v := nI 1) hx hb dX0_hasGroup_16 (by decide) ?_
      refine lv_goto (tgt := 21) hx hb dX0_hasGroup_17 (by decide) ?_
      exact ro_ret hx hb hr hlocks dX0_hasGroup_21 rfl (tc_r1 (tx_has_1 hC hX hg c_2))
set_option maxHeartbeats 4000000 in
set_option maxRecDepth 100000 in
/-- canAdd -/
theorem ro_X0_canAdd (l : Launch) (D : va_G) (dB dZ : ClassId) (H : Heap) (a C X N K B M : Nat → Nat) (hP : va_P D vwCl (wX a dB C X N K B M) H) (hC : ∀ j, C j ≤ 5) (hX : ∀ j, X j < 128) (t : Nat) (ht : t < 2) (g : Nat) (hg : g < 128) : Ro l yX0_canAdd cX0_canAdd 4 (some .boolean) 1 22 [.ref (a 0), .int (nI t), .int (nI g)] H D dB dZ ((tB (tx_can C X t g))) := by
  refine Ro.ofW (by decide) (Nat.le_of_ble_eq_true rfl) (fun p e s m below meth c hx hb hr hlocks hml hown hts hK ls hl => ?_)
  have hl : lv_has ls 4 [(0, .ref (a 0)), (1, .int (nI t)), (2, .int (nI g))] := hl
  refine lv_iconst (v := nI 0) hx hb dX0_canAdd_0 (by decide) ?_
  refine lv_istore_n (lv' := [(3, .int (nI 0)), (0, .ref (a 0)), (1, .int (nI t)), (2, .int (nI g))]) hx hb dX0_canAdd_1 rfl hl (by decide) rfl (fun ls hl => ?_)
  refine tc_for (nL := 4) (C t) (fun i => tc_all (fun k => tx_go g (X (t * 5 + k))) i = true) (fun i => [(3, .int (nI i)), (0, .ref (a 0)), (1, .int (nI t)), (2, .int (nI g))]) (rfl) (lv_sub hl [0, 1, 2, 3] rfl) (fun i hi_i hv_1 ih_1 ls hl => ?_) (fun hv_1 ls hl => ?_)
  · have hl : lv_has ls 4 [(3, .int (nI i)), (0, .ref (a 0)), (1, .int (nI t)), (2, .int (nI g))] := hl
    have hct := hC t
    refine lv_iload_n hx hb dX0_canAdd_2 rfl (lv_at hl 0 rfl) ?_
    refine lv_aload_n hx hb dX0_canAdd_3 rfl (lv_at hl 1 rfl) ?_
    refine tc_getX (a := a) (v := .ref (a 1)) hx hb hts hown hK hP 0 rfl 0 (by decide) q31 rfl rfl dX0_canAdd_4 ?_
    refine lv_iload_n hx hb dX0_canAdd_7 rfl (lv_at hl 2 rfl) ?_
    refine tc_bald (k := t) hx hb dX0_canAdd_8 hK hP 1 0 rfl rfl (by decide) (by omega) ?_
    have hv_2 := hC t
    refine tc_ge (tgt := 37) hx hb dX0_canAdd_9 (by decide) (by omega) (by omega) (fun c_ => absurd c_ (by omega)) (fun _ => ?_)
    refine lv_iload_n hx hb dX0_canAdd_12 rfl (lv_at hl 3 rfl) ?_
    refine lv_aload_n hx hb dX0_canAdd_13 rfl (lv_at hl 1 rfl) ?_
    refine tc_getX (a := a) (v := .ref (a 2)) hx hb hts hown hK hP 0 rfl 1 (by decide) q32 rfl rfl dX0_canAdd_14 ?_
    refine lv_iload_n hx hb dX0_canAdd_17 rfl (lv_at hl 2 rfl) ?_
    refine lv_iconst (v := nI 5) hx hb dX0_canAdd_18 (by decide) ?_
    refine tc_imul hx hb dX0_canAdd_19 ?_
    refine lv_iload_n hx hb dX0_canAdd_20 rfl (lv_at hl 0 rfl) ?_
    refine tc_iadd hx hb dX0_canAdd_21 ?_
    refine tc_bald (k := ((t * 5) + i)) hx hb dX0_canAdd_22 hK hP 2 0 rfl rfl (by decide) (by omega) ?_
    have hv_3 := hX ((t * 5) + i)
    refine ro_callS (As := [.int (nI g), .int (nI (X ((t * 5) + i)))]) (rest := []) ⟨hx, hb, hml, hown, hts⟩ hK (ro_X0_goTogether l D dB dZ H g (X ((t * 5) + i)) (by omega) (by omega)) (va_cwS 2 hts (lw_S q62 q63 q21 q64) rfl rfl rfl (by decide +kernel) ⟨Nat.le_of_ble_eq_true rfl, Nat.le_of_ble_eq_true rfl⟩) rfl hl.1 rfl (Nat.le_of_ble_eq_true rfl) dX0_canAdd_23 ⟨Nat.le_of_ble_eq_true rfl, Nat.le_of_ble_eq_true rfl⟩ ?_
    refine tc_bne (tgt := 31) hx hb dX0_canAdd_26 (by decide) (fun c_4 => ?_) (fun c_4 => ?_)
    · refine lv_iinc (v := nI (i + 1)) (lv' := [(3, .int (nI (i + 1))), (0, .ref (a 0)), (1, .int (nI t)), (2, .int (nI g))]) hx hb dX0_canAdd_31 hl (k := 0) rfl (t_inc _) (by decide) rfl (fun ls hl => ?_)
      refine lv_goto (tgt := 2) hx hb dX0_canAdd_34 (by decide) ?_
      exact ih_1 ls (tc_all_s hv_1 c_4) (lv_sub hl [0, 1, 2, 3] rfl)
    · refine lv_iconst (v := nI 0) hx hb dX0_canAdd_29 (by decide) ?_
      exact ro_ret hx hb hr hlocks dX0_canAdd_30 rfl (tc_r0 (tc_all_false hi_i c_4))
  · have hl : lv_has ls 4 [(3, .int (nI (C t))), (0, .ref (a 0)), (1, .int (nI t)), (2, .int (nI g))] := hl
    have hct := hC t
    have hv_inv := hv_1
    refine lv_iload_n hx hb dX0_canAdd_2 rfl (lv_at hl 0 rfl) ?_
    refine lv_aload_n hx hb dX0_canAdd_3 rfl (lv_at hl 1 rfl) ?_
    refine tc_getX (a := a) (v := .ref (a 1)) hx hb hts hown hK hP 0 rfl 0 (by decide) q31 rfl rfl dX0_canAdd_4 ?_
    refine lv_iload_n hx hb dX0_canAdd_7 rfl (lv_at hl 2 rfl) ?_
    refine tc_bald (k := t) hx hb dX0_canAdd_8 hK hP 1 0 rfl rfl (by decide) (by omega) ?_
    have hv_5 := hC t
    refine tc_ge (tgt := 37) hx hb dX0_canAdd_9 (by decide) (by omega) (by omega) (fun _ => ?_) (fun c_ => absurd c_ (by omega))
    refine lv_iconst (v := nI 1) hx hb dX0_canAdd_37 (by decide) ?_
    exact ro_ret hx hb hr hlocks dX0_canAdd_38 rfl (tc_r1 hv_inv)
/-! groups, in a tree and not -/
set_option maxHeartbeats 4000000 in
set_option maxRecDepth 100000 in
/-- groups -/
theorem ro_X0_groups (l : Launch) (D : va_G) (dB dZ : ClassId) (H : Heap) (a C X N K B M : Nat → Nat) (hP : va_P D vwCl (wX a dB C X N K B M) H) (hC : ∀ j, C j ≤ 5) (hX : ∀ j, X j < 128) (t : Nat) (ht : t < 2) : Ro l yX0_groups cX0_groups 2 (some .int) 1 20 [.ref (a 0), .int (nI t)] H D dB dZ ((nI (8 + C t))) := by
  refine Ro.ofW (by decide) (Nat.le_of_ble_eq_true rfl) (fun p e s m below meth c hx hb hr hlocks hml hown hts hK ls hl => ?_)
  have hl : lv_has ls 2 [(0, .ref (a 0)), (1, .int (nI t))] := hl
  refine lv_iload_n hx hb dX0_groups_0 rfl (lv_at hl 1 rfl) ?_
  refine ro_callS (As := [.int (nI t)]) (rest := []) ⟨hx, hb, hml, hown, hts⟩ hK (ro_X0_isTree l D dB dZ H (nI t)) (va_cwS 1 hts (lw_S q55 q56 q21 q57) rfl rfl rfl (by decide +kernel) ⟨Nat.le_of_ble_eq_true rfl, Nat.le_of_ble_eq_true rfl⟩) rfl hl.1 rfl (Nat.le_of_ble_eq_true rfl) dX0_groups_1 ⟨Nat.le_of_ble_eq_true rfl, Nat.le_of_ble_eq_true rfl⟩ ?_
  refine tc_beq (tgt := 19) hx hb dX0_groups_4 (by decide) (fun c_ => absurd c_ (by rw [tx_isT_n ht] at c_; cases c_)) (fun _ => ?_)
  refine lv_bipush (v := nI 8) hx hb dX0_groups_7 (by decide) ?_
  refine lv_aload_n hx hb dX0_groups_9 rfl (lv_at hl 0 rfl) ?_
  refine tc_getX (a := a) (v := .ref (a 1)) hx hb hts hown hK hP 0 rfl 0 (by decide) q31 rfl rfl dX0_groups_10 ?_
  refine lv_iload_n hx hb dX0_groups_13 rfl (lv_at hl 1 rfl) ?_
  refine tc_bald (k := t) hx hb dX0_groups_14 hK hP 1 0 rfl rfl (by decide) (by omega) ?_
  have hv_1 := hC t
  refine tc_iadd hx hb dX0_groups_15 ?_
  refine lv_goto (tgt := 20) hx hb dX0_groups_16 (by decide) ?_
  exact ro_ret hx hb hr hlocks dX0_groups_20 rfl (rfl)
set_option maxHeartbeats 4000000 in
set_option maxRecDepth 100000 in
/-- joinOf: the least group that holds a set -/
theorem ro_X0_joinOf (l : Launch) (D : va_G) (dB dZ : ClassId) (H : Heap) (a C X N K B M : Nat → Nat) (hP : va_P D vwCl (wX a dB C X N K B M) H) (hC : ∀ j, C j ≤ 5) (hX : ∀ j, X j < 128) (t : Nat) (ht : t < 2) (w : Nat) (hw : w < 128) : Ro l yX0_joinOf cX0_joinOf 6 (some .int) 1 22 [.ref (a 0), .int (nI t), .int (nI w)] H D dB dZ ((nI (tx_join C X t w))) := by
  refine Ro.ofW (by decide) (Nat.le_of_ble_eq_true rfl) (fun p e s m below meth c hx hb hr hlocks hml hown hts hK ls hl => ?_)
  have hl : lv_has ls 6 [(0, .ref (a 0)), (1, .int (nI t)), (2, .int (nI w))] := hl
  refine lv_iload_n hx hb dX0_joinOf_0 rfl (lv_at hl 2 rfl) ?_
  refine tc_eq0 (tgt := 12) hx hb dX0_joinOf_1 (by decide) (by omega) (fun c_1 => ?_) (fun c_1 => ?_)
  · refine lv_iload_n hx hb dX0_joinOf_12 rfl (lv_at hl 2 rfl) ?_
    exact ro_ret hx hb hr hlocks dX0_joinOf_13 rfl (congrArg nI (by simp [tx_join, c_1]))
  · refine lv_iload_n hx hb dX0_joinOf_4 rfl (lv_at hl 2 rfl) ?_
    refine ro_callS (As := [.int (nI w)]) (rest := []) ⟨hx, hb, hml, hown, hts⟩ hK (ro_X0_ones l D dB dZ H w (by omega)) (va_cwS 1 hts (lw_S q72 q73 q21 q74) rfl rfl rfl (by decide +kernel) ⟨Nat.le_of_ble_eq_true rfl, Nat.le_of_ble_eq_true rfl⟩) rfl hl.1 rfl (Nat.le_of_ble_eq_true rfl) dX0_joinOf_5 ⟨Nat.le_of_ble_eq_true rfl, Nat.le_of_ble_eq_true rfl⟩ ?_
    have hv_2 := tc_pop_le w
    refine lv_iconst (v := nI 1) hx hb dX0_joinOf_8 (by decide) ?_
    refine tc_ne (tgt := 14) hx hb dX0_joinOf_9 (by decide) (by omega) (by omega) (fun c_3 => ?_) (fun c_3 => ?_)
    · refine lv_bipush (v := nI 127) hx hb dX0_joinOf_14 (by decide) ?_
      refine lv_istore_n (lv' := [(3, .int (nI 127)), (0, .ref (a 0)), (1, .int (nI t)), (2, .int (nI w))]) hx hb dX0_joinOf_16 rfl hl (by decide) rfl (fun ls hl => ?_)
      refine lv_iconst (v := nI 0) hx hb dX0_joinOf_17 (by decide) ?_
      refine lv_istore (lv' := [(4, .int (nI 0)), (3, .int (nI 127)), (0, .ref (a 0)), (1, .int (nI t)), (2, .int (nI w))]) hx hb dX0_joinOf_18 hl (by decide) rfl (fun ls hl => ?_)
      refine tc_for (nL := 6) (C t) (fun _ => True) (fun i => [(4, .int (nI i)), (3, .int (nI (tc_fold (tx_jstep X t w) 127 i))), (0, .ref (a 0)), (1, .int (nI t)), (2, .int (nI w))]) (trivial) (lv_sub hl [0, 1, 2, 3, 4] rfl) (fun i hi_i hv_4 ih_4 ls hl => ?_) (fun hv_4 ls hl => ?_)
      · have hl : lv_has ls 6 [(4, .int (nI i)), (3, .int (nI (tc_fold (tx_jstep X t w) 127 i))), (0, .ref (a 0)), (1, .int (nI t)), (2, .int (nI w))] := hl
        have hct := hC t
        have hft := tx_fold_lt hX t w i
        refine lv_iload hx hb dX0_joinOf_20 (lv_at hl 0 rfl) ?_
        refine lv_aload_n hx hb dX0_joinOf_22 rfl (lv_at hl 2 rfl) ?_
        refine tc_getX (a := a) (v := .ref (a 1)) hx hb hts hown hK hP 0 rfl 0 (by decide) q31 rfl rfl dX0_joinOf_23 ?_
        refine lv_iload_n hx hb dX0_joinOf_26 rfl (lv_at hl 3 rfl) ?_
        refine tc_bald (k := t) hx hb dX0_joinOf_27 hK hP 1 0 rfl rfl (by decide) (by omega) ?_
        have hv_5 := hC t
        refine tc_ge (tgt := 78) hx hb dX0_joinOf_28 (by decide) (by omega) (by omega) (fun c_ => absurd c_ (by omega)) (fun _ => ?_)
        refine lv_aload_n hx hb dX0_joinOf_31 rfl (lv_at hl 2 rfl) ?_
        refine tc_getX (a := a) (v := .ref (a 2)) hx hb hts hown hK hP 0 rfl 1 (by decide) q32 rfl rfl dX0_joinOf_32 ?_
        refine lv_iload_n hx hb dX0_joinOf_35 rfl (lv_at hl 3 rfl) ?_
        refine lv_iconst (v := nI 5) hx hb dX0_joinOf_36 (by decide) ?_
        refine tc_imul hx hb dX0_joinOf_37 ?_
        refine lv_iload hx hb dX0_joinOf_38 (lv_at hl 0 rfl) ?_
        refine tc_iadd hx hb dX0_joinOf_40 ?_
        refine tc_bald (k := ((t * 5) + i)) hx hb dX0_joinOf_41 hK hP 2 0 rfl rfl (by decide) (by omega) ?_
        have hv_6 := hX ((t * 5) + i)
        refine lv_istore (lv' := [(5, .int (nI (X ((t * 5) + i)))), (4, .int (nI i)), (3, .int (nI (tc_fold (tx_jstep X t w) 127 i))), (0, .ref (a 0)), (1, .int (nI t)), (2, .int (nI w))]) hx hb dX0_joinOf_42 hl (by decide) rfl (fun ls hl => ?_)
        refine tc_at 71 [.int (nI (tx_jstep X t w i (tc_fold (tx_jstep X t w) 127 i)))] (fun hj_7 => ?_) ?_
        · refine lv_iload_n hx hb dX0_joinOf_44 rfl (lv_at hl 5 rfl) ?_
          refine lv_iload hx hb dX0_joinOf_45 (lv_at hl 0 rfl) ?_
          refine lv_iconst (v := -1) hx hb dX0_joinOf_47 (by decide) ?_
          refine lv_ixor hx hb dX0_joinOf_48 ?_
          have hdl : tc_dif w (X (t * 5 + i)) ≤ w := Nat.and_le_left
          refine tc_iandn hx hb dX0_joinOf_49 (by omega) ?_
          have hv_8 : tc_dif w (X ((t * 5) + i)) ≤ w := Nat.and_le_left
          refine tc_ne0 (tgt := 70) hx hb dX0_joinOf_50 (by decide) (by omega) (fun c_9 => ?_) (fun c_9 => ?_)
          · refine lv_iload_n hx hb dX0_joinOf_70 rfl (lv_at hl 2 rfl) ?_
            exact tc_topN (tx_jstep_neg1 c_9) hj_7
          · refine lv_iload hx hb dX0_joinOf_53 (lv_at hl 0 rfl) ?_
            refine ro_callS (As := [.int (nI (X ((t * 5) + i)))]) (rest := []) ⟨hx, hb, hml, hown, hts⟩ hK (ro_X0_ones l D dB dZ H (X ((t * 5) + i)) (by omega)) (va_cwS 1 hts (lw_S q72 q73 q21 q74) rfl rfl rfl (by decide +kernel) ⟨Nat.le_of_ble_eq_true rfl, Nat.le_of_ble_eq_true rfl⟩) rfl hl.1 rfl (Nat.le_of_ble_eq_true rfl) dX0_joinOf_55 ⟨Nat.le_of_ble_eq_true rfl, Nat.le_of_ble_eq_true rfl⟩ ?_
            have hv_10 := tc_pop_le (X ((t * 5) + i))
            refine lv_iload_n hx hb dX0_joinOf_58 rfl (lv_at hl 2 rfl) ?_
            refine ro_callS (As := [.int (nI (tc_fold (tx_jstep X t w) 127 i))]) (rest := [.int (nI (tc_pop (X ((t * 5) + i))))]) ⟨hx, hb, hml, hown, hts⟩ hK (ro_X0_ones l D dB dZ H (tc_fold (tx_jstep X t w) 127 i) (by omega)) (va_cwS 1 hts (lw_S q72 q73 q21 q74) rfl rfl rfl (by decide +kernel) ⟨Nat.le_of_ble_eq_true rfl, Nat.le_of_ble_eq_true rfl⟩) rfl hl.1 rfl (Nat.le_of_ble_eq_true rfl) dX0_joinOf_59 ⟨Nat.le_of_ble_eq_true rfl, Nat.le_of_ble_eq_true rfl⟩ ?_
            have hv_11 := tc_pop_le (tc_fold (tx_jstep X t w) 127 i)
            refine tc_ge (tgt := 70) hx hb dX0_joinOf_62 (by decide) (by omega) (by omega) (fun c_12 => ?_) (fun c_12 => ?_)
            · refine lv_iload_n hx hb dX0_joinOf_70 rfl (lv_at hl 2 rfl) ?_
              exact tc_topN (tx_jstep_neg2 c_12) hj_7
            · refine lv_iload hx hb dX0_joinOf_65 (lv_at hl 0 rfl) ?_
              refine lv_goto (tgt := 71) hx hb dX0_joinOf_67 (by decide) ?_
              exact tc_topN (tx_jstep_pos c_9 c_12) hj_7
        · refine lv_istore_n (lv' := [(3, .int (nI (tx_jstep X t w i (tc_fold (tx_jstep X t w) 127 i)))), (5, .int (nI (X ((t * 5) + i)))), (4, .int (nI i)), (0, .ref (a 0)), (1, .int (nI t)), (2, .int (nI w))]) hx hb dX0_joinOf_71 rfl hl (by decide) rfl (fun ls hl => ?_)
          refine lv_iinc (v := nI (i + 1)) (lv' := [(4, .int (nI (i + 1))), (3, .int (nI (tx_jstep X t w i (tc_fold (tx_jstep X t w) 127 i)))), (5, .int (nI (X ((t * 5) + i)))), (0, .ref (a 0)), (1, .int (nI t)), (2, .int (nI w))]) hx hb dX0_joinOf_72 hl (k := 2) rfl (t_inc _) (by decide) rfl (fun ls hl => ?_)
          refine lv_goto (tgt := 20) hx hb dX0_joinOf_75 (by decide) ?_
          exact ih_4 ls (trivial) (lv_sub hl [0, 1, 3, 4, 5] rfl)
      · have hl : lv_has ls 6 [(4, .int (nI (C t))), (3, .int (nI (tc_fold (tx_jstep X t w) 127 (C t)))), (0, .ref (a 0)), (1, .int (nI t)), (2, .int (nI w))] := hl
        have hct := hC t
        refine lv_iload hx hb dX0_joinOf_20 (lv_at hl 0 rfl) ?_
        refine lv_aload_n hx hb dX0_joinOf_22 rfl (lv_at hl 2 rfl) ?_
        refine tc_getX (a := a) (v := .ref (a 1)) hx hb hts hown hK hP 0 rfl 0 (by decide) q31 rfl rfl dX0_joinOf_23 ?_
        refine lv_iload_n hx hb dX0_joinOf_26 rfl (lv_at hl 3 rfl) ?_
        refine tc_bald (k := t) hx hb dX0_joinOf_27 hK hP 1 0 rfl rfl (by decide) (by omega) ?_
        have hv_13 := hC t
        refine tc_ge (tgt := 78) hx hb dX0_joinOf_28 (by decide) (by omega) (by omega) (fun _ => ?_) (fun c_ => absurd c_ (by omega))
        refine lv_iload_n hx hb dX0_joinOf_78 rfl (lv_at hl 1 rfl) ?_
        exact ro_ret hx hb hr hlocks dX0_joinOf_79 rfl (congrArg nI (by simp [tx_join, c_1, c_3]))
    · refine lv_iload_n hx hb dX0_joinOf_12 rfl (lv_at hl 2 rfl) ?_
      exact ro_ret hx hb hr hlocks dX0_joinOf_13 rfl (congrArg nI (by simp [tx_join, c_3]))
set_option maxHeartbeats 4000000 in
set_option maxRecDepth 100000 in
/-- join, of a tree and a set -/
theorem ro_X0_join (l : Launch) (D : va_G) (dB dZ : ClassId) (H : Heap) (a C X N K B M : Nat → Nat) (hP : va_P D vwCl (wX a dB C X N K B M) H) (hC : ∀ j, C j ≤ 5) (hX : ∀ j, X j < 128) (t : Nat) (ht : t < 2) (w : Nat) (hw : w < 128) : Ro l yX0_join cX0_join 3 (some .int) 2 47 [.ref (a 0), .int (nI t), .int (nI w)] H D dB dZ ((nI (tx_join C X t w))) := by
  refine Ro.ofW (by decide) (Nat.le_of_ble_eq_true rfl) (fun p e s m below meth c hx hb hr hlocks hml hown hts hK ls hl => ?_)
  have hl : lv_has ls 3 [(0, .ref (a 0)), (1, .int (nI t)), (2, .int (nI w))] := hl
  refine lv_iload_n hx hb dX0_join_0 rfl (lv_at hl 1 rfl) ?_
  refine ro_callS (As := [.int (nI t)]) (rest := []) ⟨hx, hb, hml, hown, hts⟩ hK (ro_X0_isTree l D dB dZ H (nI t)) (va_cwS 1 hts (lw_S q55 q56 q21 q57) rfl rfl rfl (by decide +kernel) ⟨Nat.le_of_ble_eq_true rfl, Nat.le_of_ble_eq_true rfl⟩) rfl hl.1 rfl (Nat.le_of_ble_eq_true rfl) dX0_join_1 ⟨Nat.le_of_ble_eq_true rfl, Nat.le_of_ble_eq_true rfl⟩ ?_
  refine tc_beq (tgt := 26) hx hb dX0_join_4 (by decide) (fun c_ => absurd c_ (by rw [tx_isT_n ht] at c_; cases c_)) (fun _ => ?_)
  refine lv_iload_n hx hb dX0_join_7 rfl (lv_at hl 2 rfl) ?_
  refine lv_if_lt (tgt := 26) hx hb dX0_join_8 (by decide) (fun c_ => absurd c_ (by exact nI_pos (by omega))) (fun _ => ?_)
  refine lv_iload_n hx hb dX0_join_11 rfl (lv_at hl 2 rfl) ?_
  refine lv_bipush (v := nI 127) hx hb dX0_join_12 (by decide) ?_
  refine tc_gt (tgt := 26) hx hb dX0_join_14 (by decide) (by omega) (by omega) (fun c_ => absurd c_ (by omega)) (fun _ => ?_)
  refine lv_aload_n hx hb dX0_join_17 rfl (lv_at hl 0 rfl) ?_
  refine lv_iload_n hx hb dX0_join_18 rfl (lv_at hl 1 rfl) ?_
  refine lv_iload_n hx hb dX0_join_19 rfl (lv_at hl 2 rfl) ?_
  refine ro_callV (As := [.int (nI t), .int (nI w)]) (rest := []) ⟨hx, hb, hml, hown, hts⟩ hK (ro_X0_joinOf l D dB dZ H a C X N K B M hP hC hX t (by omega) w (by first | omega | exact tc_shl2_lt (by omega) (by omega))) (cwV 2 hts (lw_V q95 q97 qs3 q21 q98) rfl rfl rfl (by decide +kernel) ⟨Nat.le_of_ble_eq_true rfl, Nat.le_of_ble_eq_true rfl⟩) (va_recv hK hP (ci := 0) (q0 := 0) rfl rfl) rfl hl.1 rfl (Nat.le_of_ble_eq_true rfl) dX0_join_20 ⟨Nat.le_of_ble_eq_true rfl, Nat.le_of_ble_eq_true rfl⟩ ?_
  have hv_1 := tx_join_lt (C := C) hX t (w := w) (by first | omega | exact tc_shl2_lt (by omega) (by omega))
  refine lv_goto (tgt := 27) hx hb dX0_join_23 (by decide) ?_
  exact ro_ret hx hb hr hlocks dX0_join_27 rfl (rfl)
set_option maxHeartbeats 4000000 in
set_option maxRecDepth 100000 in
/-- join, else -/
theorem ro_X0_join_b (l : Launch) (D : va_G) (dB dZ : ClassId) (H : Heap) (a C X N K B M : Nat → Nat) (hP : va_P D vwCl (wX a dB C X N K B M) H) (hC : ∀ j, C j ≤ 5) (hX : ∀ j, X j < 128) (t w : Int32) (hbad : tx_isT t = true → ¬ w < 0 → nI 127 < w) : Ro l yX0_join cX0_join 3 (some .int) 2 47 [.ref (a 0), .int t, .int w] H D dB dZ ((-1)) := by
  refine Ro.ofW (by decide) (Nat.le_of_ble_eq_true rfl) (fun p e s m below meth c hx hb hr hlocks hml hown hts hK ls hl => ?_)
  have hl : lv_has ls 3 [(0, .ref (a 0)), (1, .int t), (2, .int w)] := hl
  refine lv_iload_n hx hb dX0_join_0 rfl (lv_at hl 1 rfl) ?_
  refine ro_callS (As := [.int t]) (rest := []) ⟨hx, hb, hml, hown, hts⟩ hK (ro_X0_isTree l D dB dZ H t) (va_cwS 1 hts (lw_S q55 q56 q21 q57) rfl rfl rfl (by decide +kernel) ⟨Nat.le_of_ble_eq_true rfl, Nat.le_of_ble_eq_true rfl⟩) rfl hl.1 rfl (Nat.le_of_ble_eq_true rfl) dX0_join_1 ⟨Nat.le_of_ble_eq_true rfl, Nat.le_of_ble_eq_true rfl⟩ ?_
  refine tc_beq (tgt := 26) hx hb dX0_join_4 (by decide) (fun c_1 => ?_) (fun c_1 => ?_)
  · refine lv_iconst (v := -1) hx hb dX0_join_26 (by decide) ?_
    exact ro_ret hx hb hr hlocks dX0_join_27 rfl (rfl)
  · refine lv_iload_n hx hb dX0_join_7 rfl (lv_at hl 2 rfl) ?_
    refine lv_if_lt (tgt := 26) hx hb dX0_join_8 (by decide) (fun c_2 => ?_) (fun c_2 => ?_)
    · refine lv_iconst (v := -1) hx hb dX0_join_26 (by decide) ?_
      exact ro_ret hx hb hr hlocks dX0_join_27 rfl (rfl)
    · refine lv_iload_n hx hb dX0_join_11 rfl (lv_at hl 2 rfl) ?_
      refine lv_bipush (v := nI 127) hx hb dX0_join_12 (by decide) ?_
      refine lv_icmp_gt (tgt := 26) hx hb dX0_join_14 (by decide) (fun c_3 => ?_) (fun c_3 => ?_)
      · refine lv_iconst (v := -1) hx hb dX0_join_26 (by decide) ?_
        exact ro_ret hx hb hr hlocks dX0_join_27 rfl (rfl)
      · exact absurd (hbad c_1 c_2) c_3
set_option maxHeartbeats 4000000 in
set_option maxRecDepth 100000 in
/-- lastOf -/
theorem ro_X0_lastOf (l : Launch) (D : va_G) (dB dZ : ClassId) (H : Heap) (a C X N K B M : Nat → Nat) (hP : va_P D vwCl (wX a dB C X N K B M) H) (hC : ∀ j, C j ≤ 5) (hX : ∀ j, X j < 128) (t : Nat) (ht : t < 2) (x y z : Nat) (hx7 : x < 7) (hy7 : y < 7) (hz7 : z < 7) : Ro l yX0_lastOf cX0_lastOf 6 (some .int) 2 47 [.ref (a 0), .int (nI t), .int (nI x), .int (nI y), .int (nI z)] H D dB dZ ((nI (tx_last C X t x y z))) := by
  refine Ro.ofW (by decide) (Nat.le_of_ble_eq_true rfl) (fun p e s m below meth c hx hb hr hlocks hml hown hts hK ls hl => ?_)
  have hl : lv_has ls 6 [(0, .ref (a 0)), (1, .int (nI t)), (2, .int (nI x)), (3, .int (nI y)), (4, .int (nI z))] := hl
  refine lv_aload_n hx hb dX0_lastOf_0 rfl (lv_at hl 0 rfl) ?_
  refine lv_iload_n hx hb dX0_lastOf_1 rfl (lv_at hl 1 rfl) ?_
  refine lv_iconst (v := nI 1) hx hb dX0_lastOf_2 (by decide) ?_
  refine lv_iload_n hx hb dX0_lastOf_3 rfl (lv_at hl 2 rfl) ?_
  refine tc_ishl hx hb dX0_lastOf_4 (by omega) (tc_shl_lt (by omega)) ?_
  refine lv_iconst (v := nI 1) hx hb dX0_lastOf_5 (by decide) ?_
  refine lv_iload_n hx hb dX0_lastOf_6 rfl (lv_at hl 3 rfl) ?_
  refine tc_ishl hx hb dX0_lastOf_7 (by omega) (tc_shl_lt (by omega)) ?_
  refine tc_ior hx hb dX0_lastOf_8 ?_
  refine ro_callV (As := [.int (nI t), .int (nI ((1 <<< x) ||| (1 <<< y)))]) (rest := []) ⟨hx, hb, hml, hown, hts⟩ hK (ro_X0_joinOf l D dB dZ H a C X N K B M hP hC hX t (by omega) ((1 <<< x) ||| (1 <<< y)) (by first | omega | exact tc_shl2_lt (by omega) (by omega))) (cwV 2 hts (lw_V q95 q97 qs3 q21 q98) rfl rfl rfl (by decide +kernel) ⟨Nat.le_of_ble_eq_true rfl, Nat.le_of_ble_eq_true rfl⟩) (va_recv hK hP (ci := 0) (q0 := 0) rfl rfl) rfl hl.1 rfl (Nat.le_of_ble_eq_true rfl) dX0_lastOf_9 ⟨Nat.le_of_ble_eq_true rfl, Nat.le_of_ble_eq_true rfl⟩ ?_
  have hv_1 := tx_join_lt (C := C) hX t (w := (1 <<< x) ||| (1 <<< y)) (by first | omega | exact tc_shl2_lt (by omega) (by omega))
  refine lv_istore (lv' := [(5, .int (nI (tx_join C X t ((1 <<< x) ||| (1 <<< y))))), (0, .ref (a 0)), (1, .int (nI t)), (2, .int (nI x)), (3, .int (nI y)), (4, .int (nI z))]) hx hb dX0_lastOf_12 hl (by decide) rfl (fun ls hl => ?_)
  refine lv_iload hx hb dX0_lastOf_14 (lv_at hl 0 rfl) ?_
  refine lv_iload hx hb dX0_lastOf_16 (lv_at hl 5 rfl) ?_
  refine tc_ishr hx hb dX0_lastOf_18 (by omega) (by omega) ?_
  refine lv_iconst (v := nI 1) hx hb dX0_lastOf_19 (by decide) ?_
  have hA1 : tx_join C X t (1 <<< x ||| 1 <<< y) >>> z &&& 1 ≤ 1 := Nat.and_le_right
  refine tc_iand hx hb dX0_lastOf_20 ?_
  have hv_2 : ((tx_join C X t ((1 <<< x) ||| (1 <<< y))) >>> z) &&& 1 ≤ 1 := Nat.and_le_right
  refine tc_ne0 (tgt := 26) hx hb dX0_lastOf_21 (by decide) (by omega) (fun c_3 => ?_) (fun c_3 => ?_)
  · refine lv_aload_n hx hb dX0_lastOf_26 rfl (lv_at hl 1 rfl) ?_
    refine lv_iload_n hx hb dX0_lastOf_27 rfl (lv_at hl 2 rfl) ?_
    refine lv_iconst (v := nI 1) hx hb dX0_lastOf_28 (by decide) ?_
    refine lv_iload_n hx hb dX0_lastOf_29 rfl (lv_at hl 3 rfl) ?_
    refine tc_ishl hx hb dX0_lastOf_30 (by omega) (tc_shl_lt (by omega)) ?_
    refine lv_iconst (v := nI 1) hx hb dX0_lastOf_31 (by decide) ?_
    refine lv_iload hx hb dX0_lastOf_32 (lv_at hl 5 rfl) ?_
    refine tc_ishl hx hb dX0_lastOf_34 (by omega) (tc_shl_lt (by omega)) ?_
    refine tc_ior hx hb dX0_lastOf_35 ?_
    refine ro_callV (As := [.int (nI t), .int (nI ((1 <<< x) ||| (1 <<< z)))]) (rest := []) ⟨hx, hb, hml, hown, hts⟩ hK (ro_X0_joinOf l D dB dZ H a C X N K B M hP hC hX t (by omega) ((1 <<< x) ||| (1 <<< z)) (by first | omega | exact tc_shl2_lt (by omega) (by omega))) (cwV 2 hts (lw_V q95 q97 qs3 q21 q98) rfl rfl rfl (by decide +kernel) ⟨Nat.le_of_ble_eq_true rfl, Nat.le_of_ble_eq_true rfl⟩) (va_recv hK hP (ci := 0) (q0 := 0) rfl rfl) rfl hl.1 rfl (Nat.le_of_ble_eq_true rfl) dX0_lastOf_36 ⟨Nat.le_of_ble_eq_true rfl, Nat.le_of_ble_eq_true rfl⟩ ?_
    have hv_4 := tx_join_lt (C := C) hX t (w := (1 <<< x) ||| (1 <<< z)) (by first | omega | exact tc_shl2_lt (by omega) (by omega))
    refine lv_istore (lv' := [(5, .int (nI (tx_join C X t ((1 <<< x) ||| (1 <<< z))))), (0, .ref (a 0)), (1, .int (nI t)), (2, .int (nI x)), (3, .int (nI y)), (4, .int (nI z))]) hx hb dX0_lastOf_39 hl (by decide) rfl (fun ls hl => ?_)
    refine lv_iload hx hb dX0_lastOf_41 (lv_at hl 0 rfl) ?_
    refine lv_iload_n hx hb dX0_lastOf_43 rfl (lv_at hl 4 rfl) ?_
    refine tc_ishr hx hb dX0_lastOf_44 (by omega) (by omega) ?_
    refine lv_iconst (v := nI 1) hx hb dX0_lastOf_45 (by decide) ?_
    have hA2 : tx_join C X t (1 <<< x ||| 1 <<< z) >>> y &&& 1 ≤ 1 := Nat.and_le_right
    refine tc_iand hx hb dX0_lastOf_46 ?_
    have hv_5 : ((tx_join C X t ((1 <<< x) ||| (1 <<< z))) >>> y) &&& 1 ≤ 1 := Nat.and_le_right
    refine tc_ne0 (tgt := 52) hx hb dX0_lastOf_47 (by decide) (by omega) (fun c_6 => ?_) (fun c_6 => ?_)
    · refine lv_aload_n hx hb dX0_lastOf_52 rfl (lv_at hl 1 rfl) ?_
      refine lv_iload_n hx hb dX0_lastOf_53 rfl (lv_at hl 2 rfl) ?_
      refine lv_iconst (v := nI 1) hx hb dX0_lastOf_54 (by decide) ?_
      refine lv_iload_n hx hb dX0_lastOf_55 rfl (lv_at hl 4 rfl) ?_
      refine tc_ishl hx hb dX0_lastOf_56 (by omega) (tc_shl_lt (by omega)) ?_
      refine lv_iconst (v := nI 1) hx hb dX0_lastOf_57 (by decide) ?_
      refine lv_iload hx hb dX0_lastOf_58 (lv_at hl 5 rfl) ?_
      refine tc_ishl hx hb dX0_lastOf_60 (by omega) (tc_shl_lt (by omega)) ?_
      refine tc_ior hx hb dX0_lastOf_61 ?_
      refine ro_callV (As := [.int (nI t), .int (nI ((1 <<< y) ||| (1 <<< z)))]) (rest := []) ⟨hx, hb, hml, hown, hts⟩ hK (ro_X0_joinOf l D dB dZ H a C X N K B M hP hC hX t (by omega) ((1 <<< y) ||| (1 <<< z)) (by first | omega | exact tc_shl2_lt (by omega) (by omega))) (cwV 2 hts (lw_V q95 q97 qs3 q21 q98) rfl rfl rfl (by decide +kernel) ⟨Nat.le_of_ble_eq_true rfl, Nat.le_of_ble_eq_true rfl⟩) (va_recv hK hP (ci := 0) (q0 := 0) rfl rfl) rfl hl.1 rfl (Nat.le_of_ble_eq_true rfl) dX0_lastOf_62 ⟨Nat.le_of_ble_eq_true rfl, Nat.le_of_ble_eq_true rfl⟩ ?_
      have hv_7 := tx_join_lt (C := C) hX t (w := (1 <<< y) ||| (1 <<< z)) (by first | omega | exact tc_shl2_lt (by omega) (by omega))
      refine lv_istore (lv' := [(5, .int (nI (tx_join C X t ((1 <<< y) ||| (1 <<< z))))), (0, .ref (a 0)), (1, .int (nI t)), (2, .int (nI x)), (3, .int (nI y)), (4, .int (nI z))]) hx hb dX0_lastOf_65 hl (by decide) rfl (fun ls hl => ?_)
      refine lv_iload hx hb dX0_lastOf_67 (lv_at hl 0 rfl) ?_
      refine lv_iload_n hx hb dX0_lastOf_69 rfl (lv_at hl 3 rfl) ?_
      refine tc_ishr hx hb dX0_lastOf_70 (by omega) (by omega) ?_
      refine lv_iconst (v := nI 1) hx hb dX0_lastOf_71 (by decide) ?_
      have hA3 : tx_join C X t (1 <<< y ||| 1 <<< z) >>> x &&& 1 ≤ 1 := Nat.and_le_right
      refine tc_iand hx hb dX0_lastOf_72 ?_
      have hv_8 : ((tx_join C X t ((1 <<< y) ||| (1 <<< z))) >>> x) &&& 1 ≤ 1 := Nat.and_le_right
      refine tc_ne0 (tgt := 80) hx hb dX0_lastOf_73 (by decide) (by omega) (fun c_9 => ?_) (fun c_9 => ?_)
      · refine lv_iconst (v := nI 3) hx hb dX0_lastOf_80 (by decide) ?_
        exact ro_ret hx hb hr hlocks dX0_lastOf_81 rfl (congrArg nI (by unfold tx_last; rw [if_neg c_3, if_neg c_6, if_neg c_9]))
      · refine lv_iconst (v := nI 0) hx hb dX0_lastOf_76 (by decide) ?_
        refine lv_goto (tgt := 81) hx hb dX0_lastOf_77 (by decide) ?_
        exact ro_ret hx hb hr hlocks dX0_lastOf_81 rfl (congrArg nI (by unfold tx_last; rw [if_neg c_3, if_neg c_6, if_pos c_9]))
    · refine lv_iconst (v := nI 1) hx hb dX0_lastOf_50 (by decide) ?_
      exact ro_ret hx hb hr hlocks dX0_lastOf_51 rfl (congrArg nI (by unfold tx_last; rw [if_neg c_3, if_pos c_6]))
  · refine lv_iconst (v := nI 2) hx hb dX0_lastOf_24 (by decide) ?_
    exact ro_ret hx hb hr hlocks dX0_lastOf_25 rfl (congrArg nI (by unfold tx_last; rw [if_pos c_3]))
set_option maxHeartbeats 4000000 in
set_option maxRecDepth 100000 in
/-- says, of a tree and three members -/
theorem ro_X0_says (l : Launch) (D : va_G) (dB dZ : ClassId) (H : Heap) (a C X N K B M : Nat → Nat) (hP : va_P D vwCl (wX a dB C X N K B M) H) (hC : ∀ j, C j ≤ 5) (hX : ∀ j, X j < 128) (t : Nat) (ht : t < 2) (x y z : Nat) (hx7 : x < 7) (hy7 : y < 7) (hz7 : z < 7) (hxy : ¬ x = y) (hxz : ¬ x = z) (hyz : ¬ y = z) : Ro l yX0_says cX0_says 5 (some .int) 3 72 [.ref (a 0), .int (nI t), .int (nI x), .int (nI y), .int (nI z)] H D dB dZ ((nI (tx_last C X t x y z))) := by
  refine Ro.ofW (by decide) (Nat.le_of_ble_eq_true rfl) (fun p e s m below meth c hx hb hr hlocks hml hown hts hK ls hl => ?_)
  have hl : lv_has ls 5 [(0, .ref (a 0)), (1, .int (nI t)), (2, .int (nI x)), (3, .int (nI y)), (4, .int (nI z))] := hl
  refine lv_iload_n hx hb dX0_says_0 rfl (lv_at hl 1 rfl) ?_
  refine ro_callS (As := [.int (nI t)]) (rest := []) ⟨hx, hb, hml, hown, hts⟩ hK (ro_X0_isTree l D dB dZ H (nI t)) (va_cwS 1 hts (lw_S q55 q56 q21 q57) rfl rfl rfl (by decide +kernel) ⟨Nat.le_of_ble_eq_true rfl, Nat.le_of_ble_eq_true rfl⟩) rfl hl.1 rfl (Nat.le_of_ble_eq_true rfl) dX0_says_1 ⟨Nat.le_of_ble_eq_true rfl, Nat.le_of_ble_eq_true rfl⟩ ?_
  refine tc_beq (tgt := 46) hx hb dX0_says_4 (by decide) (fun c_ => absurd c_ (by rw [tx_isT_n ht] at c_; cases c_)) (fun _ => ?_)
  refine lv_iload_n hx hb dX0_says_7 rfl (lv_at hl 2 rfl) ?_
  refine ro_callS (As := [.int (nI x)]) (rest := []) ⟨hx, hb, hml, hown, hts⟩ hK (ro_X0_isMember l D dB dZ H (nI x)) (va_cwS 1 hts (lw_S q103 q104 q21 q105) rfl rfl rfl (by decide +kernel) ⟨Nat.le_of_ble_eq_true rfl, Nat.le_of_ble_eq_true rfl⟩) rfl hl.1 rfl (Nat.le_of_ble_eq_true rfl) dX0_says_8 ⟨Nat.le_of_ble_eq_true rfl, Nat.le_of_ble_eq_true rfl⟩ ?_
  refine tc_beq (tgt := 46) hx hb dX0_says_11 (by decide) (fun c_ => absurd c_ (by rw [tx_isM_n hx7] at c_; cases c_)) (fun _ => ?_)
  refine lv_iload_n hx hb dX0_says_14 rfl (lv_at hl 3 rfl) ?_
  refine ro_callS (As := [.int (nI y)]) (rest := []) ⟨hx, hb, hml, hown, hts⟩ hK (ro_X0_isMember l D dB dZ H (nI y)) (va_cwS 1 hts (lw_S q103 q104 q21 q105) rfl rfl rfl (by decide +kernel) ⟨Nat.le_of_ble_eq_true rfl, Nat.le_of_ble_eq_true rfl⟩) rfl hl.1 rfl (Nat.le_of_ble_eq_true rfl) dX0_says_15 ⟨Nat.le_of_ble_eq_true rfl, Nat.le_of_ble_eq_true rfl⟩ ?_
  refine tc_beq (tgt := 46) hx hb dX0_says_18 (by decide) (fun c_ => absurd c_ (by rw [tx_isM_n hy7] at c_; cases c_)) (fun _ => ?_)
  refine lv_iload hx hb dX0_says_21 (lv_at hl 4 rfl) ?_
  refine ro_callS (As := [.int (nI z)]) (rest := []) ⟨hx, hb, hml, hown, hts⟩ hK (ro_X0_isMember l D dB dZ H (nI z)) (va_cwS 1 hts (lw_S q103 q104 q21 q105) rfl rfl rfl (by decide +kernel) ⟨Nat.le_of_ble_eq_true rfl, Nat.le_of_ble_eq_true rfl⟩) rfl hl.1 rfl (Nat.le_of_ble_eq_true rfl) dX0_says_23 ⟨Nat.le_of_ble_eq_true rfl, Nat.le_of_ble_eq_true rfl⟩ ?_
  refine tc_beq (tgt := 46) hx hb dX0_says_26 (by decide) (fun c_ => absurd c_ (by rw [tx_isM_n hz7] at c_; cases c_)) (fun _ => ?_)
  refine lv_iload_n hx hb dX0_says_29 rfl (lv_at hl 2 rfl) ?_
  refine lv_iload_n hx hb dX0_says_30 rfl (lv_at hl 3 rfl) ?_
  refine tc_eq (tgt := 46) hx hb dX0_says_31 (by decide) (by omega) (by omega) (fun c_ => absurd c_ (by omega)) (fun _ => ?_)
  refine lv_iload_n hx hb dX0_says_34 rfl (lv_at hl 2 rfl) ?_
  refine lv_iload hx hb dX0_says_35 (lv_at hl 4 rfl) ?_
  refine tc_eq (tgt := 46) hx hb dX0_says_37 (by decide) (by omega) (by omega) (fun c_ => absurd c_ (by omega)) (fun _ => ?_)
  refine lv_iload_n hx hb dX0_says_40 rfl (lv_at hl 3 rfl) ?_
  refine lv_iload hx hb dX0_says_41 (lv_at hl 4 rfl) ?_
  refine tc_ne (tgt := 48) hx hb dX0_says_43 (by decide) (by omega) (by omega) (fun _ => ?_) (fun c_ => absurd c_ (by omega))
  refine lv_aload_n hx hb dX0_says_48 rfl (lv_at hl 0 rfl) ?_
  refine lv_iload_n hx hb dX0_says_49 rfl (lv_at hl 1 rfl) ?_
  refine lv_iload_n hx hb dX0_says_50 rfl (lv_at hl 2 rfl) ?_
  refine lv_iload_n hx hb dX0_says_51 rfl (lv_at hl 3 rfl) ?_
  refine lv_iload hx hb dX0_says_52 (lv_at hl 4 rfl) ?_
  refine ro_callV (As := [.int (nI t), .int (nI x), .int (nI y), .int (nI z)]) (rest := []) ⟨hx, hb, hml, hown, hts⟩ hK (ro_X0_lastOf l D dB dZ H a C X N K B M hP hC hX t (by omega) x y z (by omega) (by omega) (by omega)) (cwV 4 hts (lw_V q106 q108 qs4 q21 q109) rfl rfl rfl (by decide +kernel) ⟨Nat.le_of_ble_eq_true rfl, Nat.le_of_ble_eq_true rfl⟩) (va_recv hK hP (ci := 0) (q0 := 0) rfl rfl) rfl hl.1 rfl (Nat.le_of_ble_eq_true rfl) dX0_says_54 ⟨Nat.le_of_ble_eq_true rfl, Nat.le_of_ble_eq_true rfl⟩ ?_
  have hv_1 := tx_last_le C X t x y z
  exact ro_ret hx hb hr hlocks dX0_says_57 rfl (rfl)
set_option maxHeartbeats 4000000 in
set_option maxRecDepth 100000 in
/-- says, else -/
theorem ro_X0_says_b (l : Launch) (D : va_G) (dB dZ : ClassId) (H : Heap) (a C X N K B M : Nat → Nat) (hP : va_P D vwCl (wX a dB C X N K B M) H) (hC : ∀ j, C j ≤ 5) (hX : ∀ j, X j < 128) (t x y z : Int32) (hbad : tx_isT t = true → tx_isM x = true → tx_isM y = true → tx_isM z = true → ¬ x = y → ¬ x = z → y = z) : Ro l yX0_says cX0_says 5 (some .int) 3 72 [.ref (a 0), .int t, .int x, .int y, .int z] H D dB dZ ((-1)) := by
  refine Ro.ofW (by decide) (Nat.le_of_ble_eq_true rfl) (fun p e s m below meth c hx hb hr hlocks hml hown hts hK ls hl => ?_)
  have hl : lv_has ls 5 [(0, .ref (a 0)), (1, .int t), (2, .int x), (3, .int y), (4, .int z)] := hl
  refine lv_iload_n hx hb dX0_says_0 rfl (lv_at hl 1 rfl) ?_
  refine ro_callS (As := [.int t]) (rest := []) ⟨hx, hb, hml, hown, hts⟩ hK (ro_X0_isTree l D dB dZ H t) (va_cwS 1 hts (lw_S q55 q56 q21 q57) rfl rfl rfl (by decide +kernel) ⟨Nat.le_of_ble_eq_true rfl, Nat.le_of_ble_eq_true rfl⟩) rfl hl.1 rfl (Nat.le_of_ble_eq_true rfl) dX0_says_1 ⟨Nat.le_of_ble_eq_true rfl, Nat.le_of_ble_eq_true rfl⟩ ?_
  refine tc_beq (tgt := 46) hx hb dX0_says_4 (by decide) (fun c_1 => ?_) (fun c_1 => ?_)
  · refine lv_iconst (v := -1) hx hb dX0_says_46 (by decide) ?_
    exact ro_ret hx hb hr hlocks dX0_says_47 rfl (rfl)
  · refine lv_iload_n hx hb dX0_says_7 rfl (lv_at hl 2 rfl) ?_
    refine ro_callS (As := [.int x]) (rest := []) ⟨hx, hb, hml, hown, hts⟩ hK (ro_X0_isMember l D dB dZ H x) (va_cwS 1 hts (lw_S q103 q104 q21 q105) rfl rfl rfl (by decide +kernel) ⟨Nat.le_of_ble_eq_true rfl, Nat.le_of_ble_eq_true rfl⟩) rfl hl.1 rfl (Nat.le_of_ble_eq_true rfl) dX0_says_8 ⟨Nat.le_of_ble_eq_true rfl, Nat.le_of_ble_eq_true rfl⟩ ?_
    refine tc_beq (tgt := 46) hx hb dX0_says_11 (by decide) (fun c_2 => ?_) (fun c_2 => ?_)
    · refine lv_iconst (v := -1) hx hb dX0_says_46 (by decide) ?_
      exact ro_ret hx hb hr hlocks dX0_says_47 rfl (rfl)
    · refine lv_iload_n hx hb dX0_says_14 rfl (lv_at hl 3 rfl) ?_
      refine ro_callS (As := [.int y]) (rest := []) ⟨hx, hb, hml, hown, hts⟩ hK (ro_X0_isMember l D dB dZ H y) (va_cwS 1 hts (lw_S q103 q104 q21 q105) rfl rfl rfl (by decide +kernel) ⟨Nat.le_of_ble_eq_true rfl, Nat.le_of_ble_eq_true rfl⟩) rfl hl.1 rfl (Nat.le_of_ble_eq_true rfl) dX0_says_15 ⟨Nat.le_of_ble_eq_true rfl, Nat.le_of_ble_eq_true rfl⟩ ?_
      refine tc_beq (tgt := 46) hx hb dX0_says_18 (by decide) (fun c_3 => ?_) (fun c_3 => ?_)
      · refine lv_iconst (v := -1) hx hb dX0_says_46 (by decide) ?_
        exact ro_ret hx hb hr hlocks dX0_says_47 rfl (rfl)
      · refine lv_iload hx hb dX0_says_21 (lv_at hl 4 rfl) ?_
        refine ro_callS (As := [.int z]) (rest := []) ⟨hx, hb, hml, hown, hts⟩ hK (ro_X0_isMember l D dB dZ H z) (va_cwS 1 hts (lw_S q103 q104 q21 q105) rfl rfl rfl (by decide +kernel) ⟨Nat.le_of_ble_eq_true rfl, Nat.le_of_ble_eq_true rfl⟩) rfl hl.1 rfl (Nat.le_of_ble_eq_true rfl) dX0_says_23 ⟨Nat.le_of_ble_eq_true rfl, Nat.le_of_ble_eq_true rfl⟩ ?_
        refine tc_beq (tgt := 46) hx hb dX0_says_26 (by decide) (fun c_4 => ?_) (fun c_4 => ?_)
        · refine lv_iconst (v := -1) hx hb dX0_says_46 (by decide) ?_
          exact ro_ret hx hb hr hlocks dX0_says_47 rfl (rfl)
        · refine lv_iload_n hx hb dX0_says_29 rfl (lv_at hl 2 rfl) ?_
          refine lv_iload_n hx hb dX0_says_30 rfl (lv_at hl 3 rfl) ?_
          refine lv_icmp_eq (tgt := 46) hx hb dX0_says_31 (by decide) (fun c_5 => ?_) (fun c_5 => ?_)
          · refine lv_iconst (v := -1) hx hb dX0_says_46 (by decide) ?_
            exact ro_ret hx hb hr hlocks dX0_says_47 rfl (rfl)
          · refine lv_iload_n hx hb dX0_says_34 rfl (lv_at hl 2 rfl) ?_
            refine lv_iload hx hb dX0_says_35 (lv_at hl 4 rfl) ?_
            refine lv_icmp_eq (tgt := 46) hx hb dX0_says_37 (by decide) (fun c_6 => ?_) (fun c_6 => ?_)
            · refine lv_iconst (v := -1) hx hb dX0_says_46 (by decide) ?_
              exact ro_ret hx hb hr hlocks dX0_says_47 rfl (rfl)
            · refine lv_iload_n hx hb dX0_says_40 rfl (lv_at hl 3 rfl) ?_
              refine lv_iload hx hb dX0_says_41 (lv_at hl 4 rfl) ?_
              refine lv_icmp_ne (tgt := 48) hx hb dX0_says_43 (by decide) (fun c_7 => ?_) (fun c_7 => ?_)
              · exact absurd (hbad c_1 c_2 c_3 c_4 c_5 c_6) c_7
              · refine lv_iconst (v := -1) hx hb dX0_says_46 (by decide) ?_
                exact ro_ret hx hb hr hlocks dX0_says_47 rfl (rfl)
set_option maxHeartbeats 4000000 in
set_option maxRecDepth 100000 in
/-- decided, of a tree -/
theorem ro_X0_decided (l : Launch) (D : va_G) (dB dZ : ClassId) (H : Heap) (a C X N K B M : Nat → Nat) (hP : va_P D vwCl (wX a dB C X N K B M) H) (hC : ∀ j, C j ≤ 5) (hX : ∀ j, X j < 128) (t : Nat) (ht : t < 2) : Ro l yX0_decided cX0_decided 7 (some .int) 3 72 [.ref (a 0), .int (nI t)] H D dB dZ ((nI (tx_dec C X t))) := by
  refine Ro.ofW (by decide) (Nat.le_of_ble_eq_true rfl) (fun p e s m below meth c hx hb hr hlocks hml hown hts hK ls hl => ?_)
  have hl : lv_has ls 7 [(0, .ref (a 0)), (1, .int (nI t))] := hl
  refine lv_iload_n hx hb dX0_decided_0 rfl (lv_at hl 1 rfl) ?_
  refine ro_callS (As := [.int (nI t)]) (rest := []) ⟨hx, hb, hml, hown, hts⟩ hK (ro_X0_isTree l D dB dZ H (nI t)) (va_cwS 1 hts (lw_S q55 q56 q21 q57) rfl rfl rfl (by decide +kernel) ⟨Nat.le_of_ble_eq_true rfl, Nat.le_of_ble_eq_true rfl⟩) rfl hl.1 rfl (Nat.le_of_ble_eq_true rfl) dX0_decided_1 ⟨Nat.le_of_ble_eq_true rfl, Nat.le_of_ble_eq_true rfl⟩ ?_
  refine tc_bne (tgt := 9) hx hb dX0_decided_4 (by decide) (fun _ => ?_) (fun c_ => absurd c_ (by rw [tx_isT_n ht] at c_; cases c_))
  refine lv_iconst (v := nI 0) hx hb dX0_decided_9 (by decide) ?_
  refine lv_istore_n (lv' := [(2, .int (nI 0)), (0, .ref (a 0)), (1, .int (nI t))]) hx hb dX0_decided_10 rfl hl (by decide) rfl (fun ls hl => ?_)
  refine lv_iconst (v := nI 0) hx hb dX0_decided_11 (by decide) ?_
  refine lv_istore_n (lv' := [(3, .int (nI 0)), (2, .int (nI 0)), (0, .ref (a 0)), (1, .int (nI t))]) hx hb dX0_decided_12 rfl hl (by decide) rfl (fun ls hl => ?_)
  refine tc_for (nL := 7) 343 (fun _ => True) (fun i => [(3, .int (nI i)), (2, .int (nI (tc_sum (fun i => if i / 49 < i / 7 % 7 ∧ i / 7 % 7 < i % 7 ∧ ¬ tx_last C X t (i / 49) (i / 7 % 7) (i % 7) = 3 then 1 else 0) i))), (0, .ref (a 0)), (1, .int (nI t))]) (trivial) (lv_sub hl [0, 1, 2, 3] rfl) (fun i hi_i hv_1 ih_1 ls hl => ?_) (fun hv_1 ls hl => ?_)
  · have hl : lv_has ls 7 [(3, .int (nI i)), (2, .int (nI (tc_sum (fun i => if i / 49 < i / 7 % 7 ∧ i / 7 % 7 < i % 7 ∧ ¬ tx_last C X t (i / 49) (i / 7 % 7) (i % 7) = 3 then 1 else 0) i))), (0, .ref (a 0)), (1, .int (nI t))] := hl
    refine lv_iload_n hx hb dX0_decided_13 rfl (lv_at hl 0 rfl) ?_
    refine lv_sipush (v := nI 343) hx hb dX0_decided_14 (by decide) ?_
    refine tc_ge (tgt := 84) hx hb dX0_decided_17 (by decide) (by omega) (by omega) (fun c_ => absurd c_ (by omega)) (fun _ => ?_)
    refine lv_iload_n hx hb dX0_decided_20 rfl (lv_at hl 0 rfl) ?_
    refine lv_bipush (v := nI 49) hx hb dX0_decided_21 (by decide) ?_
    refine tc_idiv hx hb dX0_decided_23 (by omega) (by omega) (by omega) ?_
    refine lv_istore (lv' := [(4, .int (nI (i / 49))), (3, .int (nI i)), (2, .int (nI (tc_sum (fun i => if i / 49 < i / 7 % 7 ∧ i / 7 % 7 < i % 7 ∧ ¬ tx_last C X t (i / 49) (i / 7 % 7) (i % 7) = 3 then 1 else 0) i))), (0, .ref (a 0)), (1, .int (nI t))]) hx hb dX0_decided_24 hl (by decide) rfl (fun ls hl => ?_)
    refine lv_iload_n hx hb dX0_decided_26 rfl (lv_at hl 1 rfl) ?_
    refine lv_bipush (v := nI 7) hx hb dX0_decided_27 (by decide) ?_
    refine tc_idiv hx hb dX0_decided_29 (by omega) (by omega) (by omega) ?_
    refine lv_bipush (v := nI 7) hx hb dX0_decided_30 (by decide) ?_
    refine tc_irem hx hb dX0_decided_32 (by omega) (by omega) (by omega) ?_
    refine lv_istore (lv' := [(5, .int (nI ((i / 7) % 7))), (4, .int (nI (i / 49))), (3, .int (nI i)), (2, .int (nI (tc_sum (fun i => if i / 49 < i / 7 % 7 ∧ i / 7 % 7 < i % 7 ∧ ¬ tx_last C X t (i / 49) (i / 7 % 7) (i % 7) = 3 then 1 else 0) i))), (0, .ref (a 0)), (1, .int (nI t))]) hx hb dX0_decided_33 hl (by decide) rfl (fun ls hl => ?_)
    refine lv_iload_n hx hb dX0_decided_35 rfl (lv_at hl 2 rfl) ?_
    refine lv_bipush (v := nI 7) hx hb dX0_decided_36 (by decide) ?_
    refine tc_irem hx hb dX0_decided_38 (by omega) (by omega) (by omega) ?_
    refine lv_istore (lv' := [(6, .int (nI (i % 7))), (5, .int (nI ((i / 7) % 7))), (4, .int (nI (i / 49))), (3, .int (nI i)), (2, .int (nI (tc_sum (fun i => if i / 49 < i / 7 % 7 ∧ i / 7 % 7 < i % 7 ∧ ¬ tx_last C X t (i / 49) (i / 7 % 7) (i % 7) = 3 then 1 else 0) i))), (0, .ref (a 0)), (1, .int (nI t))]) hx hb dX0_decided_39 hl (by decide) rfl (fun ls hl => ?_)
    refine lv_iload_n hx hb dX0_decided_41 rfl (lv_at hl 4 rfl) ?_
    refine tc_at 76 [.int (nI (if i / 49 < i / 7 % 7 ∧ i / 7 % 7 < i % 7 ∧ ¬ tx_last C X t (i / 49) (i / 7 % 7) (i % 7) = 3 then 1 else 0)), .int (nI (tc_sum (fun i => if i / 49 < i / 7 % 7 ∧ i / 7 % 7 < i % 7 ∧ ¬ tx_last C X t (i / 49) (i / 7 % 7) (i % 7) = 3 then 1 else 0) i))] (fun hj_2 => ?_) ?_
    · refine lv_iload hx hb dX0_decided_42 (lv_at hl 2 rfl) ?_
      refine lv_iload hx hb dX0_decided_44 (lv_at hl 1 rfl) ?_
      refine tc_ge (tgt := 75) hx hb dX0_decided_46 (by decide) (by omega) (by omega) (fun c_3 => ?_) (fun c_3 => ?_)
      · refine lv_iconst (v := nI 0) hx hb dX0_decided_75 (by decide) ?_
        exact tc_topN (by first | (rw [if_pos ⟨c_3⟩]; done) | (rw [if_neg (by omega)]; done) | grind) hj_2
      · refine lv_iload hx hb dX0_decided_49 (lv_at hl 1 rfl) ?_
        refine lv_iload hx hb dX0_decided_51 (lv_at hl 0 rfl) ?_
        refine tc_ge (tgt := 75) hx hb dX0_decided_53 (by decide) (by omega) (by omega) (fun c_4 => ?_) (fun c_4 => ?_)
        · refine lv_iconst (v := nI 0) hx hb dX0_decided_75 (by decide) ?_
          exact tc_topN (by first | (rw [if_pos ⟨c_3, c_4⟩]; done) | (rw [if_neg (by omega)]; done) | grind) hj_2
        · refine lv_aload_n hx hb dX0_decided_56 rfl (lv_at hl 5 rfl) ?_
          refine lv_iload_n hx hb dX0_decided_57 rfl (lv_at hl 6 rfl) ?_
          refine lv_iload hx hb dX0_decided_58 (lv_at hl 2 rfl) ?_
          refine lv_iload hx hb dX0_decided_60 (lv_at hl 1 rfl) ?_
          refine lv_iload hx hb dX0_decided_62 (lv_at hl 0 rfl) ?_
          refine ro_callV (As := [.int (nI t), .int (nI (i / 49)), .int (nI ((i / 7) % 7)), .int (nI (i % 7))]) (rest := [.int (nI (tc_sum (fun i => if i / 49 < i / 7 % 7 ∧ i / 7 % 7 < i % 7 ∧ ¬ tx_last C X t (i / 49) (i / 7 % 7) (i % 7) = 3 then 1 else 0) i))]) ⟨hx, hb, hml, hown, hts⟩ hK (ro_X0_lastOf l D dB dZ H a C X N K B M hP hC hX t (by omega) (i / 49) ((i / 7) % 7) (i % 7) (by omega) (by omega) (by omega)) (cwV 4 hts (lw_V q106 q108 qs4 q21 q109) rfl rfl rfl (by decide +kernel) ⟨Nat.le_of_ble_eq_true rfl, Nat.le_of_ble_eq_true rfl⟩) (va_recv hK hP (ci := 0) (q0 := 0) rfl rfl) rfl hl.1 rfl (Nat.le_of_ble_eq_true rfl) dX0_decided_64 ⟨Nat.le_of_ble_eq_true rfl, Nat.le_of_ble_eq_true rfl⟩ ?_
          have hv_5 := tx_last_le C X t (i / 49) ((i / 7) % 7) (i % 7)
          refine lv_iconst (v := nI 3) hx hb dX0_decided_67 (by decide) ?_
          refine tc_eq (tgt := 75) hx hb dX0_decided_68 (by decide) (by omega) (by omega) (fun c_6 => ?_) (fun c_6 => ?_)
          · refine lv_iconst (v := nI 0) hx hb dX0_decided_75 (by decide) ?_
            exact tc_topN (by first | (rw [if_pos ⟨c_3, c_4, c_6⟩]; done) | (rw [if_neg (by omega)]; done) | grind) hj_2
          · refine lv_iconst (v := nI 1) hx hb dX0_decided_71 (by decide) ?_
            refine lv_goto (tgt := 76) hx hb dX0_decided_72 (by decide) ?_
            exact tc_topN (by first | (rw [if_pos ⟨c_3, c_4, c_6⟩]; done) | (rw [if_neg (by omega)]; done) | grind) hj_2
    · refine tc_iadd hx hb dX0_decided_76 ?_
      refine lv_istore_n (lv' := [(2, .int (nI ((tc_sum (fun i => if i / 49 < i / 7 % 7 ∧ i / 7 % 7 < i % 7 ∧ ¬ tx_last C X t (i / 49) (i / 7 % 7) (i % 7) = 3 then 1 else 0) i) + (if i / 49 < i / 7 % 7 ∧ i / 7 % 7 < i % 7 ∧ ¬ tx_last C X t (i / 49) (i / 7 % 7) (i % 7) = 3 then 1 else 0)))), (6, .int (nI (i % 7))), (5, .int (nI ((i / 7) % 7))), (4, .int (nI (i / 49))), (3, .int (nI i)), (0, .ref (a 0)), (1, .int (nI t))]) hx hb dX0_decided_77 rfl hl (by decide) rfl (fun ls hl => ?_)
      refine lv_iinc (v := nI (i + 1)) (lv' := [(3, .int (nI (i + 1))), (2, .int (nI ((tc_sum (fun i => if i / 49 < i / 7 % 7 ∧ i / 7 % 7 < i % 7 ∧ ¬ tx_last C X t (i / 49) (i / 7 % 7) (i % 7) = 3 then 1 else 0) i) + (if i / 49 < i / 7 % 7 ∧ i / 7 % 7 < i % 7 ∧ ¬ tx_last C X t (i / 49) (i / 7 % 7) (i % 7) = 3 then 1 else 0)))), (6, .int (nI (i % 7))), (5, .int (nI ((i / 7) % 7))), (4, .int (nI (i / 49))), (0, .ref (a 0)), (1, .int (nI t))]) hx hb dX0_decided_78 hl (k := 4) rfl (t_inc _) (by decide) rfl (fun ls hl => ?_)
      refine lv_goto (tgt := 13) hx hb dX0_decided_81 (by decide) ?_
      exact ih_1 ls (trivial) (lv_sub hl [0, 1, 5, 6] rfl)
  · have hl : lv_has ls 7 [(3, .int (nI 343)), (2, .int (nI (tc_sum (fun i => if i / 49 < i / 7 % 7 ∧ i / 7 % 7 < i % 7 ∧ ¬ tx_last C X t (i / 49) (i / 7 % 7) (i % 7) = 3 then 1 else 0) 343))), (0, .ref (a 0)), (1, .int (nI t))] := hl
    refine lv_iload_n hx hb dX0_decided_13 rfl (lv_at hl 0 rfl) ?_
    refine lv_sipush (v := nI 343) hx hb dX0_decided_14 (by decide) ?_
    refine tc_ge (tgt := 84) hx hb dX0_decided_17 (by decide) (by omega) (by omega) (fun _ => ?_) (fun c_ => absurd c_ (by omega))
    refine lv_iload_n hx hb dX0_decided_84 rfl (lv_at hl 1 rfl) ?_
    exact ro_ret hx hb hr hlocks dX0_decided_85 rfl (rfl)
set_option maxHeartbeats 4000000 in
set_option maxRecDepth 100000 in
/-- decided, else -/
theorem ro_X0_decided_b (l : Launch) (D : va_G) (dB dZ : ClassId) (H : Heap) (a C X N K B M : Nat → Nat) (hP : va_P D vwCl (wX a dB C X N K B M) H) (hC : ∀ j, C j ≤ 5) (hX : ∀ j, X j < 128) (t : Int32) (hbad : tx_isT t = false) : Ro l yX0_decided cX0_decided 7 (some .int) 3 72 [.ref (a 0), .int t] H D dB dZ ((-1)) := by
  refine Ro.ofW (by decide) (Nat.le_of_ble_eq_true rfl) (fun p e s m below meth c hx hb hr hlocks hml hown hts hK ls hl => ?_)
  have hl : lv_has ls 7 [(0, .ref (a 0)), (1, .int t)] := hl
  refine lv_iload_n hx hb dX0_decided_0 rfl (lv_at hl 1 rfl) ?_
  refine ro_callS (As := [.int t]) (rest := []) ⟨hx, hb, hml, hown, hts⟩ hK (ro_X0_isTree l D dB dZ H t) (va_cwS 1 hts (lw_S q55 q56 q21 q57) rfl rfl rfl (by decide +kernel) ⟨Nat.le_of_ble_eq_true rfl, Nat.le_of_ble_eq_true rfl⟩) rfl hl.1 rfl (Nat.le_of_ble_eq_true rfl) dX0_decided_1 ⟨Nat.le_of_ble_eq_true rfl, Nat.le_of_ble_eq_true rfl⟩ ?_
  refine tc_bne (tgt := 9) hx hb dX0_decided_4 (by decide) (fun c_ => absurd c_ (by rw [hbad] at c_; cases c_)) (fun _ => ?_)
  refine lv_iconst (v := -1) hx hb dX0_decided_7 (by decide) ?_
  exact ro_ret hx hb hr hlocks dX0_decided_8 rfl (rfl)
set_option maxHeartbeats 4000000 in
set_option maxRecDepth 100000 in
/-- conflicts: the triples within a set about which the trees differ -/
theorem ro_X0_conflicts (l : Launch) (D : va_G) (dB dZ : ClassId) (H : Heap) (a C X N K B M : Nat → Nat) (hP : va_P D vwCl (wX a dB C X N K B M) H) (hC : ∀ j, C j ≤ 5) (hX : ∀ j, X j < 128) (w : Nat) (hw : w < 128) : Ro l yX0_conflicts cX0_conflicts 9 (some .int) 3 72 [.ref (a 0), .int (nI w)] H D dB dZ ((nI (tx_conf C X w))) := by
  refine Ro.ofW (by decide) (Nat.le_of_ble_eq_true rfl) (fun p e s m below meth c hx hb hr hlocks hml hown hts hK ls hl => ?_)
  have hl : lv_has ls 9 [(0, .ref (a 0)), (1, .int (nI w))] := hl
  refine lv_iconst (v := nI 0) hx hb dX0_conflicts_0 (by decide) ?_
  refine lv_istore_n (lv' := [(2, .int (nI 0)), (0, .ref (a 0)), (1, .int (nI w))]) hx hb dX0_conflicts_1 rfl hl (by decide) rfl (fun ls hl => ?_)
  refine lv_iconst (v := nI 0) hx hb dX0_conflicts_2 (by decide) ?_
  refine lv_istore_n (lv' := [(3, .int (nI 0)), (2, .int (nI 0)), (0, .ref (a 0)), (1, .int (nI w))]) hx hb dX0_conflicts_3 rfl hl (by decide) rfl (fun ls hl => ?_)
  refine tc_for (nL := 9) 343 (fun _ => True) (fun i => [(3, .int (nI i)), (2, .int (nI (tc_sum (fun i => if ¬ ((w >>> (i / 49)) &&& (w >>> (i / 7 % 7))) &&& (w >>> (i % 7)) &&& 1 = 0 ∧ i / 49 < i / 7 % 7 ∧ i / 7 % 7 < i % 7 ∧ ¬ tx_last C X 0 (i / 49) (i / 7 % 7) (i % 7) = tx_last C X 1 (i / 49) (i / 7 % 7) (i % 7) then 1 else 0) i))), (0, .ref (a 0)), (1, .int (nI w))]) (trivial) (lv_sub hl [0, 1, 2, 3] rfl) (fun i hi_i hv_1 ih_1 ls hl => ?_) (fun hv_1 ls hl => ?_)
  · have hl : lv_has ls 9 [(3, .int (nI i)), (2, .int (nI (tc_sum (fun i => if ¬ ((w >>> (i / 49)) &&& (w >>> (i / 7 % 7))) &&& (w >>> (i % 7)) &&& 1 = 0 ∧ i / 49 < i / 7 % 7 ∧ i / 7 % 7 < i % 7 ∧ ¬ tx_last C X 0 (i / 49) (i / 7 % 7) (i % 7) = tx_last C X 1 (i / 49) (i / 7 % 7) (i % 7) then 1 else 0) i))), (0, .ref (a 0)), (1, .int (nI w))] := hl
    refine lv_iload_n hx hb dX0_conflicts_4 rfl (lv_at hl 0 rfl) ?_
    refine lv_sipush (v := nI 343) hx hb dX0_conflicts_5 (by decide) ?_
    refine tc_ge (tgt := 120) hx hb dX0_conflicts_8 (by decide) (by omega) (by omega) (fun c_ => absurd c_ (by omega)) (fun _ => ?_)
    refine lv_iload_n hx hb dX0_conflicts_11 rfl (lv_at hl 0 rfl) ?_
    refine lv_bipush (v := nI 49) hx hb dX0_conflicts_12 (by decide) ?_
    refine tc_idiv hx hb dX0_conflicts_14 (by omega) (by omega) (by omega) ?_
    refine lv_istore (lv' := [(4, .int (nI (i / 49))), (3, .int (nI i)), (2, .int (nI (tc_sum (fun i => if ¬ ((w >>> (i / 49)) &&& (w >>> (i / 7 % 7))) &&& (w >>> (i % 7)) &&& 1 = 0 ∧ i / 49 < i / 7 % 7 ∧ i / 7 % 7 < i % 7 ∧ ¬ tx_last C X 0 (i / 49) (i / 7 % 7) (i % 7) = tx_last C X 1 (i / 49) (i / 7 % 7) (i % 7) then 1 else 0) i))), (0, .ref (a 0)), (1, .int (nI w))]) hx hb dX0_conflicts_15 hl (by decide) rfl (fun ls hl => ?_)
    refine lv_iload_n hx hb dX0_conflicts_17 rfl (lv_at hl 1 rfl) ?_
    refine lv_bipush (v := nI 7) hx hb dX0_conflicts_18 (by decide) ?_
    refine tc_idiv hx hb dX0_conflicts_20 (by omega) (by omega) (by omega) ?_
    refine lv_bipush (v := nI 7) hx hb dX0_conflicts_21 (by decide) ?_
    refine tc_irem hx hb dX0_conflicts_23 (by omega) (by omega) (by omega) ?_
    refine lv_istore (lv' := [(5, .int (nI ((i / 7) % 7))), (4, .int (nI (i / 49))), (3, .int (nI i)), (2, .int (nI (tc_sum (fun i => if ¬ ((w >>> (i / 49)) &&& (w >>> (i / 7 % 7))) &&& (w >>> (i % 7)) &&& 1 = 0 ∧ i / 49 < i / 7 % 7 ∧ i / 7 % 7 < i % 7 ∧ ¬ tx_last C X 0 (i / 49) (i / 7 % 7) (i % 7) = tx_last C X 1 (i / 49) (i / 7 % 7) (i % 7) then 1 else 0) i))), (0, .ref (a 0)), (1, .int (nI w))]) hx hb dX0_conflicts_24 hl (by decide) rfl (fun ls hl => ?_)
    refine lv_iload_n hx hb dX0_conflicts_26 rfl (lv_at hl 2 rfl) ?_
    refine lv_bipush (v := nI 7) hx hb dX0_conflicts_27 (by decide) ?_
    refine tc_irem hx hb dX0_conflicts_29 (by omega) (by omega) (by omega) ?_
    refine lv_istore (lv' := [(6, .int (nI (i % 7))), (5, .int (nI ((i / 7) % 7))), (4, .int (nI (i / 49))), (3, .int (nI i)), (2, .int (nI (tc_sum (fun i => if ¬ ((w >>> (i / 49)) &&& (w >>> (i / 7 % 7))) &&& (w >>> (i % 7)) &&& 1 = 0 ∧ i / 49 < i / 7 % 7 ∧ i / 7 % 7 < i % 7 ∧ ¬ tx_last C X 0 (i / 49) (i / 7 % 7) (i % 7) = tx_last C X 1 (i / 49) (i / 7 % 7) (i % 7) then 1 else 0) i))), (0, .ref (a 0)), (1, .int (nI w))]) hx hb dX0_conflicts_30 hl (by decide) rfl (fun ls hl => ?_)
    refine lv_iload_n hx hb dX0_conflicts_32 rfl (lv_at hl 6 rfl) ?_
    refine lv_iload hx hb dX0_conflicts_33 (lv_at hl 2 rfl) ?_
    refine tc_ishr hx hb dX0_conflicts_35 (by omega) (by omega) ?_
    refine lv_iload_n hx hb dX0_conflicts_36 rfl (lv_at hl 6 rfl) ?_
    refine lv_iload hx hb dX0_conflicts_37 (lv_at hl 1 rfl) ?_
    refine tc_ishr hx hb dX0_conflicts_39 (by omega) (by omega) ?_
    refine tc_iand hx hb dX0_conflicts_40 ?_
    have hv_2 : (w >>> (i / 49)) &&& (w >>> ((i / 7) % 7)) ≤ (w >>> (i / 49)) := Nat.and_le_left
    refine lv_iload_n hx hb dX0_conflicts_41 rfl (lv_at hl 6 rfl) ?_
    refine lv_iload hx hb dX0_conflicts_42 (lv_at hl 0 rfl) ?_
    refine tc_ishr hx hb dX0_conflicts_44 (by omega) (by omega) ?_
    refine tc_iand hx hb dX0_conflicts_45 ?_
    have hv_3 : ((w >>> (i / 49)) &&& (w >>> ((i / 7) % 7))) &&& (w >>> (i % 7)) ≤ ((w >>> (i / 49)) &&& (w >>> ((i / 7) % 7))) := Nat.and_le_left
    refine lv_iconst (v := nI 1) hx hb dX0_conflicts_46 (by decide) ?_
    have hA : (w >>> (i / 49) &&& w >>> (i / 7 % 7)) &&& w >>> (i % 7) &&& 1 ≤ 1 := Nat.and_le_right
    refine tc_iand hx hb dX0_conflicts_47 ?_
    have hv_4 : (((w >>> (i / 49)) &&& (w >>> ((i / 7) % 7))) &&& (w >>> (i % 7))) &&& 1 ≤ 1 := Nat.and_le_right
    refine tc_atV (nL := 9) 114 [] (α := Nat) (tc_sum (fun i => if ¬ ((w >>> (i / 49)) &&& (w >>> (i / 7 % 7))) &&& (w >>> (i % 7)) &&& 1 = 0 ∧ i / 49 < i / 7 % 7 ∧ i / 7 % 7 < i % 7 ∧ ¬ tx_last C X 0 (i / 49) (i / 7 % 7) (i % 7) = tx_last C X 1 (i / 49) (i / 7 % 7) (i % 7) then 1 else 0) i + (if ¬ ((w >>> (i / 49)) &&& (w >>> (i / 7 % 7))) &&& (w >>> (i % 7)) &&& 1 = 0 ∧ i / 49 < i / 7 % 7 ∧ i / 7 % 7 < i % 7 ∧ ¬ tx_last C X 0 (i / 49) (i / 7 % 7) (i % 7) = tx_last C X 1 (i / 49) (i / 7 % 7) (i % 7) then 1 else 0)) (fun v => [(2, .int (nI v)), (3, .int (nI i)), (0, .ref (a 0)), (1, .int (nI w))]) (fun hj_5 => ?_) (fun ls hl => ?_)
    · refine tc_eq0 (tgt := 55) hx hb dX0_conflicts_48 (by decide) (by omega) (fun c_6 => ?_) (fun c_6 => ?_)
      · refine lv_iconst (v := nI 0) hx hb dX0_conflicts_55 (by decide) ?_
        refine lv_istore (lv' := [(7, .int (nI 0)), (6, .int (nI (i % 7))), (5, .int (nI ((i / 7) % 7))), (4, .int (nI (i / 49))), (3, .int (nI i)), (2, .int (nI (tc_sum (fun i => if ¬ ((w >>> (i / 49)) &&& (w >>> (i / 7 % 7))) &&& (w >>> (i % 7)) &&& 1 = 0 ∧ i / 49 < i / 7 % 7 ∧ i / 7 % 7 < i % 7 ∧ ¬ tx_last C X 0 (i / 49) (i / 7 % 7) (i % 7) = tx_last C X 1 (i / 49) (i / 7 % 7) (i % 7) then 1 else 0) i))), (0, .ref (a 0)), (1, .int (nI w))]) hx hb dX0_conflicts_56 hl (by decide) rfl (fun ls hl => ?_)
        refine lv_iload hx hb dX0_conflicts_58 (lv_at hl 0 rfl) ?_
        refine tc_eq0 (tgt := 114) hx hb dX0_conflicts_60 (by decide) (by omega) (fun _ => ?_) (fun c_ => absurd c_ (by omega))
        exact hj_5 (tc_sum (fun i => if ¬ ((w >>> (i / 49)) &&& (w >>> (i / 7 % 7))) &&& (w >>> (i % 7)) &&& 1 = 0 ∧ i / 49 < i / 7 % 7 ∧ i / 7 % 7 < i % 7 ∧ ¬ tx_last C X 0 (i / 49) (i / 7 % 7) (i % 7) = tx_last C X 1 (i / 49) (i / 7 % 7) (i % 7) then 1 else 0) i) (by rw [if_neg (fun h => h.1 c_6), Nat.add_zero]) ls (lv_sub hl [5, 4, 6, 7] rfl)
      · refine lv_iconst (v := nI 1) hx hb dX0_conflicts_51 (by decide) ?_
        refine lv_goto (tgt := 56) hx hb dX0_conflicts_52 (by decide) ?_
        refine lv_istore (lv' := [(7, .int (nI 1)), (6, .int (nI (i % 7))), (5, .int (nI ((i / 7) % 7))), (4, .int (nI (i / 49))), (3, .int (nI i)), (2, .int (nI (tc_sum (fun i => if ¬ ((w >>> (i / 49)) &&& (w >>> (i / 7 % 7))) &&& (w >>> (i % 7)) &&& 1 = 0 ∧ i / 49 < i / 7 % 7 ∧ i / 7 % 7 < i % 7 ∧ ¬ tx_last C X 0 (i / 49) (i / 7 % 7) (i % 7) = tx_last C X 1 (i / 49) (i / 7 % 7) (i % 7) then 1 else 0) i))), (0, .ref (a 0)), (1, .int (nI w))]) hx hb dX0_conflicts_56 hl (by decide) rfl (fun ls hl => ?_)
        refine lv_iload hx hb dX0_conflicts_58 (lv_at hl 0 rfl) ?_
        refine tc_eq0 (tgt := 114) hx hb dX0_conflicts_60 (by decide) (by omega) (fun c_ => absurd c_ (by omega)) (fun _ => ?_)
        refine lv_iload hx hb dX0_conflicts_63 (lv_at hl 3 rfl) ?_
        refine lv_iload hx hb dX0_conflicts_65 (lv_at hl 2 rfl) ?_
        refine tc_ge (tgt := 114) hx hb dX0_conflicts_67 (by decide) (by omega) (by omega) (fun c_7 => ?_) (fun c_7 => ?_)
        · exact hj_5 (tc_sum (fun i => if ¬ ((w >>> (i / 49)) &&& (w >>> (i / 7 % 7))) &&& (w >>> (i % 7)) &&& 1 = 0 ∧ i / 49 < i / 7 % 7 ∧ i / 7 % 7 < i % 7 ∧ ¬ tx_last C X 0 (i / 49) (i / 7 % 7) (i % 7) = tx_last C X 1 (i / 49) (i / 7 % 7) (i % 7) then 1 else 0) i) (by rw [if_neg (fun h => absurd h.2.1 (by omega)), Nat.add_zero]) ls (lv_sub hl [5, 4, 6, 7] rfl)
        · refine lv_iload hx hb dX0_conflicts_70 (lv_at hl 2 rfl) ?_
          refine lv_iload hx hb dX0_conflicts_72 (lv_at hl 1 rfl) ?_
          refine tc_ge (tgt := 114) hx hb dX0_conflicts_74 (by decide) (by omega) (by omega) (fun c_8 => ?_) (fun c_8 => ?_)
          · exact hj_5 (tc_sum (fun i => if ¬ ((w >>> (i / 49)) &&& (w >>> (i / 7 % 7))) &&& (w >>> (i % 7)) &&& 1 = 0 ∧ i / 49 < i / 7 % 7 ∧ i / 7 % 7 < i % 7 ∧ ¬ tx_last C X 0 (i / 49) (i / 7 % 7) (i % 7) = tx_last C X 1 (i / 49) (i / 7 % 7) (i % 7) then 1 else 0) i) (by rw [if_neg (fun h => absurd h.2.2.1 (by omega)), Nat.add_zero]) ls (lv_sub hl [5, 4, 6, 7] rfl)
          · refine lv_aload_n hx hb dX0_conflicts_77 rfl (lv_at hl 6 rfl) ?_
            refine lv_iconst (v := nI 0) hx hb dX0_conflicts_78 (by decide) ?_
            refine lv_iload hx hb dX0_conflicts_79 (lv_at hl 3 rfl) ?_
            refine lv_iload hx hb dX0_conflicts_81 (lv_at hl 2 rfl) ?_
            refine lv_iload hx hb dX0_conflicts_83 (lv_at hl 1 rfl) ?_
            refine ro_callV (As := [.int (nI 0), .int (nI (i / 49)), .int (nI ((i / 7) % 7)), .int (nI (i % 7))]) (rest := []) ⟨hx, hb, hml, hown, hts⟩ hK (ro_X0_lastOf l D dB dZ H a C X N K B M hP hC hX 0 (by omega) (i / 49) ((i / 7) % 7) (i % 7) (by omega) (by omega) (by omega)) (cwV 4 hts (lw_V q106 q108 qs4 q21 q109) rfl rfl rfl (by decide +kernel) ⟨Nat.le_of_ble_eq_true rfl, Nat.le_of_ble_eq_true rfl⟩) (va_recv hK hP (ci := 0) (q0 := 0) rfl rfl) rfl hl.1 rfl (Nat.le_of_ble_eq_true rfl) dX0_conflicts_85 ⟨Nat.le_of_ble_eq_true rfl, Nat.le_of_ble_eq_true rfl⟩ ?_
            have hv_9 := tx_last_le C X 0 (i / 49) ((i / 7) % 7) (i % 7)
            refine lv_istore (lv' := [(8, .int (nI (tx_last C X 0 (i / 49) ((i / 7) % 7) (i % 7)))), (7, .int (nI 1)), (6, .int (nI (i % 7))), (5, .int (nI ((i / 7) % 7))), (4, .int (nI (i / 49))), (3, .int (nI i)), (2, .int (nI (tc_sum (fun i => if ¬ ((w >>> (i / 49)) &&& (w >>> (i / 7 % 7))) &&& (w >>> (i % 7)) &&& 1 = 0 ∧ i / 49 < i / 7 % 7 ∧ i / 7 % 7 < i % 7 ∧ ¬ tx_last C X 0 (i / 49) (i / 7 % 7) (i % 7) = tx_last C X 1 (i / 49) (i / 7 % 7) (i % 7) then 1 else 0) i))), (0, .ref (a 0)), (1, .int (nI w))]) hx hb dX0_conflicts_88 hl (by decide) rfl (fun ls hl => ?_)
            refine lv_iload_n hx hb dX0_conflicts_90 rfl (lv_at hl 6 rfl) ?_
            refine lv_iload hx hb dX0_conflicts_91 (lv_at hl 0 rfl) ?_
            refine lv_aload_n hx hb dX0_conflicts_93 rfl (lv_at hl 7 rfl) ?_
            refine lv_iconst (v := nI 1) hx hb dX0_conflicts_94 (by decide) ?_
            refine lv_iload hx hb dX0_conflicts_95 (lv_at hl 4 rfl) ?_
            refine lv_iload hx hb dX0_conflicts_97 (lv_at hl 3 rfl) ?_
            refine lv_iload hx hb dX0_conflicts_99 (lv_at hl 2 rfl) ?_
            refine ro_callV (As := [.int (nI 1), .int (nI (i / 49)), .int (nI ((i / 7) % 7)), .int (nI (i % 7))]) (rest := [.int (nI (tx_last C X 0 (i / 49) ((i / 7) % 7) (i % 7))), .int (nI (tc_sum (fun i => if ¬ ((w >>> (i / 49)) &&& (w >>> (i / 7 % 7))) &&& (w >>> (i % 7)) &&& 1 = 0 ∧ i / 49 < i / 7 % 7 ∧ i / 7 % 7 < i % 7 ∧ ¬ tx_last C X 0 (i / 49) (i / 7 % 7) (i % 7) = tx_last C X 1 (i / 49) (i / 7 % 7) (i % 7) then 1 else 0) i))]) ⟨hx, hb, hml, hown, hts⟩ hK (ro_X0_lastOf l D dB dZ H a C X N K B M hP hC hX 1 (by omega) (i / 49) ((i / 7) % 7) (i % 7) (by omega) (by omega) (by omega)) (cwV 4 hts (lw_V q106 q108 qs4 q21 q109) rfl rfl rfl (by decide +kernel) ⟨Nat.le_of_ble_eq_true rfl, Nat.le_of_ble_eq_true rfl⟩) (va_recv hK hP (ci := 0) (q0 := 0) rfl rfl) rfl hl.1 rfl (Nat.le_of_ble_eq_true rfl) dX0_conflicts_101 ⟨Nat.le_of_ble_eq_true rfl, Nat.le_of_ble_eq_true rfl⟩ ?_
            have hv_10 := tx_last_le C X 1 (i / 49) ((i / 7) % 7) (i % 7)
            refine tc_eq (tgt := 111) hx hb dX0_conflicts_104 (by decide) (by omega) (by omega) (fun c_11 => ?_) (fun c_11 => ?_)
            · refine lv_iconst (v := nI 0) hx hb dX0_conflicts_111 (by decide) ?_
              refine tc_iadd hx hb dX0_conflicts_112 ?_
              refine lv_istore_n (lv' := [(2, .int (nI ((tc_sum (fun i => if ¬ ((w >>> (i / 49)) &&& (w >>> (i / 7 % 7))) &&& (w >>> (i % 7)) &&& 1 = 0 ∧ i / 49 < i / 7 % 7 ∧ i / 7 % 7 < i % 7 ∧ ¬ tx_last C X 0 (i / 49) (i / 7 % 7) (i % 7) = tx_last C X 1 (i / 49) (i / 7 % 7) (i % 7) then 1 else 0) i) + 0))), (8, .int (nI (tx_last C X 0 (i / 49) ((i / 7) % 7) (i % 7)))), (7, .int (nI 1)), (6, .int (nI (i % 7))), (5, .int (nI ((i / 7) % 7))), (4, .int (nI (i / 49))), (3, .int (nI i)), (0, .ref (a 0)), (1, .int (nI w))]) hx hb dX0_conflicts_113 rfl hl (by decide) rfl (fun ls hl => ?_)
              exact hj_5 ((tc_sum (fun i => if ¬ ((w >>> (i / 49)) &&& (w >>> (i / 7 % 7))) &&& (w >>> (i % 7)) &&& 1 = 0 ∧ i / 49 < i / 7 % 7 ∧ i / 7 % 7 < i % 7 ∧ ¬ tx_last C X 0 (i / 49) (i / 7 % 7) (i % 7) = tx_last C X 1 (i / 49) (i / 7 % 7) (i % 7) then 1 else 0) i) + 0) (by rw [if_neg (fun h => h.2.2.2 c_11)]) ls (lv_sub hl [0, 6, 7, 8] rfl)
            · refine lv_iconst (v := nI 1) hx hb dX0_conflicts_107 (by decide) ?_
              refine lv_goto (tgt := 112) hx hb dX0_conflicts_108 (by decide) ?_
              refine tc_iadd hx hb dX0_conflicts_112 ?_
              refine lv_istore_n (lv' := [(2, .int (nI ((tc_sum (fun i => if ¬ ((w >>> (i / 49)) &&& (w >>> (i / 7 % 7))) &&& (w >>> (i % 7)) &&& 1 = 0 ∧ i / 49 < i / 7 % 7 ∧ i / 7 % 7 < i % 7 ∧ ¬ tx_last C X 0 (i / 49) (i / 7 % 7) (i % 7) = tx_last C X 1 (i / 49) (i / 7 % 7) (i % 7) then 1 else 0) i) + 1))), (8, .int (nI (tx_last C X 0 (i / 49) ((i / 7) % 7) (i % 7)))), (7, .int (nI 1)), (6, .int (nI (i % 7))), (5, .int (nI ((i / 7) % 7))), (4, .int (nI (i / 49))), (3, .int (nI i)), (0, .ref (a 0)), (1, .int (nI w))]) hx hb dX0_conflicts_113 rfl hl (by decide) rfl (fun ls hl => ?_)
              exact hj_5 ((tc_sum (fun i => if ¬ ((w >>> (i / 49)) &&& (w >>> (i / 7 % 7))) &&& (w >>> (i % 7)) &&& 1 = 0 ∧ i / 49 < i / 7 % 7 ∧ i / 7 % 7 < i % 7 ∧ ¬ tx_last C X 0 (i / 49) (i / 7 % 7) (i % 7) = tx_last C X 1 (i / 49) (i / 7 % 7) (i % 7) then 1 else 0) i) + 1) (by rw [if_pos ⟨c_6, c_7, c_8, c_11⟩]) ls (lv_sub hl [0, 6, 7, 8] rfl)
    · have hl : lv_has ls 9 [(2, .int (nI (tc_sum (fun i => if ¬ ((w >>> (i / 49)) &&& (w >>> (i / 7 % 7))) &&& (w >>> (i % 7)) &&& 1 = 0 ∧ i / 49 < i / 7 % 7 ∧ i / 7 % 7 < i % 7 ∧ ¬ tx_last C X 0 (i / 49) (i / 7 % 7) (i % 7) = tx_last C X 1 (i / 49) (i / 7 % 7) (i % 7) then 1 else 0) i + (if ¬ ((w >>> (i / 49)) &&& (w >>> (i / 7 % 7))) &&& (w >>> (i % 7)) &&& 1 = 0 ∧ i / 49 < i / 7 % 7 ∧ i / 7 % 7 < i % 7 ∧ ¬ tx_last C X 0 (i / 49) (i / 7 % 7) (i % 7) = tx_last C X 1 (i / 49) (i / 7 % 7) (i % 7) then 1 else 0)))), (3, .int (nI i)), (0, .ref (a 0)), (1, .int (nI w))] := hl
      refine lv_iinc (v := nI (i + 1)) (lv' := [(3, .int (nI (i + 1))), (2, .int (nI (tc_sum (fun i => if ¬ ((w >>> (i / 49)) &&& (w >>> (i / 7 % 7))) &&& (w >>> (i % 7)) &&& 1 = 0 ∧ i / 49 < i / 7 % 7 ∧ i / 7 % 7 < i % 7 ∧ ¬ tx_last C X 0 (i / 49) (i / 7 % 7) (i % 7) = tx_last C X 1 (i / 49) (i / 7 % 7) (i % 7) then 1 else 0) i + (if ¬ ((w >>> (i / 49)) &&& (w >>> (i / 7 % 7))) &&& (w >>> (i % 7)) &&& 1 = 0 ∧ i / 49 < i / 7 % 7 ∧ i / 7 % 7 < i % 7 ∧ ¬ tx_last C X 0 (i / 49) (i / 7 % 7) (i % 7) = tx_last C X 1 (i / 49) (i / 7 % 7) (i % 7) then 1 else 0)))), (0, .ref (a 0)), (1, .int (nI w))]) hx hb dX0_conflicts_114 hl (k := 1) rfl (t_inc _) (by decide) rfl (fun ls hl => ?_)
      refine lv_goto (tgt := 4) hx hb dX0_conflicts_117 (by decide) ?_
      exact ih_1 ls (trivial) (lv_sub hl [0, 1, 2, 3] rfl)
  · have hl : lv_has ls 9 [(3, .int (nI 343)), (2, .int (nI (tc_sum (fun i => if ¬ ((w >>> (i / 49)) &&& (w >>> (i / 7 % 7))) &&& (w >>> (i % 7)) &&& 1 = 0 ∧ i / 49 < i / 7 % 7 ∧ i / 7 % 7 < i % 7 ∧ ¬ tx_last C X 0 (i / 49) (i / 7 % 7) (i % 7) = tx_last C X 1 (i / 49) (i / 7 % 7) (i % 7) then 1 else 0) 343))), (0, .ref (a 0)), (1, .int (nI w))] := hl
    refine lv_iload_n hx hb dX0_conflicts_4 rfl (lv_at hl 0 rfl) ?_
    refine lv_sipush (v := nI 343) hx hb dX0_conflicts_5 (by decide) ?_
    refine tc_ge (tgt := 120) hx hb dX0_conflicts_8 (by decide) (by omega) (by omega) (fun _ => ?_) (fun c_ => absurd c_ (by omega))
    refine lv_iload_n hx hb dX0_conflicts_120 rfl (lv_at hl 1 rfl) ?_
    exact ro_ret hx hb hr hlocks dX0_conflicts_121 rfl (rfl)
set_option maxHeartbeats 4000000 in
set_option maxRecDepth 100000 in
/-- tripleDistance -/
theorem ro_X0_tripleDistance (l : Launch) (D : va_G) (dB dZ : ClassId) (H : Heap) (a C X N K B M : Nat → Nat) (hP : va_P D vwCl (wX a dB C X N K B M) H) (hC : ∀ j, C j ≤ 5) (hX : ∀ j, X j < 128) : Ro l yX0_tripleDistance cX0_tripleDistance 1 (some .int) 4 100 [.ref (a 0)] H D dB dZ ((nI (tx_conf C X 127))) := by
  refine Ro.ofW (by decide) (Nat.le_of_ble_eq_true rfl) (fun p e s m below meth c hx hb hr hlocks hml hown hts hK ls hl => ?_)
  have hl : lv_has ls 1 [(0, .ref (a 0))] := hl
  refine lv_aload_n hx hb dX0_tripleDistance_0 rfl (lv_at hl 0 rfl) ?_
  refine lv_bipush (v := nI 127) hx hb dX0_tripleDistance_1 (by decide) ?_
  refine ro_callV (As := [.int (nI 127)]) (rest := []) ⟨hx, hb, hml, hown, hts⟩ hK (ro_X0_conflicts l D dB dZ H a C X N K B M hP hC hX 127 (by omega)) (cwV 1 hts (lw_V q126 q128 qs5 q21 q129) rfl rfl rfl (by decide +kernel) ⟨Nat.le_of_ble_eq_true rfl, Nat.le_of_ble_eq_true rfl⟩) (va_recv hK hP (ci := 0) (q0 := 0) rfl rfl) rfl hl.1 rfl (Nat.le_of_ble_eq_true rfl) dX0_tripleDistance_3 ⟨Nat.le_of_ble_eq_true rfl, Nat.le_of_ble_eq_true rfl⟩ ?_
  have hv_1 := tx_conf_le C X 127
  exact ro_ret hx hb hr hlocks dX0_tripleDistance_6 rfl (rfl)
set_option maxHeartbeats 4000000 in
set_option maxRecDepth 100000 in
/-- agree, of a set -/
theorem ro_X0_agree (l : Launch) (D : va_G) (dB dZ : ClassId) (H : Heap) (a C X N K B M : Nat → Nat) (hP : va_P D vwCl (wX a dB C X N K B M) H) (hC : ∀ j, C j ≤ 5) (hX : ∀ j, X j < 128) (w : Nat) (hw : w < 128) : Ro l yX0_agree cX0_agree 2 (some .boolean) 4 100 [.ref (a 0), .int (nI w)] H D dB dZ ((tB (decide (tx_conf C X w = 0)))) := by
  refine Ro.ofW (by decide) (Nat.le_of_ble_eq_true rfl) (fun p e s m below meth c hx hb hr hlocks hml hown hts hK ls hl => ?_)
  have hl : lv_has ls 2 [(0, .ref (a 0)), (1, .int (nI w))] := hl
  refine lv_iload_n hx hb dX0_agree_0 rfl (lv_at hl 1 rfl) ?_
  refine lv_if_lt (tgt := 22) hx hb dX0_agree_1 (by decide) (fun c_ => absurd c_ (by exact nI_pos (by omega))) (fun _ => ?_)
  refine lv_iload_n hx hb dX0_agree_4 rfl (lv_at hl 1 rfl) ?_
  refine lv_bipush (v := nI 127) hx hb dX0_agree_5 (by decide) ?_
  refine tc_gt (tgt := 22) hx hb dX0_agree_7 (by decide) (by omega) (by omega) (fun c_ => absurd c_ (by omega)) (fun _ => ?_)
  refine lv_aload_n hx hb dX0_agree_10 rfl (lv_at hl 0 rfl) ?_
  refine lv_iload_n hx hb dX0_agree_11 rfl (lv_at hl 1 rfl) ?_
  refine ro_callV (As := [.int (nI w)]) (rest := []) ⟨hx, hb, hml, hown, hts⟩ hK (ro_X0_conflicts l D dB dZ H a C X N K B M hP hC hX w (by omega)) (cwV 1 hts (lw_V q126 q128 qs5 q21 q129) rfl rfl rfl (by decide +kernel) ⟨Nat.le_of_ble_eq_true rfl, Nat.le_of_ble_eq_true rfl⟩) (va_recv hK hP (ci := 0) (q0 := 0) rfl rfl) rfl hl.1 rfl (Nat.le_of_ble_eq_true rfl) dX0_agree_12 ⟨Nat.le_of_ble_eq_true rfl, Nat.le_of_ble_eq_true rfl⟩ ?_
  have hv_1 := tx_conf_le C X w
  refine tc_ne0 (tgt := 22) hx hb dX0_agree_15 (by decide) (by omega) (fun c_2 => ?_) (fun c_2 => ?_)
  · refine lv_iconst (v := nI 0) hx hb dX0_agree_22 (by decide) ?_
    exact ro_ret hx hb hr hlocks dX0_agree_23 rfl (tc_r0 (by first | (simp [c_2]; done) | grind []))
  · refine lv_iconst (v := nI 1) hx hb dX0_agree_18 (by decide) ?_
    refine lv_goto (tgt := 23) hx hb dX0_agree_19 (by decide) ?_
    exact ro_ret hx hb hr hlocks dX0_agree_23 rfl (tc_r1 (by first | (simp [c_2]; done) | grind []))
set_option maxHeartbeats 4000000 in
set_option maxRecDepth 100000 in
/-- agree, else -/
theorem ro_X0_agree_b (l : Launch) (D : va_G) (dB dZ : ClassId) (H : Heap) (a C X N K B M : Nat → Nat) (hP : va_P D vwCl (wX a dB C X N K B M) H) (hC : ∀ j, C j ≤ 5) (hX : ∀ j, X j < 128) (w : Int32) (hbad : ¬ w < 0 → nI 127 < w) : Ro l yX0_agree cX0_agree 2 (some .boolean) 4 100 [.ref (a 0), .int w] H D dB dZ ((tB false)) := by
  refine Ro.ofW (by decide) (Nat.le_of_ble_eq_true rfl) (fun p e s m below meth c hx hb hr hlocks hml hown hts hK ls hl => ?_)
  have hl : lv_has ls 2 [(0, .ref (a 0)), (1, .int w)] := hl
  refine lv_iload_n hx hb dX0_agree_0 rfl (lv_at hl 1 rfl) ?_
  refine lv_if_lt (tgt := 22) hx hb dX0_agree_1 (by decide) (fun c_1 => ?_) (fun c_1 => ?_)
  · refine lv_iconst (v := nI 0) hx hb dX0_agree_22 (by decide) ?_
    exact ro_ret hx hb hr hlocks dX0_agree_23 rfl (rfl)
  · refine lv_iload_n hx hb dX0_agree_4 rfl (lv_at hl 1 rfl) ?_
    refine lv_bipush (v := nI 127) hx hb dX0_agree_5 (by decide) ?_
    refine lv_icmp_gt (tgt := 22) hx hb dX0_agree_7 (by decide) (fun c_2 => ?_) (fun c_2 => ?_)
    · refine lv_iconst (v := nI 0) hx hb dX0_agree_22 (by decide) ?_
      exact ro_ret hx hb hr hlocks dX0_agree_23 rfl (rfl)
    · exact absurd (hbad c_1) c_2
set_option maxHeartbeats 4000000 in
set_option maxRecDepth 100000 in
/-- together -/
theorem ro_X0_together (l : Launch) (D : va_G) (dB dZ : ClassId) (H : Heap) (a C X N K B M : Nat → Nat) (hP : va_P D vwCl (wX a dB C X N K B M) H) (hC : ∀ j, C j ≤ 5) (hX : ∀ j, X j < 128) : Ro l yX0_together cX0_together 2 (some .boolean) 2 45 [.ref (a 0)] H D dB dZ ((tB (tx_tog C X))) := by
  refine Ro.ofW (by decide) (Nat.le_of_ble_eq_true rfl) (fun p e s m below meth c hx hb hr hlocks hml hown hts hK ls hl => ?_)
  have hl : lv_has ls 2 [(0, .ref (a 0))] := hl
  refine lv_iconst (v := nI 0) hx hb dX0_together_0 (by decide) ?_
  refine lv_istore_n (lv' := [(1, .int (nI 0)), (0, .ref (a 0))]) hx hb dX0_together_1 rfl hl (by decide) rfl (fun ls hl => ?_)
  refine tc_for (nL := 2) (C 0) (fun i => tc_all (fun k => tx_can C X 1 (X k)) i = true) (fun i => [(1, .int (nI i)), (0, .ref (a 0))]) (rfl) (lv_sub hl [0, 1] rfl) (fun i hi_i hv_1 ih_1 ls hl => ?_) (fun hv_1 ls hl => ?_)
  · have hl : lv_has ls 2 [(1, .int (nI i)), (0, .ref (a 0))] := hl
    have hct := hC 0
    refine lv_iload_n hx hb dX0_together_2 rfl (lv_at hl 0 rfl) ?_
    refine lv_aload_n hx hb dX0_together_3 rfl (lv_at hl 1 rfl) ?_
    refine tc_getX (a := a) (v := .ref (a 1)) hx hb hts hown hK hP 0 rfl 0 (by decide) q31 rfl rfl dX0_together_4 ?_
    refine lv_iconst (v := nI 0) hx hb dX0_together_7 (by decide) ?_
    refine tc_bald (k := 0) hx hb dX0_together_8 hK hP 1 0 rfl rfl (by decide) (by omega) ?_
    have hv_2 := hC 0
    refine tc_ge (tgt := 34) hx hb dX0_together_9 (by decide) (by omega) (by omega) (fun c_ => absurd c_ (by omega)) (fun _ => ?_)
    refine lv_aload_n hx hb dX0_together_12 rfl (lv_at hl 1 rfl) ?_
    refine lv_iconst (v := nI 1) hx hb dX0_together_13 (by decide) ?_
    refine lv_aload_n hx hb dX0_together_14 rfl (lv_at hl 1 rfl) ?_
    refine tc_getX (a := a) (v := .ref (a 2)) hx hb hts hown hK hP 0 rfl 1 (by decide) q32 rfl rfl dX0_together_15 ?_
    refine lv_iload_n hx hb dX0_together_18 rfl (lv_at hl 0 rfl) ?_
    refine tc_bald (k := i) hx hb dX0_together_19 hK hP 2 0 rfl rfl (by decide) (by omega) ?_
    have hv_3 := hX i
    refine ro_callV (As := [.int (nI 1), .int (nI (X i))]) (rest := []) ⟨hx, hb, hml, hown, hts⟩ hK (ro_X0_canAdd l D dB dZ H a C X N K B M hP hC hX 1 (by omega) (X i) (by omega)) (cwV 2 hts (lw_V q58 q60 qs0 q21 q61) rfl rfl rfl (by decide +kernel) ⟨Nat.le_of_ble_eq_true rfl, Nat.le_of_ble_eq_true rfl⟩) (va_recv hK hP (ci := 0) (q0 := 0) rfl rfl) rfl hl.1 rfl (Nat.le_of_ble_eq_true rfl) dX0_together_20 ⟨Nat.le_of_ble_eq_true rfl, Nat.le_of_ble_eq_true rfl⟩ ?_
    refine tc_bne (tgt := 28) hx hb dX0_together_23 (by decide) (fun c_4 => ?_) (fun c_4 => ?_)
    · refine lv_iinc (v := nI (i + 1)) (lv' := [(1, .int (nI (i + 1))), (0, .ref (a 0))]) hx hb dX0_together_28 hl (k := 0) rfl (t_inc _) (by decide) rfl (fun ls hl => ?_)
      refine lv_goto (tgt := 2) hx hb dX0_together_31 (by decide) ?_
      exact ih_1 ls (tc_all_s hv_1 c_4) (lv_sub hl [0, 1] rfl)
    · refine lv_iconst (v := nI 0) hx hb dX0_together_26 (by decide) ?_
      exact ro_ret hx hb hr hlocks dX0_together_27 rfl (tc_r0 (tc_all_false hi_i c_4))
  · have hl : lv_has ls 2 [(1, .int (nI (C 0))), (0, .ref (a 0))] := hl
    have hct := hC 0
    have hv_inv := hv_1
    refine lv_iload_n hx hb dX0_together_2 rfl (lv_at hl 0 rfl) ?_
    refine lv_aload_n hx hb dX0_together_3 rfl (lv_at hl 1 rfl) ?_
    refine tc_getX (a := a) (v := .ref (a 1)) hx hb hts hown hK hP 0 rfl 0 (by decide) q31 rfl rfl dX0_together_4 ?_
    refine lv_iconst (v := nI 0) hx hb dX0_together_7 (by decide) ?_
    refine tc_bald (k := 0) hx hb dX0_together_8 hK hP 1 0 rfl rfl (by decide) (by omega) ?_
    have hv_5 := hC 0
    refine tc_ge (tgt := 34) hx hb dX0_together_9 (by decide) (by omega) (by omega) (fun _ => ?_) (fun c_ => absurd c_ (by omega))
    refine lv_iconst (v := nI 1) hx hb dX0_together_34 (by decide) ?_
    exact ro_ret hx hb hr hlocks dX0_together_35 rfl (tc_r1 hv_inv)
set_option maxHeartbeats 4000000 in
set_option maxRecDepth 100000 in
/-- common -/
theorem ro_X0_common (l : Launch) (D : va_G) (dB dZ : ClassId) (H : Heap) (a C X N K B M : Nat → Nat) (hP : va_P D vwCl (wX a dB C X N K B M) H) (hC : ∀ j, C j ≤ 5) (hX : ∀ j, X j < 128) : Ro l yX0_common cX0_common 3 (some .int) 1 23 [.ref (a 0)] H D dB dZ ((nI (tx_common C X))) := by
  refine Ro.ofW (by decide) (Nat.le_of_ble_eq_true rfl) (fun p e s m below meth c hx hb hr hlocks hml hown hts hK ls hl => ?_)
  have hl : lv_has ls 3 [(0, .ref (a 0))] := hl
  refine lv_bipush (v := nI 8) hx hb dX0_common_0 (by decide) ?_
  refine lv_istore_n (lv' := [(1, .int (nI 8)), (0, .ref (a 0))]) hx hb dX0_common_2 rfl hl (by decide) rfl (fun ls hl => ?_)
  refine lv_iconst (v := nI 0) hx hb dX0_common_3 (by decide) ?_
  refine lv_istore_n (lv' := [(2, .int (nI 0)), (1, .int (nI 8)), (0, .ref (a 0))]) hx hb dX0_common_4 rfl hl (by decide) rfl (fun ls hl => ?_)
  refine tc_for (nL := 3) (C 0) (fun _ => True) (fun i => [(2, .int (nI i)), (1, .int (nI (tc_fold (fun i n => n + (if tx_in C X 1 (X i) = true then 1 else 0)) 8 i))), (0, .ref (a 0))]) (trivial) (lv_sub hl [0, 1, 2] rfl) (fun i hi_i hv_1 ih_1 ls hl => ?_) (fun hv_1 ls hl => ?_)
  · have hl : lv_has ls 3 [(2, .int (nI i)), (1, .int (nI (tc_fold (fun i n => n + (if tx_in C X 1 (X i) = true then 1 else 0)) 8 i))), (0, .ref (a 0))] := hl
    have hct := hC 0
    refine lv_iload_n hx hb dX0_common_5 rfl (lv_at hl 0 rfl) ?_
    refine lv_aload_n hx hb dX0_common_6 rfl (lv_at hl 2 rfl) ?_
    refine tc_getX (a := a) (v := .ref (a 1)) hx hb hts hown hK hP 0 rfl 0 (by decide) q31 rfl rfl dX0_common_7 ?_
    refine lv_iconst (v := nI 0) hx hb dX0_common_10 (by decide) ?_
    refine tc_bald (k := 0) hx hb dX0_common_11 hK hP 1 0 rfl rfl (by decide) (by omega) ?_
    have hv_2 := hC 0
    refine tc_ge (tgt := 43) hx hb dX0_common_12 (by decide) (by omega) (by omega) (fun c_ => absurd c_ (by omega)) (fun _ => ?_)
    refine lv_iload_n hx hb dX0_common_15 rfl (lv_at hl 1 rfl) ?_
    refine lv_aload_n hx hb dX0_common_16 rfl (lv_at hl 2 rfl) ?_
    refine lv_iconst (v := nI 1) hx hb dX0_common_17 (by decide) ?_
    refine lv_aload_n hx hb dX0_common_18 rfl (lv_at hl 2 rfl) ?_
    refine tc_getX (a := a) (v := .ref (a 2)) hx hb hts hown hK hP 0 rfl 1 (by decide) q32 rfl rfl dX0_common_19 ?_
    refine lv_iload_n hx hb dX0_common_22 rfl (lv_at hl 0 rfl) ?_
    refine tc_bald (k := i) hx hb dX0_common_23 hK hP 2 0 rfl rfl (by decide) (by omega) ?_
    have hv_3 := hX i
    refine ro_callV (As := [.int (nI 1), .int (nI (X i))]) (rest := [.int (nI (tc_fold (fun i n => n + (if tx_in C X 1 (X i) = true then 1 else 0)) 8 i))]) ⟨hx, hb, hml, hown, hts⟩ hK (ro_X0_find l D dB dZ H a C X N K B M hP hC hX 1 (by omega) (nI (X i))) (cwV 2 hts (lw_V q75 q77 qs2 q21 q78) rfl rfl rfl (by decide +kernel) ⟨Nat.le_of_ble_eq_true rfl, Nat.le_of_ble_eq_true rfl⟩) (va_recv hK hP (ci := 0) (q0 := 0) rfl rfl) rfl hl.1 rfl (Nat.le_of_ble_eq_true rfl) dX0_common_24 ⟨Nat.le_of_ble_eq_true rfl, Nat.le_of_ble_eq_true rfl⟩ ?_
    refine tc_at 35 [.int (nI (if tx_in C X 1 (X i) = true then 1 else 0)), .int (nI (tc_fold (fun i n => n + (if tx_in C X 1 (X i) = true then 1 else 0)) 8 i))] (fun hj_4 => ?_) ?_
    · refine lv_if_lt (tgt := 34) hx hb dX0_common_27 (by decide) (fun c_5 => ?_) (fun c_5 => ?_)
      · refine lv_iconst (v := nI 0) hx hb dX0_common_34 (by decide) ?_
        exact tc_topN (tx_in_0 hC hX (by omega) c_5) hj_4
      · refine lv_iconst (v := nI 1) hx hb dX0_common_30 (by decide) ?_
        refine lv_goto (tgt := 35) hx hb dX0_common_31 (by decide) ?_
        exact tc_topN (tx_in_1 hC hX (by omega) c_5) hj_4
    · refine tc_iadd hx hb dX0_common_35 ?_
      refine lv_istore_n (lv' := [(1, .int (nI ((tc_fold (fun i n => n + (if tx_in C X 1 (X i) = true then 1 else 0)) 8 i) + (if tx_in C X 1 (X i) = true then 1 else 0)))), (2, .int (nI i)), (0, .ref (a 0))]) hx hb dX0_common_36 rfl hl (by decide) rfl (fun ls hl => ?_)
      refine lv_iinc (v := nI (i + 1)) (lv' := [(2, .int (nI (i + 1))), (1, .int (nI ((tc_fold (fun i n => n + (if tx_in C X 1 (X i) = true then 1 else 0)) 8 i) + (if tx_in C X 1 (X i) = true then 1 else 0)))), (0, .ref (a 0))]) hx hb dX0_common_37 hl (k := 1) rfl (t_inc _) (by decide) rfl (fun ls hl => ?_)
      refine lv_goto (tgt := 5) hx hb dX0_common_40 (by decide) ?_
      exact ih_1 ls (trivial) (lv_sub hl [0, 1, 2] rfl)
  · have hl : lv_has ls 3 [(2, .int (nI (C 0))), (1, .int (nI (tc_fold (fun i n => n + (if tx_in C X 1 (X i) = true then 1 else 0)) 8 (C 0)))), (0, .ref (a 0))] := hl
    have hct := hC 0
    refine lv_iload_n hx hb dX0_common_5 rfl (lv_at hl 0 rfl) ?_
    refine lv_aload_n hx hb dX0_common_6 rfl (lv_at hl 2 rfl) ?_
    refine tc_getX (a := a) (v := .ref (a 1)) hx hb hts hown hK hP 0 rfl 0 (by decide) q31 rfl rfl dX0_common_7 ?_
    refine lv_iconst (v := nI 0) hx hb dX0_common_10 (by decide) ?_
    refine tc_bald (k := 0) hx hb dX0_common_11 hK hP 1 0 rfl rfl (by decide) (by omega) ?_
    have hv_6 := hC 0
    refine tc_ge (tgt := 43) hx hb dX0_common_12 (by decide) (by omega) (by omega) (fun _ => ?_) (fun c_ => absurd c_ (by omega))
    refine lv_iload_n hx hb dX0_common_43 rfl (lv_at hl 1 rfl) ?_
    exact ro_ret hx hb hr hlocks dX0_common_44 rfl (rfl)
set_option maxHeartbeats 4000000 in
set_option maxRecDepth 100000 in
/-- groupDistance -/
theorem ro_X0_groupDistance (l : Launch) (D : va_G) (dB dZ : ClassId) (H : Heap) (a C X N K B M : Nat → Nat) (hP : va_P D vwCl (wX a dB C X N K B M) H) (hC : ∀ j, C j ≤ 5) (hX : ∀ j, X j < 128) (hgd : 2 * (tx_common C X - 7 - 1) ≤ C 0 + C 1) : Ro l yX0_groupDistance cX0_groupDistance 2 (some .int) 2 45 [.ref (a 0)] H D dB dZ ((nI (tx_gd C X))) := by
  refine Ro.ofW (by decide) (Nat.le_of_ble_eq_true rfl) (fun p e s m below meth c hx hb hr hlocks hml hown hts hK ls hl => ?_)
  have hl : lv_has ls 2 [(0, .ref (a 0))] := hl
  refine lv_aload_n hx hb dX0_groupDistance_0 rfl (lv_at hl 0 rfl) ?_
  refine ro_callV (As := []) (rest := []) ⟨hx, hb, hml, hown, hts⟩ hK (ro_X0_common l D dB dZ H a C X N K B M hP hC hX) (cwV 0 hts (lw_V q118 q119 q120 q21 q121) rfl rfl rfl (by decide +kernel) ⟨Nat.le_of_ble_eq_true rfl, Nat.le_of_ble_eq_true rfl⟩) (va_recv hK hP (ci := 0) (q0 := 0) rfl rfl) rfl hl.1 rfl (Nat.le_of_ble_eq_true rfl) dX0_groupDistance_1 ⟨Nat.le_of_ble_eq_true rfl, Nat.le_of_ble_eq_true rfl⟩ ?_
  have hv_1 := tx_common_le C X
  refine lv_bipush (v := nI 7) hx hb dX0_groupDistance_4 (by decide) ?_
  refine tc_isub hx hb dX0_groupDistance_6 (by omega) ?_
  refine lv_iconst (v := nI 1) hx hb dX0_groupDistance_7 (by decide) ?_
  refine tc_isub hx hb dX0_groupDistance_8 (by omega) ?_
  refine lv_istore_n (lv' := [(1, .int (nI (((tx_common C X) - 7) - 1))), (0, .ref (a 0))]) hx hb dX0_groupDistance_9 rfl hl (by decide) rfl (fun ls hl => ?_)
  refine lv_aload_n hx hb dX0_groupDistance_10 rfl (lv_at hl 1 rfl) ?_
  refine tc_getX (a := a) (v := .ref (a 1)) hx hb hts hown hK hP 0 rfl 0 (by decide) q31 rfl rfl dX0_groupDistance_11 ?_
  refine lv_iconst (v := nI 0) hx hb dX0_groupDistance_14 (by decide) ?_
  refine tc_bald (k := 0) hx hb dX0_groupDistance_15 hK hP 1 0 rfl rfl (by decide) (by omega) ?_
  have hv_2 := hC 0
  refine lv_aload_n hx hb dX0_groupDistance_16 rfl (lv_at hl 1 rfl) ?_
  refine tc_getX (a := a) (v := .ref (a 1)) hx hb hts hown hK hP 0 rfl 0 (by decide) q31 rfl rfl dX0_groupDistance_17 ?_
  refine lv_iconst (v := nI 1) hx hb dX0_groupDistance_20 (by decide) ?_
  refine tc_bald (k := 1) hx hb dX0_groupDistance_21 hK hP 1 0 rfl rfl (by decide) (by omega) ?_
  have hv_3 := hC 1
  refine tc_iadd hx hb dX0_groupDistance_22 ?_
  refine lv_iconst (v := nI 2) hx hb dX0_groupDistance_23 (by decide) ?_
  refine lv_iload_n hx hb dX0_groupDistance_24 rfl (lv_at hl 0 rfl) ?_
  refine tc_imul hx hb dX0_groupDistance_25 ?_
  have hct := hC 0
  refine tc_isub hx hb dX0_groupDistance_26 hgd ?_
  exact ro_ret hx hb hr hlocks dX0_groupDistance_27 rfl (rfl)
set_option maxHeartbeats 4000000 in
set_option maxRecDepth 100000 in
/-- depth -/
theorem ro_X0_depth (l : Launch) (D : va_G) (dB dZ : ClassId) (H : Heap) (a C X N K B M : Nat → Nat) (hP : va_P D vwCl (wX a dB C X N K B M) H) (hC : ∀ j, C j ≤ 5) (hX : ∀ j, X j < 128) (t : Nat) (ht : t < 2) (x : Nat) (hx7 : x < 7) : Ro l yX0_depth cX0_depth 5 (some .int) 1 20 [.ref (a 0), .int (nI t), .int (nI x)] H D dB dZ ((nI (tx_depth C X t x))) := by
  refine Ro.ofW (by decide) (Nat.le_of_ble_eq_true rfl) (fun p e s m below meth c hx hb hr hlocks hml hown hts hK ls hl => ?_)
  have hl : lv_has ls 5 [(0, .ref (a 0)), (1, .int (nI t)), (2, .int (nI x))] := hl
  refine lv_iload_n hx hb dX0_depth_0 rfl (lv_at hl 1 rfl) ?_
  refine ro_callS (As := [.int (nI t)]) (rest := []) ⟨hx, hb, hml, hown, hts⟩ hK (ro_X0_isTree l D dB dZ H (nI t)) (va_cwS 1 hts (lw_S q55 q56 q21 q57) rfl rfl rfl (by decide +kernel) ⟨Nat.le_of_ble_eq_true rfl, Nat.le_of_ble_eq_true rfl⟩) rfl hl.1 rfl (Nat.le_of_ble_eq_true rfl) dX0_depth_1 ⟨Nat.le_of_ble_eq_true rfl, Nat.le_of_ble_eq_true rfl⟩ ?_
  refine tc_beq (tgt := 14) hx hb dX0_depth_4 (by decide) (fun c_ => absurd c_ (by rw [tx_isT_n ht] at c_; cases c_)) (fun _ => ?_)
  refine lv_iload_n hx hb dX0_depth_7 rfl (lv_at hl 2 rfl) ?_
  refine ro_callS (As := [.int (nI x)]) (rest := []) ⟨hx, hb, hml, hown, hts⟩ hK (ro_X0_isMember l D dB dZ H (nI x)) (va_cwS 1 hts (lw_S q103 q104 q21 q105) rfl rfl rfl (by decide +kernel) ⟨Nat.le_of_ble_eq_true rfl, Nat.le_of_ble_eq_true rfl⟩) rfl hl.1 rfl (Nat.le_of_ble_eq_true rfl) dX0_depth_8 ⟨Nat.le_of_ble_eq_true rfl, Nat.le_of_ble_eq_true rfl⟩ ?_
  refine tc_bne (tgt := 16) hx hb dX0_depth_11 (by decide) (fun _ => ?_) (fun c_ => absurd c_ (by rw [tx_isM_n hx7] at c_; cases c_))
  refine lv_iconst (v := nI 2) hx hb dX0_depth_16 (by decide) ?_
  refine lv_istore_n (lv' := [(3, .int (nI 2)), (0, .ref (a 0)), (1, .int (nI t)), (2, .int (nI x))]) hx hb dX0_depth_17 rfl hl (by decide) rfl (fun ls hl => ?_)
  refine lv_iconst (v := nI 0) hx hb dX0_depth_18 (by decide) ?_
  refine lv_istore (lv' := [(4, .int (nI 0)), (3, .int (nI 2)), (0, .ref (a 0)), (1, .int (nI t)), (2, .int (nI x))]) hx hb dX0_depth_19 hl (by decide) rfl (fun ls hl => ?_)
  refine tc_for (nL := 5) (C t) (fun _ => True) (fun i => [(4, .int (nI i)), (3, .int (nI (tc_fold (fun k n => n + ((X (t * 5 + k) >>> x) &&& 1)) 2 i))), (0, .ref (a 0)), (1, .int (nI t)), (2, .int (nI x))]) (trivial) (lv_sub hl [0, 1, 2, 3, 4] rfl) (fun i hi_i hv_1 ih_1 ls hl => ?_) (fun hv_1 ls hl => ?_)
  · have hl : lv_has ls 5 [(4, .int (nI i)), (3, .int (nI (tc_fold (fun k n => n + ((X (t * 5 + k) >>> x) &&& 1)) 2 i))), (0, .ref (a 0)), (1, .int (nI t)), (2, .int (nI x))] := hl
    have hct := hC t
    refine lv_iload hx hb dX0_depth_21 (lv_at hl 0 rfl) ?_
    refine lv_aload_n hx hb dX0_depth_23 rfl (lv_at hl 2 rfl) ?_
    refine tc_getX (a := a) (v := .ref (a 1)) hx hb hts hown hK hP 0 rfl 0 (by decide) q31 rfl rfl dX0_depth_24 ?_
    refine lv_iload_n hx hb dX0_depth_27 rfl (lv_at hl 3 rfl) ?_
    refine tc_bald (k := t) hx hb dX0_depth_28 hK hP 1 0 rfl rfl (by decide) (by omega) ?_
    have hv_2 := hC t
    refine tc_ge (tgt := 56) hx hb dX0_depth_29 (by decide) (by omega) (by omega) (fun c_ => absurd c_ (by omega)) (fun _ => ?_)
    refine lv_iload_n hx hb dX0_depth_32 rfl (lv_at hl 1 rfl) ?_
    refine lv_aload_n hx hb dX0_depth_33 rfl (lv_at hl 2 rfl) ?_
    refine tc_getX (a := a) (v := .ref (a 2)) hx hb hts hown hK hP 0 rfl 1 (by decide) q32 rfl rfl dX0_depth_34 ?_
    refine lv_iload_n hx hb dX0_depth_37 rfl (lv_at hl 3 rfl) ?_
    refine lv_iconst (v := nI 5) hx hb dX0_depth_38 (by decide) ?_
    refine tc_imul hx hb dX0_depth_39 ?_
    refine lv_iload hx hb dX0_depth_40 (lv_at hl 0 rfl) ?_
    refine tc_iadd hx hb dX0_depth_42 ?_
    refine tc_bald (k := ((t * 5) + i)) hx hb dX0_depth_43 hK hP 2 0 rfl rfl (by decide) (by omega) ?_
    have hv_3 := hX ((t * 5) + i)
    refine lv_iload_n hx hb dX0_depth_44 rfl (lv_at hl 4 rfl) ?_
    refine tc_ishr hx hb dX0_depth_45 (by omega) (by omega) ?_
    refine lv_iconst (v := nI 1) hx hb dX0_depth_46 (by decide) ?_
    refine tc_iand hx hb dX0_depth_47 ?_
    have hv_4 : ((X ((t * 5) + i)) >>> x) &&& 1 ≤ 1 := Nat.and_le_right
    refine tc_iadd hx hb dX0_depth_48 ?_
    refine lv_istore_n (lv' := [(3, .int (nI ((tc_fold (fun k n => n + ((X (t * 5 + k) >>> x) &&& 1)) 2 i) + (((X ((t * 5) + i)) >>> x) &&& 1)))), (4, .int (nI i)), (0, .ref (a 0)), (1, .int (nI t)), (2, .int (nI x))]) hx hb dX0_depth_49 rfl hl (by decide) rfl (fun ls hl => ?_)
    refine lv_iinc (v := nI (i + 1)) (lv' := [(4, .int (nI (i + 1))), (3, .int (nI ((tc_fold (fun k n => n + ((X (t * 5 + k) >>> x) &&& 1)) 2 i) + (((X ((t * 5) + i)) >>> x) &&& 1)))), (0, .ref (a 0)), (1, .int (nI t)), (2, .int (nI x))]) hx hb dX0_depth_50 hl (k := 1) rfl (t_inc _) (by decide) rfl (fun ls hl => ?_)
    refine lv_goto (tgt := 21) hx hb dX0_depth_53 (by decide) ?_
    exact ih_1 ls (trivial) (lv_sub hl [0, 1, 2, 3, 4] rfl)
  · have hl : lv_has ls 5 [(4, .int (nI (C t))), (3, .int (nI (tc_fold (fun k n => n + ((X (t * 5 + k) >>> x) &&& 1)) 2 (C t)))), (0, .ref (a 0)), (1, .int (nI t)), (2, .int (nI x))] := hl
    have hct := hC t
    refine lv_iload hx hb dX0_depth_21 (lv_at hl 0 rfl) ?_
    refine lv_aload_n hx hb dX0_depth_23 rfl (lv_at hl 2 rfl) ?_
    refine tc_getX (a := a) (v := .ref (a 1)) hx hb hts hown hK hP 0 rfl 0 (by decide) q31 rfl rfl dX0_depth_24 ?_
    refine lv_iload_n hx hb dX0_depth_27 rfl (lv_at hl 3 rfl) ?_
    refine tc_bald (k := t) hx hb dX0_depth_28 hK hP 1 0 rfl rfl (by decide) (by omega) ?_
    have hv_5 := hC t
    refine tc_ge (tgt := 56) hx hb dX0_depth_29 (by decide) (by omega) (by omega) (fun _ => ?_) (fun c_ => absurd c_ (by omega))
    refine lv_iload_n hx hb dX0_depth_56 rfl (lv_at hl 1 rfl) ?_
    exact ro_ret hx hb hr hlocks dX0_depth_57 rfl (rfl)
set_option maxHeartbeats 4000000 in
set_option maxRecDepth 100000 in
/-- depth, else -/
theorem ro_X0_depth_b (l : Launch) (D : va_G) (dB dZ : ClassId) (H : Heap) (a C X N K B M : Nat → Nat) (hP : va_P D vwCl (wX a dB C X N K B M) H) (hC : ∀ j, C j ≤ 5) (hX : ∀ j, X j < 128) (t x : Int32) (hbad : tx_isT t = true → tx_isM x = false) : Ro l yX0_depth cX0_depth 5 (some .int) 1 20 [.ref (a 0), .int t, .int x] H D dB dZ ((-1)) := by
  refine Ro.ofW (by decide) (Nat.le_of_ble_eq_true rfl) (fun p e s m below meth c hx hb hr hlocks hml hown hts hK ls hl => ?_)
  have hl : lv_has ls 5 [(0, .ref (a 0)), (1, .int t), (2, .int x)] := hl
  refine lv_iload_n hx hb dX0_depth_0 rfl (lv_at hl 1 rfl) ?_
  refine ro_callS (As := [.int t]) (rest := []) ⟨hx, hb, hml, hown, hts⟩ hK (ro_X0_isTree l D dB dZ H t) (va_cwS 1 hts (lw_S q55 q56 q21 q57) rfl rfl rfl (by decide +kernel) ⟨Nat.le_of_ble_eq_true rfl, Nat.le_of_ble_eq_true rfl⟩) rfl hl.1 rfl (Nat.le_of_ble_eq_true rfl) dX0_depth_1 ⟨Nat.le_of_ble_eq_true rfl, Nat.le_of_ble_eq_true rfl⟩ ?_
  refine tc_beq (tgt := 14) hx hb dX0_depth_4 (by decide) (fun c_1 => ?_) (fun c_1 => ?_)
  · refine lv_iconst (v := -1) hx hb dX0_depth_14 (by decide) ?_
    exact ro_ret hx hb hr hlocks dX0_depth_15 rfl (rfl)
  · refine lv_iload_n hx hb dX0_depth_7 rfl (lv_at hl 2 rfl) ?_
    refine ro_callS (As := [.int x]) (rest := []) ⟨hx, hb, hml, hown, hts⟩ hK (ro_X0_isMember l D dB dZ H x) (va_cwS 1 hts (lw_S q103 q104 q21 q105) rfl rfl rfl (by decide +kernel) ⟨Nat.le_of_ble_eq_true rfl, Nat.le_of_ble_eq_true rfl⟩) rfl hl.1 rfl (Nat.le_of_ble_eq_true rfl) dX0_depth_8 ⟨Nat.le_of_ble_eq_true rfl, Nat.le_of_ble_eq_true rfl⟩ ?_
    refine tc_bne (tgt := 16) hx hb dX0_depth_11 (by decide) (fun c_2 => ?_) (fun c_2 => ?_)
    · rw [hbad c_1] at c_2; cases c_2
    · refine lv_iconst (v := -1) hx hb dX0_depth_14 (by decide) ?_
      exact ro_ret hx hb hr hlocks dX0_depth_15 rfl (rfl)
set_option maxHeartbeats 4000000 in
set_option maxRecDepth 100000 in
/-- room, of a tree -/
theorem ro_X0_room (l : Launch) (D : va_G) (dB dZ : ClassId) (H : Heap) (a C X N K B M : Nat → Nat) (hP : va_P D vwCl (wX a dB C X N K B M) H) (hC : ∀ j, C j ≤ 5) (hX : ∀ j, X j < 128) (t : Nat) (ht : t < 2) : Ro l yX0_room cX0_room 4 (some .int) 3 64 [.ref (a 0), .int (nI t)] H D dB dZ ((nI (tx_room C X t))) := by
  refine Ro.ofW (by decide) (Nat.le_of_ble_eq_true rfl) (fun p e s m below meth c hx hb hr hlocks hml hown hts hK ls hl => ?_)
  have hl : lv_has ls 4 [(0, .ref (a 0)), (1, .int (nI t))] := hl
  refine lv_iload_n hx hb dX0_room_0 rfl (lv_at hl 1 rfl) ?_
  refine ro_callS (As := [.int (nI t)]) (rest := []) ⟨hx, hb, hml, hown, hts⟩ hK (ro_X0_isTree l D dB dZ H (nI t)) (va_cwS 1 hts (lw_S q55 q56 q21 q57) rfl rfl rfl (by decide +kernel) ⟨Nat.le_of_ble_eq_true rfl, Nat.le_of_ble_eq_true rfl⟩) rfl hl.1 rfl (Nat.le_of_ble_eq_true rfl) dX0_room_1 ⟨Nat.le_of_ble_eq_true rfl, Nat.le_of_ble_eq_true rfl⟩ ?_
  refine tc_bne (tgt := 9) hx hb dX0_room_4 (by decide) (fun _ => ?_) (fun c_ => absurd c_ (by rw [tx_isT_n ht] at c_; cases c_))
  refine lv_iconst (v := nI 0) hx hb dX0_room_9 (by decide) ?_
  refine lv_istore_n (lv' := [(2, .int (nI 0)), (0, .ref (a 0)), (1, .int (nI t))]) hx hb dX0_room_10 rfl hl (by decide) rfl (fun ls hl => ?_)
  refine lv_iconst (v := nI 1) hx hb dX0_room_11 (by decide) ?_
  refine lv_istore_n (lv' := [(3, .int (nI 1)), (2, .int (nI 0)), (0, .ref (a 0)), (1, .int (nI t))]) hx hb dX0_room_12 rfl hl (by decide) rfl (fun ls hl => ?_)
  refine tc_for (nL := 4) 127 (fun _ => True) (fun i => [(3, .int (nI (i + 1))), (2, .int (nI (tc_sum (fun i => if tx_has C X t (i + 1) = false ∧ tx_can C X t (i + 1) = true then 1 else 0) i))), (0, .ref (a 0)), (1, .int (nI t))]) (trivial) (lv_sub hl [0, 1, 2, 3] rfl) (fun i hi_i hv_1 ih_1 ls hl => ?_) (fun hv_1 ls hl => ?_)
  · have hl : lv_has ls 4 [(3, .int (nI (i + 1))), (2, .int (nI (tc_sum (fun i => if tx_has C X t (i + 1) = false ∧ tx_can C X t (i + 1) = true then 1 else 0) i))), (0, .ref (a 0)), (1, .int (nI t))] := hl
    refine lv_iload_n hx hb dX0_room_13 rfl (lv_at hl 0 rfl) ?_
    refine lv_bipush (v := nI 127) hx hb dX0_room_14 (by decide) ?_
    refine tc_gt (tgt := 51) hx hb dX0_room_16 (by decide) (by omega) (by omega) (fun c_ => absurd c_ (by omega)) (fun _ => ?_)
    refine lv_iload_n hx hb dX0_room_19 rfl (lv_at hl 1 rfl) ?_
    refine tc_at 43 [.int (nI (if tx_has C X t (i + 1) = false ∧ tx_can C X t (i + 1) = true then 1 else 0)), .int (nI (tc_sum (fun i => if tx_has C X t (i + 1) = false ∧ tx_can C X t (i + 1) = true then 1 else 0) i))] (fun hj_2 => ?_) ?_
    · refine lv_aload_n hx hb dX0_room_20 rfl (lv_at hl 2 rfl) ?_
      refine lv_iload_n hx hb dX0_room_21 rfl (lv_at hl 3 rfl) ?_
      refine lv_iload_n hx hb dX0_room_22 rfl (lv_at hl 0 rfl) ?_
      refine ro_callV (As := [.int (nI t), .int (nI (i + 1))]) (rest := [.int (nI (tc_sum (fun i => if tx_has C X t (i + 1) = false ∧ tx_can C X t (i + 1) = true then 1 else 0) i))]) ⟨hx, hb, hml, hown, hts⟩ hK (ro_X0_hasGroup l D dB dZ H a C X N K B M hP hC hX t (by omega) (i + 1) (by omega)) (cwV 2 hts (lw_V q65 q67 qs1 q21 q68) rfl rfl rfl (by decide +kernel) ⟨Nat.le_of_ble_eq_true rfl, Nat.le_of_ble_eq_true rfl⟩) (va_recv hK hP (ci := 0) (q0 := 0) rfl rfl) rfl hl.1 rfl (Nat.le_of_ble_eq_true rfl) dX0_room_23 ⟨Nat.le_of_ble_eq_true rfl, Nat.le_of_ble_eq_true rfl⟩ ?_
      refine tc_bne (tgt := 42) hx hb dX0_room_26 (by decide) (fun c_3 => ?_) (fun c_3 => ?_)
      · refine lv_iconst (v := nI 0) hx hb dX0_room_42 (by decide) ?_
        exact tc_topN (by simp [c_3]) hj_2
      · refine lv_aload_n hx hb dX0_room_29 rfl (lv_at hl 2 rfl) ?_
        refine lv_iload_n hx hb dX0_room_30 rfl (lv_at hl 3 rfl) ?_
        refine lv_iload_n hx hb dX0_room_31 rfl (lv_at hl 0 rfl) ?_
        refine ro_callV (As := [.int (nI t), .int (nI (i + 1))]) (rest := [.int (nI (tc_sum (fun i => if tx_has C X t (i + 1) = false ∧ tx_can C X t (i + 1) = true then 1 else 0) i))]) ⟨hx, hb, hml, hown, hts⟩ hK (ro_X0_canAdd l D dB dZ H a C X N K B M hP hC hX t (by omega) (i + 1) (by omega)) (cwV 2 hts (lw_V q58 q60 qs0 q21 q61) rfl rfl rfl (by decide +kernel) ⟨Nat.le_of_ble_eq_true rfl, Nat.le_of_ble_eq_true rfl⟩) (va_recv hK hP (ci := 0) (q0 := 0) rfl rfl) rfl hl.1 rfl (Nat.le_of_ble_eq_true rfl) dX0_room_32 ⟨Nat.le_of_ble_eq_true rfl, Nat.le_of_ble_eq_true rfl⟩ ?_
        refine tc_beq (tgt := 42) hx hb dX0_room_35 (by decide) (fun c_4 => ?_) (fun c_4 => ?_)
        · refine lv_iconst (v := nI 0) hx hb dX0_room_42 (by decide) ?_
          exact tc_topN (by simp [c_3, c_4]) hj_2
        · refine lv_iconst (v := nI 1) hx hb dX0_room_38 (by decide) ?_
          refine lv_goto (tgt := 43) hx hb dX0_room_39 (by decide) ?_
          exact tc_topN (by simp [c_3, c_4]) hj_2
    · refine tc_iadd hx hb dX0_room_43 ?_
      refine lv_istore_n (lv' := [(2, .int (nI ((tc_sum (fun i => if tx_has C X t (i + 1) = false ∧ tx_can C X t (i + 1) = true then 1 else 0) i) + (if tx_has C X t (i + 1) = false ∧ tx_can C X t (i + 1) = true then 1 else 0)))), (3, .int (nI (i + 1))), (0, .ref (a 0)), (1, .int (nI t))]) hx hb dX0_room_44 rfl hl (by decide) rfl (fun ls hl => ?_)
      refine lv_iinc (v := nI ((i + 1) + 1)) (lv' := [(3, .int (nI ((i + 1) + 1))), (2, .int (nI ((tc_sum (fun i => if tx_has C X t (i + 1) = false ∧ tx_can C X t (i + 1) = true then 1 else 0) i) + (if tx_has C X t (i + 1) = false ∧ tx_can C X t (i + 1) = true then 1 else 0)))), (0, .ref (a 0)), (1, .int (nI t))]) hx hb dX0_room_45 hl (k := 1) rfl (t_inc _) (by decide) rfl (fun ls hl => ?_)
      refine lv_goto (tgt := 13) hx hb dX0_room_48 (by decide) ?_
      exact ih_1 ls (trivial) (lv_sub hl [0, 1, 2, 3] rfl)
  · have hl : lv_has ls 4 [(3, .int (nI (127 + 1))), (2, .int (nI (tc_sum (fun i => if tx_has C X t (i + 1) = false ∧ tx_can C X t (i + 1) = true then 1 else 0) 127))), (0, .ref (a 0)), (1, .int (nI t))] := hl
    refine lv_iload_n hx hb dX0_room_13 rfl (lv_at hl 0 rfl) ?_
    refine lv_bipush (v := nI 127) hx hb dX0_room_14 (by decide) ?_
    refine tc_gt (tgt := 51) hx hb dX0_room_16 (by decide) (by omega) (by omega) (fun _ => ?_) (fun c_ => absurd c_ (by omega))
    refine lv_iload_n hx hb dX0_room_51 rfl (lv_at hl 1 rfl) ?_
    exact ro_ret hx hb hr hlocks dX0_room_52 rfl (rfl)
set_option maxHeartbeats 4000000 in
set_option maxRecDepth 100000 in
/-- room, else -/
theorem ro_X0_room_b (l : Launch) (D : va_G) (dB dZ : ClassId) (H : Heap) (a C X N K B M : Nat → Nat) (hP : va_P D vwCl (wX a dB C X N K B M) H) (hC : ∀ j, C j ≤ 5) (hX : ∀ j, X j < 128) (t : Int32) (hbad : tx_isT t = false) : Ro l yX0_room cX0_room 4 (some .int) 1 20 [.ref (a 0), .int t] H D dB dZ ((-1)) := by
  refine Ro.ofW (by decide) (Nat.le_of_ble_eq_true rfl) (fun p e s m below meth c hx hb hr hlocks hml hown hts hK ls hl => ?_)
  have hl : lv_has ls 4 [(0, .ref (a 0)), (1, .int t)] := hl
  refine lv_iload_n hx hb dX0_room_0 rfl (lv_at hl 1 rfl) ?_
  refine ro_callS (As := [.int t]) (rest := []) ⟨hx, hb, hml, hown, hts⟩ hK (ro_X0_isTree l D dB dZ H t) (va_cwS 1 hts (lw_S q55 q56 q21 q57) rfl rfl rfl (by decide +kernel) ⟨Nat.le_of_ble_eq_true rfl, Nat.le_of_ble_eq_true rfl⟩) rfl hl.1 rfl (Nat.le_of_ble_eq_true rfl) dX0_room_1 ⟨Nat.le_of_ble_eq_true rfl, Nat.le_of_ble_eq_true rfl⟩ ?_
  refine tc_bne (tgt := 9) hx hb dX0_room_4 (by decide) (fun c_ => absurd c_ (by rw [hbad] at c_; cases c_)) (fun _ => ?_)
  refine lv_iconst (v := -1) hx hb dX0_room_7 (by decide) ?_
  exact ro_ret hx hb hr hlocks dX0_room_8 rfl (rfl)
set_option maxHeartbeats 4000000 in
set_option maxRecDepth 100000 in
/-- groups, else -/
theorem ro_X0_groups_b (l : Launch) (D : va_G) (dB dZ : ClassId) (H : Heap) (a C X N K B M : Nat → Nat) (hP : va_P D vwCl (wX a dB C X N K B M) H) (hC : ∀ j, C j ≤ 5) (hX : ∀ j, X j < 128) (t : Int32) (hbad : tx_isT t = false) : Ro l yX0_groups cX0_groups 2 (some .int) 1 20 [.ref (a 0), .int t] H D dB dZ ((-1)) := by
  refine Ro.ofW (by decide) (Nat.le_of_ble_eq_true rfl) (fun p e s m below meth c hx hb hr hlocks hml hown hts hK ls hl => ?_)
  have hl : lv_has ls 2 [(0, .ref (a 0)), (1, .int t)] := hl
  refine lv_iload_n hx hb dX0_groups_0 rfl (lv_at hl 1 rfl) ?_
  refine ro_callS (As := [.int t]) (rest := []) ⟨hx, hb, hml, hown, hts⟩ hK (ro_X0_isTree l D dB dZ H t) (va_cwS 1 hts (lw_S q55 q56 q21 q57) rfl rfl rfl (by decide +kernel) ⟨Nat.le_of_ble_eq_true rfl, Nat.le_of_ble_eq_true rfl⟩) rfl hl.1 rfl (Nat.le_of_ble_eq_true rfl) dX0_groups_1 ⟨Nat.le_of_ble_eq_true rfl, Nat.le_of_ble_eq_true rfl⟩ ?_
  refine tc_beq (tgt := 19) hx hb dX0_groups_4 (by decide) (fun _ => ?_) (fun c_ => absurd c_ (by rw [hbad] at c_; cases c_))
  refine lv_iconst (v := -1) hx hb dX0_groups_19 (by decide) ?_
  exact ro_ret hx hb hr hlocks dX0_groups_20 rfl (rfl)
set_option maxHeartbeats 4000000 in
set_option maxRecDepth 100000 in
/-- isPart -/
theorem ro_X0_isPart (l : Launch) (D : va_G) (dB dZ : ClassId) (H : Heap) (a C X N K B M : Nat → Nat) (hP : va_P D vwCl (wX a dB C X N K B M) H) (hC : ∀ j, C j ≤ 5) (hX : ∀ j, X j < 128) (hN : ∀ j, N j < 128) (hKc : ∀ j, K j ≤ 13) (t : Nat) (ht : t < 2) (k i0 : Nat) (hk : k < 13) (hi0 : i0 < 13) : Ro l yX0_isPart cX0_isPart 8 (some .boolean) 0 0 [.ref (a 0), .int (nI t), .int (nI k), .int (nI i0)] H D dB dZ ((tB (tx_part N K t k i0))) := by
  refine Ro.ofW (by decide) (Nat.le_of_ble_eq_true rfl) (fun p e s m below meth c hx hb hr hlocks hml hown hts hK ls hl => ?_)
  have hl : lv_has ls 8 [(0, .ref (a 0)), (1, .int (nI t)), (2, .int (nI k)), (3, .int (nI i0))] := hl
  refine lv_aload_n hx hb dX0_isPart_0 rfl (lv_at hl 0 rfl) ?_
  refine tc_getX (a := a) (v := .ref (a 3)) hx hb hts hown hK hP 0 rfl 2 (by decide) q33 rfl rfl dX0_isPart_1 ?_
  refine lv_iload_n hx hb dX0_isPart_4 rfl (lv_at hl 1 rfl) ?_
  refine lv_bipush (v := nI 13) hx hb dX0_isPart_5 (by decide) ?_
  refine tc_imul hx hb dX0_isPart_7 ?_
  refine lv_iload_n hx hb dX0_isPart_8 rfl (lv_at hl 2 rfl) ?_
  refine tc_iadd hx hb dX0_isPart_9 ?_
  refine tc_bald (k := ((t * 13) + k)) hx hb dX0_isPart_10 hK hP 3 0 rfl rfl (by decide) (by omega) ?_
  have hv_1 := hN ((t * 13) + k)
  refine lv_istore (lv' := [(4, .int (nI (N ((t * 13) + k)))), (0, .ref (a 0)), (1, .int (nI t)), (2, .int (nI k)), (3, .int (nI i0))]) hx hb dX0_isPart_11 hl (by decide) rfl (fun ls hl => ?_)
  refine lv_aload_n hx hb dX0_isPart_13 rfl (lv_at hl 1 rfl) ?_
  refine tc_getX (a := a) (v := .ref (a 3)) hx hb hts hown hK hP 0 rfl 2 (by decide) q33 rfl rfl dX0_isPart_14 ?_
  refine lv_iload_n hx hb dX0_isPart_17 rfl (lv_at hl 2 rfl) ?_
  refine lv_bipush (v := nI 13) hx hb dX0_isPart_18 (by decide) ?_
  refine tc_imul hx hb dX0_isPart_20 ?_
  refine lv_iload_n hx hb dX0_isPart_21 rfl (lv_at hl 4 rfl) ?_
  refine tc_iadd hx hb dX0_isPart_22 ?_
  refine tc_bald (k := ((t * 13) + i0)) hx hb dX0_isPart_23 hK hP 3 0 rfl rfl (by decide) (by omega) ?_
  have hv_2 := hN ((t * 13) + i0)
  refine lv_istore (lv' := [(5, .int (nI (N ((t * 13) + i0)))), (4, .int (nI (N ((t * 13) + k)))), (0, .ref (a 0)), (1, .int (nI t)), (2, .int (nI k)), (3, .int (nI i0))]) hx hb dX0_isPart_24 hl (by decide) rfl (fun ls hl => ?_)
  refine lv_iload_n hx hb dX0_isPart_26 rfl (lv_at hl 4 rfl) ?_
  refine lv_iload_n hx hb dX0_isPart_27 rfl (lv_at hl 5 rfl) ?_
  refine tc_eq (tgt := 41) hx hb dX0_isPart_28 (by decide) (by omega) (by omega) (fun c_3 => ?_) (fun c_3 => ?_)
  · refine lv_iconst (v := nI 0) hx hb dX0_isPart_41 (by decide) ?_
    exact ro_ret hx hb hr hlocks dX0_isPart_42 rfl (tc_r0 (tx_part_e c_3))
  · refine lv_iload hx hb dX0_isPart_31 (lv_at hl 0 rfl) ?_
    refine lv_iload hx hb dX0_isPart_33 (lv_at hl 1 rfl) ?_
    refine lv_iconst (v := -1) hx hb dX0_isPart_35 (by decide) ?_
    refine lv_ixor hx hb dX0_isPart_36 ?_
    have hd_1 : tc_dif (N (t * 13 + i0)) (N (t * 13 + k)) ≤ N (t * 13 + i0) := Nat.and_le_left
    refine tc_iandn hx hb dX0_isPart_37 (by omega) ?_
    have hv_4 : tc_dif (N ((t * 13) + i0)) (N ((t * 13) + k)) ≤ (N ((t * 13) + i0)) := Nat.and_le_left
    refine tc_eq0 (tgt := 43) hx hb dX0_isPart_38 (by decide) (by omega) (fun c_5 => ?_) (fun c_5 => ?_)
    · refine lv_iconst (v := nI 0) hx hb dX0_isPart_43 (by decide) ?_
      refine lv_istore (lv' := [(6, .int (nI 0)), (5, .int (nI (N ((t * 13) + i0)))), (4, .int (nI (N ((t * 13) + k)))), (0, .ref (a 0)), (1, .int (nI t)), (2, .int (nI k)), (3, .int (nI i0))]) hx hb dX0_isPart_44 hl (by decide) rfl (fun ls hl => ?_)
      refine tc_for (nL := 8) (K t) (fun i => tc_all (tx_pp N t k i0) i = true) (fun i => [(6, .int (nI i)), (0, .ref (a 0)), (1, .int (nI t)), (2, .int (nI k)), (3, .int (nI i0)), (4, .int (nI (N (t * 13 + k)))), (5, .int (nI (N (t * 13 + i0))))]) (rfl) (lv_sub hl [0, 3, 4, 5, 6, 2, 1] rfl) (fun i hi_i hv_6 ih_6 ls hl => ?_) (fun hv_6 ls hl => ?_)
      · have hl : lv_has ls 8 [(6, .int (nI i)), (0, .ref (a 0)), (1, .int (nI t)), (2, .int (nI k)), (3, .int (nI i0)), (4, .int (nI (N (t * 13 + k)))), (5, .int (nI (N (t * 13 + i0))))] := hl
        have hct := hKc t
        refine lv_iload hx hb dX0_isPart_46 (lv_at hl 0 rfl) ?_
        refine lv_aload_n hx hb dX0_isPart_48 rfl (lv_at hl 1 rfl) ?_
        refine tc_getX (a := a) (v := .ref (a 4)) hx hb hts hown hK hP 0 rfl 3 (by decide) q34 rfl rfl dX0_isPart_49 ?_
        refine lv_iload_n hx hb dX0_isPart_52 rfl (lv_at hl 2 rfl) ?_
        refine tc_bald (k := t) hx hb dX0_isPart_53 hK hP 4 0 rfl rfl (by decide) (by omega) ?_
        have hv_7 := hKc t
        refine tc_ge (tgt := 111) hx hb dX0_isPart_54 (by decide) (by omega) (by omega) (fun c_ => absurd c_ (by omega)) (fun _ => ?_)
        refine lv_aload_n hx hb dX0_isPart_57 rfl (lv_at hl 1 rfl) ?_
        refine tc_getX (a := a) (v := .ref (a 3)) hx hb hts hown hK hP 0 rfl 2 (by decide) q33 rfl rfl dX0_isPart_58 ?_
        refine lv_iload_n hx hb dX0_isPart_61 rfl (lv_at hl 2 rfl) ?_
        refine lv_bipush (v := nI 13) hx hb dX0_isPart_62 (by decide) ?_
        refine tc_imul hx hb dX0_isPart_64 ?_
        refine lv_iload hx hb dX0_isPart_65 (lv_at hl 0 rfl) ?_
        refine tc_iadd hx hb dX0_isPart_67 ?_
        refine tc_bald (k := ((t * 13) + i)) hx hb dX0_isPart_68 hK hP 3 0 rfl rfl (by decide) (by omega) ?_
        have hv_8 := hN ((t * 13) + i)
        refine lv_istore (lv' := [(7, .int (nI (N ((t * 13) + i)))), (6, .int (nI i)), (0, .ref (a 0)), (1, .int (nI t)), (2, .int (nI k)), (3, .int (nI i0)), (4, .int (nI (N (t * 13 + k)))), (5, .int (nI (N (t * 13 + i0))))]) hx hb dX0_isPart_69 hl (by decide) rfl (fun ls hl => ?_)
        refine lv_iload hx hb dX0_isPart_71 (lv_at hl 1 rfl) ?_
        refine lv_iload_n hx hb dX0_isPart_73 rfl (lv_at hl 4 rfl) ?_
        refine tc_eq (tgt := 105) hx hb dX0_isPart_74 (by decide) (by omega) (by omega) (fun c_9 => ?_) (fun c_9 => ?_)
        · refine lv_iinc (v := nI (i + 1)) (lv' := [(6, .int (nI (i + 1))), (7, .int (nI (N ((t * 13) + i)))), (0, .ref (a 0)), (1, .int (nI t)), (2, .int (nI k)), (3, .int (nI i0)), (4, .int (nI (N (t * 13 + k)))), (5, .int (nI (N (t * 13 + i0))))]) hx hb dX0_isPart_105 hl (k := 1) rfl (t_inc _) (by decide) rfl (fun ls hl => ?_)
          refine lv_goto (tgt := 46) hx hb dX0_isPart_108 (by decide) ?_
          exact ih_6 ls (tc_all_s hv_6 (tx_pp_1 c_9)) (lv_sub hl [0, 2, 3, 4, 5, 6, 7] rfl)
        · refine lv_iload hx hb dX0_isPart_77 (lv_at hl 1 rfl) ?_
          refine lv_iload_n hx hb dX0_isPart_79 rfl (lv_at hl 5 rfl) ?_
          refine tc_eq (tgt := 105) hx hb dX0_isPart_80 (by decide) (by omega) (by omega) (fun c_10 => ?_) (fun c_10 => ?_)
          · refine lv_iinc (v := nI (i + 1)) (lv' := [(6, .int (nI (i + 1))), (7, .int (nI (N ((t * 13) + i)))), (0, .ref (a 0)), (1, .int (nI t)), (2, .int (nI k)), (3, .int (nI i0)), (4, .int (nI (N (t * 13 + k)))), (5, .int (nI (N (t * 13 + i0))))]) hx hb dX0_isPart_105 hl (k := 1) rfl (t_inc _) (by decide) rfl (fun ls hl => ?_)
            refine lv_goto (tgt := 46) hx hb dX0_isPart_108 (by decide) ?_
            exact ih_6 ls (tc_all_s hv_6 (tx_pp_2 c_10)) (lv_sub hl [0, 2, 3, 4, 5, 6, 7] rfl)
          · refine lv_iload hx hb dX0_isPart_83 (lv_at hl 7 rfl) ?_
            refine lv_iload hx hb dX0_isPart_85 (lv_at hl 0 rfl) ?_
            refine lv_iconst (v := -1) hx hb dX0_isPart_87 (by decide) ?_
            refine lv_ixor hx hb dX0_isPart_88 ?_
            have hd_2 : tc_dif (N (t * 13 + i0)) (N (t * 13 + i)) ≤ N (t * 13 + i0) := Nat.and_le_left
            refine tc_iandn hx hb dX0_isPart_89 (by omega) ?_
            have hv_11 : tc_dif (N (t * 13 + i0)) (N ((t * 13) + i)) ≤ (N (t * 13 + i0)) := Nat.and_le_left
            refine tc_ne0 (tgt := 105) hx hb dX0_isPart_90 (by decide) (by omega) (fun c_12 => ?_) (fun c_12 => ?_)
            · refine lv_iinc (v := nI (i + 1)) (lv' := [(6, .int (nI (i + 1))), (7, .int (nI (N ((t * 13) + i)))), (0, .ref (a 0)), (1, .int (nI t)), (2, .int (nI k)), (3, .int (nI i0)), (4, .int (nI (N (t * 13 + k)))), (5, .int (nI (N (t * 13 + i0))))]) hx hb dX0_isPart_105 hl (k := 1) rfl (t_inc _) (by decide) rfl (fun ls hl => ?_)
              refine lv_goto (tgt := 46) hx hb dX0_isPart_108 (by decide) ?_
              exact ih_6 ls (tc_all_s hv_6 (tx_pp_3 c_12)) (lv_sub hl [0, 2, 3, 4, 5, 6, 7] rfl)
            · refine lv_iload hx hb dX0_isPart_93 (lv_at hl 0 rfl) ?_
              refine lv_iload hx hb dX0_isPart_95 (lv_at hl 6 rfl) ?_
              refine lv_iconst (v := -1) hx hb dX0_isPart_97 (by decide) ?_
              refine lv_ixor hx hb dX0_isPart_98 ?_
              have hd_3 : tc_dif (N (t * 13 + i)) (N (t * 13 + k)) ≤ N (t * 13 + i) := Nat.and_le_left
              refine tc_iandn hx hb dX0_isPart_99 (by omega) ?_
              have hv_13 : tc_dif (N ((t * 13) + i)) (N (t * 13 + k)) ≤ (N ((t * 13) + i)) := Nat.and_le_left
              refine tc_ne0 (tgt := 105) hx hb dX0_isPart_100 (by decide) (by omega) (fun c_14 => ?_) (fun c_14 => ?_)
              · refine lv_iinc (v := nI (i + 1)) (lv' := [(6, .int (nI (i + 1))), (7, .int (nI (N ((t * 13) + i)))), (0, .ref (a 0)), (1, .int (nI t)), (2, .int (nI k)), (3, .int (nI i0)), (4, .int (nI (N (t * 13 + k)))), (5, .int (nI (N (t * 13 + i0))))]) hx hb dX0_isPart_105 hl (k := 1) rfl (t_inc _) (by decide) rfl (fun ls hl => ?_)
                refine lv_goto (tgt := 46) hx hb dX0_isPart_108 (by decide) ?_
                exact ih_6 ls (tc_all_s hv_6 (tx_pp_4 c_14)) (lv_sub hl [0, 2, 3, 4, 5, 6, 7] rfl)
              · refine lv_iconst (v := nI 0) hx hb dX0_isPart_103 (by decide) ?_
                exact ro_ret hx hb hr hlocks dX0_isPart_104 rfl (tc_r0 (tx_part_0 hi_i c_9 c_10 c_12 c_14))
      · have hl : lv_has ls 8 [(6, .int (nI (K t))), (0, .ref (a 0)), (1, .int (nI t)), (2, .int (nI k)), (3, .int (nI i0)), (4, .int (nI (N (t * 13 + k)))), (5, .int (nI (N (t * 13 + i0))))] := hl
        have hct := hKc t
        have hv_inv := hv_6
        refine lv_iload hx hb dX0_isPart_46 (lv_at hl 0 rfl) ?_
        refine lv_aload_n hx hb dX0_isPart_48 rfl (lv_at hl 1 rfl) ?_
        refine tc_getX (a := a) (v := .ref (a 4)) hx hb hts hown hK hP 0 rfl 3 (by decide) q34 rfl rfl dX0_isPart_49 ?_
        refine lv_iload_n hx hb dX0_isPart_52 rfl (lv_at hl 2 rfl) ?_
        refine tc_bald (k := t) hx hb dX0_isPart_53 hK hP 4 0 rfl rfl (by decide) (by omega) ?_
        have hv_15 := hKc t
        refine tc_ge (tgt := 111) hx hb dX0_isPart_54 (by decide) (by omega) (by omega) (fun _ => ?_) (fun c_ => absurd c_ (by omega))
        refine lv_iconst (v := nI 1) hx hb dX0_isPart_111 (by decide) ?_
        exact ro_ret hx hb hr hlocks dX0_isPart_112 rfl (tc_r1 (tx_part_1 c_3 c_5 hv_inv))
    · refine lv_iconst (v := nI 0) hx hb dX0_isPart_41 (by decide) ?_
      exact ro_ret hx hb hr hlocks dX0_isPart_42 rfl (tc_r0 (tx_part_d c_5))
end
section
theorem tm_jstep_pos {hs : Nat → Bool} {t w i best : Nat} (h1 : hs (128 * t + (i + 1)) = true) (h2 : tc_dif w (i + 1) = 0) (h3 : tc_pop (i + 1) < tc_pop best) : i + 1 = tm_jstep hs t w i best := by unfold tm_jstep; rw [if_pos ⟨h1, h2, h3⟩]
theorem tm_jstep_neg {hs : Nat → Bool} {t w i best : Nat} (h : hs (128 * t + (i + 1)) = true → tc_dif w (i + 1) = 0 → tc_pop (i + 1) < tc_pop best → False) : best = tm_jstep hs t w i best := by unfold tm_jstep; rw [if_neg (fun q => h q.1 q.2.1 q.2.2)]
theorem tm_clo_1 {hs : Nat → Bool} {t a b c i : Nat} (h1 : hs (128 * t + (i + 1)) = true) (h2 : (i + 1) >>> a &&& 1 = 1) (h3 : (i + 1) >>> b &&& 1 = 1) (h4 : (i + 1) >>> c &&& 1 = 0) : tm_clo hs t a b c i = true := decide_eq_true ⟨h1, h2, h3, h4⟩
theorem tm_clo_0 {hs : Nat → Bool} {t a b c i : Nat} (h : hs (128 * t + (i + 1)) = true → (i + 1) >>> a &&& 1 = 1 → (i + 1) >>> b &&& 1 = 1 → (i + 1) >>> c &&& 1 = 0 → False) : tm_clo hs t a b c i = false := decide_eq_false (fun q => h q.1 q.2.1 q.2.2.1 q.2.2.2)
theorem tm_abs_1 {w i : Nat} {v : Int32 × Int32 × Int32} (h : w >>> i &&& 1 = 1) : (v.2.1, v.2.2, nI i) = tm_abs w i v := by unfold tm_abs; rw [if_pos h]
theorem tm_abs_0 {w i : Nat} {v : Int32 × Int32 × Int32} (h : ¬ w >>> i &&& 1 = 1) : (v.1, v.2.1, v.2.2) = tm_abs w i v := by unfold tm_abs; rw [if_neg h]
theorem tc_all_ff {p : Nat → Bool} {n i : Nat} (hi : i ≤ n) (h : tc_all p i = false) : tc_all p n = false := by
  cases hq : tc_all p n with
  | false => rfl
  | true =>
    have h1 := tc_all_iff.mp hq
    rw [tc_all_iff.mpr (fun j hj => h1 j (by omega))] at h
    cases h
theorem tm_ag_1 {hs : Nat → Bool} {w i : Nat} (h : ¬ tc_dif i w = 0) : tm_ag hs w i = true := decide_eq_true (Or.inl h)
theorem tm_ag_2 {hs : Nat → Bool} {w i : Nat} (h : ¬ tc_pop i = 3) : tm_ag hs w i = true := decide_eq_true (Or.inr (Or.inl h))
theorem tm_ag_3 {hs : Nat → Bool} {w i : Nat} (h : tm_about hs 0 i = tm_about hs 1 i) : tm_ag hs w i = true := decide_eq_true (Or.inr (Or.inr h))
theorem tm_ag_0 {hs : Nat → Bool} {w i : Nat} (h1 : tc_dif i w = 0) (h2 : tc_pop i = 3) (h3 : ¬ tm_about hs 0 i = tm_about hs 1 i) : tm_ag hs w i = false := decide_eq_false (fun h => h.elim (fun q => q h1) (fun h => h.elim (fun q => q h2) h3))
theorem tm_agrs_p {hs : Nat → Bool} {i most : Nat} (h1 : most < tc_pop i) (h2 : tm_agree hs i = true) : tc_pop i = tm_agrs hs i most := by unfold tm_agrs; rw [if_pos ⟨h1, h2⟩]
theorem tm_agrs_n1 {hs : Nat → Bool} {i most : Nat} (h1 : tc_pop i ≤ most) : most = tm_agrs hs i most := by unfold tm_agrs; rw [if_neg (fun h => absurd h.1 (by omega))]
theorem tm_agrs_n2 {hs : Nat → Bool} {i most : Nat} (h1 : tm_agree hs i = false) : most = tm_agrs hs i most := by unfold tm_agrs; rw [if_neg (fun h => by rw [h1] at h; exact Bool.noConfusion h.2)]
theorem tm_aset_at {hs : Nat → Bool} {i : Nat} (hi : i < 128) (h : tx_first (fun i => decide (tc_pop i = tm_agr hs ∧ tm_agree hs i = true)) i = none) (h1 : tc_pop i = tm_agr hs) (h2 : tm_agree hs i = true) : tm_aset hs = i := by
  have : tx_first (fun i => decide (tc_pop i = tm_agr hs ∧ tm_agree hs i = true)) 128 = some i := tx_first_some.mpr ⟨hi, decide_eq_true ⟨h1, h2⟩, tx_first_none.mp h⟩
  unfold tm_aset
  rw [this]
theorem tm_aset_no {hs : Nat → Bool} (h : tx_first (fun i => decide (tc_pop i = tm_agr hs ∧ tm_agree hs i = true)) 128 = none) : tm_aset hs = 0 := by
  unfold tm_aset
  rw [h]
set_option maxHeartbeats 4000000 in
set_option maxRecDepth 100000 in
/-- tree -/
theorem ro_X1_tree (l : Launch) (D : va_G) (dB dZ : ClassId) (H : Heap) (a : Nat → Nat) (hs : Nat → Bool) (hP : va_P D vwCl (wM a dZ hs) H) (t : Int32) : Ro l yX1_tree cX1_tree 2 (some .boolean) 0 0 [.ref (a 0), .int t] H D dB dZ ((tB (tx_isT t))) := by
  refine Ro.ofW (by decide) (Nat.le_of_ble_eq_true rfl) (fun p e s m below meth c hx hb hr hlocks hml hown hts hK ls hl => ?_)
  have hl : lv_has ls 2 [(0, .ref (a 0)), (1, .int t)] := hl
  refine lv_iload_n hx hb dX1_tree_0 rfl (lv_at hl 1 rfl) ?_
  refine lv_if_eq (tgt := 9) hx hb dX1_tree_1 (by decide) (fun c_1 => ?_) (fun c_1 => ?_)
  · refine lv_iconst (v := nI 1) hx hb dX1_tree_9 (by decide) ?_
    refine lv_goto (tgt := 14) hx hb dX1_tree_10 (by decide) ?_
    exact ro_ret hx hb hr hlocks dX1_tree_14 rfl (tc_r1 (by first | (simp [tx_isT, c_1]; done) | grind [tx_isT]))
  · refine lv_iload_n hx hb dX1_tree_4 rfl (lv_at hl 1 rfl) ?_
    refine lv_iconst (v := nI 1) hx hb dX1_tree_5 (by decide) ?_
    refine lv_icmp_ne (tgt := 13) hx hb dX1_tree_6 (by decide) (fun c_2 => ?_) (fun c_2 => ?_)
    · refine lv_iconst (v := nI 0) hx hb dX1_tree_13 (by decide) ?_
      exact ro_ret hx hb hr hlocks dX1_tree_14 rfl (tc_r0 (by first | (simp [tx_isT, c_1, c_2]; done) | grind [tx_isT]))
    · refine lv_iconst (v := nI 1) hx hb dX1_tree_9 (by decide) ?_
      refine lv_goto (tgt := 14) hx hb dX1_tree_10 (by decide) ?_
      exact ro_ret hx hb hr hlocks dX1_tree_14 rfl (tc_r1 (by first | (simp [tx_isT, c_1, c_2]; done) | grind [tx_isT]))
set_option maxHeartbeats 4000000 in
set_option maxRecDepth 100000 in
/-- member -/
theorem ro_X1_member (l : Launch) (D : va_G) (dB dZ : ClassId) (H : Heap) (a : Nat → Nat) (hs : Nat → Bool) (hP : va_P D vwCl (wM a dZ hs) H) (t : Int32) : Ro l yX1_member cX1_member 2 (some .boolean) 0 0 [.ref (a 0), .int t] H D dB dZ ((tB (tx_isM t))) := by
  refine Ro.ofW (by decide) (Nat.le_of_ble_eq_true rfl) (fun p e s m below meth c hx hb hr hlocks hml hown hts hK ls hl => ?_)
  have hl : lv_has ls 2 [(0, .ref (a 0)), (1, .int t)] := hl
  refine lv_iload_n hx hb dX1_member_0 rfl (lv_at hl 1 rfl) ?_
  refine lv_if_lt (tgt := 14) hx hb dX1_member_1 (by decide) (fun c_1 => ?_) (fun c_1 => ?_)
  · refine lv_iconst (v := nI 0) hx hb dX1_member_14 (by decide) ?_
    exact ro_ret hx hb hr hlocks dX1_member_15 rfl (tc_r0 (by first | (simp [tx_isM, ← tm_mem6, c_1]; done) | grind [tx_isM, ← tm_mem6]))
  · refine lv_iload_n hx hb dX1_member_4 rfl (lv_at hl 1 rfl) ?_
    refine lv_bipush (v := nI 6) hx hb dX1_member_5 (by decide) ?_
    refine lv_icmp_gt (tgt := 14) hx hb dX1_member_7 (by decide) (fun c_2 => ?_) (fun c_2 => ?_)
    · refine lv_iconst (v := nI 0) hx hb dX1_member_14 (by decide) ?_
      exact ro_ret hx hb hr hlocks dX1_member_15 rfl (tc_r0 (by first | (simp [tx_isM, ← tm_mem6, c_1, c_2]; done) | grind [tx_isM, ← tm_mem6]))
    · refine lv_iconst (v := nI 1) hx hb dX1_member_10 (by decide) ?_
      refine lv_goto (tgt := 15) hx hb dX1_member_11 (by decide) ?_
      exact ro_ret hx hb hr hlocks dX1_member_15 rfl (tc_r1 (by first | (simp [tx_isM, ← tm_mem6, c_1, c_2]; done) | grind [tx_isM, ← tm_mem6]))
set_option maxHeartbeats 4000000 in
set_option maxRecDepth 100000 in
/-- count -/
theorem ro_X1_count (l : Launch) (D : va_G) (dB dZ : ClassId) (H : Heap) (a : Nat → Nat) (hs : Nat → Bool) (hP : va_P D vwCl (wM a dZ hs) H) (w : Nat) (hw : w < 128) : Ro l yX1_count cX1_count 4 (some .int) 0 0 [.ref (a 0), .int (nI w)] H D dB dZ ((nI (tc_pop w))) := by
  refine Ro.ofW (by decide) (Nat.le_of_ble_eq_true rfl) (fun p e s m below meth c hx hb hr hlocks hml hown hts hK ls hl => ?_)
  have hl : lv_has ls 4 [(0, .ref (a 0)), (1, .int (nI w))] := hl
  refine lv_iconst (v := nI 0) hx hb dX1_count_0 (by decide) ?_
  refine lv_istore_n (lv' := [(2, .int (nI 0)), (0, .ref (a 0)), (1, .int (nI w))]) hx hb dX1_count_1 rfl hl (by decide) rfl (fun ls hl => ?_)
  refine lv_iconst (v := nI 0) hx hb dX1_count_2 (by decide) ?_
  refine lv_istore_n (lv' := [(3, .int (nI 0)), (2, .int (nI 0)), (0, .ref (a 0)), (1, .int (nI w))]) hx hb dX1_count_3 rfl hl (by decide) rfl (fun ls hl => ?_)
  refine tc_for (nL := 4) 7 (fun _ => True) (fun i => [(3, .int (nI i)), (2, .int (nI (tc_sum (fun m => (w >>> m) &&& 1) i))), (0, .ref (a 0)), (1, .int (nI w))]) (trivial) (lv_sub hl [0, 1, 2, 3] rfl) (fun i hi_i hv_1 ih_1 ls hl => ?_) (fun hv_1 ls hl => ?_)
  · have hl : lv_has ls 4 [(3, .int (nI i)), (2, .int (nI (tc_sum (fun m => (w >>> m) &&& 1) i))), (0, .ref (a 0)), (1, .int (nI w))] := hl
    refine lv_iload_n hx hb dX1_count_4 rfl (lv_at hl 0 rfl) ?_
    refine lv_bipush (v := nI 7) hx hb dX1_count_5 (by decide) ?_
    refine tc_ge (tgt := 24) hx hb dX1_count_7 (by decide) (by omega) (by omega) (fun c_ => absurd c_ (by omega)) (fun _ => ?_)
    refine lv_iload_n hx hb dX1_count_10 rfl (lv_at hl 1 rfl) ?_
    refine lv_iload_n hx hb dX1_count_11 rfl (lv_at hl 3 rfl) ?_
    refine lv_iload_n hx hb dX1_count_12 rfl (lv_at hl 0 rfl) ?_
    refine tc_ishr hx hb dX1_count_13 (by omega) (by omega) ?_
    refine lv_iconst (v := nI 1) hx hb dX1_count_14 (by decide) ?_
    refine tc_iand hx hb dX1_count_15 ?_
    have hv_2 : (w >>> i) &&& 1 ≤ 1 := Nat.and_le_right
    refine tc_iadd hx hb dX1_count_16 ?_
    refine lv_istore_n (lv' := [(2, .int (nI ((tc_sum (fun m => (w >>> m) &&& 1) i) + ((w >>> i) &&& 1)))), (3, .int (nI i)), (0, .ref (a 0)), (1, .int (nI w))]) hx hb dX1_count_17 rfl hl (by decide) rfl (fun ls hl => ?_)
    refine lv_iinc (v := nI (i + 1)) (lv' := [(3, .int (nI (i + 1))), (2, .int (nI ((tc_sum (fun m => (w >>> m) &&& 1) i) + ((w >>> i) &&& 1)))), (0, .ref (a 0)), (1, .int (nI w))]) hx hb dX1_count_18 hl (k := 1) rfl (t_inc _) (by decide) rfl (fun ls hl => ?_)
    refine lv_goto (tgt := 4) hx hb dX1_count_21 (by decide) ?_
    exact ih_1 ls (trivial) (lv_sub hl [0, 1, 2, 3] rfl)
  · have hl : lv_has ls 4 [(3, .int (nI 7)), (2, .int (nI (tc_sum (fun m => (w >>> m) &&& 1) 7))), (0, .ref (a 0)), (1, .int (nI w))] := hl
    refine lv_iload_n hx hb dX1_count_4 rfl (lv_at hl 0 rfl) ?_
    refine lv_bipush (v := nI 7) hx hb dX1_count_5 (by decide) ?_
    refine tc_ge (tgt := 24) hx hb dX1_count_7 (by decide) (by omega) (by omega) (fun _ => ?_) (fun c_ => absurd c_ (by omega))
    refine lv_iload_n hx hb dX1_count_24 rfl (lv_at hl 1 rfl) ?_
    exact ro_ret hx hb hr hlocks dX1_count_25 rfl (rfl)
set_option maxHeartbeats 4000000 in
set_option maxRecDepth 100000 in
/-- given -/
theorem ro_X1_given (l : Launch) (D : va_G) (dB dZ : ClassId) (H : Heap) (a : Nat → Nat) (hs : Nat → Bool) (hP : va_P D vwCl (wM a dZ hs) H) (g : Nat) (hg : g < 128) : Ro l yX1_given cX1_given 2 (some .boolean) 1 23 [.ref (a 0), .int (nI g)] H D dB dZ ((tB (tm_giv g))) := by
  refine Ro.ofW (by decide) (Nat.le_of_ble_eq_true rfl) (fun p e s m below meth c hx hb hr hlocks hml hown hts hK ls hl => ?_)
  have hl : lv_has ls 2 [(0, .ref (a 0)), (1, .int (nI g))] := hl
  refine lv_aload_n hx hb dX1_given_0 rfl (lv_at hl 0 rfl) ?_
  refine lv_iload_n hx hb dX1_given_1 rfl (lv_at hl 1 rfl) ?_
  refine ro_callV (As := [.int (nI g)]) (rest := []) ⟨hx, hb, hml, hown, hts⟩ hK (ro_X1_count l D dB dZ H a hs hP g (by omega)) (cwV 1 hts (lw_V q197 q199 qs14 q22 q200) rfl rfl rfl (by decide +kernel) ⟨Nat.le_of_ble_eq_true rfl, Nat.le_of_ble_eq_true rfl⟩) (va_recv hK hP (ci := 1) (q0 := 0) rfl rfl) rfl hl.1 rfl (Nat.le_of_ble_eq_true rfl) dX1_given_2 ⟨Nat.le_of_ble_eq_true rfl, Nat.le_of_ble_eq_true rfl⟩ ?_
  have hv_1 := tc_pop_le g
  refine lv_iconst (v := nI 1) hx hb dX1_given_5 (by decide) ?_
  refine tc_eq (tgt := 15) hx hb dX1_given_6 (by decide) (by omega) (by omega) (fun c_2 => ?_) (fun c_2 => ?_)
  · refine lv_iconst (v := nI 1) hx hb dX1_given_15 (by decide) ?_
    refine lv_goto (tgt := 20) hx hb dX1_given_16 (by decide) ?_
    exact ro_ret hx hb hr hlocks dX1_given_20 rfl (tc_r1 (by first | (simp [tm_giv, c_2]; done) | grind [tm_giv]))
  · refine lv_iload_n hx hb dX1_given_9 rfl (lv_at hl 1 rfl) ?_
    refine lv_bipush (v := nI 127) hx hb dX1_given_10 (by decide) ?_
    refine tc_ne (tgt := 19) hx hb dX1_given_12 (by decide) (by omega) (by omega) (fun c_3 => ?_) (fun c_3 => ?_)
    · refine lv_iconst (v := nI 0) hx hb dX1_given_19 (by decide) ?_
      exact ro_ret hx hb hr hlocks dX1_given_20 rfl (tc_r0 (by first | (simp [tm_giv, c_2, c_3]; done) | grind [tm_giv]))
    · refine lv_iconst (v := nI 1) hx hb dX1_given_15 (by decide) ?_
      refine lv_goto (tgt := 20) hx hb dX1_given_16 (by decide) ?_
      exact ro_ret hx hb hr hlocks dX1_given_20 rfl (tc_r1 (by first | (simp [tm_giv, c_2, c_3]; done) | grind [tm_giv]))
set_option maxHeartbeats 4000000 in
set_option maxRecDepth 100000 in
/-- crosses -/
theorem ro_X1_crosses (l : Launch) (D : va_G) (dB dZ : ClassId) (H : Heap) (a : Nat → Nat) (hs : Nat → Bool) (hP : va_P D vwCl (wM a dZ hs) H) (g h : Nat) (hg : g < 128) (hh : h < 128) : Ro l yX1_crosses cX1_crosses 3 (some .boolean) 0 0 [.ref (a 0), .int (nI g), .int (nI h)] H D dB dZ ((tB (tm_cr g h))) := by
  refine Ro.ofW (by decide) (Nat.le_of_ble_eq_true rfl) (fun p e s m below meth c hx hb hr hlocks hml hown hts hK ls hl => ?_)
  have hl : lv_has ls 3 [(0, .ref (a 0)), (1, .int (nI g)), (2, .int (nI h))] := hl
  refine lv_iload_n hx hb dX1_crosses_0 rfl (lv_at hl 1 rfl) ?_
  refine lv_iload_n hx hb dX1_crosses_1 rfl (lv_at hl 2 rfl) ?_
  refine tc_iand hx hb dX1_crosses_2 ?_
  have hv_1 : g &&& h ≤ g := Nat.and_le_left
  refine tc_eq0 (tgt := 26) hx hb dX1_crosses_3 (by decide) (by omega) (fun c_2 => ?_) (fun c_2 => ?_)
  · refine lv_iconst (v := nI 0) hx hb dX1_crosses_26 (by decide) ?_
    exact ro_ret hx hb hr hlocks dX1_crosses_27 rfl (tc_r0 (decide_eq_false (fun h => h.1 c_2)))
  · refine lv_iload_n hx hb dX1_crosses_6 rfl (lv_at hl 1 rfl) ?_
    refine lv_iload_n hx hb dX1_crosses_7 rfl (lv_at hl 2 rfl) ?_
    refine lv_iconst (v := -1) hx hb dX1_crosses_8 (by decide) ?_
    refine lv_ixor hx hb dX1_crosses_9 ?_
    refine tc_iandn hx hb dX1_crosses_10 (by omega) ?_
    have hv_3 : tc_dif g h ≤ g := Nat.and_le_left
    refine tc_eq0 (tgt := 26) hx hb dX1_crosses_11 (by decide) (by omega) (fun c_4 => ?_) (fun c_4 => ?_)
    · refine lv_iconst (v := nI 0) hx hb dX1_crosses_26 (by decide) ?_
      exact ro_ret hx hb hr hlocks dX1_crosses_27 rfl (tc_r0 (decide_eq_false (fun h => h.2.1 c_4)))
    · refine lv_iload_n hx hb dX1_crosses_14 rfl (lv_at hl 2 rfl) ?_
      refine lv_iload_n hx hb dX1_crosses_15 rfl (lv_at hl 1 rfl) ?_
      refine lv_iconst (v := -1) hx hb dX1_crosses_16 (by decide) ?_
      refine lv_ixor hx hb dX1_crosses_17 ?_
      refine tc_iandn hx hb dX1_crosses_18 (by omega) ?_
      have hv_5 : tc_dif h g ≤ h := Nat.and_le_left
      refine tc_eq0 (tgt := 26) hx hb dX1_crosses_19 (by decide) (by omega) (fun c_6 => ?_) (fun c_6 => ?_)
      · refine lv_iconst (v := nI 0) hx hb dX1_crosses_26 (by decide) ?_
        exact ro_ret hx hb hr hlocks dX1_crosses_27 rfl (tc_r0 (decide_eq_false (fun h => h.2.2 c_6)))
      · refine lv_iconst (v := nI 1) hx hb dX1_crosses_22 (by decide) ?_
        refine lv_goto (tgt := 27) hx hb dX1_crosses_23 (by decide) ?_
        exact ro_ret hx hb hr hlocks dX1_crosses_27 rfl (tc_r1 (decide_eq_true ⟨c_2, c_4, c_6⟩))
set_option maxHeartbeats 4000000 in
set_option maxRecDepth 100000 in
/-- fits -/
theorem ro_X1_fits (l : Launch) (D : va_G) (dB dZ : ClassId) (H : Heap) (a : Nat → Nat) (hs : Nat → Bool) (hP : va_P D vwCl (wM a dZ hs) H) (t : Nat) (ht : t < 2) (g : Nat) (hg : g < 128) : Ro l yX1_fits cX1_fits 5 (some .boolean) 1 22 [.ref (a 0), .int (nI t), .int (nI g)] H D dB dZ ((tB (tm_fits hs t g))) := by
  refine Ro.ofW (by decide) (Nat.le_of_ble_eq_true rfl) (fun p e s m below meth c hx hb hr hlocks hml hown hts hK ls hl => ?_)
  have hl : lv_has ls 5 [(0, .ref (a 0)), (1, .int (nI t)), (2, .int (nI g))] := hl
  refine lv_iconst (v := nI 1) hx hb dX1_fits_0 (by decide) ?_
  refine lv_istore_n (lv' := [(3, .int (nI 1)), (0, .ref (a 0)), (1, .int (nI t)), (2, .int (nI g))]) hx hb dX1_fits_1 rfl hl (by decide) rfl (fun ls hl => ?_)
  refine lv_iconst (v := nI 1) hx hb dX1_fits_2 (by decide) ?_
  refine lv_istore (lv' := [(4, .int (nI 1)), (3, .int (nI 1)), (0, .ref (a 0)), (1, .int (nI t)), (2, .int (nI g))]) hx hb dX1_fits_3 hl (by decide) rfl (fun ls hl => ?_)
  refine tc_for (nL := 5) 127 (fun _ => True) (fun i => [(4, .int (nI (i + 1))), (3, .int (tB (tc_all (fun i => !(hs (128 * t + (i + 1)) && tm_cr (i + 1) g)) i))), (0, .ref (a 0)), (1, .int (nI t)), (2, .int (nI g))]) (trivial) (lv_sub hl [0, 1, 2, 3, 4] rfl) (fun i hi_i hv_1 ih_1 ls hl => ?_) (fun hv_1 ls hl => ?_)
  · have hl : lv_has ls 5 [(4, .int (nI (i + 1))), (3, .int (tB (tc_all (fun i => !(hs (128 * t + (i + 1)) && tm_cr (i + 1) g)) i))), (0, .ref (a 0)), (1, .int (nI t)), (2, .int (nI g))] := hl
    refine lv_iload hx hb dX1_fits_5 (lv_at hl 0 rfl) ?_
    refine lv_sipush (v := nI 128) hx hb dX1_fits_7 (by decide) ?_
    refine tc_ge (tgt := 55) hx hb dX1_fits_10 (by decide) (by omega) (by omega) (fun c_ => absurd c_ (by omega)) (fun _ => ?_)
    refine tc_at 48 [.int (tB (tc_all (fun i => !(hs (128 * t + (i + 1)) && tm_cr (i + 1) g)) i && !(hs (128 * t + (i + 1)) && tm_cr (i + 1) g)))] (fun hj_2 => ?_) ?_
    · refine lv_iload_n hx hb dX1_fits_13 rfl (lv_at hl 1 rfl) ?_
      refine tc_beq (tgt := 47) hx hb dX1_fits_14 (by decide) (fun c_3 => ?_) (fun c_3 => ?_)
      · refine lv_iconst (v := nI 0) hx hb dX1_fits_47 (by decide) ?_
        exact tc_top (tc_r0 (by rw [c_3]; rfl)) hj_2
      · refine lv_aload_n hx hb dX1_fits_17 rfl (lv_at hl 2 rfl) ?_
        refine tc_getM (v := .ref (a 1)) hx hb hts hown hK hP 0 rfl q201 rfl dX1_fits_18 ?_
        refine lv_sipush (v := nI 128) hx hb dX1_fits_21 (by decide) ?_
        refine lv_iload_n hx hb dX1_fits_24 rfl (lv_at hl 3 rfl) ?_
        refine tc_imul hx hb dX1_fits_25 ?_
        refine lv_iload hx hb dX1_fits_26 (lv_at hl 0 rfl) ?_
        refine tc_iadd hx hb dX1_fits_28 ?_
        refine tc_zald (k := ((128 * t) + (i + 1))) hx hb dX1_fits_29 hK hP 1 1 rfl rfl (by decide) (by omega) ?_
        refine tc_beq (tgt := 43) hx hb dX1_fits_30 (by decide) (fun c_4 => ?_) (fun c_4 => ?_)
        · refine lv_iconst (v := nI 1) hx hb dX1_fits_43 (by decide) ?_
          refine lv_goto (tgt := 48) hx hb dX1_fits_44 (by decide) ?_
          exact tc_top (tc_r1 (by rw [c_3, c_4]; rfl)) hj_2
        · refine lv_aload_n hx hb dX1_fits_33 rfl (lv_at hl 2 rfl) ?_
          refine lv_iload hx hb dX1_fits_34 (lv_at hl 0 rfl) ?_
          refine lv_iload_n hx hb dX1_fits_36 rfl (lv_at hl 4 rfl) ?_
          refine ro_callV (As := [.int (nI (i + 1)), .int (nI g)]) (rest := []) ⟨hx, hb, hml, hown, hts⟩ hK (ro_X1_crosses l D dB dZ H a hs hP (i + 1) g (by omega) (by omega)) (cwV 2 hts (lw_V q214 q216 qs16 q22 q217) rfl rfl rfl (by decide +kernel) ⟨Nat.le_of_ble_eq_true rfl, Nat.le_of_ble_eq_true rfl⟩) (va_recv hK hP (ci := 1) (q0 := 0) rfl rfl) rfl hl.1 rfl (Nat.le_of_ble_eq_true rfl) dX1_fits_37 ⟨Nat.le_of_ble_eq_true rfl, Nat.le_of_ble_eq_true rfl⟩ ?_
          refine tc_bne (tgt := 47) hx hb dX1_fits_40 (by decide) (fun c_5 => ?_) (fun c_5 => ?_)
          · refine lv_iconst (v := nI 0) hx hb dX1_fits_47 (by decide) ?_
            exact tc_top (tc_r0 (by rw [c_3, c_4, c_5]; rfl)) hj_2
          · refine lv_iconst (v := nI 1) hx hb dX1_fits_43 (by decide) ?_
            refine lv_goto (tgt := 48) hx hb dX1_fits_44 (by decide) ?_
            exact tc_top (tc_r1 (by rw [c_3, c_4, c_5]; rfl)) hj_2
    · refine lv_istore_n (lv' := [(3, .int (tB (tc_all (fun i => !(hs (128 * t + (i + 1)) && tm_cr (i + 1) g)) i && !(hs (128 * t + (i + 1)) && tm_cr (i + 1) g)))), (4, .int (nI (i + 1))), (0, .ref (a 0)), (1, .int (nI t)), (2, .int (nI g))]) hx hb dX1_fits_48 rfl hl (by decide) rfl (fun ls hl => ?_)
      refine lv_iinc (v := nI ((i + 1) + 1)) (lv' := [(4, .int (nI ((i + 1) + 1))), (3, .int (tB (tc_all (fun i => !(hs (128 * t + (i + 1)) && tm_cr (i + 1) g)) i && !(hs (128 * t + (i + 1)) && tm_cr (i + 1) g)))), (0, .ref (a 0)), (1, .int (nI t)), (2, .int (nI g))]) hx hb dX1_fits_49 hl (k := 1) rfl (t_inc _) (by decide) rfl (fun ls hl => ?_)
      refine lv_goto (tgt := 5) hx hb dX1_fits_52 (by decide) ?_
      exact ih_1 ls (trivial) (lv_sub hl [0, 1, 2, 3, 4] rfl)
  · have hl : lv_has ls 5 [(4, .int (nI (127 + 1))), (3, .int (tB (tc_all (fun i => !(hs (128 * t + (i + 1)) && tm_cr (i + 1) g)) 127))), (0, .ref (a 0)), (1, .int (nI t)), (2, .int (nI g))] := hl
    refine lv_iload hx hb dX1_fits_5 (lv_at hl 0 rfl) ?_
    refine lv_sipush (v := nI 128) hx hb dX1_fits_7 (by decide) ?_
    refine tc_ge (tgt := 55) hx hb dX1_fits_10 (by decide) (by omega) (by omega) (fun _ => ?_) (fun c_ => absurd c_ (by omega))
    refine lv_iload_n hx hb dX1_fits_55 rfl (lv_at hl 1 rfl) ?_
    exact ro_ret hx hb hr hlocks dX1_fits_56 (t_narb _) (rfl)
set_option maxHeartbeats 4000000 in
set_option maxRecDepth 100000 in
/-- groups, of a tree -/
theorem ro_X1_groups (l : Launch) (D : va_G) (dB dZ : ClassId) (H : Heap) (a : Nat → Nat) (hs : Nat → Bool) (hP : va_P D vwCl (wM a dZ hs) H) (t : Nat) (ht : t < 2) : Ro l yX1_groups cX1_groups 4 (some .int) 1 21 [.ref (a 0), .int (nI t)] H D dB dZ ((nI (tm_groups hs t))) := by
  refine Ro.ofW (by decide) (Nat.le_of_ble_eq_true rfl) (fun p e s m below meth c hx hb hr hlocks hml hown hts hK ls hl => ?_)
  have hl : lv_has ls 4 [(0, .ref (a 0)), (1, .int (nI t))] := hl
  refine lv_iconst (v := nI 0) hx hb dX1_groups_0 (by decide) ?_
  refine lv_istore_n (lv' := [(2, .int (nI 0)), (0, .ref (a 0)), (1, .int (nI t))]) hx hb dX1_groups_1 rfl hl (by decide) rfl (fun ls hl => ?_)
  refine lv_iconst (v := nI 1) hx hb dX1_groups_2 (by decide) ?_
  refine lv_istore_n (lv' := [(3, .int (nI 1)), (2, .int (nI 0)), (0, .ref (a 0)), (1, .int (nI t))]) hx hb dX1_groups_3 rfl hl (by decide) rfl (fun ls hl => ?_)
  refine tc_for (nL := 4) 127 (fun _ => True) (fun i => [(3, .int (nI (i + 1))), (2, .int (nI (tc_fold (fun i n => if hs (128 * t + (i + 1)) = true then n + 1 else n) 0 i))), (0, .ref (a 0)), (1, .int (nI t))]) (trivial) (lv_sub hl [0, 1, 2, 3] rfl) (fun i hi_i hv_1 ih_1 ls hl => ?_) (fun hv_1 ls hl => ?_)
  · have hl : lv_has ls 4 [(3, .int (nI (i + 1))), (2, .int (nI (tc_fold (fun i n => if hs (128 * t + (i + 1)) = true then n + 1 else n) 0 i))), (0, .ref (a 0)), (1, .int (nI t))] := hl
    refine lv_iload_n hx hb dX1_groups_4 rfl (lv_at hl 0 rfl) ?_
    refine lv_sipush (v := nI 128) hx hb dX1_groups_5 (by decide) ?_
    refine tc_ge (tgt := 48) hx hb dX1_groups_8 (by decide) (by omega) (by omega) (fun c_ => absurd c_ (by omega)) (fun _ => ?_)
    refine lv_aload_n hx hb dX1_groups_11 rfl (lv_at hl 2 rfl) ?_
    refine lv_iload_n hx hb dX1_groups_12 rfl (lv_at hl 3 rfl) ?_
    refine ro_callV (As := [.int (nI t)]) (rest := []) ⟨hx, hb, hml, hown, hts⟩ hK (ro_X1_tree l D dB dZ H a hs hP (nI t)) (cwV 1 hts (lw_V q189 q191 qs12 q22 q192) rfl rfl rfl (by decide +kernel) ⟨Nat.le_of_ble_eq_true rfl, Nat.le_of_ble_eq_true rfl⟩) (va_recv hK hP (ci := 1) (q0 := 0) rfl rfl) rfl hl.1 rfl (Nat.le_of_ble_eq_true rfl) dX1_groups_13 ⟨Nat.le_of_ble_eq_true rfl, Nat.le_of_ble_eq_true rfl⟩ ?_
    refine tc_beq (tgt := 48) hx hb dX1_groups_16 (by decide) (fun c_ => absurd c_ (by rw [tx_isT_n ht] at c_; cases c_)) (fun _ => ?_)
    refine tc_at 41 [.int (nI (if hs (128 * t + (i + 1)) = true then (tc_fold (fun i n => if hs (128 * t + (i + 1)) = true then n + 1 else n) 0 i) + 1 else (tc_fold (fun i n => if hs (128 * t + (i + 1)) = true then n + 1 else n) 0 i)))] (fun hj_2 => ?_) ?_
    · refine lv_aload_n hx hb dX1_groups_19 rfl (lv_at hl 2 rfl) ?_
      refine tc_getM (v := .ref (a 1)) hx hb hts hown hK hP 0 rfl q201 rfl dX1_groups_20 ?_
      refine lv_sipush (v := nI 128) hx hb dX1_groups_23 (by decide) ?_
      refine lv_iload_n hx hb dX1_groups_26 rfl (lv_at hl 3 rfl) ?_
      refine tc_imul hx hb dX1_groups_27 ?_
      refine lv_iload_n hx hb dX1_groups_28 rfl (lv_at hl 0 rfl) ?_
      refine tc_iadd hx hb dX1_groups_29 ?_
      refine tc_zald (k := ((128 * t) + (i + 1))) hx hb dX1_groups_30 hK hP 1 1 rfl rfl (by decide) (by omega) ?_
      refine tc_beq (tgt := 40) hx hb dX1_groups_31 (by decide) (fun c_3 => ?_) (fun c_3 => ?_)
      · refine lv_iload_n hx hb dX1_groups_40 rfl (lv_at hl 1 rfl) ?_
        exact tc_topN (by first | (rw [if_pos ⟨c_3⟩]; done) | (rw [if_pos c_3]; done) | (rw [if_neg (fun h => c_3 h.2)]; done) | (rw [if_neg (by simp [c_3])]; done) | (rw [if_neg (by omega)]; done)) hj_2
      · refine lv_iload_n hx hb dX1_groups_34 rfl (lv_at hl 1 rfl) ?_
        refine lv_iconst (v := nI 1) hx hb dX1_groups_35 (by decide) ?_
        refine tc_iadd hx hb dX1_groups_36 ?_
        refine lv_goto (tgt := 41) hx hb dX1_groups_37 (by decide) ?_
        exact tc_topN (by first | (rw [if_pos ⟨c_3⟩]; done) | (rw [if_pos c_3]; done) | (rw [if_neg (fun h => c_3 h.2)]; done) | (rw [if_neg (by simp [c_3])]; done) | (rw [if_neg (by omega)]; done)) hj_2
    · refine lv_istore_n (lv' := [(2, .int (nI (if hs (128 * t + (i + 1)) = true then (tc_fold (fun i n => if hs (128 * t + (i + 1)) = true then n + 1 else n) 0 i) + 1 else (tc_fold (fun i n => if hs (128 * t + (i + 1)) = true then n + 1 else n) 0 i)))), (3, .int (nI (i + 1))), (0, .ref (a 0)), (1, .int (nI t))]) hx hb dX1_groups_41 rfl hl (by decide) rfl (fun ls hl => ?_)
      refine lv_iinc (v := nI ((i + 1) + 1)) (lv' := [(3, .int (nI ((i + 1) + 1))), (2, .int (nI (if hs (128 * t + (i + 1)) = true then (tc_fold (fun i n => if hs (128 * t + (i + 1)) = true then n + 1 else n) 0 i) + 1 else (tc_fold (fun i n => if hs (128 * t + (i + 1)) = true then n + 1 else n) 0 i)))), (0, .ref (a 0)), (1, .int (nI t))]) hx hb dX1_groups_42 hl (k := 1) rfl (t_inc _) (by decide) rfl (fun ls hl => ?_)
      refine lv_goto (tgt := 4) hx hb dX1_groups_45 (by decide) ?_
      exact ih_1 ls (trivial) (lv_sub hl [0, 1, 2, 3] rfl)
  · have hl : lv_has ls 4 [(3, .int (nI (127 + 1))), (2, .int (nI (tc_fold (fun i n => if hs (128 * t + (i + 1)) = true then n + 1 else n) 0 127))), (0, .ref (a 0)), (1, .int (nI t))] := hl
    refine lv_iload_n hx hb dX1_groups_4 rfl (lv_at hl 0 rfl) ?_
    refine lv_sipush (v := nI 128) hx hb dX1_groups_5 (by decide) ?_
    refine tc_ge (tgt := 48) hx hb dX1_groups_8 (by decide) (by omega) (by omega) (fun _ => ?_) (fun c_ => absurd c_ (by omega))
    refine lv_aload_n hx hb dX1_groups_48 rfl (lv_at hl 2 rfl) ?_
    refine lv_iload_n hx hb dX1_groups_49 rfl (lv_at hl 3 rfl) ?_
    refine ro_callV (As := [.int (nI t)]) (rest := []) ⟨hx, hb, hml, hown, hts⟩ hK (ro_X1_tree l D dB dZ H a hs hP (nI t)) (cwV 1 hts (lw_V q189 q191 qs12 q22 q192) rfl rfl rfl (by decide +kernel) ⟨Nat.le_of_ble_eq_true rfl, Nat.le_of_ble_eq_true rfl⟩) (va_recv hK hP (ci := 1) (q0 := 0) rfl rfl) rfl hl.1 rfl (Nat.le_of_ble_eq_true rfl) dX1_groups_50 ⟨Nat.le_of_ble_eq_true rfl, Nat.le_of_ble_eq_true rfl⟩ ?_
    refine tc_beq (tgt := 60) hx hb dX1_groups_53 (by decide) (fun c_ => absurd c_ (by rw [tx_isT_n ht] at c_; cases c_)) (fun _ => ?_)
    refine lv_iload_n hx hb dX1_groups_56 rfl (lv_at hl 1 rfl) ?_
    refine lv_goto (tgt := 61) hx hb dX1_groups_57 (by decide) ?_
    exact ro_ret hx hb hr hlocks dX1_groups_61 rfl (rfl)
set_option maxHeartbeats 4000000 in
set_option maxRecDepth 100000 in
/-- groups, else -/
theorem ro_X1_groups_b (l : Launch) (D : va_G) (dB dZ : ClassId) (H : Heap) (a : Nat → Nat) (hs : Nat → Bool) (hP : va_P D vwCl (wM a dZ hs) H) (t : Int32) (hbad : tx_isT t = false) : Ro l yX1_groups cX1_groups 4 (some .int) 1 21 [.ref (a 0), .int t] H D dB dZ ((-1)) := by
  refine Ro.ofW (by decide) (Nat.le_of_ble_eq_true rfl) (fun p e s m below meth c hx hb hr hlocks hml hown hts hK ls hl => ?_)
  have hl : lv_has ls 4 [(0, .ref (a 0)), (1, .int t)] := hl
  refine lv_iconst (v := nI 0) hx hb dX1_groups_0 (by decide) ?_
  refine lv_istore_n (lv' := [(2, .int (nI 0)), (0, .ref (a 0)), (1, .int t)]) hx hb dX1_groups_1 rfl hl (by decide) rfl (fun ls hl => ?_)
  refine lv_iconst (v := nI 1) hx hb dX1_groups_2 (by decide) ?_
  refine lv_istore_n (lv' := [(3, .int (nI 1)), (2, .int (nI 0)), (0, .ref (a 0)), (1, .int t)]) hx hb dX1_groups_3 rfl hl (by decide) rfl (fun ls hl => ?_)
  refine lv_iload_n hx hb dX1_groups_4 rfl (lv_at hl 0 rfl) ?_
  refine lv_sipush (v := nI 128) hx hb dX1_groups_5 (by decide) ?_
  refine tc_ge (tgt := 48) hx hb dX1_groups_8 (by decide) (by omega) (by omega) (fun c_ => absurd c_ (by omega)) (fun _ => ?_)
  refine lv_aload_n hx hb dX1_groups_11 rfl (lv_at hl 2 rfl) ?_
  refine lv_iload_n hx hb dX1_groups_12 rfl (lv_at hl 3 rfl) ?_
  refine ro_callV (As := [.int t]) (rest := []) ⟨hx, hb, hml, hown, hts⟩ hK (ro_X1_tree l D dB dZ H a hs hP t) (cwV 1 hts (lw_V q189 q191 qs12 q22 q192) rfl rfl rfl (by decide +kernel) ⟨Nat.le_of_ble_eq_true rfl, Nat.le_of_ble_eq_true rfl⟩) (va_recv hK hP (ci := 1) (q0 := 0) rfl rfl) rfl hl.1 rfl (Nat.le_of_ble_eq_true rfl) dX1_groups_13 ⟨Nat.le_of_ble_eq_true rfl, Nat.le_of_ble_eq_true rfl⟩ ?_
  refine tc_beq (tgt := 48) hx hb dX1_groups_16 (by decide) (fun _ => ?_) (fun c_ => absurd c_ (by rw [hbad] at c_; cases c_))
  refine lv_aload_n hx hb dX1_groups_48 rfl (lv_at hl 2 rfl) ?_
  refine lv_iload_n hx hb dX1_groups_49 rfl (lv_at hl 3 rfl) ?_
  refine ro_callV (As := [.int t]) (rest := []) ⟨hx, hb, hml, hown, hts⟩ hK (ro_X1_tree l D dB dZ H a hs hP t) (cwV 1 hts (lw_V q189 q191 qs12 q22 q192) rfl rfl rfl (by decide +kernel) ⟨Nat.le_of_ble_eq_true rfl, Nat.le_of_ble_eq_true rfl⟩) (va_recv hK hP (ci := 1) (q0 := 0) rfl rfl) rfl hl.1 rfl (Nat.le_of_ble_eq_true rfl) dX1_groups_50 ⟨Nat.le_of_ble_eq_true rfl, Nat.le_of_ble_eq_true rfl⟩ ?_
  refine tc_beq (tgt := 60) hx hb dX1_groups_53 (by decide) (fun _ => ?_) (fun c_ => absurd c_ (by rw [hbad] at c_; cases c_))
  refine lv_iconst (v := -1) hx hb dX1_groups_60 (by decide) ?_
  exact ro_ret hx hb hr hlocks dX1_groups_61 rfl (rfl)
set_option maxHeartbeats 4000000 in
set_option maxRecDepth 100000 in
/-- join, of a tree and a set -/
theorem ro_X1_join (l : Launch) (D : va_G) (dB dZ : ClassId) (H : Heap) (a : Nat → Nat) (hs : Nat → Bool) (hP : va_P D vwCl (wM a dZ hs) H) (t : Nat) (ht : t < 2) (w : Nat) (hw : w < 128) : Ro l yX1_join cX1_join 5 (some .int) 1 23 [.ref (a 0), .int (nI t), .int (nI w)] H D dB dZ ((nI (tm_join hs t w))) := by
  refine Ro.ofW (by decide) (Nat.le_of_ble_eq_true rfl) (fun p e s m below meth c hx hb hr hlocks hml hown hts hK ls hl => ?_)
  have hl : lv_has ls 5 [(0, .ref (a 0)), (1, .int (nI t)), (2, .int (nI w))] := hl
  refine lv_aload_n hx hb dX1_join_0 rfl (lv_at hl 0 rfl) ?_
  refine lv_iload_n hx hb dX1_join_1 rfl (lv_at hl 1 rfl) ?_
  refine ro_callV (As := [.int (nI t)]) (rest := []) ⟨hx, hb, hml, hown, hts⟩ hK (ro_X1_tree l D dB dZ H a hs hP (nI t)) (cwV 1 hts (lw_V q189 q191 qs12 q22 q192) rfl rfl rfl (by decide +kernel) ⟨Nat.le_of_ble_eq_true rfl, Nat.le_of_ble_eq_true rfl⟩) (va_recv hK hP (ci := 1) (q0 := 0) rfl rfl) rfl hl.1 rfl (Nat.le_of_ble_eq_true rfl) dX1_join_2 ⟨Nat.le_of_ble_eq_true rfl, Nat.le_of_ble_eq_true rfl⟩ ?_
  refine tc_beq (tgt := 18) hx hb dX1_join_5 (by decide) (fun c_ => absurd c_ (by rw [tx_isT_n ht] at c_; cases c_)) (fun _ => ?_)
  refine lv_iload_n hx hb dX1_join_8 rfl (lv_at hl 2 rfl) ?_
  refine lv_if_lt (tgt := 18) hx hb dX1_join_9 (by decide) (fun c_ => absurd c_ (by exact nI_pos (by omega))) (fun _ => ?_)
  refine lv_iload_n hx hb dX1_join_12 rfl (lv_at hl 2 rfl) ?_
  refine lv_bipush (v := nI 127) hx hb dX1_join_13 (by decide) ?_
  refine tc_le (tgt := 20) hx hb dX1_join_15 (by decide) (by omega) (by omega) (fun _ => ?_) (fun c_ => absurd c_ (by omega))
  refine lv_bipush (v := nI 127) hx hb dX1_join_20 (by decide) ?_
  refine lv_istore_n (lv' := [(3, .int (nI 127)), (0, .ref (a 0)), (1, .int (nI t)), (2, .int (nI w))]) hx hb dX1_join_22 rfl hl (by decide) rfl (fun ls hl => ?_)
  refine lv_iconst (v := nI 1) hx hb dX1_join_23 (by decide) ?_
  refine lv_istore (lv' := [(4, .int (nI 1)), (3, .int (nI 127)), (0, .ref (a 0)), (1, .int (nI t)), (2, .int (nI w))]) hx hb dX1_join_24 hl (by decide) rfl (fun ls hl => ?_)
  refine tc_for (nL := 5) 127 (fun _ => True) (fun i => [(4, .int (nI (i + 1))), (3, .int (nI (tc_fold (tm_jstep hs t w) 127 i))), (0, .ref (a 0)), (1, .int (nI t)), (2, .int (nI w))]) (trivial) (lv_sub hl [0, 1, 2, 3, 4] rfl) (fun i hi_i hv_1 ih_1 ls hl => ?_) (fun hv_1 ls hl => ?_)
  · have hl : lv_has ls 5 [(4, .int (nI (i + 1))), (3, .int (nI (tc_fold (tm_jstep hs t w) 127 i))), (0, .ref (a 0)), (1, .int (nI t)), (2, .int (nI w))] := hl
    have hft := tm_jf_lt hs t w i (by omega)
    refine lv_iload hx hb dX1_join_26 (lv_at hl 0 rfl) ?_
    refine lv_sipush (v := nI 128) hx hb dX1_join_28 (by decide) ?_
    refine tc_ge (tgt := 86) hx hb dX1_join_31 (by decide) (by omega) (by omega) (fun c_ => absurd c_ (by omega)) (fun _ => ?_)
    refine tc_at 79 [.int (nI (tm_jstep hs t w i (tc_fold (tm_jstep hs t w) 127 i)))] (fun hj_2 => ?_) ?_
    · refine lv_aload_n hx hb dX1_join_34 rfl (lv_at hl 2 rfl) ?_
      refine tc_getM (v := .ref (a 1)) hx hb hts hown hK hP 0 rfl q201 rfl dX1_join_35 ?_
      refine lv_sipush (v := nI 128) hx hb dX1_join_38 (by decide) ?_
      refine lv_iload_n hx hb dX1_join_41 rfl (lv_at hl 3 rfl) ?_
      refine tc_imul hx hb dX1_join_42 ?_
      refine lv_iload hx hb dX1_join_43 (lv_at hl 0 rfl) ?_
      refine tc_iadd hx hb dX1_join_45 ?_
      refine tc_zald (k := ((128 * t) + (i + 1))) hx hb dX1_join_46 hK hP 1 1 rfl rfl (by decide) (by omega) ?_
      refine tc_beq (tgt := 78) hx hb dX1_join_47 (by decide) (fun c_3 => ?_) (fun c_3 => ?_)
      · refine lv_iload_n hx hb dX1_join_78 rfl (lv_at hl 1 rfl) ?_
        exact tc_topN (tm_jstep_neg (fun h1 h2 h3 => by rw [c_3] at h1; cases h1)) hj_2
      · refine lv_iload_n hx hb dX1_join_50 rfl (lv_at hl 4 rfl) ?_
        refine lv_iload hx hb dX1_join_51 (lv_at hl 0 rfl) ?_
        refine lv_iconst (v := -1) hx hb dX1_join_53 (by decide) ?_
        refine lv_ixor hx hb dX1_join_54 ?_
        refine tc_iandn hx hb dX1_join_55 (by omega) ?_
        have hv_4 : tc_dif w (i + 1) ≤ w := Nat.and_le_left
        refine tc_ne0 (tgt := 78) hx hb dX1_join_56 (by decide) (by omega) (fun c_5 => ?_) (fun c_5 => ?_)
        · refine lv_iload_n hx hb dX1_join_78 rfl (lv_at hl 1 rfl) ?_
          exact tc_topN (tm_jstep_neg (fun h1 h2 h3 => c_5 h2)) hj_2
        · refine lv_aload_n hx hb dX1_join_59 rfl (lv_at hl 2 rfl) ?_
          refine lv_iload hx hb dX1_join_60 (lv_at hl 0 rfl) ?_
          refine ro_callV (As := [.int (nI (i + 1))]) (rest := []) ⟨hx, hb, hml, hown, hts⟩ hK (ro_X1_count l D dB dZ H a hs hP (i + 1) (by omega)) (cwV 1 hts (lw_V q197 q199 qs14 q22 q200) rfl rfl rfl (by decide +kernel) ⟨Nat.le_of_ble_eq_true rfl, Nat.le_of_ble_eq_true rfl⟩) (va_recv hK hP (ci := 1) (q0 := 0) rfl rfl) rfl hl.1 rfl (Nat.le_of_ble_eq_true rfl) dX1_join_62 ⟨Nat.le_of_ble_eq_true rfl, Nat.le_of_ble_eq_true rfl⟩ ?_
          have hv_6 := tc_pop_le (i + 1)
          refine lv_aload_n hx hb dX1_join_65 rfl (lv_at hl 2 rfl) ?_
          refine lv_iload_n hx hb dX1_join_66 rfl (lv_at hl 1 rfl) ?_
          refine ro_callV (As := [.int (nI (tc_fold (tm_jstep hs t w) 127 i))]) (rest := [.int (nI (tc_pop (i + 1)))]) ⟨hx, hb, hml, hown, hts⟩ hK (ro_X1_count l D dB dZ H a hs hP (tc_fold (tm_jstep hs t w) 127 i) (by omega)) (cwV 1 hts (lw_V q197 q199 qs14 q22 q200) rfl rfl rfl (by decide +kernel) ⟨Nat.le_of_ble_eq_true rfl, Nat.le_of_ble_eq_true rfl⟩) (va_recv hK hP (ci := 1) (q0 := 0) rfl rfl) rfl hl.1 rfl (Nat.le_of_ble_eq_true rfl) dX1_join_67 ⟨Nat.le_of_ble_eq_true rfl, Nat.le_of_ble_eq_true rfl⟩ ?_
          have hv_7 := tc_pop_le (tc_fold (tm_jstep hs t w) 127 i)
          refine tc_ge (tgt := 78) hx hb dX1_join_70 (by decide) (by omega) (by omega) (fun c_8 => ?_) (fun c_8 => ?_)
          · refine lv_iload_n hx hb dX1_join_78 rfl (lv_at hl 1 rfl) ?_
            exact tc_topN (tm_jstep_neg (fun h1 h2 h3 => absurd h3 (by omega))) hj_2
          · refine lv_iload hx hb dX1_join_73 (lv_at hl 0 rfl) ?_
            refine lv_goto (tgt := 79) hx hb dX1_join_75 (by decide) ?_
            exact tc_topN (tm_jstep_pos c_3 c_5 c_8) hj_2
    · refine lv_istore_n (lv' := [(3, .int (nI (tm_jstep hs t w i (tc_fold (tm_jstep hs t w) 127 i)))), (4, .int (nI (i + 1))), (0, .ref (a 0)), (1, .int (nI t)), (2, .int (nI w))]) hx hb dX1_join_79 rfl hl (by decide) rfl (fun ls hl => ?_)
      refine lv_iinc (v := nI ((i + 1) + 1)) (lv' := [(4, .int (nI ((i + 1) + 1))), (3, .int (nI (tm_jstep hs t w i (tc_fold (tm_jstep hs t w) 127 i)))), (0, .ref (a 0)), (1, .int (nI t)), (2, .int (nI w))]) hx hb dX1_join_80 hl (k := 1) rfl (t_inc _) (by decide) rfl (fun ls hl => ?_)
      refine lv_goto (tgt := 26) hx hb dX1_join_83 (by decide) ?_
      exact ih_1 ls (trivial) (lv_sub hl [0, 1, 2, 3, 4] rfl)
  · have hl : lv_has ls 5 [(4, .int (nI (127 + 1))), (3, .int (nI (tc_fold (tm_jstep hs t w) 127 127))), (0, .ref (a 0)), (1, .int (nI t)), (2, .int (nI w))] := hl
    refine lv_iload hx hb dX1_join_26 (lv_at hl 0 rfl) ?_
    refine lv_sipush (v := nI 128) hx hb dX1_join_28 (by decide) ?_
    refine tc_ge (tgt := 86) hx hb dX1_join_31 (by decide) (by omega) (by omega) (fun _ => ?_) (fun c_ => absurd c_ (by omega))
    refine lv_iload_n hx hb dX1_join_86 rfl (lv_at hl 4 rfl) ?_
    refine tc_ne0 (tgt := 94) hx hb dX1_join_87 (by decide) (by omega) (fun c_9 => ?_) (fun c_9 => ?_)
    · refine lv_iload_n hx hb dX1_join_94 rfl (lv_at hl 1 rfl) ?_
      exact ro_ret hx hb hr hlocks dX1_join_95 rfl (congrArg nI (by simp [tm_join, c_9]))
    · refine lv_iconst (v := nI 0) hx hb dX1_join_90 (by decide) ?_
      refine lv_goto (tgt := 95) hx hb dX1_join_91 (by decide) ?_
      exact ro_ret hx hb hr hlocks dX1_join_95 rfl (congrArg nI (by simp [tm_join, c_9]))
set_option maxHeartbeats 4000000 in
set_option maxRecDepth 100000 in
/-- join, else -/
theorem ro_X1_join_b (l : Launch) (D : va_G) (dB dZ : ClassId) (H : Heap) (a : Nat → Nat) (hs : Nat → Bool) (hP : va_P D vwCl (wM a dZ hs) H) (t w : Int32) (hbad : tx_isT t = true → ¬ w < 0 → nI 127 < w) : Ro l yX1_join cX1_join 5 (some .int) 1 23 [.ref (a 0), .int t, .int w] H D dB dZ ((-1)) := by
  refine Ro.ofW (by decide) (Nat.le_of_ble_eq_true rfl) (fun p e s m below meth c hx hb hr hlocks hml hown hts hK ls hl => ?_)
  have hl : lv_has ls 5 [(0, .ref (a 0)), (1, .int t), (2, .int w)] := hl
  refine lv_aload_n hx hb dX1_join_0 rfl (lv_at hl 0 rfl) ?_
  refine lv_iload_n hx hb dX1_join_1 rfl (lv_at hl 1 rfl) ?_
  refine ro_callV (As := [.int t]) (rest := []) ⟨hx, hb, hml, hown, hts⟩ hK (ro_X1_tree l D dB dZ H a hs hP t) (cwV 1 hts (lw_V q189 q191 qs12 q22 q192) rfl rfl rfl (by decide +kernel) ⟨Nat.le_of_ble_eq_true rfl, Nat.le_of_ble_eq_true rfl⟩) (va_recv hK hP (ci := 1) (q0 := 0) rfl rfl) rfl hl.1 rfl (Nat.le_of_ble_eq_true rfl) dX1_join_2 ⟨Nat.le_of_ble_eq_true rfl, Nat.le_of_ble_eq_true rfl⟩ ?_
  refine tc_beq (tgt := 18) hx hb dX1_join_5 (by decide) (fun c_1 => ?_) (fun c_1 => ?_)
  · refine lv_iconst (v := -1) hx hb dX1_join_18 (by decide) ?_
    exact ro_ret hx hb hr hlocks dX1_join_19 rfl (rfl)
  · refine lv_iload_n hx hb dX1_join_8 rfl (lv_at hl 2 rfl) ?_
    refine lv_if_lt (tgt := 18) hx hb dX1_join_9 (by decide) (fun c_2 => ?_) (fun c_2 => ?_)
    · refine lv_iconst (v := -1) hx hb dX1_join_18 (by decide) ?_
      exact ro_ret hx hb hr hlocks dX1_join_19 rfl (rfl)
    · refine lv_iload_n hx hb dX1_join_12 rfl (lv_at hl 2 rfl) ?_
      refine lv_bipush (v := nI 127) hx hb dX1_join_13 (by decide) ?_
      refine lv_icmp_le (tgt := 20) hx hb dX1_join_15 (by decide) (fun c_3 => ?_) (fun c_3 => ?_)
      · exact absurd (hbad c_1 c_2) (fun h => Int32.not_lt.mpr c_3 h)
      · refine lv_iconst (v := -1) hx hb dX1_join_18 (by decide) ?_
        exact ro_ret hx hb hr hlocks dX1_join_19 rfl (rfl)
set_option maxHeartbeats 4000000 in
set_option maxRecDepth 100000 in
/-- closer -/
theorem ro_X1_closer (l : Launch) (D : va_G) (dB dZ : ClassId) (H : Heap) (a : Nat → Nat) (hs : Nat → Bool) (hP : va_P D vwCl (wM a dZ hs) H) (t : Nat) (ht : t < 2) (x y z : Nat) (hx7 : x < 7) (hy7 : y < 7) (hz7 : z < 7) : Ro l yX1_closer cX1_closer 7 (some .boolean) 0 0 [.ref (a 0), .int (nI t), .int (nI x), .int (nI y), .int (nI z)] H D dB dZ ((tB (tm_closer hs t x y z))) := by
  refine Ro.ofW (by decide) (Nat.le_of_ble_eq_true rfl) (fun p e s m below meth c hx hb hr hlocks hml hown hts hK ls hl => ?_)
  have hl : lv_has ls 7 [(0, .ref (a 0)), (1, .int (nI t)), (2, .int (nI x)), (3, .int (nI y)), (4, .int (nI z))] := hl
  refine lv_iconst (v := nI 0) hx hb dX1_closer_0 (by decide) ?_
  refine lv_istore (lv' := [(5, .int (nI 0)), (0, .ref (a 0)), (1, .int (nI t)), (2, .int (nI x)), (3, .int (nI y)), (4, .int (nI z))]) hx hb dX1_closer_1 hl (by decide) rfl (fun ls hl => ?_)
  refine lv_iconst (v := nI 1) hx hb dX1_closer_3 (by decide) ?_
  refine lv_istore (lv' := [(6, .int (nI 1)), (5, .int (nI 0)), (0, .ref (a 0)), (1, .int (nI t)), (2, .int (nI x)), (3, .int (nI y)), (4, .int (nI z))]) hx hb dX1_closer_4 hl (by decide) rfl (fun ls hl => ?_)
  refine tc_for (nL := 7) 127 (fun _ => True) (fun i => [(6, .int (nI (i + 1))), (5, .int (tB (tc_any (tm_clo hs t x y z) i))), (0, .ref (a 0)), (1, .int (nI t)), (2, .int (nI x)), (3, .int (nI y)), (4, .int (nI z))]) (trivial) (lv_sub hl [0, 1, 2, 3, 4, 5, 6] rfl) (fun i hi_i hv_1 ih_1 ls hl => ?_) (fun hv_1 ls hl => ?_)
  · have hl : lv_has ls 7 [(6, .int (nI (i + 1))), (5, .int (tB (tc_any (tm_clo hs t x y z) i))), (0, .ref (a 0)), (1, .int (nI t)), (2, .int (nI x)), (3, .int (nI y)), (4, .int (nI z))] := hl
    refine lv_iload hx hb dX1_closer_6 (lv_at hl 0 rfl) ?_
    refine lv_sipush (v := nI 128) hx hb dX1_closer_8 (by decide) ?_
    refine tc_ge (tgt := 78) hx hb dX1_closer_11 (by decide) (by omega) (by omega) (fun c_ => absurd c_ (by omega)) (fun _ => ?_)
    refine tc_at 70 [.int (tB (tc_any (tm_clo hs t x y z) i || tm_clo hs t x y z i))] (fun hj_2 => ?_) ?_
    · refine lv_iload hx hb dX1_closer_14 (lv_at hl 1 rfl) ?_
      refine tc_bne (tgt := 65) hx hb dX1_closer_16 (by decide) (fun c_3 => ?_) (fun c_3 => ?_)
      · refine lv_iconst (v := nI 1) hx hb dX1_closer_65 (by decide) ?_
        refine lv_goto (tgt := 70) hx hb dX1_closer_66 (by decide) ?_
        exact tc_top (tc_r1 (by simp [c_3])) hj_2
      · refine lv_aload_n hx hb dX1_closer_19 rfl (lv_at hl 2 rfl) ?_
        refine tc_getM (v := .ref (a 1)) hx hb hts hown hK hP 0 rfl q201 rfl dX1_closer_20 ?_
        refine lv_sipush (v := nI 128) hx hb dX1_closer_23 (by decide) ?_
        refine lv_iload_n hx hb dX1_closer_26 rfl (lv_at hl 3 rfl) ?_
        refine tc_imul hx hb dX1_closer_27 ?_
        refine lv_iload hx hb dX1_closer_28 (lv_at hl 0 rfl) ?_
        refine tc_iadd hx hb dX1_closer_30 ?_
        refine tc_zald (k := ((128 * t) + (i + 1))) hx hb dX1_closer_31 hK hP 1 1 rfl rfl (by decide) (by omega) ?_
        refine tc_beq (tgt := 69) hx hb dX1_closer_32 (by decide) (fun c_4 => ?_) (fun c_4 => ?_)
        · refine lv_iconst (v := nI 0) hx hb dX1_closer_69 (by decide) ?_
          exact tc_top (tc_r0 (by rw [c_3, tm_clo_0 (fun h1 h2 h3 h4 => by rw [c_4] at h1; cases h1)]; rfl)) hj_2
        · refine lv_iload hx hb dX1_closer_35 (lv_at hl 0 rfl) ?_
          refine lv_iload_n hx hb dX1_closer_37 rfl (lv_at hl 4 rfl) ?_
          refine tc_ishr hx hb dX1_closer_38 (by omega) (by omega) ?_
          refine lv_iconst (v := nI 1) hx hb dX1_closer_39 (by decide) ?_
          refine tc_iand hx hb dX1_closer_40 ?_
          have hv_5 : ((i + 1) >>> x) &&& 1 ≤ 1 := Nat.and_le_right
          refine lv_iconst (v := nI 1) hx hb dX1_closer_41 (by decide) ?_
          refine tc_ne (tgt := 69) hx hb dX1_closer_42 (by decide) (by omega) (by omega) (fun c_6 => ?_) (fun c_6 => ?_)
          · refine lv_iconst (v := nI 0) hx hb dX1_closer_69 (by decide) ?_
            exact tc_top (tc_r0 (by rw [c_3, tm_clo_0 (fun h1 h2 h3 h4 => c_6 h2)]; rfl)) hj_2
          · refine lv_iload hx hb dX1_closer_45 (lv_at hl 0 rfl) ?_
            refine lv_iload_n hx hb dX1_closer_47 rfl (lv_at hl 5 rfl) ?_
            refine tc_ishr hx hb dX1_closer_48 (by omega) (by omega) ?_
            refine lv_iconst (v := nI 1) hx hb dX1_closer_49 (by decide) ?_
            refine tc_iand hx hb dX1_closer_50 ?_
            have hv_7 : ((i + 1) >>> y) &&& 1 ≤ 1 := Nat.and_le_right
            refine lv_iconst (v := nI 1) hx hb dX1_closer_51 (by decide) ?_
            refine tc_ne (tgt := 69) hx hb dX1_closer_52 (by decide) (by omega) (by omega) (fun c_8 => ?_) (fun c_8 => ?_)
            · refine lv_iconst (v := nI 0) hx hb dX1_closer_69 (by decide) ?_
              exact tc_top (tc_r0 (by rw [c_3, tm_clo_0 (fun h1 h2 h3 h4 => c_8 h3)]; rfl)) hj_2
            · refine lv_iload hx hb dX1_closer_55 (lv_at hl 0 rfl) ?_
              refine lv_iload hx hb dX1_closer_57 (lv_at hl 6 rfl) ?_
              refine tc_ishr hx hb dX1_closer_59 (by omega) (by omega) ?_
              refine lv_iconst (v := nI 1) hx hb dX1_closer_60 (by decide) ?_
              refine tc_iand hx hb dX1_closer_61 ?_
              have hv_9 : ((i + 1) >>> z) &&& 1 ≤ 1 := Nat.and_le_right
              refine tc_ne0 (tgt := 69) hx hb dX1_closer_62 (by decide) (by omega) (fun c_10 => ?_) (fun c_10 => ?_)
              · refine lv_iconst (v := nI 0) hx hb dX1_closer_69 (by decide) ?_
                exact tc_top (tc_r0 (by rw [c_3, tm_clo_0 (fun h1 h2 h3 h4 => c_10 h4)]; rfl)) hj_2
              · refine lv_iconst (v := nI 1) hx hb dX1_closer_65 (by decide) ?_
                refine lv_goto (tgt := 70) hx hb dX1_closer_66 (by decide) ?_
                exact tc_top (tc_r1 (by rw [tm_clo_1 c_4 c_6 c_8 c_10]; exact Bool.or_true _)) hj_2
    · refine lv_istore (lv' := [(5, .int (tB (tc_any (tm_clo hs t x y z) i || tm_clo hs t x y z i))), (6, .int (nI (i + 1))), (0, .ref (a 0)), (1, .int (nI t)), (2, .int (nI x)), (3, .int (nI y)), (4, .int (nI z))]) hx hb dX1_closer_70 hl (by decide) rfl (fun ls hl => ?_)
      refine lv_iinc (v := nI ((i + 1) + 1)) (lv' := [(6, .int (nI ((i + 1) + 1))), (5, .int (tB (tc_any (tm_clo hs t x y z) i || tm_clo hs t x y z i))), (0, .ref (a 0)), (1, .int (nI t)), (2, .int (nI x)), (3, .int (nI y)), (4, .int (nI z))]) hx hb dX1_closer_72 hl (k := 1) rfl (t_inc _) (by decide) rfl (fun ls hl => ?_)
      refine lv_goto (tgt := 6) hx hb dX1_closer_75 (by decide) ?_
      exact ih_1 ls (trivial) (lv_sub hl [0, 1, 2, 3, 4, 5, 6] rfl)
  · have hl : lv_has ls 7 [(6, .int (nI (127 + 1))), (5, .int (tB (tc_any (tm_clo hs t x y z) 127))), (0, .ref (a 0)), (1, .int (nI t)), (2, .int (nI x)), (3, .int (nI y)), (4, .int (nI z))] := hl
    refine lv_iload hx hb dX1_closer_6 (lv_at hl 0 rfl) ?_
    refine lv_sipush (v := nI 128) hx hb dX1_closer_8 (by decide) ?_
    refine tc_ge (tgt := 78) hx hb dX1_closer_11 (by decide) (by omega) (by omega) (fun _ => ?_) (fun c_ => absurd c_ (by omega))
    refine lv_iload hx hb dX1_closer_78 (lv_at hl 1 rfl) ?_
    exact ro_ret hx hb hr hlocks dX1_closer_80 (t_narb _) (rfl)
set_option maxHeartbeats 4000000 in
set_option maxRecDepth 100000 in
/-- says -/
theorem ro_X1_says (l : Launch) (D : va_G) (dB dZ : ClassId) (H : Heap) (a : Nat → Nat) (hs : Nat → Bool) (hP : va_P D vwCl (wM a dZ hs) H) (t : Nat) (ht : t < 2) (x y z : Nat) (hx7 : x < 7) (hy7 : y < 7) (hz7 : z < 7) (hxy : ¬ x = y) (hxz : ¬ x = z) (hyz : ¬ y = z) : Ro l yX1_says cX1_says 5 (some .int) 1 26 [.ref (a 0), .int (nI t), .int (nI x), .int (nI y), .int (nI z)] H D dB dZ ((nI (tm_says hs t x y z))) := by
  refine Ro.ofW (by decide) (Nat.le_of_ble_eq_true rfl) (fun p e s m below meth c hx hb hr hlocks hml hown hts hK ls hl => ?_)
  have hl : lv_has ls 5 [(0, .ref (a 0)), (1, .int (nI t)), (2, .int (nI x)), (3, .int (nI y)), (4, .int (nI z))] := hl
  refine lv_aload_n hx hb dX1_says_0 rfl (lv_at hl 0 rfl) ?_
  refine lv_iload_n hx hb dX1_says_1 rfl (lv_at hl 1 rfl) ?_
  refine ro_callV (As := [.int (nI t)]) (rest := []) ⟨hx, hb, hml, hown, hts⟩ hK (ro_X1_tree l D dB dZ H a hs hP (nI t)) (cwV 1 hts (lw_V q189 q191 qs12 q22 q192) rfl rfl rfl (by decide +kernel) ⟨Nat.le_of_ble_eq_true rfl, Nat.le_of_ble_eq_true rfl⟩) (va_recv hK hP (ci := 1) (q0 := 0) rfl rfl) rfl hl.1 rfl (Nat.le_of_ble_eq_true rfl) dX1_says_2 ⟨Nat.le_of_ble_eq_true rfl, Nat.le_of_ble_eq_true rfl⟩ ?_
  refine tc_beq (tgt := 50) hx hb dX1_says_5 (by decide) (fun c_ => absurd c_ (by rw [tx_isT_n ht] at c_; cases c_)) (fun _ => ?_)
  refine lv_aload_n hx hb dX1_says_8 rfl (lv_at hl 0 rfl) ?_
  refine lv_iload_n hx hb dX1_says_9 rfl (lv_at hl 2 rfl) ?_
  refine ro_callV (As := [.int (nI x)]) (rest := []) ⟨hx, hb, hml, hown, hts⟩ hK (ro_X1_member l D dB dZ H a hs hP (nI x)) (cwV 1 hts (lw_V q235 q237 qs17 q22 q238) rfl rfl rfl (by decide +kernel) ⟨Nat.le_of_ble_eq_true rfl, Nat.le_of_ble_eq_true rfl⟩) (va_recv hK hP (ci := 1) (q0 := 0) rfl rfl) rfl hl.1 rfl (Nat.le_of_ble_eq_true rfl) dX1_says_10 ⟨Nat.le_of_ble_eq_true rfl, Nat.le_of_ble_eq_true rfl⟩ ?_
  refine tc_beq (tgt := 50) hx hb dX1_says_13 (by decide) (fun c_ => absurd c_ (by rw [tx_isM_n hx7] at c_; cases c_)) (fun _ => ?_)
  refine lv_aload_n hx hb dX1_says_16 rfl (lv_at hl 0 rfl) ?_
  refine lv_iload_n hx hb dX1_says_17 rfl (lv_at hl 3 rfl) ?_
  refine ro_callV (As := [.int (nI y)]) (rest := []) ⟨hx, hb, hml, hown, hts⟩ hK (ro_X1_member l D dB dZ H a hs hP (nI y)) (cwV 1 hts (lw_V q235 q237 qs17 q22 q238) rfl rfl rfl (by decide +kernel) ⟨Nat.le_of_ble_eq_true rfl, Nat.le_of_ble_eq_true rfl⟩) (va_recv hK hP (ci := 1) (q0 := 0) rfl rfl) rfl hl.1 rfl (Nat.le_of_ble_eq_true rfl) dX1_says_18 ⟨Nat.le_of_ble_eq_true rfl, Nat.le_of_ble_eq_true rfl⟩ ?_
  refine tc_beq (tgt := 50) hx hb dX1_says_21 (by decide) (fun c_ => absurd c_ (by rw [tx_isM_n hy7] at c_; cases c_)) (fun _ => ?_)
  refine lv_aload_n hx hb dX1_says_24 rfl (lv_at hl 0 rfl) ?_
  refine lv_iload hx hb dX1_says_25 (lv_at hl 4 rfl) ?_
  refine ro_callV (As := [.int (nI z)]) (rest := []) ⟨hx, hb, hml, hown, hts⟩ hK (ro_X1_member l D dB dZ H a hs hP (nI z)) (cwV 1 hts (lw_V q235 q237 qs17 q22 q238) rfl rfl rfl (by decide +kernel) ⟨Nat.le_of_ble_eq_true rfl, Nat.le_of_ble_eq_true rfl⟩) (va_recv hK hP (ci := 1) (q0 := 0) rfl rfl) rfl hl.1 rfl (Nat.le_of_ble_eq_true rfl) dX1_says_27 ⟨Nat.le_of_ble_eq_true rfl, Nat.le_of_ble_eq_true rfl⟩ ?_
  refine tc_beq (tgt := 50) hx hb dX1_says_30 (by decide) (fun c_ => absurd c_ (by rw [tx_isM_n hz7] at c_; cases c_)) (fun _ => ?_)
  refine lv_iload_n hx hb dX1_says_33 rfl (lv_at hl 2 rfl) ?_
  refine lv_iload_n hx hb dX1_says_34 rfl (lv_at hl 3 rfl) ?_
  refine tc_eq (tgt := 50) hx hb dX1_says_35 (by decide) (by omega) (by omega) (fun c_ => absurd c_ (by omega)) (fun _ => ?_)
  refine lv_iload_n hx hb dX1_says_38 rfl (lv_at hl 2 rfl) ?_
  refine lv_iload hx hb dX1_says_39 (lv_at hl 4 rfl) ?_
  refine tc_eq (tgt := 50) hx hb dX1_says_41 (by decide) (by omega) (by omega) (fun c_ => absurd c_ (by omega)) (fun _ => ?_)
  refine lv_iload_n hx hb dX1_says_44 rfl (lv_at hl 3 rfl) ?_
  refine lv_iload hx hb dX1_says_45 (lv_at hl 4 rfl) ?_
  refine tc_ne (tgt := 52) hx hb dX1_says_47 (by decide) (by omega) (by omega) (fun _ => ?_) (fun c_ => absurd c_ (by omega))
  refine lv_aload_n hx hb dX1_says_52 rfl (lv_at hl 0 rfl) ?_
  refine lv_iload_n hx hb dX1_says_53 rfl (lv_at hl 1 rfl) ?_
  refine lv_iload_n hx hb dX1_says_54 rfl (lv_at hl 3 rfl) ?_
  refine lv_iload hx hb dX1_says_55 (lv_at hl 4 rfl) ?_
  refine lv_iload_n hx hb dX1_says_57 rfl (lv_at hl 2 rfl) ?_
  refine ro_callV (As := [.int (nI t), .int (nI y), .int (nI z), .int (nI x)]) (rest := []) ⟨hx, hb, hml, hown, hts⟩ hK (ro_X1_closer l D dB dZ H a hs hP t (by omega) y z x (by omega) (by omega) (by omega)) (cwV 4 hts (lw_V q239 q241 qs18 q22 q242) rfl rfl rfl (by decide +kernel) ⟨Nat.le_of_ble_eq_true rfl, Nat.le_of_ble_eq_true rfl⟩) (va_recv hK hP (ci := 1) (q0 := 0) rfl rfl) rfl hl.1 rfl (Nat.le_of_ble_eq_true rfl) dX1_says_58 ⟨Nat.le_of_ble_eq_true rfl, Nat.le_of_ble_eq_true rfl⟩ ?_
  refine tc_beq (tgt := 68) hx hb dX1_says_61 (by decide) (fun c_1 => ?_) (fun c_1 => ?_)
  · refine lv_aload_n hx hb dX1_says_68 rfl (lv_at hl 0 rfl) ?_
    refine lv_iload_n hx hb dX1_says_69 rfl (lv_at hl 1 rfl) ?_
    refine lv_iload_n hx hb dX1_says_70 rfl (lv_at hl 2 rfl) ?_
    refine lv_iload hx hb dX1_says_71 (lv_at hl 4 rfl) ?_
    refine lv_iload_n hx hb dX1_says_73 rfl (lv_at hl 3 rfl) ?_
    refine ro_callV (As := [.int (nI t), .int (nI x), .int (nI z), .int (nI y)]) (rest := []) ⟨hx, hb, hml, hown, hts⟩ hK (ro_X1_closer l D dB dZ H a hs hP t (by omega) x z y (by omega) (by omega) (by omega)) (cwV 4 hts (lw_V q239 q241 qs18 q22 q242) rfl rfl rfl (by decide +kernel) ⟨Nat.le_of_ble_eq_true rfl, Nat.le_of_ble_eq_true rfl⟩) (va_recv hK hP (ci := 1) (q0 := 0) rfl rfl) rfl hl.1 rfl (Nat.le_of_ble_eq_true rfl) dX1_says_74 ⟨Nat.le_of_ble_eq_true rfl, Nat.le_of_ble_eq_true rfl⟩ ?_
    refine tc_beq (tgt := 84) hx hb dX1_says_77 (by decide) (fun c_2 => ?_) (fun c_2 => ?_)
    · refine lv_aload_n hx hb dX1_says_84 rfl (lv_at hl 0 rfl) ?_
      refine lv_iload_n hx hb dX1_says_85 rfl (lv_at hl 1 rfl) ?_
      refine lv_iload_n hx hb dX1_says_86 rfl (lv_at hl 2 rfl) ?_
      refine lv_iload_n hx hb dX1_says_87 rfl (lv_at hl 3 rfl) ?_
      refine lv_iload hx hb dX1_says_88 (lv_at hl 4 rfl) ?_
      refine ro_callV (As := [.int (nI t), .int (nI x), .int (nI y), .int (nI z)]) (rest := []) ⟨hx, hb, hml, hown, hts⟩ hK (ro_X1_closer l D dB dZ H a hs hP t (by omega) x y z (by omega) (by omega) (by omega)) (cwV 4 hts (lw_V q239 q241 qs18 q22 q242) rfl rfl rfl (by decide +kernel) ⟨Nat.le_of_ble_eq_true rfl, Nat.le_of_ble_eq_true rfl⟩) (va_recv hK hP (ci := 1) (q0 := 0) rfl rfl) rfl hl.1 rfl (Nat.le_of_ble_eq_true rfl) dX1_says_90 ⟨Nat.le_of_ble_eq_true rfl, Nat.le_of_ble_eq_true rfl⟩ ?_
      refine tc_beq (tgt := 100) hx hb dX1_says_93 (by decide) (fun c_3 => ?_) (fun c_3 => ?_)
      · refine lv_iconst (v := nI 3) hx hb dX1_says_100 (by decide) ?_
        exact ro_ret hx hb hr hlocks dX1_says_101 rfl (congrArg nI (by unfold tm_says; rw [if_neg (by rw [c_1]; decide), if_neg (by rw [c_2]; decide), if_neg (by rw [c_3]; decide)]))
      · refine lv_iconst (v := nI 2) hx hb dX1_says_96 (by decide) ?_
        refine lv_goto (tgt := 101) hx hb dX1_says_97 (by decide) ?_
        exact ro_ret hx hb hr hlocks dX1_says_101 rfl (congrArg nI (by unfold tm_says; rw [if_neg (by rw [c_1]; decide), if_neg (by rw [c_2]; decide), if_pos c_3]))
    · refine lv_iconst (v := nI 1) hx hb dX1_says_80 (by decide) ?_
      refine lv_goto (tgt := 101) hx hb dX1_says_81 (by decide) ?_
      exact ro_ret hx hb hr hlocks dX1_says_101 rfl (congrArg nI (by unfold tm_says; rw [if_neg (by rw [c_1]; decide), if_pos c_2]))
  · refine lv_iconst (v := nI 0) hx hb dX1_says_64 (by decide) ?_
    refine lv_goto (tgt := 101) hx hb dX1_says_65 (by decide) ?_
    exact ro_ret hx hb hr hlocks dX1_says_101 rfl (congrArg nI (by unfold tm_says; rw [if_pos c_1]))
set_option maxHeartbeats 4000000 in
set_option maxRecDepth 100000 in
/-- says, else -/
theorem ro_X1_says_b (l : Launch) (D : va_G) (dB dZ : ClassId) (H : Heap) (a : Nat → Nat) (hs : Nat → Bool) (hP : va_P D vwCl (wM a dZ hs) H) (t x y z : Int32) (hbad : tx_isT t = true → tx_isM x = true → tx_isM y = true → tx_isM z = true → ¬ x = y → ¬ x = z → y = z) : Ro l yX1_says cX1_says 5 (some .int) 1 26 [.ref (a 0), .int t, .int x, .int y, .int z] H D dB dZ ((-1)) := by
  refine Ro.ofW (by decide) (Nat.le_of_ble_eq_true rfl) (fun p e s m below meth c hx hb hr hlocks hml hown hts hK ls hl => ?_)
  have hl : lv_has ls 5 [(0, .ref (a 0)), (1, .int t), (2, .int x), (3, .int y), (4, .int z)] := hl
  refine lv_aload_n hx hb dX1_says_0 rfl (lv_at hl 0 rfl) ?_
  refine lv_iload_n hx hb dX1_says_1 rfl (lv_at hl 1 rfl) ?_
  refine ro_callV (As := [.int t]) (rest := []) ⟨hx, hb, hml, hown, hts⟩ hK (ro_X1_tree l D dB dZ H a hs hP t) (cwV 1 hts (lw_V q189 q191 qs12 q22 q192) rfl rfl rfl (by decide +kernel) ⟨Nat.le_of_ble_eq_true rfl, Nat.le_of_ble_eq_true rfl⟩) (va_recv hK hP (ci := 1) (q0 := 0) rfl rfl) rfl hl.1 rfl (Nat.le_of_ble_eq_true rfl) dX1_says_2 ⟨Nat.le_of_ble_eq_true rfl, Nat.le_of_ble_eq_true rfl⟩ ?_
  refine tc_beq (tgt := 50) hx hb dX1_says_5 (by decide) (fun c_1 => ?_) (fun c_1 => ?_)
  · refine lv_iconst (v := -1) hx hb dX1_says_50 (by decide) ?_
    exact ro_ret hx hb hr hlocks dX1_says_51 rfl (rfl)
  · refine lv_aload_n hx hb dX1_says_8 rfl (lv_at hl 0 rfl) ?_
    refine lv_iload_n hx hb dX1_says_9 rfl (lv_at hl 2 rfl) ?_
    refine ro_callV (As := [.int x]) (rest := []) ⟨hx, hb, hml, hown, hts⟩ hK (ro_X1_member l D dB dZ H a hs hP x) (cwV 1 hts (lw_V q235 q237 qs17 q22 q238) rfl rfl rfl (by decide +kernel) ⟨Nat.le_of_ble_eq_true rfl, Nat.le_of_ble_eq_true rfl⟩) (va_recv hK hP (ci := 1) (q0 := 0) rfl rfl) rfl hl.1 rfl (Nat.le_of_ble_eq_true rfl) dX1_says_10 ⟨Nat.le_of_ble_eq_true rfl, Nat.le_of_ble_eq_true rfl⟩ ?_
    refine tc_beq (tgt := 50) hx hb dX1_says_13 (by decide) (fun c_2 => ?_) (fun c_2 => ?_)
    · refine lv_iconst (v := -1) hx hb dX1_says_50 (by decide) ?_
      exact ro_ret hx hb hr hlocks dX1_says_51 rfl (rfl)
    · refine lv_aload_n hx hb dX1_says_16 rfl (lv_at hl 0 rfl) ?_
      refine lv_iload_n hx hb dX1_says_17 rfl (lv_at hl 3 rfl) ?_
      refine ro_callV (As := [.int y]) (rest := []) ⟨hx, hb, hml, hown, hts⟩ hK (ro_X1_member l D dB dZ H a hs hP y) (cwV 1 hts (lw_V q235 q237 qs17 q22 q238) rfl rfl rfl (by decide +kernel) ⟨Nat.le_of_ble_eq_true rfl, Nat.le_of_ble_eq_true rfl⟩) (va_recv hK hP (ci := 1) (q0 := 0) rfl rfl) rfl hl.1 rfl (Nat.le_of_ble_eq_true rfl) dX1_says_18 ⟨Nat.le_of_ble_eq_true rfl, Nat.le_of_ble_eq_true rfl⟩ ?_
      refine tc_beq (tgt := 50) hx hb dX1_says_21 (by decide) (fun c_3 => ?_) (fun c_3 => ?_)
      · refine lv_iconst (v := -1) hx hb dX1_says_50 (by decide) ?_
        exact ro_ret hx hb hr hlocks dX1_says_51 rfl (rfl)
      · refine lv_aload_n hx hb dX1_says_24 rfl (lv_at hl 0 rfl) ?_
        refine lv_iload hx hb dX1_says_25 (lv_at hl 4 rfl) ?_
        refine ro_callV (As := [.int z]) (rest := []) ⟨hx, hb, hml, hown, hts⟩ hK (ro_X1_member l D dB dZ H a hs hP z) (cwV 1 hts (lw_V q235 q237 qs17 q22 q238) rfl rfl rfl (by decide +kernel) ⟨Nat.le_of_ble_eq_true rfl, Nat.le_of_ble_eq_true rfl⟩) (va_recv hK hP (ci := 1) (q0 := 0) rfl rfl) rfl hl.1 rfl (Nat.le_of_ble_eq_true rfl) dX1_says_27 ⟨Nat.le_of_ble_eq_true rfl, Nat.le_of_ble_eq_true rfl⟩ ?_
        refine tc_beq (tgt := 50) hx hb dX1_says_30 (by decide) (fun c_4 => ?_) (fun c_4 => ?_)
        · refine lv_iconst (v := -1) hx hb dX1_says_50 (by decide) ?_
          exact ro_ret hx hb hr hlocks dX1_says_51 rfl (rfl)
        · refine lv_iload_n hx hb dX1_says_33 rfl (lv_at hl 2 rfl) ?_
          refine lv_iload_n hx hb dX1_says_34 rfl (lv_at hl 3 rfl) ?_
          refine lv_icmp_eq (tgt := 50) hx hb dX1_says_35 (by decide) (fun c_5 => ?_) (fun c_5 => ?_)
          · refine lv_iconst (v := -1) hx hb dX1_says_50 (by decide) ?_
            exact ro_ret hx hb hr hlocks dX1_says_51 rfl (rfl)
          · refine lv_iload_n hx hb dX1_says_38 rfl (lv_at hl 2 rfl) ?_
            refine lv_iload hx hb dX1_says_39 (lv_at hl 4 rfl) ?_
            refine lv_icmp_eq (tgt := 50) hx hb dX1_says_41 (by decide) (fun c_6 => ?_) (fun c_6 => ?_)
            · refine lv_iconst (v := -1) hx hb dX1_says_50 (by decide) ?_
              exact ro_ret hx hb hr hlocks dX1_says_51 rfl (rfl)
            · refine lv_iload_n hx hb dX1_says_44 rfl (lv_at hl 3 rfl) ?_
              refine lv_iload hx hb dX1_says_45 (lv_at hl 4 rfl) ?_
              refine lv_icmp_ne (tgt := 52) hx hb dX1_says_47 (by decide) (fun c_7 => ?_) (fun c_7 => ?_)
              · exact absurd (hbad c_1 c_2 c_3 c_4 c_5 c_6) c_7
              · refine lv_iconst (v := -1) hx hb dX1_says_50 (by decide) ?_
                exact ro_ret hx hb hr hlocks dX1_says_51 rfl (rfl)
set_option maxHeartbeats 4000000 in
set_option maxRecDepth 100000 in
/-- about: what a tree says of the three members of a set -/
theorem ro_X1_about (l : Launch) (D : va_G) (dB dZ : ClassId) (H : Heap) (a : Nat → Nat) (hs : Nat → Bool) (hP : va_P D vwCl (wM a dZ hs) H) (t : Nat) (ht : t < 2) (w : Nat) (hw : w < 128) (h3 : tc_pop w = 3) : Ro l yX1_about cX1_about 7 (some .int) 2 50 [.ref (a 0), .int (nI t), .int (nI w)] H D dB dZ ((nI (tm_about hs t w))) := by
  refine Ro.ofW (by decide) (Nat.le_of_ble_eq_true rfl) (fun p e s m below meth c hx hb hr hlocks hml hown hts hK ls hl => ?_)
  have hl : lv_has ls 7 [(0, .ref (a 0)), (1, .int (nI t)), (2, .int (nI w))] := hl
  refine lv_iconst (v := -1) hx hb dX1_about_0 (by decide) ?_
  refine lv_istore_n (lv' := [(3, .int (-1)), (0, .ref (a 0)), (1, .int (nI t)), (2, .int (nI w))]) hx hb dX1_about_1 rfl hl (by decide) rfl (fun ls hl => ?_)
  refine lv_iconst (v := -1) hx hb dX1_about_2 (by decide) ?_
  refine lv_istore (lv' := [(4, .int (-1)), (3, .int (-1)), (0, .ref (a 0)), (1, .int (nI t)), (2, .int (nI w))]) hx hb dX1_about_3 hl (by decide) rfl (fun ls hl => ?_)
  refine lv_iconst (v := -1) hx hb dX1_about_5 (by decide) ?_
  refine lv_istore (lv' := [(5, .int (-1)), (4, .int (-1)), (3, .int (-1)), (0, .ref (a 0)), (1, .int (nI t)), (2, .int (nI w))]) hx hb dX1_about_6 hl (by decide) rfl (fun ls hl => ?_)
  refine lv_iconst (v := nI 0) hx hb dX1_about_8 (by decide) ?_
  refine lv_istore (lv' := [(6, .int (nI 0)), (5, .int (-1)), (4, .int (-1)), (3, .int (-1)), (0, .ref (a 0)), (1, .int (nI t)), (2, .int (nI w))]) hx hb dX1_about_9 hl (by decide) rfl (fun ls hl => ?_)
  refine tc_for (nL := 7) 7 (fun _ => True) (fun i => [(6, .int (nI i)), (3, .int ((tm_ab w i).1)), (4, .int ((tm_ab w i).2.1)), (5, .int ((tm_ab w i).2.2)), (0, .ref (a 0)), (1, .int (nI t)), (2, .int (nI w))]) (trivial) (lv_sub hl [0, 3, 2, 1, 4, 5, 6] rfl) (fun i hi_i hv_1 ih_1 ls hl => ?_) (fun hv_1 ls hl => ?_)
  · have hl : lv_has ls 7 [(6, .int (nI i)), (3, .int ((tm_ab w i).1)), (4, .int ((tm_ab w i).2.1)), (5, .int ((tm_ab w i).2.2)), (0, .ref (a 0)), (1, .int (nI t)), (2, .int (nI w))] := hl
    refine lv_iload hx hb dX1_about_11 (lv_at hl 0 rfl) ?_
    refine lv_bipush (v := nI 7) hx hb dX1_about_13 (by decide) ?_
    refine tc_ge (tgt := 45) hx hb dX1_about_15 (by decide) (by omega) (by omega) (fun c_ => absurd c_ (by omega)) (fun _ => ?_)
    refine tc_atV (nL := 7) 39 [] (α := Int32 × Int32 × Int32) (tm_abs w i (tm_ab w i)) (fun v => [(6, .int (nI i)), (3, .int v.1), (4, .int v.2.1), (5, .int v.2.2), (0, .ref (a 0)), (1, .int (nI t)), (2, .int (nI w))]) (fun hj_2 => ?_) (fun ls hl => ?_)
    · refine lv_iload_n hx hb dX1_about_18 rfl (lv_at hl 6 rfl) ?_
      refine lv_iload hx hb dX1_about_19 (lv_at hl 0 rfl) ?_
      refine tc_ishr hx hb dX1_about_21 (by omega) (by omega) ?_
      refine lv_iconst (v := nI 1) hx hb dX1_about_22 (by decide) ?_
      refine tc_iand hx hb dX1_about_23 ?_
      have hv_3 : (w >>> i) &&& 1 ≤ 1 := Nat.and_le_right
      refine lv_iconst (v := nI 1) hx hb dX1_about_24 (by decide) ?_
      refine tc_ne (tgt := 39) hx hb dX1_about_25 (by decide) (by omega) (by omega) (fun c_4 => ?_) (fun c_4 => ?_)
      · exact hj_2 (((tm_ab w i).1), ((tm_ab w i).2.1), ((tm_ab w i).2.2)) (tm_abs_0 c_4) ls (lv_sub hl [0, 1, 2, 3, 4, 5, 6] rfl)
      · refine lv_iload hx hb dX1_about_28 (lv_at hl 2 rfl) ?_
        refine lv_istore_n (lv' := [(3, .int ((tm_ab w i).2.1)), (6, .int (nI i)), (4, .int ((tm_ab w i).2.1)), (5, .int ((tm_ab w i).2.2)), (0, .ref (a 0)), (1, .int (nI t)), (2, .int (nI w))]) hx hb dX1_about_30 rfl hl (by decide) rfl (fun ls hl => ?_)
        refine lv_iload hx hb dX1_about_31 (lv_at hl 3 rfl) ?_
        refine lv_istore (lv' := [(4, .int ((tm_ab w i).2.2)), (3, .int ((tm_ab w i).2.1)), (6, .int (nI i)), (5, .int ((tm_ab w i).2.2)), (0, .ref (a 0)), (1, .int (nI t)), (2, .int (nI w))]) hx hb dX1_about_33 hl (by decide) rfl (fun ls hl => ?_)
        refine lv_iload hx hb dX1_about_35 (lv_at hl 2 rfl) ?_
        refine lv_istore (lv' := [(5, .int (nI i)), (4, .int ((tm_ab w i).2.2)), (3, .int ((tm_ab w i).2.1)), (6, .int (nI i)), (0, .ref (a 0)), (1, .int (nI t)), (2, .int (nI w))]) hx hb dX1_about_37 hl (by decide) rfl (fun ls hl => ?_)
        exact hj_2 (((tm_ab w i).2.1), ((tm_ab w i).2.2), (nI i)) (tm_abs_1 c_4) ls (lv_sub hl [3, 2, 1, 0, 4, 5, 6] rfl)
    · have hl : lv_has ls 7 [(6, .int (nI i)), (3, .int ((tm_abs w i (tm_ab w i)).1)), (4, .int ((tm_abs w i (tm_ab w i)).2.1)), (5, .int ((tm_abs w i (tm_ab w i)).2.2)), (0, .ref (a 0)), (1, .int (nI t)), (2, .int (nI w))] := hl
      refine lv_iinc (v := nI (i + 1)) (lv' := [(6, .int (nI (i + 1))), (3, .int ((tm_abs w i (tm_ab w i)).1)), (4, .int ((tm_abs w i (tm_ab w i)).2.1)), (5, .int ((tm_abs w i (tm_ab w i)).2.2)), (0, .ref (a 0)), (1, .int (nI t)), (2, .int (nI w))]) hx hb dX1_about_39 hl (k := 0) rfl (t_inc _) (by decide) rfl (fun ls hl => ?_)
      refine lv_goto (tgt := 11) hx hb dX1_about_42 (by decide) ?_
      exact ih_1 ls (trivial) (lv_sub hl [0, 1, 2, 3, 4, 5, 6] rfl)
  · have hl : lv_has ls 7 [(6, .int (nI 7)), (3, .int ((tm_ab w 7).1)), (4, .int ((tm_ab w 7).2.1)), (5, .int ((tm_ab w 7).2.2)), (0, .ref (a 0)), (1, .int (nI t)), (2, .int (nI w))] := hl
    refine lv_iload hx hb dX1_about_11 (lv_at hl 0 rfl) ?_
    refine lv_bipush (v := nI 7) hx hb dX1_about_13 (by decide) ?_
    refine tc_ge (tgt := 45) hx hb dX1_about_15 (by decide) (by omega) (by omega) (fun _ => ?_) (fun c_ => absurd c_ (by omega))
    have hab := tm_ab_spec w hw h3
    rw [hab.1] at hl
    have hl : lv_has ls 7 [(6, .int (nI 7)), (3, .int (nI (tm_1 w))), (4, .int (nI (tm_2 w))), (5, .int (nI (tm_3 w))), (0, .ref (a 0)), (1, .int (nI t)), (2, .int (nI w))] := hl
    refine lv_aload_n hx hb dX1_about_45 rfl (lv_at hl 4 rfl) ?_
    refine lv_iload_n hx hb dX1_about_46 rfl (lv_at hl 5 rfl) ?_
    refine lv_iload_n hx hb dX1_about_47 rfl (lv_at hl 1 rfl) ?_
    refine lv_iload hx hb dX1_about_48 (lv_at hl 2 rfl) ?_
    refine lv_iload hx hb dX1_about_50 (lv_at hl 3 rfl) ?_
    refine ro_callV (As := [.int (nI t), .int (nI (tm_1 w)), .int (nI (tm_2 w)), .int (nI (tm_3 w))]) (rest := []) ⟨hx, hb, hml, hown, hts⟩ hK (ro_X1_says l D dB dZ H a hs hP t (by omega) (tm_1 w) (tm_2 w) (tm_3 w) (by omega) (by omega) (by omega) (by omega) (by omega) (by omega)) (cwV 4 hts (lw_V q251 q232 q233 q22 q234) rfl rfl rfl (by decide +kernel) ⟨Nat.le_of_ble_eq_true rfl, Nat.le_of_ble_eq_true rfl⟩) (va_recv hK hP (ci := 1) (q0 := 0) rfl rfl) rfl hl.1 rfl (Nat.le_of_ble_eq_true rfl) dX1_about_52 ⟨Nat.le_of_ble_eq_true rfl, Nat.le_of_ble_eq_true rfl⟩ ?_
    have hv_5 := tm_says_le hs t (tm_1 w) (tm_2 w) (tm_3 w)
    exact ro_ret hx hb hr hlocks dX1_about_55 rfl (rfl)
set_option maxHeartbeats 4000000 in
set_option maxRecDepth 100000 in
/-- decided, of a tree -/
theorem ro_X1_decided (l : Launch) (D : va_G) (dB dZ : ClassId) (H : Heap) (a : Nat → Nat) (hs : Nat → Bool) (hP : va_P D vwCl (wM a dZ hs) H) (t : Nat) (ht : t < 2) : Ro l yX1_decided cX1_decided 4 (some .int) 3 76 [.ref (a 0), .int (nI t)] H D dB dZ ((nI (tm_dec hs t))) := by
  refine Ro.ofW (by decide) (Nat.le_of_ble_eq_true rfl) (fun p e s m below meth c hx hb hr hlocks hml hown hts hK ls hl => ?_)
  have hl : lv_has ls 4 [(0, .ref (a 0)), (1, .int (nI t))] := hl
  refine lv_iconst (v := nI 0) hx hb dX1_decided_0 (by decide) ?_
  refine lv_istore_n (lv' := [(2, .int (nI 0)), (0, .ref (a 0)), (1, .int (nI t))]) hx hb dX1_decided_1 rfl hl (by decide) rfl (fun ls hl => ?_)
  refine lv_iconst (v := nI 0) hx hb dX1_decided_2 (by decide) ?_
  refine lv_istore_n (lv' := [(3, .int (nI 0)), (2, .int (nI 0)), (0, .ref (a 0)), (1, .int (nI t))]) hx hb dX1_decided_3 rfl hl (by decide) rfl (fun ls hl => ?_)
  refine tc_for (nL := 4) 128 (fun _ => True) (fun i => [(3, .int (nI i)), (2, .int (nI (tc_fold (fun i n => if tc_pop i = 3 ∧ ¬ tm_about hs t i = 3 then n + 1 else n) 0 i))), (0, .ref (a 0)), (1, .int (nI t))]) (trivial) (lv_sub hl [0, 1, 2, 3] rfl) (fun i hi_i hv_1 ih_1 ls hl => ?_) (fun hv_1 ls hl => ?_)
  · have hl : lv_has ls 4 [(3, .int (nI i)), (2, .int (nI (tc_fold (fun i n => if tc_pop i = 3 ∧ ¬ tm_about hs t i = 3 then n + 1 else n) 0 i))), (0, .ref (a 0)), (1, .int (nI t))] := hl
    refine lv_iload_n hx hb dX1_decided_4 rfl (lv_at hl 0 rfl) ?_
    refine lv_sipush (v := nI 128) hx hb dX1_decided_5 (by decide) ?_
    refine tc_ge (tgt := 52) hx hb dX1_decided_8 (by decide) (by omega) (by omega) (fun c_ => absurd c_ (by omega)) (fun _ => ?_)
    refine lv_aload_n hx hb dX1_decided_11 rfl (lv_at hl 2 rfl) ?_
    refine lv_iload_n hx hb dX1_decided_12 rfl (lv_at hl 3 rfl) ?_
    refine ro_callV (As := [.int (nI t)]) (rest := []) ⟨hx, hb, hml, hown, hts⟩ hK (ro_X1_tree l D dB dZ H a hs hP (nI t)) (cwV 1 hts (lw_V q189 q191 qs12 q22 q192) rfl rfl rfl (by decide +kernel) ⟨Nat.le_of_ble_eq_true rfl, Nat.le_of_ble_eq_true rfl⟩) (va_recv hK hP (ci := 1) (q0 := 0) rfl rfl) rfl hl.1 rfl (Nat.le_of_ble_eq_true rfl) dX1_decided_13 ⟨Nat.le_of_ble_eq_true rfl, Nat.le_of_ble_eq_true rfl⟩ ?_
    refine tc_beq (tgt := 52) hx hb dX1_decided_16 (by decide) (fun c_ => absurd c_ (by rw [tx_isT_n ht] at c_; cases c_)) (fun _ => ?_)
    refine tc_at 45 [.int (nI (if tc_pop i = 3 ∧ ¬ tm_about hs t i = 3 then (tc_fold (fun i n => if tc_pop i = 3 ∧ ¬ tm_about hs t i = 3 then n + 1 else n) 0 i) + 1 else (tc_fold (fun i n => if tc_pop i = 3 ∧ ¬ tm_about hs t i = 3 then n + 1 else n) 0 i)))] (fun hj_2 => ?_) ?_
    · refine lv_aload_n hx hb dX1_decided_19 rfl (lv_at hl 2 rfl) ?_
      refine lv_iload_n hx hb dX1_decided_20 rfl (lv_at hl 0 rfl) ?_
      refine ro_callV (As := [.int (nI i)]) (rest := []) ⟨hx, hb, hml, hown, hts⟩ hK (ro_X1_count l D dB dZ H a hs hP i (by omega)) (cwV 1 hts (lw_V q197 q199 qs14 q22 q200) rfl rfl rfl (by decide +kernel) ⟨Nat.le_of_ble_eq_true rfl, Nat.le_of_ble_eq_true rfl⟩) (va_recv hK hP (ci := 1) (q0 := 0) rfl rfl) rfl hl.1 rfl (Nat.le_of_ble_eq_true rfl) dX1_decided_21 ⟨Nat.le_of_ble_eq_true rfl, Nat.le_of_ble_eq_true rfl⟩ ?_
      have hv_3 := tc_pop_le i
      refine lv_iconst (v := nI 3) hx hb dX1_decided_24 (by decide) ?_
      refine tc_ne (tgt := 44) hx hb dX1_decided_25 (by decide) (by omega) (by omega) (fun c_4 => ?_) (fun c_4 => ?_)
      · refine lv_iload_n hx hb dX1_decided_44 rfl (lv_at hl 1 rfl) ?_
        exact tc_topN (by first | (rw [if_pos ⟨c_4⟩]; done) | (rw [if_pos c_4]; done) | (rw [if_neg (fun h => c_4 h.2)]; done) | (rw [if_neg (by simp [c_4])]; done) | (rw [if_neg (by omega)]; done)) hj_2
      · refine lv_aload_n hx hb dX1_decided_28 rfl (lv_at hl 2 rfl) ?_
        refine lv_iload_n hx hb dX1_decided_29 rfl (lv_at hl 3 rfl) ?_
        refine lv_iload_n hx hb dX1_decided_30 rfl (lv_at hl 0 rfl) ?_
        refine ro_callV (As := [.int (nI t), .int (nI i)]) (rest := []) ⟨hx, hb, hml, hown, hts⟩ hK (ro_X1_about l D dB dZ H a hs hP t (by omega) i (by omega) (by assumption)) (cwV 2 hts (lw_V q247 q249 qs19 q22 q250) rfl rfl rfl (by decide +kernel) ⟨Nat.le_of_ble_eq_true rfl, Nat.le_of_ble_eq_true rfl⟩) (va_recv hK hP (ci := 1) (q0 := 0) rfl rfl) rfl hl.1 rfl (Nat.le_of_ble_eq_true rfl) dX1_decided_31 ⟨Nat.le_of_ble_eq_true rfl, Nat.le_of_ble_eq_true rfl⟩ ?_
        have hv_5 := tm_about_le hs t i
        refine lv_iconst (v := nI 3) hx hb dX1_decided_34 (by decide) ?_
        refine tc_eq (tgt := 44) hx hb dX1_decided_35 (by decide) (by omega) (by omega) (fun c_6 => ?_) (fun c_6 => ?_)
        · refine lv_iload_n hx hb dX1_decided_44 rfl (lv_at hl 1 rfl) ?_
          exact tc_topN (by first | (rw [if_pos ⟨c_4, c_6⟩]; done) | (rw [if_pos c_6]; done) | (rw [if_neg (fun h => c_6 h.2)]; done) | (rw [if_neg (by simp [c_4, c_6])]; done) | (rw [if_neg (by omega)]; done)) hj_2
        · refine lv_iload_n hx hb dX1_decided_38 rfl (lv_at hl 1 rfl) ?_
          refine lv_iconst (v := nI 1) hx hb dX1_decided_39 (by decide) ?_
          refine tc_iadd hx hb dX1_decided_40 ?_
          refine lv_goto (tgt := 45) hx hb dX1_decided_41 (by decide) ?_
          exact tc_topN (by first | (rw [if_pos ⟨c_4, c_6⟩]; done) | (rw [if_pos c_6]; done) | (rw [if_neg (fun h => c_6 h.2)]; done) | (rw [if_neg (by simp [c_4, c_6])]; done) | (rw [if_neg (by omega)]; done)) hj_2
    · refine lv_istore_n (lv' := [(2, .int (nI (if tc_pop i = 3 ∧ ¬ tm_about hs t i = 3 then (tc_fold (fun i n => if tc_pop i = 3 ∧ ¬ tm_about hs t i = 3 then n + 1 else n) 0 i) + 1 else (tc_fold (fun i n => if tc_pop i = 3 ∧ ¬ tm_about hs t i = 3 then n + 1 else n) 0 i)))), (3, .int (nI i)), (0, .ref (a 0)), (1, .int (nI t))]) hx hb dX1_decided_45 rfl hl (by decide) rfl (fun ls hl => ?_)
      refine lv_iinc (v := nI (i + 1)) (lv' := [(3, .int (nI (i + 1))), (2, .int (nI (if tc_pop i = 3 ∧ ¬ tm_about hs t i = 3 then (tc_fold (fun i n => if tc_pop i = 3 ∧ ¬ tm_about hs t i = 3 then n + 1 else n) 0 i) + 1 else (tc_fold (fun i n => if tc_pop i = 3 ∧ ¬ tm_about hs t i = 3 then n + 1 else n) 0 i)))), (0, .ref (a 0)), (1, .int (nI t))]) hx hb dX1_decided_46 hl (k := 1) rfl (t_inc _) (by decide) rfl (fun ls hl => ?_)
      refine lv_goto (tgt := 4) hx hb dX1_decided_49 (by decide) ?_
      exact ih_1 ls (trivial) (lv_sub hl [0, 1, 2, 3] rfl)
  · have hl : lv_has ls 4 [(3, .int (nI 128)), (2, .int (nI (tc_fold (fun i n => if tc_pop i = 3 ∧ ¬ tm_about hs t i = 3 then n + 1 else n) 0 128))), (0, .ref (a 0)), (1, .int (nI t))] := hl
    refine lv_iload_n hx hb dX1_decided_4 rfl (lv_at hl 0 rfl) ?_
    refine lv_sipush (v := nI 128) hx hb dX1_decided_5 (by decide) ?_
    refine tc_ge (tgt := 52) hx hb dX1_decided_8 (by decide) (by omega) (by omega) (fun _ => ?_) (fun c_ => absurd c_ (by omega))
    refine lv_aload_n hx hb dX1_decided_52 rfl (lv_at hl 2 rfl) ?_
    refine lv_iload_n hx hb dX1_decided_53 rfl (lv_at hl 3 rfl) ?_
    refine ro_callV (As := [.int (nI t)]) (rest := []) ⟨hx, hb, hml, hown, hts⟩ hK (ro_X1_tree l D dB dZ H a hs hP (nI t)) (cwV 1 hts (lw_V q189 q191 qs12 q22 q192) rfl rfl rfl (by decide +kernel) ⟨Nat.le_of_ble_eq_true rfl, Nat.le_of_ble_eq_true rfl⟩) (va_recv hK hP (ci := 1) (q0 := 0) rfl rfl) rfl hl.1 rfl (Nat.le_of_ble_eq_true rfl) dX1_decided_54 ⟨Nat.le_of_ble_eq_true rfl, Nat.le_of_ble_eq_true rfl⟩ ?_
    refine tc_beq (tgt := 64) hx hb dX1_decided_57 (by decide) (fun c_ => absurd c_ (by rw [tx_isT_n ht] at c_; cases c_)) (fun _ => ?_)
    refine lv_iload_n hx hb dX1_decided_60 rfl (lv_at hl 1 rfl) ?_
    refine lv_goto (tgt := 65) hx hb dX1_decided_61 (by decide) ?_
    exact ro_ret hx hb hr hlocks dX1_decided_65 rfl (rfl)
set_option maxHeartbeats 4000000 in
set_option maxRecDepth 100000 in
/-- decided, else -/
theorem ro_X1_decided_b (l : Launch) (D : va_G) (dB dZ : ClassId) (H : Heap) (a : Nat → Nat) (hs : Nat → Bool) (hP : va_P D vwCl (wM a dZ hs) H) (t : Int32) (hbad : tx_isT t = false) : Ro l yX1_decided cX1_decided 4 (some .int) 1 21 [.ref (a 0), .int t] H D dB dZ ((-1)) := by
  refine Ro.ofW (by decide) (Nat.le_of_ble_eq_true rfl) (fun p e s m below meth c hx hb hr hlocks hml hown hts hK ls hl => ?_)
  have hl : lv_has ls 4 [(0, .ref (a 0)), (1, .int t)] := hl
  refine lv_iconst (v := nI 0) hx hb dX1_decided_0 (by decide) ?_
  refine lv_istore_n (lv' := [(2, .int (nI 0)), (0, .ref (a 0)), (1, .int t)]) hx hb dX1_decided_1 rfl hl (by decide) rfl (fun ls hl => ?_)
  refine lv_iconst (v := nI 0) hx hb dX1_decided_2 (by decide) ?_
  refine lv_istore_n (lv' := [(3, .int (nI 0)), (2, .int (nI 0)), (0, .ref (a 0)), (1, .int t)]) hx hb dX1_decided_3 rfl hl (by decide) rfl (fun ls hl => ?_)
  refine lv_iload_n hx hb dX1_decided_4 rfl (lv_at hl 0 rfl) ?_
  refine lv_sipush (v := nI 128) hx hb dX1_decided_5 (by decide) ?_
  refine tc_ge (tgt := 52) hx hb dX1_decided_8 (by decide) (by omega) (by omega) (fun c_ => absurd c_ (by omega)) (fun _ => ?_)
  refine lv_aload_n hx hb dX1_decided_11 rfl (lv_at hl 2 rfl) ?_
  refine lv_iload_n hx hb dX1_decided_12 rfl (lv_at hl 3 rfl) ?_
  refine ro_callV (As := [.int t]) (rest := []) ⟨hx, hb, hml, hown, hts⟩ hK (ro_X1_tree l D dB dZ H a hs hP t) (cwV 1 hts (lw_V q189 q191 qs12 q22 q192) rfl rfl rfl (by decide +kernel) ⟨Nat.le_of_ble_eq_true rfl, Nat.le_of_ble_eq_true rfl⟩) (va_recv hK hP (ci := 1) (q0 := 0) rfl rfl) rfl hl.1 rfl (Nat.le_of_ble_eq_true rfl) dX1_decided_13 ⟨Nat.le_of_ble_eq_true rfl, Nat.le_of_ble_eq_true rfl⟩ ?_
  refine tc_beq (tgt := 52) hx hb dX1_decided_16 (by decide) (fun _ => ?_) (fun c_ => absurd c_ (by rw [hbad] at c_; cases c_))
  refine lv_aload_n hx hb dX1_decided_52 rfl (lv_at hl 2 rfl) ?_
  refine lv_iload_n hx hb dX1_decided_53 rfl (lv_at hl 3 rfl) ?_
  refine ro_callV (As := [.int t]) (rest := []) ⟨hx, hb, hml, hown, hts⟩ hK (ro_X1_tree l D dB dZ H a hs hP t) (cwV 1 hts (lw_V q189 q191 qs12 q22 q192) rfl rfl rfl (by decide +kernel) ⟨Nat.le_of_ble_eq_true rfl, Nat.le_of_ble_eq_true rfl⟩) (va_recv hK hP (ci := 1) (q0 := 0) rfl rfl) rfl hl.1 rfl (Nat.le_of_ble_eq_true rfl) dX1_decided_54 ⟨Nat.le_of_ble_eq_true rfl, Nat.le_of_ble_eq_true rfl⟩ ?_
  refine tc_beq (tgt := 64) hx hb dX1_decided_57 (by decide) (fun _ => ?_) (fun c_ => absurd c_ (by rw [hbad] at c_; cases c_))
  refine lv_iconst (v := -1) hx hb dX1_decided_64 (by decide) ?_
  exact ro_ret hx hb hr hlocks dX1_decided_65 rfl (rfl)
set_option maxHeartbeats 4000000 in
set_option maxRecDepth 100000 in
/-- groupDistance -/
theorem ro_X1_groupDistance (l : Launch) (D : va_G) (dB dZ : ClassId) (H : Heap) (a : Nat → Nat) (hs : Nat → Bool) (hP : va_P D vwCl (wM a dZ hs) H) : Ro l yX1_groupDistance cX1_groupDistance 3 (some .int) 0 0 [.ref (a 0)] H D dB dZ ((nI (tm_gd hs))) := by
  refine Ro.ofW (by decide) (Nat.le_of_ble_eq_true rfl) (fun p e s m below meth c hx hb hr hlocks hml hown hts hK ls hl => ?_)
  have hl : lv_has ls 3 [(0, .ref (a 0))] := hl
  refine lv_iconst (v := nI 0) hx hb dX1_groupDistance_0 (by decide) ?_
  refine lv_istore_n (lv' := [(1, .int (nI 0)), (0, .ref (a 0))]) hx hb dX1_groupDistance_1 rfl hl (by decide) rfl (fun ls hl => ?_)
  refine lv_iconst (v := nI 1) hx hb dX1_groupDistance_2 (by decide) ?_
  refine lv_istore_n (lv' := [(2, .int (nI 1)), (1, .int (nI 0)), (0, .ref (a 0))]) hx hb dX1_groupDistance_3 rfl hl (by decide) rfl (fun ls hl => ?_)
  refine tc_for (nL := 3) 127 (fun _ => True) (fun i => [(2, .int (nI (i + 1))), (1, .int (nI (tc_fold (fun i n => if hs (i + 1) = hs (128 + (i + 1)) then n else n + 1) 0 i))), (0, .ref (a 0))]) (trivial) (lv_sub hl [0, 1, 2] rfl) (fun i hi_i hv_1 ih_1 ls hl => ?_) (fun hv_1 ls hl => ?_)
  · have hl : lv_has ls 3 [(2, .int (nI (i + 1))), (1, .int (nI (tc_fold (fun i n => if hs (i + 1) = hs (128 + (i + 1)) then n else n + 1) 0 i))), (0, .ref (a 0))] := hl
    refine lv_iload_n hx hb dX1_groupDistance_4 rfl (lv_at hl 0 rfl) ?_
    refine lv_sipush (v := nI 128) hx hb dX1_groupDistance_5 (by decide) ?_
    refine tc_ge (tgt := 44) hx hb dX1_groupDistance_8 (by decide) (by omega) (by omega) (fun c_ => absurd c_ (by omega)) (fun _ => ?_)
    refine tc_at 37 [.int (nI (if hs (i + 1) = hs (128 + (i + 1)) then (tc_fold (fun i n => if hs (i + 1) = hs (128 + (i + 1)) then n else n + 1) 0 i) else (tc_fold (fun i n => if hs (i + 1) = hs (128 + (i + 1)) then n else n + 1) 0 i) + 1))] (fun hj_2 => ?_) ?_
    · refine lv_aload_n hx hb dX1_groupDistance_11 rfl (lv_at hl 2 rfl) ?_
      refine tc_getM (v := .ref (a 1)) hx hb hts hown hK hP 0 rfl q201 rfl dX1_groupDistance_12 ?_
      refine lv_iload_n hx hb dX1_groupDistance_15 rfl (lv_at hl 0 rfl) ?_
      refine tc_zald (k := (i + 1)) hx hb dX1_groupDistance_16 hK hP 1 1 rfl rfl (by decide) (by omega) ?_
      refine lv_aload_n hx hb dX1_groupDistance_17 rfl (lv_at hl 2 rfl) ?_
      refine tc_getM (v := .ref (a 1)) hx hb hts hown hK hP 0 rfl q201 rfl dX1_groupDistance_18 ?_
      refine lv_sipush (v := nI 128) hx hb dX1_groupDistance_21 (by decide) ?_
      refine lv_iload_n hx hb dX1_groupDistance_24 rfl (lv_at hl 0 rfl) ?_
      refine tc_iadd hx hb dX1_groupDistance_25 ?_
      refine tc_zald (k := (128 + (i + 1))) hx hb dX1_groupDistance_26 hK hP 1 1 rfl rfl (by decide) (by omega) ?_
      refine tc_beq2 (tgt := 36) hx hb dX1_groupDistance_27 (by decide) (fun c_3 => ?_) (fun c_3 => ?_)
      · refine lv_iload_n hx hb dX1_groupDistance_36 rfl (lv_at hl 1 rfl) ?_
        exact tc_topN (by first | (rw [if_pos ⟨c_3⟩]; done) | (rw [if_pos c_3]; done) | (rw [if_neg (fun h => c_3 h.2)]; done) | (rw [if_neg (by simp [c_3])]; done) | (rw [if_neg (by omega)]; done)) hj_2
      · refine lv_iload_n hx hb dX1_groupDistance_30 rfl (lv_at hl 1 rfl) ?_
        refine lv_iconst (v := nI 1) hx hb dX1_groupDistance_31 (by decide) ?_
        refine tc_iadd hx hb dX1_groupDistance_32 ?_
        refine lv_goto (tgt := 37) hx hb dX1_groupDistance_33 (by decide) ?_
        exact tc_topN (by first | (rw [if_pos ⟨c_3⟩]; done) | (rw [if_pos c_3]; done) | (rw [if_neg (fun h => c_3 h.2)]; done) | (rw [if_neg (by simp [c_3])]; done) | (rw [if_neg (by omega)]; done)) hj_2
    · refine lv_istore_n (lv' := [(1, .int (nI (if hs (i + 1) = hs (128 + (i + 1)) then (tc_fold (fun i n => if hs (i + 1) = hs (128 + (i + 1)) then n else n + 1) 0 i) else (tc_fold (fun i n => if hs (i + 1) = hs (128 + (i + 1)) then n else n + 1) 0 i) + 1))), (2, .int (nI (i + 1))), (0, .ref (a 0))]) hx hb dX1_groupDistance_37 rfl hl (by decide) rfl (fun ls hl => ?_)
      refine lv_iinc (v := nI ((i + 1) + 1)) (lv' := [(2, .int (nI ((i + 1) + 1))), (1, .int (nI (if hs (i + 1) = hs (128 + (i + 1)) then (tc_fold (fun i n => if hs (i + 1) = hs (128 + (i + 1)) then n else n + 1) 0 i) else (tc_fold (fun i n => if hs (i + 1) = hs (128 + (i + 1)) then n else n + 1) 0 i) + 1))), (0, .ref (a 0))]) hx hb dX1_groupDistance_38 hl (k := 1) rfl (t_inc _) (by decide) rfl (fun ls hl => ?_)
      refine lv_goto (tgt := 4) hx hb dX1_groupDistance_41 (by decide) ?_
      exact ih_1 ls (trivial) (lv_sub hl [0, 1, 2] rfl)
  · have hl : lv_has ls 3 [(2, .int (nI (127 + 1))), (1, .int (nI (tc_fold (fun i n => if hs (i + 1) = hs (128 + (i + 1)) then n else n + 1) 0 127))), (0, .ref (a 0))] := hl
    refine lv_iload_n hx hb dX1_groupDistance_4 rfl (lv_at hl 0 rfl) ?_
    refine lv_sipush (v := nI 128) hx hb dX1_groupDistance_5 (by decide) ?_
    refine tc_ge (tgt := 44) hx hb dX1_groupDistance_8 (by decide) (by omega) (by omega) (fun _ => ?_) (fun c_ => absurd c_ (by omega))
    refine lv_iload_n hx hb dX1_groupDistance_44 rfl (lv_at hl 1 rfl) ?_
    exact ro_ret hx hb hr hlocks dX1_groupDistance_45 rfl (rfl)
set_option maxHeartbeats 4000000 in
set_option maxRecDepth 100000 in
/-- tripleDistance -/
theorem ro_X1_tripleDistance (l : Launch) (D : va_G) (dB dZ : ClassId) (H : Heap) (a : Nat → Nat) (hs : Nat → Bool) (hP : va_P D vwCl (wM a dZ hs) H) : Ro l yX1_tripleDistance cX1_tripleDistance 3 (some .int) 3 76 [.ref (a 0)] H D dB dZ ((nI (tm_td hs))) := by
  refine Ro.ofW (by decide) (Nat.le_of_ble_eq_true rfl) (fun p e s m below meth c hx hb hr hlocks hml hown hts hK ls hl => ?_)
  have hl : lv_has ls 3 [(0, .ref (a 0))] := hl
  refine lv_iconst (v := nI 0) hx hb dX1_tripleDistance_0 (by decide) ?_
  refine lv_istore_n (lv' := [(1, .int (nI 0)), (0, .ref (a 0))]) hx hb dX1_tripleDistance_1 rfl hl (by decide) rfl (fun ls hl => ?_)
  refine lv_iconst (v := nI 0) hx hb dX1_tripleDistance_2 (by decide) ?_
  refine lv_istore_n (lv' := [(2, .int (nI 0)), (1, .int (nI 0)), (0, .ref (a 0))]) hx hb dX1_tripleDistance_3 rfl hl (by decide) rfl (fun ls hl => ?_)
  refine tc_for (nL := 3) 128 (fun _ => True) (fun i => [(2, .int (nI i)), (1, .int (nI (tc_fold (fun i n => if tc_pop i = 3 ∧ ¬ tm_about hs 0 i = tm_about hs 1 i then n + 1 else n) 0 i))), (0, .ref (a 0))]) (trivial) (lv_sub hl [0, 1, 2] rfl) (fun i hi_i hv_1 ih_1 ls hl => ?_) (fun hv_1 ls hl => ?_)
  · have hl : lv_has ls 3 [(2, .int (nI i)), (1, .int (nI (tc_fold (fun i n => if tc_pop i = 3 ∧ ¬ tm_about hs 0 i = tm_about hs 1 i then n + 1 else n) 0 i))), (0, .ref (a 0))] := hl
    refine lv_iload_n hx hb dX1_tripleDistance_4 rfl (lv_at hl 0 rfl) ?_
    refine lv_sipush (v := nI 128) hx hb dX1_tripleDistance_5 (by decide) ?_
    refine tc_ge (tgt := 49) hx hb dX1_tripleDistance_8 (by decide) (by omega) (by omega) (fun c_ => absurd c_ (by omega)) (fun _ => ?_)
    refine tc_at 42 [.int (nI (if tc_pop i = 3 ∧ ¬ tm_about hs 0 i = tm_about hs 1 i then (tc_fold (fun i n => if tc_pop i = 3 ∧ ¬ tm_about hs 0 i = tm_about hs 1 i then n + 1 else n) 0 i) + 1 else (tc_fold (fun i n => if tc_pop i = 3 ∧ ¬ tm_about hs 0 i = tm_about hs 1 i then n + 1 else n) 0 i)))] (fun hj_2 => ?_) ?_
    · refine lv_aload_n hx hb dX1_tripleDistance_11 rfl (lv_at hl 2 rfl) ?_
      refine lv_iload_n hx hb dX1_tripleDistance_12 rfl (lv_at hl 0 rfl) ?_
      refine ro_callV (As := [.int (nI i)]) (rest := []) ⟨hx, hb, hml, hown, hts⟩ hK (ro_X1_count l D dB dZ H a hs hP i (by omega)) (cwV 1 hts (lw_V q197 q199 qs14 q22 q200) rfl rfl rfl (by decide +kernel) ⟨Nat.le_of_ble_eq_true rfl, Nat.le_of_ble_eq_true rfl⟩) (va_recv hK hP (ci := 1) (q0 := 0) rfl rfl) rfl hl.1 rfl (Nat.le_of_ble_eq_true rfl) dX1_tripleDistance_13 ⟨Nat.le_of_ble_eq_true rfl, Nat.le_of_ble_eq_true rfl⟩ ?_
      have hv_3 := tc_pop_le i
      refine lv_iconst (v := nI 3) hx hb dX1_tripleDistance_16 (by decide) ?_
      refine tc_ne (tgt := 41) hx hb dX1_tripleDistance_17 (by decide) (by omega) (by omega) (fun c_4 => ?_) (fun c_4 => ?_)
      · refine lv_iload_n hx hb dX1_tripleDistance_41 rfl (lv_at hl 1 rfl) ?_
        exact tc_topN (by first | (rw [if_pos ⟨c_4⟩]; done) | (rw [if_pos c_4]; done) | (rw [if_neg (fun h => c_4 h.2)]; done) | (rw [if_neg (by simp [c_4])]; done) | (rw [if_neg (by omega)]; done)) hj_2
      · refine lv_aload_n hx hb dX1_tripleDistance_20 rfl (lv_at hl 2 rfl) ?_
        refine lv_iconst (v := nI 0) hx hb dX1_tripleDistance_21 (by decide) ?_
        refine lv_iload_n hx hb dX1_tripleDistance_22 rfl (lv_at hl 0 rfl) ?_
        refine ro_callV (As := [.int (nI 0), .int (nI i)]) (rest := []) ⟨hx, hb, hml, hown, hts⟩ hK (ro_X1_about l D dB dZ H a hs hP 0 (by omega) i (by omega) (by assumption)) (cwV 2 hts (lw_V q247 q249 qs19 q22 q250) rfl rfl rfl (by decide +kernel) ⟨Nat.le_of_ble_eq_true rfl, Nat.le_of_ble_eq_true rfl⟩) (va_recv hK hP (ci := 1) (q0 := 0) rfl rfl) rfl hl.1 rfl (Nat.le_of_ble_eq_true rfl) dX1_tripleDistance_23 ⟨Nat.le_of_ble_eq_true rfl, Nat.le_of_ble_eq_true rfl⟩ ?_
        have hv_5 := tm_about_le hs 0 i
        refine lv_aload_n hx hb dX1_tripleDistance_26 rfl (lv_at hl 2 rfl) ?_
        refine lv_iconst (v := nI 1) hx hb dX1_tripleDistance_27 (by decide) ?_
        refine lv_iload_n hx hb dX1_tripleDistance_28 rfl (lv_at hl 0 rfl) ?_
        refine ro_callV (As := [.int (nI 1), .int (nI i)]) (rest := [.int (nI (tm_about hs 0 i))]) ⟨hx, hb, hml, hown, hts⟩ hK (ro_X1_about l D dB dZ H a hs hP 1 (by omega) i (by omega) (by assumption)) (cwV 2 hts (lw_V q247 q249 qs19 q22 q250) rfl rfl rfl (by decide +kernel) ⟨Nat.le_of_ble_eq_true rfl, Nat.le_of_ble_eq_true rfl⟩) (va_recv hK hP (ci := 1) (q0 := 0) rfl rfl) rfl hl.1 rfl (Nat.le_of_ble_eq_true rfl) dX1_tripleDistance_29 ⟨Nat.le_of_ble_eq_true rfl, Nat.le_of_ble_eq_true rfl⟩ ?_
        have hv_6 := tm_about_le hs 1 i
        refine tc_eq (tgt := 41) hx hb dX1_tripleDistance_32 (by decide) (by omega) (by omega) (fun c_7 => ?_) (fun c_7 => ?_)
        · refine lv_iload_n hx hb dX1_tripleDistance_41 rfl (lv_at hl 1 rfl) ?_
          exact tc_topN (by first | (rw [if_pos ⟨c_4, c_7⟩]; done) | (rw [if_pos c_7]; done) | (rw [if_neg (fun h => c_7 h.2)]; done) | (rw [if_neg (by simp [c_4, c_7])]; done) | (rw [if_neg (by omega)]; done)) hj_2
        · refine lv_iload_n hx hb dX1_tripleDistance_35 rfl (lv_at hl 1 rfl) ?_
          refine lv_iconst (v := nI 1) hx hb dX1_tripleDistance_36 (by decide) ?_
          refine tc_iadd hx hb dX1_tripleDistance_37 ?_
          refine lv_goto (tgt := 42) hx hb dX1_tripleDistance_38 (by decide) ?_
          exact tc_topN (by first | (rw [if_pos ⟨c_4, c_7⟩]; done) | (rw [if_pos c_7]; done) | (rw [if_neg (fun h => c_7 h.2)]; done) | (rw [if_neg (by simp [c_4, c_7])]; done) | (rw [if_neg (by omega)]; done)) hj_2
    · refine lv_istore_n (lv' := [(1, .int (nI (if tc_pop i = 3 ∧ ¬ tm_about hs 0 i = tm_about hs 1 i then (tc_fold (fun i n => if tc_pop i = 3 ∧ ¬ tm_about hs 0 i = tm_about hs 1 i then n + 1 else n) 0 i) + 1 else (tc_fold (fun i n => if tc_pop i = 3 ∧ ¬ tm_about hs 0 i = tm_about hs 1 i then n + 1 else n) 0 i)))), (2, .int (nI i)), (0, .ref (a 0))]) hx hb dX1_tripleDistance_42 rfl hl (by decide) rfl (fun ls hl => ?_)
      refine lv_iinc (v := nI (i + 1)) (lv' := [(2, .int (nI (i + 1))), (1, .int (nI (if tc_pop i = 3 ∧ ¬ tm_about hs 0 i = tm_about hs 1 i then (tc_fold (fun i n => if tc_pop i = 3 ∧ ¬ tm_about hs 0 i = tm_about hs 1 i then n + 1 else n) 0 i) + 1 else (tc_fold (fun i n => if tc_pop i = 3 ∧ ¬ tm_about hs 0 i = tm_about hs 1 i then n + 1 else n) 0 i)))), (0, .ref (a 0))]) hx hb dX1_tripleDistance_43 hl (k := 1) rfl (t_inc _) (by decide) rfl (fun ls hl => ?_)
      refine lv_goto (tgt := 4) hx hb dX1_tripleDistance_46 (by decide) ?_
      exact ih_1 ls (trivial) (lv_sub hl [0, 1, 2] rfl)
  · have hl : lv_has ls 3 [(2, .int (nI 128)), (1, .int (nI (tc_fold (fun i n => if tc_pop i = 3 ∧ ¬ tm_about hs 0 i = tm_about hs 1 i then n + 1 else n) 0 128))), (0, .ref (a 0))] := hl
    refine lv_iload_n hx hb dX1_tripleDistance_4 rfl (lv_at hl 0 rfl) ?_
    refine lv_sipush (v := nI 128) hx hb dX1_tripleDistance_5 (by decide) ?_
    refine tc_ge (tgt := 49) hx hb dX1_tripleDistance_8 (by decide) (by omega) (by omega) (fun _ => ?_) (fun c_ => absurd c_ (by omega))
    refine lv_iload_n hx hb dX1_tripleDistance_49 rfl (lv_at hl 1 rfl) ?_
    exact ro_ret hx hb hr hlocks dX1_tripleDistance_50 rfl (rfl)
set_option maxHeartbeats 4000000 in
set_option maxRecDepth 100000 in
/-- agree, of a set -/
theorem ro_X1_agree (l : Launch) (D : va_G) (dB dZ : ClassId) (H : Heap) (a : Nat → Nat) (hs : Nat → Bool) (hP : va_P D vwCl (wM a dZ hs) H) (w : Nat) (hw : w < 128) : Ro l yX1_agree cX1_agree 4 (some .boolean) 3 76 [.ref (a 0), .int (nI w)] H D dB dZ ((tB (tm_agree hs w))) := by
  refine Ro.ofW (by decide) (Nat.le_of_ble_eq_true rfl) (fun p e s m below meth c hx hb hr hlocks hml hown hts hK ls hl => ?_)
  have hl : lv_has ls 4 [(0, .ref (a 0)), (1, .int (nI w))] := hl
  refine lv_iload_n hx hb dX1_agree_0 rfl (lv_at hl 1 rfl) ?_
  refine lv_if_lt (tgt := 14) hx hb dX1_agree_1 (by decide) (fun c_ => absurd c_ (by exact nI_pos (by omega))) (fun _ => ?_)
  refine lv_iload_n hx hb dX1_agree_4 rfl (lv_at hl 1 rfl) ?_
  refine lv_bipush (v := nI 127) hx hb dX1_agree_5 (by decide) ?_
  refine tc_gt (tgt := 14) hx hb dX1_agree_7 (by decide) (by omega) (by omega) (fun c_ => absurd c_ (by omega)) (fun _ => ?_)
  refine lv_iconst (v := nI 1) hx hb dX1_agree_10 (by decide) ?_
  refine lv_goto (tgt := 15) hx hb dX1_agree_11 (by decide) ?_
  refine lv_istore_n (lv' := [(2, .int (nI 1)), (0, .ref (a 0)), (1, .int (nI w))]) hx hb dX1_agree_15 rfl hl (by decide) rfl (fun ls hl => ?_)
  refine lv_iconst (v := nI 0) hx hb dX1_agree_16 (by decide) ?_
  refine lv_istore_n (lv' := [(3, .int (nI 0)), (2, .int (nI 1)), (0, .ref (a 0)), (1, .int (nI w))]) hx hb dX1_agree_17 rfl hl (by decide) rfl (fun ls hl => ?_)
  refine tc_for (nL := 4) 128 (fun _ => True) (fun i => [(3, .int (nI i)), (2, .int (tB (tc_all (tm_ag hs w) i))), (0, .ref (a 0)), (1, .int (nI w))]) (trivial) (lv_sub hl [0, 1, 2, 3] rfl) (fun i hi_i hv_1 ih_1 ls hl => ?_) (fun hv_1 ls hl => ?_)
  · have hl : lv_has ls 4 [(3, .int (nI i)), (2, .int (tB (tc_all (tm_ag hs w) i))), (0, .ref (a 0)), (1, .int (nI w))] := hl
    refine lv_iload_n hx hb dX1_agree_18 rfl (lv_at hl 0 rfl) ?_
    refine lv_sipush (v := nI 128) hx hb dX1_agree_19 (by decide) ?_
    refine tc_ge (tgt := 73) hx hb dX1_agree_22 (by decide) (by omega) (by omega) (fun c_ => absurd c_ (by omega)) (fun _ => ?_)
    refine lv_iload_n hx hb dX1_agree_25 rfl (lv_at hl 1 rfl) ?_
    refine tc_beq (tgt := 73) hx hb dX1_agree_26 (by decide) (fun c_2 => ?_) (fun c_2 => ?_)
    · refine lv_iload_n hx hb dX1_agree_73 rfl (lv_at hl 1 rfl) ?_
      exact ro_ret hx hb hr hlocks dX1_agree_74 (t_narb _) (by rw [c_2]; exact (congrArg tB (tc_all_ff (by omega) c_2)).symm)
    · refine tc_at 66 [.int (tB (tc_all (tm_ag hs w) i && tm_ag hs w i))] (fun hj_3 => ?_) ?_
      · refine lv_iload_n hx hb dX1_agree_29 rfl (lv_at hl 0 rfl) ?_
        refine lv_iload_n hx hb dX1_agree_30 rfl (lv_at hl 3 rfl) ?_
        refine lv_iconst (v := -1) hx hb dX1_agree_31 (by decide) ?_
        refine lv_ixor hx hb dX1_agree_32 ?_
        refine tc_iandn hx hb dX1_agree_33 (by omega) ?_
        have hv_4 : tc_dif i w ≤ i := Nat.and_le_left
        refine tc_ne0 (tgt := 61) hx hb dX1_agree_34 (by decide) (by omega) (fun c_5 => ?_) (fun c_5 => ?_)
        · refine lv_iconst (v := nI 1) hx hb dX1_agree_61 (by decide) ?_
          refine lv_goto (tgt := 66) hx hb dX1_agree_62 (by decide) ?_
          exact tc_top (tc_r1 (by rw [c_2, tm_ag_1 c_5]; rfl)) hj_3
        · refine lv_aload_n hx hb dX1_agree_37 rfl (lv_at hl 2 rfl) ?_
          refine lv_iload_n hx hb dX1_agree_38 rfl (lv_at hl 0 rfl) ?_
          refine ro_callV (As := [.int (nI i)]) (rest := []) ⟨hx, hb, hml, hown, hts⟩ hK (ro_X1_count l D dB dZ H a hs hP i (by omega)) (cwV 1 hts (lw_V q197 q199 qs14 q22 q200) rfl rfl rfl (by decide +kernel) ⟨Nat.le_of_ble_eq_true rfl, Nat.le_of_ble_eq_true rfl⟩) (va_recv hK hP (ci := 1) (q0 := 0) rfl rfl) rfl hl.1 rfl (Nat.le_of_ble_eq_true rfl) dX1_agree_39 ⟨Nat.le_of_ble_eq_true rfl, Nat.le_of_ble_eq_true rfl⟩ ?_
          have hv_6 := tc_pop_le i
          refine lv_iconst (v := nI 3) hx hb dX1_agree_42 (by decide) ?_
          refine tc_ne (tgt := 61) hx hb dX1_agree_43 (by decide) (by omega) (by omega) (fun c_7 => ?_) (fun c_7 => ?_)
          · refine lv_iconst (v := nI 1) hx hb dX1_agree_61 (by decide) ?_
            refine lv_goto (tgt := 66) hx hb dX1_agree_62 (by decide) ?_
            exact tc_top (tc_r1 (by rw [c_2, tm_ag_2 c_7]; rfl)) hj_3
          · refine lv_aload_n hx hb dX1_agree_46 rfl (lv_at hl 2 rfl) ?_
            refine lv_iconst (v := nI 0) hx hb dX1_agree_47 (by decide) ?_
            refine lv_iload_n hx hb dX1_agree_48 rfl (lv_at hl 0 rfl) ?_
            refine ro_callV (As := [.int (nI 0), .int (nI i)]) (rest := []) ⟨hx, hb, hml, hown, hts⟩ hK (ro_X1_about l D dB dZ H a hs hP 0 (by omega) i (by omega) (by assumption)) (cwV 2 hts (lw_V q247 q249 qs19 q22 q250) rfl rfl rfl (by decide +kernel) ⟨Nat.le_of_ble_eq_true rfl, Nat.le_of_ble_eq_true rfl⟩) (va_recv hK hP (ci := 1) (q0 := 0) rfl rfl) rfl hl.1 rfl (Nat.le_of_ble_eq_true rfl) dX1_agree_49 ⟨Nat.le_of_ble_eq_true rfl, Nat.le_of_ble_eq_true rfl⟩ ?_
            have hv_8 := tm_about_le hs 0 i
            refine lv_aload_n hx hb dX1_agree_52 rfl (lv_at hl 2 rfl) ?_
            refine lv_iconst (v := nI 1) hx hb dX1_agree_53 (by decide) ?_
            refine lv_iload_n hx hb dX1_agree_54 rfl (lv_at hl 0 rfl) ?_
            refine ro_callV (As := [.int (nI 1), .int (nI i)]) (rest := [.int (nI (tm_about hs 0 i))]) ⟨hx, hb, hml, hown, hts⟩ hK (ro_X1_about l D dB dZ H a hs hP 1 (by omega) i (by omega) (by assumption)) (cwV 2 hts (lw_V q247 q249 qs19 q22 q250) rfl rfl rfl (by decide +kernel) ⟨Nat.le_of_ble_eq_true rfl, Nat.le_of_ble_eq_true rfl⟩) (va_recv hK hP (ci := 1) (q0 := 0) rfl rfl) rfl hl.1 rfl (Nat.le_of_ble_eq_true rfl) dX1_agree_55 ⟨Nat.le_of_ble_eq_true rfl, Nat.le_of_ble_eq_true rfl⟩ ?_
            have hv_9 := tm_about_le hs 1 i
            refine tc_ne (tgt := 65) hx hb dX1_agree_58 (by decide) (by omega) (by omega) (fun c_10 => ?_) (fun c_10 => ?_)
            · refine lv_iconst (v := nI 0) hx hb dX1_agree_65 (by decide) ?_
              exact tc_top (tc_r0 (by rw [tm_ag_0 c_5 c_7 c_10]; exact Bool.and_false _)) hj_3
            · refine lv_iconst (v := nI 1) hx hb dX1_agree_61 (by decide) ?_
              refine lv_goto (tgt := 66) hx hb dX1_agree_62 (by decide) ?_
              exact tc_top (tc_r1 (by rw [c_2, tm_ag_3 c_10]; rfl)) hj_3
      · refine lv_istore_n (lv' := [(2, .int (tB (tc_all (tm_ag hs w) i && tm_ag hs w i))), (3, .int (nI i)), (0, .ref (a 0)), (1, .int (nI w))]) hx hb dX1_agree_66 rfl hl (by decide) rfl (fun ls hl => ?_)
        refine lv_iinc (v := nI (i + 1)) (lv' := [(3, .int (nI (i + 1))), (2, .int (tB (tc_all (tm_ag hs w) i && tm_ag hs w i))), (0, .ref (a 0)), (1, .int (nI w))]) hx hb dX1_agree_67 hl (k := 1) rfl (t_inc _) (by decide) rfl (fun ls hl => ?_)
        refine lv_goto (tgt := 18) hx hb dX1_agree_70 (by decide) ?_
        exact ih_1 ls (trivial) (lv_sub hl [0, 1, 2, 3] rfl)
  · have hl : lv_has ls 4 [(3, .int (nI 128)), (2, .int (tB (tc_all (tm_ag hs w) 128))), (0, .ref (a 0)), (1, .int (nI w))] := hl
    refine lv_iload_n hx hb dX1_agree_18 rfl (lv_at hl 0 rfl) ?_
    refine lv_sipush (v := nI 128) hx hb dX1_agree_19 (by decide) ?_
    refine tc_ge (tgt := 73) hx hb dX1_agree_22 (by decide) (by omega) (by omega) (fun _ => ?_) (fun c_ => absurd c_ (by omega))
    refine lv_iload_n hx hb dX1_agree_73 rfl (lv_at hl 1 rfl) ?_
    exact ro_ret hx hb hr hlocks dX1_agree_74 (t_narb _) (rfl)
set_option maxHeartbeats 4000000 in
set_option maxRecDepth 100000 in
/-- agree, else -/
theorem ro_X1_agree_b (l : Launch) (D : va_G) (dB dZ : ClassId) (H : Heap) (a : Nat → Nat) (hs : Nat → Bool) (hP : va_P D vwCl (wM a dZ hs) H) (w : Int32) (hbad : ¬ w < 0 → nI 127 < w) : Ro l yX1_agree cX1_agree 4 (some .boolean) 0 0 [.ref (a 0), .int w] H D dB dZ ((tB false)) := by
  refine Ro.ofW (by decide) (Nat.le_of_ble_eq_true rfl) (fun p e s m below meth c hx hb hr hlocks hml hown hts hK ls hl => ?_)
  have hl : lv_has ls 4 [(0, .ref (a 0)), (1, .int w)] := hl
  refine lv_iload_n hx hb dX1_agree_0 rfl (lv_at hl 1 rfl) ?_
  refine lv_if_lt (tgt := 14) hx hb dX1_agree_1 (by decide) (fun c_1 => ?_) (fun c_1 => ?_)
  · refine lv_iconst (v := nI 0) hx hb dX1_agree_14 (by decide) ?_
    refine lv_istore_n (lv' := [(2, .int (nI 0)), (0, .ref (a 0)), (1, .int w)]) hx hb dX1_agree_15 rfl hl (by decide) rfl (fun ls hl => ?_)
    refine lv_iconst (v := nI 0) hx hb dX1_agree_16 (by decide) ?_
    refine lv_istore_n (lv' := [(3, .int (nI 0)), (2, .int (nI 0)), (0, .ref (a 0)), (1, .int w)]) hx hb dX1_agree_17 rfl hl (by decide) rfl (fun ls hl => ?_)
    refine lv_iload_n hx hb dX1_agree_18 rfl (lv_at hl 0 rfl) ?_
    refine lv_sipush (v := nI 128) hx hb dX1_agree_19 (by decide) ?_
    refine tc_ge (tgt := 73) hx hb dX1_agree_22 (by decide) (by omega) (by omega) (fun c_ => absurd c_ (by omega)) (fun _ => ?_)
    refine lv_iload_n hx hb dX1_agree_25 rfl (lv_at hl 1 rfl) ?_
    refine tc_eq0 (tgt := 73) hx hb dX1_agree_26 (by decide) (by omega) (fun _ => ?_) (fun c_ => absurd c_ (by omega))
    refine lv_iload_n hx hb dX1_agree_73 rfl (lv_at hl 1 rfl) ?_
    exact ro_ret hx hb hr hlocks dX1_agree_74 rfl (rfl)
  · refine lv_iload_n hx hb dX1_agree_4 rfl (lv_at hl 1 rfl) ?_
    refine lv_bipush (v := nI 127) hx hb dX1_agree_5 (by decide) ?_
    refine lv_icmp_gt (tgt := 14) hx hb dX1_agree_7 (by decide) (fun c_2 => ?_) (fun c_2 => ?_)
    · refine lv_iconst (v := nI 0) hx hb dX1_agree_14 (by decide) ?_
      refine lv_istore_n (lv' := [(2, .int (nI 0)), (0, .ref (a 0)), (1, .int w)]) hx hb dX1_agree_15 rfl hl (by decide) rfl (fun ls hl => ?_)
      refine lv_iconst (v := nI 0) hx hb dX1_agree_16 (by decide) ?_
      refine lv_istore_n (lv' := [(3, .int (nI 0)), (2, .int (nI 0)), (0, .ref (a 0)), (1, .int w)]) hx hb dX1_agree_17 rfl hl (by decide) rfl (fun ls hl => ?_)
      refine lv_iload_n hx hb dX1_agree_18 rfl (lv_at hl 0 rfl) ?_
      refine lv_sipush (v := nI 128) hx hb dX1_agree_19 (by decide) ?_
      refine tc_ge (tgt := 73) hx hb dX1_agree_22 (by decide) (by omega) (by omega) (fun c_ => absurd c_ (by omega)) (fun _ => ?_)
      refine lv_iload_n hx hb dX1_agree_25 rfl (lv_at hl 1 rfl) ?_
      refine tc_eq0 (tgt := 73) hx hb dX1_agree_26 (by decide) (by omega) (fun _ => ?_) (fun c_ => absurd c_ (by omega))
      refine lv_iload_n hx hb dX1_agree_73 rfl (lv_at hl 1 rfl) ?_
      exact ro_ret hx hb hr hlocks dX1_agree_74 rfl (rfl)
    · exact absurd (hbad c_1) c_2
set_option maxHeartbeats 4000000 in
set_option maxRecDepth 100000 in
/-- agreement -/
theorem ro_X1_agreement (l : Launch) (D : va_G) (dB dZ : ClassId) (H : Heap) (a : Nat → Nat) (hs : Nat → Bool) (hP : va_P D vwCl (wM a dZ hs) H) : Ro l yX1_agreement cX1_agreement 4 (some .int) 4 99 [.ref (a 0)] H D dB dZ ((nI (tm_agr hs))) := by
  refine Ro.ofW (by decide) (Nat.le_of_ble_eq_true rfl) (fun p e s m below meth c hx hb hr hlocks hml hown hts hK ls hl => ?_)
  have hl : lv_has ls 4 [(0, .ref (a 0))] := hl
  refine lv_iconst (v := nI 0) hx hb dX1_agreement_0 (by decide) ?_
  refine lv_istore_n (lv' := [(1, .int (nI 0)), (0, .ref (a 0))]) hx hb dX1_agreement_1 rfl hl (by decide) rfl (fun ls hl => ?_)
  refine lv_iconst (v := nI 0) hx hb dX1_agreement_2 (by decide) ?_
  refine lv_istore_n (lv' := [(2, .int (nI 0)), (1, .int (nI 0)), (0, .ref (a 0))]) hx hb dX1_agreement_3 rfl hl (by decide) rfl (fun ls hl => ?_)
  refine tc_for (nL := 4) 128 (fun _ => True) (fun i => [(2, .int (nI i)), (1, .int (nI (tc_fold (tm_agrs hs) 0 i))), (0, .ref (a 0))]) (trivial) (lv_sub hl [0, 1, 2] rfl) (fun i hi_i hv_1 ih_1 ls hl => ?_) (fun hv_1 ls hl => ?_)
  · have hl : lv_has ls 4 [(2, .int (nI i)), (1, .int (nI (tc_fold (tm_agrs hs) 0 i))), (0, .ref (a 0))] := hl
    have hft := tm_agr_le hs i
    refine lv_iload_n hx hb dX1_agreement_4 rfl (lv_at hl 0 rfl) ?_
    refine lv_sipush (v := nI 128) hx hb dX1_agreement_5 (by decide) ?_
    refine tc_ge (tgt := 42) hx hb dX1_agreement_8 (by decide) (by omega) (by omega) (fun c_ => absurd c_ (by omega)) (fun _ => ?_)
    refine lv_aload_n hx hb dX1_agreement_11 rfl (lv_at hl 2 rfl) ?_
    refine lv_iload_n hx hb dX1_agreement_12 rfl (lv_at hl 0 rfl) ?_
    refine ro_callV (As := [.int (nI i)]) (rest := []) ⟨hx, hb, hml, hown, hts⟩ hK (ro_X1_count l D dB dZ H a hs hP i (by omega)) (cwV 1 hts (lw_V q197 q199 qs14 q22 q200) rfl rfl rfl (by decide +kernel) ⟨Nat.le_of_ble_eq_true rfl, Nat.le_of_ble_eq_true rfl⟩) (va_recv hK hP (ci := 1) (q0 := 0) rfl rfl) rfl hl.1 rfl (Nat.le_of_ble_eq_true rfl) dX1_agreement_13 ⟨Nat.le_of_ble_eq_true rfl, Nat.le_of_ble_eq_true rfl⟩ ?_
    have hv_2 := tc_pop_le i
    refine lv_istore_n (lv' := [(3, .int (nI (tc_pop i))), (2, .int (nI i)), (1, .int (nI (tc_fold (tm_agrs hs) 0 i))), (0, .ref (a 0))]) hx hb dX1_agreement_16 rfl hl (by decide) rfl (fun ls hl => ?_)
    refine tc_at 35 [.int (nI (tm_agrs hs i (tc_fold (tm_agrs hs) 0 i)))] (fun hj_3 => ?_) ?_
    · refine lv_iload_n hx hb dX1_agreement_17 rfl (lv_at hl 0 rfl) ?_
      refine lv_iload_n hx hb dX1_agreement_18 rfl (lv_at hl 2 rfl) ?_
      refine tc_le (tgt := 34) hx hb dX1_agreement_19 (by decide) (by omega) (by omega) (fun c_4 => ?_) (fun c_4 => ?_)
      · refine lv_iload_n hx hb dX1_agreement_34 rfl (lv_at hl 2 rfl) ?_
        exact tc_topN (tm_agrs_n1 c_4) hj_3
      · refine lv_aload_n hx hb dX1_agreement_22 rfl (lv_at hl 3 rfl) ?_
        refine lv_iload_n hx hb dX1_agreement_23 rfl (lv_at hl 1 rfl) ?_
        refine ro_callV (As := [.int (nI i)]) (rest := []) ⟨hx, hb, hml, hown, hts⟩ hK (ro_X1_agree l D dB dZ H a hs hP i (by omega)) (cwV 1 hts (lw_V q264 q265 q266 q22 q267) rfl rfl rfl (by decide +kernel) ⟨Nat.le_of_ble_eq_true rfl, Nat.le_of_ble_eq_true rfl⟩) (va_recv hK hP (ci := 1) (q0 := 0) rfl rfl) rfl hl.1 rfl (Nat.le_of_ble_eq_true rfl) dX1_agreement_24 ⟨Nat.le_of_ble_eq_true rfl, Nat.le_of_ble_eq_true rfl⟩ ?_
        refine tc_beq (tgt := 34) hx hb dX1_agreement_27 (by decide) (fun c_5 => ?_) (fun c_5 => ?_)
        · refine lv_iload_n hx hb dX1_agreement_34 rfl (lv_at hl 2 rfl) ?_
          exact tc_topN (tm_agrs_n2 c_5) hj_3
        · refine lv_iload_n hx hb dX1_agreement_30 rfl (lv_at hl 0 rfl) ?_
          refine lv_goto (tgt := 35) hx hb dX1_agreement_31 (by decide) ?_
          exact tc_topN (tm_agrs_p c_4 c_5) hj_3
    · refine lv_istore_n (lv' := [(1, .int (nI (tm_agrs hs i (tc_fold (tm_agrs hs) 0 i)))), (3, .int (nI (tc_pop i))), (2, .int (nI i)), (0, .ref (a 0))]) hx hb dX1_agreement_35 rfl hl (by decide) rfl (fun ls hl => ?_)
      refine lv_iinc (v := nI (i + 1)) (lv' := [(2, .int (nI (i + 1))), (1, .int (nI (tm_agrs hs i (tc_fold (tm_agrs hs) 0 i)))), (3, .int (nI (tc_pop i))), (0, .ref (a 0))]) hx hb dX1_agreement_36 hl (k := 2) rfl (t_inc _) (by decide) rfl (fun ls hl => ?_)
      refine lv_goto (tgt := 4) hx hb dX1_agreement_39 (by decide) ?_
      exact ih_1 ls (trivial) (lv_sub hl [0, 1, 3] rfl)
  · have hl : lv_has ls 4 [(2, .int (nI 128)), (1, .int (nI (tc_fold (tm_agrs hs) 0 128))), (0, .ref (a 0))] := hl
    refine lv_iload_n hx hb dX1_agreement_4 rfl (lv_at hl 0 rfl) ?_
    refine lv_sipush (v := nI 128) hx hb dX1_agreement_5 (by decide) ?_
    refine tc_ge (tgt := 42) hx hb dX1_agreement_8 (by decide) (by omega) (by omega) (fun _ => ?_) (fun c_ => absurd c_ (by omega))
    refine lv_iload_n hx hb dX1_agreement_42 rfl (lv_at hl 1 rfl) ?_
    exact ro_ret hx hb hr hlocks dX1_agreement_43 rfl (rfl)
set_option maxHeartbeats 4000000 in
set_option maxRecDepth 100000 in
/-- agreeingSet -/
theorem ro_X1_agreeingSet (l : Launch) (D : va_G) (dB dZ : ClassId) (H : Heap) (a : Nat → Nat) (hs : Nat → Bool) (hP : va_P D vwCl (wM a dZ hs) H) : Ro l yX1_agreeingSet cX1_agreeingSet 3 (some .int) 5 122 [.ref (a 0)] H D dB dZ ((nI (tm_aset hs))) := by
  refine Ro.ofW (by decide) (Nat.le_of_ble_eq_true rfl) (fun p e s m below meth c hx hb hr hlocks hml hown hts hK ls hl => ?_)
  have hl : lv_has ls 3 [(0, .ref (a 0))] := hl
  refine lv_aload_n hx hb dX1_agreeingSet_0 rfl (lv_at hl 0 rfl) ?_
  refine ro_callV (As := []) (rest := []) ⟨hx, hb, hml, hown, hts⟩ hK (ro_X1_agreement l D dB dZ H a hs hP) (cwV 0 hts (lw_V q272 q261 q262 q22 q263) rfl rfl rfl (by decide +kernel) ⟨Nat.le_of_ble_eq_true rfl, Nat.le_of_ble_eq_true rfl⟩) (va_recv hK hP (ci := 1) (q0 := 0) rfl rfl) rfl hl.1 rfl (Nat.le_of_ble_eq_true rfl) dX1_agreeingSet_1 ⟨Nat.le_of_ble_eq_true rfl, Nat.le_of_ble_eq_true rfl⟩ ?_
  have hv_1 := tm_agr_le hs 128
  refine lv_istore_n (lv' := [(1, .int (nI (tm_agr hs))), (0, .ref (a 0))]) hx hb dX1_agreeingSet_4 rfl hl (by decide) rfl (fun ls hl => ?_)
  have hagr : tm_agr hs ≤ 7 := tm_agr_le hs 128
  refine lv_iconst (v := nI 0) hx hb dX1_agreeingSet_5 (by decide) ?_
  refine lv_istore_n (lv' := [(2, .int (nI 0)), (1, .int (nI (tm_agr hs))), (0, .ref (a 0))]) hx hb dX1_agreeingSet_6 rfl hl (by decide) rfl (fun ls hl => ?_)
  refine tc_for (nL := 3) 128 (fun i => tx_first (fun i => decide (tc_pop i = tm_agr hs ∧ tm_agree hs i = true)) i = none) (fun i => [(2, .int (nI i)), (1, .int (nI (tm_agr hs))), (0, .ref (a 0))]) (rfl) (lv_sub hl [0, 1, 2] rfl) (fun i hi_i hv_2 ih_2 ls hl => ?_) (fun hv_2 ls hl => ?_)
  · have hl : lv_has ls 3 [(2, .int (nI i)), (1, .int (nI (tm_agr hs))), (0, .ref (a 0))] := hl
    have hv_inv := hv_2
    refine lv_iload_n hx hb dX1_agreeingSet_7 rfl (lv_at hl 0 rfl) ?_
    refine lv_sipush (v := nI 128) hx hb dX1_agreeingSet_8 (by decide) ?_
    refine tc_ge (tgt := 39) hx hb dX1_agreeingSet_11 (by decide) (by omega) (by omega) (fun c_ => absurd c_ (by omega)) (fun _ => ?_)
    refine lv_aload_n hx hb dX1_agreeingSet_14 rfl (lv_at hl 2 rfl) ?_
    refine lv_iload_n hx hb dX1_agreeingSet_15 rfl (lv_at hl 0 rfl) ?_
    refine ro_callV (As := [.int (nI i)]) (rest := []) ⟨hx, hb, hml, hown, hts⟩ hK (ro_X1_count l D dB dZ H a hs hP i (by omega)) (cwV 1 hts (lw_V q197 q199 qs14 q22 q200) rfl rfl rfl (by decide +kernel) ⟨Nat.le_of_ble_eq_true rfl, Nat.le_of_ble_eq_true rfl⟩) (va_recv hK hP (ci := 1) (q0 := 0) rfl rfl) rfl hl.1 rfl (Nat.le_of_ble_eq_true rfl) dX1_agreeingSet_16 ⟨Nat.le_of_ble_eq_true rfl, Nat.le_of_ble_eq_true rfl⟩ ?_
    have hv_3 := tc_pop_le i
    refine lv_iload_n hx hb dX1_agreeingSet_19 rfl (lv_at hl 1 rfl) ?_
    refine tc_ne (tgt := 33) hx hb dX1_agreeingSet_20 (by decide) (by omega) (by omega) (fun c_4 => ?_) (fun c_4 => ?_)
    · refine lv_iinc (v := nI (i + 1)) (lv' := [(2, .int (nI (i + 1))), (1, .int (nI (tm_agr hs))), (0, .ref (a 0))]) hx hb dX1_agreeingSet_33 hl (k := 0) rfl (t_inc _) (by decide) rfl (fun ls hl => ?_)
      refine lv_goto (tgt := 7) hx hb dX1_agreeingSet_36 (by decide) ?_
      exact ih_2 ls (tx_first_s hv_2 (decide_eq_false (fun h => c_4 h.1))) (lv_sub hl [0, 1, 2] rfl)
    · refine lv_aload_n hx hb dX1_agreeingSet_23 rfl (lv_at hl 2 rfl) ?_
      refine lv_iload_n hx hb dX1_agreeingSet_24 rfl (lv_at hl 0 rfl) ?_
      refine ro_callV (As := [.int (nI i)]) (rest := []) ⟨hx, hb, hml, hown, hts⟩ hK (ro_X1_agree l D dB dZ H a hs hP i (by omega)) (cwV 1 hts (lw_V q264 q265 q266 q22 q267) rfl rfl rfl (by decide +kernel) ⟨Nat.le_of_ble_eq_true rfl, Nat.le_of_ble_eq_true rfl⟩) (va_recv hK hP (ci := 1) (q0 := 0) rfl rfl) rfl hl.1 rfl (Nat.le_of_ble_eq_true rfl) dX1_agreeingSet_25 ⟨Nat.le_of_ble_eq_true rfl, Nat.le_of_ble_eq_true rfl⟩ ?_
      refine tc_beq (tgt := 33) hx hb dX1_agreeingSet_28 (by decide) (fun c_5 => ?_) (fun c_5 => ?_)
      · refine lv_iinc (v := nI (i + 1)) (lv' := [(2, .int (nI (i + 1))), (1, .int (nI (tm_agr hs))), (0, .ref (a 0))]) hx hb dX1_agreeingSet_33 hl (k := 0) rfl (t_inc _) (by decide) rfl (fun ls hl => ?_)
        refine lv_goto (tgt := 7) hx hb dX1_agreeingSet_36 (by decide) ?_
        exact ih_2 ls (tx_first_s hv_2 (decide_eq_false (fun h => by rw [c_5] at h; exact Bool.noConfusion h.2))) (lv_sub hl [0, 1, 2] rfl)
      · refine lv_iload_n hx hb dX1_agreeingSet_31 rfl (lv_at hl 0 rfl) ?_
        exact ro_ret hx hb hr hlocks dX1_agreeingSet_32 rfl (congrArg nI (tm_aset_at hi_i hv_inv c_4 c_5).symm)
  · have hl : lv_has ls 3 [(2, .int (nI 128)), (1, .int (nI (tm_agr hs))), (0, .ref (a 0))] := hl
    have hv_inv := hv_2
    refine lv_iload_n hx hb dX1_agreeingSet_7 rfl (lv_at hl 0 rfl) ?_
    refine lv_sipush (v := nI 128) hx hb dX1_agreeingSet_8 (by decide) ?_
    refine tc_ge (tgt := 39) hx hb dX1_agreeingSet_11 (by decide) (by omega) (by omega) (fun _ => ?_) (fun c_ => absurd c_ (by omega))
    refine lv_iconst (v := nI 0) hx hb dX1_agreeingSet_39 (by decide) ?_
    exact ro_ret hx hb hr hlocks dX1_agreeingSet_40 rfl (congrArg nI (tm_aset_no hv_inv).symm)
set_option maxHeartbeats 4000000 in
set_option maxRecDepth 100000 in
/-- together -/
theorem ro_X1_together (l : Launch) (D : va_G) (dB dZ : ClassId) (H : Heap) (a : Nat → Nat) (hs : Nat → Bool) (hP : va_P D vwCl (wM a dZ hs) H) : Ro l yX1_together cX1_together 3 (some .boolean) 2 46 [.ref (a 0)] H D dB dZ ((tB (tm_tog hs))) := by
  refine Ro.ofW (by decide) (Nat.le_of_ble_eq_true rfl) (fun p e s m below meth c hx hb hr hlocks hml hown hts hK ls hl => ?_)
  have hl : lv_has ls 3 [(0, .ref (a 0))] := hl
  refine lv_iconst (v := nI 1) hx hb dX1_together_0 (by decide) ?_
  refine lv_istore_n (lv' := [(1, .int (nI 1)), (0, .ref (a 0))]) hx hb dX1_together_1 rfl hl (by decide) rfl (fun ls hl => ?_)
  refine lv_iconst (v := nI 1) hx hb dX1_together_2 (by decide) ?_
  refine lv_istore_n (lv' := [(2, .int (nI 1)), (1, .int (nI 1)), (0, .ref (a 0))]) hx hb dX1_together_3 rfl hl (by decide) rfl (fun ls hl => ?_)
  refine tc_for (nL := 3) 127 (fun _ => True) (fun i => [(2, .int (nI (i + 1))), (1, .int (tB (tc_all (fun i => !hs (128 + (i + 1)) || tm_fits hs 0 (i + 1)) i))), (0, .ref (a 0))]) (trivial) (lv_sub hl [0, 1, 2] rfl) (fun i hi_i hv_1 ih_1 ls hl => ?_) (fun hv_1 ls hl => ?_)
  · have hl : lv_has ls 3 [(2, .int (nI (i + 1))), (1, .int (tB (tc_all (fun i => !hs (128 + (i + 1)) || tm_fits hs 0 (i + 1)) i))), (0, .ref (a 0))] := hl
    refine lv_iload_n hx hb dX1_together_4 rfl (lv_at hl 0 rfl) ?_
    refine lv_sipush (v := nI 128) hx hb dX1_together_5 (by decide) ?_
    refine tc_ge (tgt := 49) hx hb dX1_together_8 (by decide) (by omega) (by omega) (fun c_ => absurd c_ (by omega)) (fun _ => ?_)
    refine tc_at 42 [.int (tB (tc_all (fun i => !hs (128 + (i + 1)) || tm_fits hs 0 (i + 1)) i && (!hs (128 + (i + 1)) || tm_fits hs 0 (i + 1))))] (fun hj_2 => ?_) ?_
    · refine lv_iload_n hx hb dX1_together_11 rfl (lv_at hl 1 rfl) ?_
      refine tc_beq (tgt := 41) hx hb dX1_together_12 (by decide) (fun c_3 => ?_) (fun c_3 => ?_)
      · refine lv_iconst (v := nI 0) hx hb dX1_together_41 (by decide) ?_
        exact tc_top (tc_r0 (by rw [c_3]; rfl)) hj_2
      · refine lv_aload_n hx hb dX1_together_15 rfl (lv_at hl 2 rfl) ?_
        refine tc_getM (v := .ref (a 1)) hx hb hts hown hK hP 0 rfl q201 rfl dX1_together_16 ?_
        refine lv_sipush (v := nI 128) hx hb dX1_together_19 (by decide) ?_
        refine lv_iload_n hx hb dX1_together_22 rfl (lv_at hl 0 rfl) ?_
        refine tc_iadd hx hb dX1_together_23 ?_
        refine tc_zald (k := (128 + (i + 1))) hx hb dX1_together_24 hK hP 1 1 rfl rfl (by decide) (by omega) ?_
        refine tc_beq (tgt := 37) hx hb dX1_together_25 (by decide) (fun c_4 => ?_) (fun c_4 => ?_)
        · refine lv_iconst (v := nI 1) hx hb dX1_together_37 (by decide) ?_
          refine lv_goto (tgt := 42) hx hb dX1_together_38 (by decide) ?_
          exact tc_top (tc_r1 (by rw [c_3, c_4]; rfl)) hj_2
        · refine lv_aload_n hx hb dX1_together_28 rfl (lv_at hl 2 rfl) ?_
          refine lv_iconst (v := nI 0) hx hb dX1_together_29 (by decide) ?_
          refine lv_iload_n hx hb dX1_together_30 rfl (lv_at hl 0 rfl) ?_
          refine ro_callV (As := [.int (nI 0), .int (nI (i + 1))]) (rest := []) ⟨hx, hb, hml, hown, hts⟩ hK (ro_X1_fits l D dB dZ H a hs hP 0 (by omega) (i + 1) (by omega)) (cwV 2 hts (lw_V q210 q212 qs15 q22 q213) rfl rfl rfl (by decide +kernel) ⟨Nat.le_of_ble_eq_true rfl, Nat.le_of_ble_eq_true rfl⟩) (va_recv hK hP (ci := 1) (q0 := 0) rfl rfl) rfl hl.1 rfl (Nat.le_of_ble_eq_true rfl) dX1_together_31 ⟨Nat.le_of_ble_eq_true rfl, Nat.le_of_ble_eq_true rfl⟩ ?_
          refine tc_beq (tgt := 41) hx hb dX1_together_34 (by decide) (fun c_5 => ?_) (fun c_5 => ?_)
          · refine lv_iconst (v := nI 0) hx hb dX1_together_41 (by decide) ?_
            exact tc_top (tc_r0 (by rw [c_3, c_4, c_5]; rfl)) hj_2
          · refine lv_iconst (v := nI 1) hx hb dX1_together_37 (by decide) ?_
            refine lv_goto (tgt := 42) hx hb dX1_together_38 (by decide) ?_
            exact tc_top (tc_r1 (by rw [c_3, c_4, c_5]; rfl)) hj_2
    · refine lv_istore_n (lv' := [(1, .int (tB (tc_all (fun i => !hs (128 + (i + 1)) || tm_fits hs 0 (i + 1)) i && (!hs (128 + (i + 1)) || tm_fits hs 0 (i + 1))))), (2, .int (nI (i + 1))), (0, .ref (a 0))]) hx hb dX1_together_42 rfl hl (by decide) rfl (fun ls hl => ?_)
      refine lv_iinc (v := nI ((i + 1) + 1)) (lv' := [(2, .int (nI ((i + 1) + 1))), (1, .int (tB (tc_all (fun i => !hs (128 + (i + 1)) || tm_fits hs 0 (i + 1)) i && (!hs (128 + (i + 1)) || tm_fits hs 0 (i + 1))))), (0, .ref (a 0))]) hx hb dX1_together_43 hl (k := 1) rfl (t_inc _) (by decide) rfl (fun ls hl => ?_)
      refine lv_goto (tgt := 4) hx hb dX1_together_46 (by decide) ?_
      exact ih_1 ls (trivial) (lv_sub hl [0, 1, 2] rfl)
  · have hl : lv_has ls 3 [(2, .int (nI (127 + 1))), (1, .int (tB (tc_all (fun i => !hs (128 + (i + 1)) || tm_fits hs 0 (i + 1)) 127))), (0, .ref (a 0))] := hl
    refine lv_iload_n hx hb dX1_together_4 rfl (lv_at hl 0 rfl) ?_
    refine lv_sipush (v := nI 128) hx hb dX1_together_5 (by decide) ?_
    refine tc_ge (tgt := 49) hx hb dX1_together_8 (by decide) (by omega) (by omega) (fun _ => ?_) (fun c_ => absurd c_ (by omega))
    refine lv_iload_n hx hb dX1_together_49 rfl (lv_at hl 1 rfl) ?_
    exact ro_ret hx hb hr hlocks dX1_together_50 (t_narb _) (rfl)
set_option maxHeartbeats 4000000 in
set_option maxRecDepth 100000 in
/-- common -/
theorem ro_X1_common (l : Launch) (D : va_G) (dB dZ : ClassId) (H : Heap) (a : Nat → Nat) (hs : Nat → Bool) (hP : va_P D vwCl (wM a dZ hs) H) : Ro l yX1_common cX1_common 3 (some .int) 0 0 [.ref (a 0)] H D dB dZ ((nI (tm_com hs))) := by
  refine Ro.ofW (by decide) (Nat.le_of_ble_eq_true rfl) (fun p e s m below meth c hx hb hr hlocks hml hown hts hK ls hl => ?_)
  have hl : lv_has ls 3 [(0, .ref (a 0))] := hl
  refine lv_iconst (v := nI 0) hx hb dX1_common_0 (by decide) ?_
  refine lv_istore_n (lv' := [(1, .int (nI 0)), (0, .ref (a 0))]) hx hb dX1_common_1 rfl hl (by decide) rfl (fun ls hl => ?_)
  refine lv_iconst (v := nI 1) hx hb dX1_common_2 (by decide) ?_
  refine lv_istore_n (lv' := [(2, .int (nI 1)), (1, .int (nI 0)), (0, .ref (a 0))]) hx hb dX1_common_3 rfl hl (by decide) rfl (fun ls hl => ?_)
  refine tc_for (nL := 3) 127 (fun _ => True) (fun i => [(2, .int (nI (i + 1))), (1, .int (nI (tc_fold (fun i n => if hs (i + 1) = true ∧ hs (128 + (i + 1)) = true then n + 1 else n) 0 i))), (0, .ref (a 0))]) (trivial) (lv_sub hl [0, 1, 2] rfl) (fun i hi_i hv_1 ih_1 ls hl => ?_) (fun hv_1 ls hl => ?_)
  · have hl : lv_has ls 3 [(2, .int (nI (i + 1))), (1, .int (nI (tc_fold (fun i n => if hs (i + 1) = true ∧ hs (128 + (i + 1)) = true then n + 1 else n) 0 i))), (0, .ref (a 0))] := hl
    refine lv_iload_n hx hb dX1_common_4 rfl (lv_at hl 0 rfl) ?_
    refine lv_sipush (v := nI 128) hx hb dX1_common_5 (by decide) ?_
    refine tc_ge (tgt := 47) hx hb dX1_common_8 (by decide) (by omega) (by omega) (fun c_ => absurd c_ (by omega)) (fun _ => ?_)
    refine tc_at 40 [.int (nI (if hs (i + 1) = true ∧ hs (128 + (i + 1)) = true then (tc_fold (fun i n => if hs (i + 1) = true ∧ hs (128 + (i + 1)) = true then n + 1 else n) 0 i) + 1 else (tc_fold (fun i n => if hs (i + 1) = true ∧ hs (128 + (i + 1)) = true then n + 1 else n) 0 i)))] (fun hj_2 => ?_) ?_
    · refine lv_aload_n hx hb dX1_common_11 rfl (lv_at hl 2 rfl) ?_
      refine tc_getM (v := .ref (a 1)) hx hb hts hown hK hP 0 rfl q201 rfl dX1_common_12 ?_
      refine lv_iload_n hx hb dX1_common_15 rfl (lv_at hl 0 rfl) ?_
      refine tc_zald (k := (i + 1)) hx hb dX1_common_16 hK hP 1 1 rfl rfl (by decide) (by omega) ?_
      refine tc_beq (tgt := 39) hx hb dX1_common_17 (by decide) (fun c_3 => ?_) (fun c_3 => ?_)
      · refine lv_iload_n hx hb dX1_common_39 rfl (lv_at hl 1 rfl) ?_
        exact tc_topN (by first | (rw [if_pos ⟨c_3⟩]; done) | (rw [if_pos c_3]; done) | (rw [if_neg (fun h => c_3 h.2)]; done) | (rw [if_neg (by simp [c_3])]; done) | (rw [if_neg (by omega)]; done)) hj_2
      · refine lv_aload_n hx hb dX1_common_20 rfl (lv_at hl 2 rfl) ?_
        refine tc_getM (v := .ref (a 1)) hx hb hts hown hK hP 0 rfl q201 rfl dX1_common_21 ?_
        refine lv_sipush (v := nI 128) hx hb dX1_common_24 (by decide) ?_
        refine lv_iload_n hx hb dX1_common_27 rfl (lv_at hl 0 rfl) ?_
        refine tc_iadd hx hb dX1_common_28 ?_
        refine tc_zald (k := (128 + (i + 1))) hx hb dX1_common_29 hK hP 1 1 rfl rfl (by decide) (by omega) ?_
        refine tc_beq (tgt := 39) hx hb dX1_common_30 (by decide) (fun c_4 => ?_) (fun c_4 => ?_)
        · refine lv_iload_n hx hb dX1_common_39 rfl (lv_at hl 1 rfl) ?_
          exact tc_topN (by first | (rw [if_pos ⟨c_3, c_4⟩]; done) | (rw [if_pos c_4]; done) | (rw [if_neg (fun h => c_4 h.2)]; done) | (rw [if_neg (by simp [c_3, c_4])]; done) | (rw [if_neg (by omega)]; done)) hj_2
        · refine lv_iload_n hx hb dX1_common_33 rfl (lv_at hl 1 rfl) ?_
          refine lv_iconst (v := nI 1) hx hb dX1_common_34 (by decide) ?_
          refine tc_iadd hx hb dX1_common_35 ?_
          refine lv_goto (tgt := 40) hx hb dX1_common_36 (by decide) ?_
          exact tc_topN (by first | (rw [if_pos ⟨c_3, c_4⟩]; done) | (rw [if_pos c_4]; done) | (rw [if_neg (fun h => c_4 h.2)]; done) | (rw [if_neg (by simp [c_3, c_4])]; done) | (rw [if_neg (by omega)]; done)) hj_2
    · refine lv_istore_n (lv' := [(1, .int (nI (if hs (i + 1) = true ∧ hs (128 + (i + 1)) = true then (tc_fold (fun i n => if hs (i + 1) = true ∧ hs (128 + (i + 1)) = true then n + 1 else n) 0 i) + 1 else (tc_fold (fun i n => if hs (i + 1) = true ∧ hs (128 + (i + 1)) = true then n + 1 else n) 0 i)))), (2, .int (nI (i + 1))), (0, .ref (a 0))]) hx hb dX1_common_40 rfl hl (by decide) rfl (fun ls hl => ?_)
      refine lv_iinc (v := nI ((i + 1) + 1)) (lv' := [(2, .int (nI ((i + 1) + 1))), (1, .int (nI (if hs (i + 1) = true ∧ hs (128 + (i + 1)) = true then (tc_fold (fun i n => if hs (i + 1) = true ∧ hs (128 + (i + 1)) = true then n + 1 else n) 0 i) + 1 else (tc_fold (fun i n => if hs (i + 1) = true ∧ hs (128 + (i + 1)) = true then n + 1 else n) 0 i)))), (0, .ref (a 0))]) hx hb dX1_common_41 hl (k := 1) rfl (t_inc _) (by decide) rfl (fun ls hl => ?_)
      refine lv_goto (tgt := 4) hx hb dX1_common_44 (by decide) ?_
      exact ih_1 ls (trivial) (lv_sub hl [0, 1, 2] rfl)
  · have hl : lv_has ls 3 [(2, .int (nI (127 + 1))), (1, .int (nI (tc_fold (fun i n => if hs (i + 1) = true ∧ hs (128 + (i + 1)) = true then n + 1 else n) 0 127))), (0, .ref (a 0))] := hl
    refine lv_iload_n hx hb dX1_common_4 rfl (lv_at hl 0 rfl) ?_
    refine lv_sipush (v := nI 128) hx hb dX1_common_5 (by decide) ?_
    refine tc_ge (tgt := 47) hx hb dX1_common_8 (by decide) (by omega) (by omega) (fun _ => ?_) (fun c_ => absurd c_ (by omega))
    refine lv_iload_n hx hb dX1_common_47 rfl (lv_at hl 1 rfl) ?_
    exact ro_ret hx hb hr hlocks dX1_common_48 rfl (rfl)
set_option maxHeartbeats 4000000 in
set_option maxRecDepth 100000 in
/-- depth -/
theorem ro_X1_depth (l : Launch) (D : va_G) (dB dZ : ClassId) (H : Heap) (a : Nat → Nat) (hs : Nat → Bool) (hP : va_P D vwCl (wM a dZ hs) H) (t : Nat) (ht : t < 2) (x : Nat) (hx7 : x < 7) : Ro l yX1_depth cX1_depth 5 (some .int) 1 21 [.ref (a 0), .int (nI t), .int (nI x)] H D dB dZ ((nI (tm_dep hs t x))) := by
  refine Ro.ofW (by decide) (Nat.le_of_ble_eq_true rfl) (fun p e s m below meth c hx hb hr hlocks hml hown hts hK ls hl => ?_)
  have hl : lv_has ls 5 [(0, .ref (a 0)), (1, .int (nI t)), (2, .int (nI x))] := hl
  refine lv_iconst (v := nI 0) hx hb dX1_depth_0 (by decide) ?_
  refine lv_istore_n (lv' := [(3, .int (nI 0)), (0, .ref (a 0)), (1, .int (nI t)), (2, .int (nI x))]) hx hb dX1_depth_1 rfl hl (by decide) rfl (fun ls hl => ?_)
  refine lv_iconst (v := nI 1) hx hb dX1_depth_2 (by decide) ?_
  refine lv_istore (lv' := [(4, .int (nI 1)), (3, .int (nI 0)), (0, .ref (a 0)), (1, .int (nI t)), (2, .int (nI x))]) hx hb dX1_depth_3 hl (by decide) rfl (fun ls hl => ?_)
  refine tc_for (nL := 5) 127 (fun _ => True) (fun i => [(4, .int (nI (i + 1))), (3, .int (nI (tc_fold (fun i n => if hs (128 * t + (i + 1)) = true ∧ (i + 1) >>> x &&& 1 = 1 then n + 1 else n) 0 i))), (0, .ref (a 0)), (1, .int (nI t)), (2, .int (nI x))]) (trivial) (lv_sub hl [0, 1, 2, 3, 4] rfl) (fun i hi_i hv_1 ih_1 ls hl => ?_) (fun hv_1 ls hl => ?_)
  · have hl : lv_has ls 5 [(4, .int (nI (i + 1))), (3, .int (nI (tc_fold (fun i n => if hs (128 * t + (i + 1)) = true ∧ (i + 1) >>> x &&& 1 = 1 then n + 1 else n) 0 i))), (0, .ref (a 0)), (1, .int (nI t)), (2, .int (nI x))] := hl
    refine lv_iload hx hb dX1_depth_5 (lv_at hl 0 rfl) ?_
    refine lv_sipush (v := nI 128) hx hb dX1_depth_7 (by decide) ?_
    refine tc_ge (tgt := 69) hx hb dX1_depth_10 (by decide) (by omega) (by omega) (fun c_ => absurd c_ (by omega)) (fun _ => ?_)
    refine lv_aload_n hx hb dX1_depth_13 rfl (lv_at hl 2 rfl) ?_
    refine lv_iload_n hx hb dX1_depth_14 rfl (lv_at hl 3 rfl) ?_
    refine ro_callV (As := [.int (nI t)]) (rest := []) ⟨hx, hb, hml, hown, hts⟩ hK (ro_X1_tree l D dB dZ H a hs hP (nI t)) (cwV 1 hts (lw_V q189 q191 qs12 q22 q192) rfl rfl rfl (by decide +kernel) ⟨Nat.le_of_ble_eq_true rfl, Nat.le_of_ble_eq_true rfl⟩) (va_recv hK hP (ci := 1) (q0 := 0) rfl rfl) rfl hl.1 rfl (Nat.le_of_ble_eq_true rfl) dX1_depth_15 ⟨Nat.le_of_ble_eq_true rfl, Nat.le_of_ble_eq_true rfl⟩ ?_
    refine tc_beq (tgt := 69) hx hb dX1_depth_18 (by decide) (fun c_ => absurd c_ (by rw [tx_isT_n ht] at c_; cases c_)) (fun _ => ?_)
    refine lv_aload_n hx hb dX1_depth_21 rfl (lv_at hl 2 rfl) ?_
    refine lv_iload_n hx hb dX1_depth_22 rfl (lv_at hl 4 rfl) ?_
    refine ro_callV (As := [.int (nI x)]) (rest := []) ⟨hx, hb, hml, hown, hts⟩ hK (ro_X1_member l D dB dZ H a hs hP (nI x)) (cwV 1 hts (lw_V q235 q237 qs17 q22 q238) rfl rfl rfl (by decide +kernel) ⟨Nat.le_of_ble_eq_true rfl, Nat.le_of_ble_eq_true rfl⟩) (va_recv hK hP (ci := 1) (q0 := 0) rfl rfl) rfl hl.1 rfl (Nat.le_of_ble_eq_true rfl) dX1_depth_23 ⟨Nat.le_of_ble_eq_true rfl, Nat.le_of_ble_eq_true rfl⟩ ?_
    refine tc_beq (tgt := 69) hx hb dX1_depth_26 (by decide) (fun c_ => absurd c_ (by rw [tx_isM_n hx7] at c_; cases c_)) (fun _ => ?_)
    refine tc_at 62 [.int (nI (if hs (128 * t + (i + 1)) = true ∧ (i + 1) >>> x &&& 1 = 1 then (tc_fold (fun i n => if hs (128 * t + (i + 1)) = true ∧ (i + 1) >>> x &&& 1 = 1 then n + 1 else n) 0 i) + 1 else (tc_fold (fun i n => if hs (128 * t + (i + 1)) = true ∧ (i + 1) >>> x &&& 1 = 1 then n + 1 else n) 0 i)))] (fun hj_2 => ?_) ?_
    · refine lv_aload_n hx hb dX1_depth_29 rfl (lv_at hl 2 rfl) ?_
      refine tc_getM (v := .ref (a 1)) hx hb hts hown hK hP 0 rfl q201 rfl dX1_depth_30 ?_
      refine lv_sipush (v := nI 128) hx hb dX1_depth_33 (by decide) ?_
      refine lv_iload_n hx hb dX1_depth_36 rfl (lv_at hl 3 rfl) ?_
      refine tc_imul hx hb dX1_depth_37 ?_
      refine lv_iload hx hb dX1_depth_38 (lv_at hl 0 rfl) ?_
      refine tc_iadd hx hb dX1_depth_40 ?_
      refine tc_zald (k := ((128 * t) + (i + 1))) hx hb dX1_depth_41 hK hP 1 1 rfl rfl (by decide) (by omega) ?_
      refine tc_beq (tgt := 61) hx hb dX1_depth_42 (by decide) (fun c_3 => ?_) (fun c_3 => ?_)
      · refine lv_iload_n hx hb dX1_depth_61 rfl (lv_at hl 1 rfl) ?_
        exact tc_topN (by first | (rw [if_pos ⟨c_3⟩]; done) | (rw [if_pos c_3]; done) | (rw [if_neg (fun h => c_3 h.2)]; done) | (rw [if_neg (by simp [c_3])]; done) | (rw [if_neg (by omega)]; done)) hj_2
      · refine lv_iload hx hb dX1_depth_45 (lv_at hl 0 rfl) ?_
        refine lv_iload_n hx hb dX1_depth_47 rfl (lv_at hl 4 rfl) ?_
        refine tc_ishr hx hb dX1_depth_48 (by omega) (by omega) ?_
        refine lv_iconst (v := nI 1) hx hb dX1_depth_49 (by decide) ?_
        refine tc_iand hx hb dX1_depth_50 ?_
        have hv_4 : ((i + 1) >>> x) &&& 1 ≤ 1 := Nat.and_le_right
        refine lv_iconst (v := nI 1) hx hb dX1_depth_51 (by decide) ?_
        refine tc_ne (tgt := 61) hx hb dX1_depth_52 (by decide) (by omega) (by omega) (fun c_5 => ?_) (fun c_5 => ?_)
        · refine lv_iload_n hx hb dX1_depth_61 rfl (lv_at hl 1 rfl) ?_
          exact tc_topN (by first | (rw [if_pos ⟨c_3, c_5⟩]; done) | (rw [if_pos c_5]; done) | (rw [if_neg (fun h => c_5 h.2)]; done) | (rw [if_neg (by simp [c_3, c_5])]; done) | (rw [if_neg (by omega)]; done)) hj_2
        · refine lv_iload_n hx hb dX1_depth_55 rfl (lv_at hl 1 rfl) ?_
          refine lv_iconst (v := nI 1) hx hb dX1_depth_56 (by decide) ?_
          refine tc_iadd hx hb dX1_depth_57 ?_
          refine lv_goto (tgt := 62) hx hb dX1_depth_58 (by decide) ?_
          exact tc_topN (by first | (rw [if_pos ⟨c_3, c_5⟩]; done) | (rw [if_pos c_5]; done) | (rw [if_neg (fun h => c_5 h.2)]; done) | (rw [if_neg (by simp [c_3, c_5])]; done) | (rw [if_neg (by omega)]; done)) hj_2
    · refine lv_istore_n (lv' := [(3, .int (nI (if hs (128 * t + (i + 1)) = true ∧ (i + 1) >>> x &&& 1 = 1 then (tc_fold (fun i n => if hs (128 * t + (i + 1)) = true ∧ (i + 1) >>> x &&& 1 = 1 then n + 1 else n) 0 i) + 1 else (tc_fold (fun i n => if hs (128 * t + (i + 1)) = true ∧ (i + 1) >>> x &&& 1 = 1 then n + 1 else n) 0 i)))), (4, .int (nI (i + 1))), (0, .ref (a 0)), (1, .int (nI t)), (2, .int (nI x))]) hx hb dX1_depth_62 rfl hl (by decide) rfl (fun ls hl => ?_)
      refine lv_iinc (v := nI ((i + 1) + 1)) (lv' := [(4, .int (nI ((i + 1) + 1))), (3, .int (nI (if hs (128 * t + (i + 1)) = true ∧ (i + 1) >>> x &&& 1 = 1 then (tc_fold (fun i n => if hs (128 * t + (i + 1)) = true ∧ (i + 1) >>> x &&& 1 = 1 then n + 1 else n) 0 i) + 1 else (tc_fold (fun i n => if hs (128 * t + (i + 1)) = true ∧ (i + 1) >>> x &&& 1 = 1 then n + 1 else n) 0 i)))), (0, .ref (a 0)), (1, .int (nI t)), (2, .int (nI x))]) hx hb dX1_depth_63 hl (k := 1) rfl (t_inc _) (by decide) rfl (fun ls hl => ?_)
      refine lv_goto (tgt := 5) hx hb dX1_depth_66 (by decide) ?_
      exact ih_1 ls (trivial) (lv_sub hl [0, 1, 2, 3, 4] rfl)
  · have hl : lv_has ls 5 [(4, .int (nI (127 + 1))), (3, .int (nI (tc_fold (fun i n => if hs (128 * t + (i + 1)) = true ∧ (i + 1) >>> x &&& 1 = 1 then n + 1 else n) 0 127))), (0, .ref (a 0)), (1, .int (nI t)), (2, .int (nI x))] := hl
    refine lv_iload hx hb dX1_depth_5 (lv_at hl 0 rfl) ?_
    refine lv_sipush (v := nI 128) hx hb dX1_depth_7 (by decide) ?_
    refine tc_ge (tgt := 69) hx hb dX1_depth_10 (by decide) (by omega) (by omega) (fun _ => ?_) (fun c_ => absurd c_ (by omega))
    refine lv_aload_n hx hb dX1_depth_69 rfl (lv_at hl 2 rfl) ?_
    refine lv_iload_n hx hb dX1_depth_70 rfl (lv_at hl 3 rfl) ?_
    refine ro_callV (As := [.int (nI t)]) (rest := []) ⟨hx, hb, hml, hown, hts⟩ hK (ro_X1_tree l D dB dZ H a hs hP (nI t)) (cwV 1 hts (lw_V q189 q191 qs12 q22 q192) rfl rfl rfl (by decide +kernel) ⟨Nat.le_of_ble_eq_true rfl, Nat.le_of_ble_eq_true rfl⟩) (va_recv hK hP (ci := 1) (q0 := 0) rfl rfl) rfl hl.1 rfl (Nat.le_of_ble_eq_true rfl) dX1_depth_71 ⟨Nat.le_of_ble_eq_true rfl, Nat.le_of_ble_eq_true rfl⟩ ?_
    refine tc_beq (tgt := 89) hx hb dX1_depth_74 (by decide) (fun c_ => absurd c_ (by rw [tx_isT_n ht] at c_; cases c_)) (fun _ => ?_)
    refine lv_aload_n hx hb dX1_depth_77 rfl (lv_at hl 2 rfl) ?_
    refine lv_iload_n hx hb dX1_depth_78 rfl (lv_at hl 4 rfl) ?_
    refine ro_callV (As := [.int (nI x)]) (rest := []) ⟨hx, hb, hml, hown, hts⟩ hK (ro_X1_member l D dB dZ H a hs hP (nI x)) (cwV 1 hts (lw_V q235 q237 qs17 q22 q238) rfl rfl rfl (by decide +kernel) ⟨Nat.le_of_ble_eq_true rfl, Nat.le_of_ble_eq_true rfl⟩) (va_recv hK hP (ci := 1) (q0 := 0) rfl rfl) rfl hl.1 rfl (Nat.le_of_ble_eq_true rfl) dX1_depth_79 ⟨Nat.le_of_ble_eq_true rfl, Nat.le_of_ble_eq_true rfl⟩ ?_
    refine tc_beq (tgt := 89) hx hb dX1_depth_82 (by decide) (fun c_ => absurd c_ (by rw [tx_isM_n hx7] at c_; cases c_)) (fun _ => ?_)
    refine lv_iload_n hx hb dX1_depth_85 rfl (lv_at hl 1 rfl) ?_
    refine lv_goto (tgt := 90) hx hb dX1_depth_86 (by decide) ?_
    exact ro_ret hx hb hr hlocks dX1_depth_90 rfl (rfl)
set_option maxHeartbeats 4000000 in
set_option maxRecDepth 100000 in
/-- depth, else -/
theorem ro_X1_depth_b (l : Launch) (D : va_G) (dB dZ : ClassId) (H : Heap) (a : Nat → Nat) (hs : Nat → Bool) (hP : va_P D vwCl (wM a dZ hs) H) (t x : Int32) (hbad : tx_isT t = true → tx_isM x = false) : Ro l yX1_depth cX1_depth 5 (some .int) 1 21 [.ref (a 0), .int t, .int x] H D dB dZ ((-1)) := by
  refine Ro.ofW (by decide) (Nat.le_of_ble_eq_true rfl) (fun p e s m below meth c hx hb hr hlocks hml hown hts hK ls hl => ?_)
  have hl : lv_has ls 5 [(0, .ref (a 0)), (1, .int t), (2, .int x)] := hl
  refine lv_iconst (v := nI 0) hx hb dX1_depth_0 (by decide) ?_
  refine lv_istore_n (lv' := [(3, .int (nI 0)), (0, .ref (a 0)), (1, .int t), (2, .int x)]) hx hb dX1_depth_1 rfl hl (by decide) rfl (fun ls hl => ?_)
  refine lv_iconst (v := nI 1) hx hb dX1_depth_2 (by decide) ?_
  refine lv_istore (lv' := [(4, .int (nI 1)), (3, .int (nI 0)), (0, .ref (a 0)), (1, .int t), (2, .int x)]) hx hb dX1_depth_3 hl (by decide) rfl (fun ls hl => ?_)
  refine lv_iload hx hb dX1_depth_5 (lv_at hl 0 rfl) ?_
  refine lv_sipush (v := nI 128) hx hb dX1_depth_7 (by decide) ?_
  refine tc_ge (tgt := 69) hx hb dX1_depth_10 (by decide) (by omega) (by omega) (fun c_ => absurd c_ (by omega)) (fun _ => ?_)
  refine lv_aload_n hx hb dX1_depth_13 rfl (lv_at hl 2 rfl) ?_
  refine lv_iload_n hx hb dX1_depth_14 rfl (lv_at hl 3 rfl) ?_
  refine ro_callV (As := [.int t]) (rest := []) ⟨hx, hb, hml, hown, hts⟩ hK (ro_X1_tree l D dB dZ H a hs hP t) (cwV 1 hts (lw_V q189 q191 qs12 q22 q192) rfl rfl rfl (by decide +kernel) ⟨Nat.le_of_ble_eq_true rfl, Nat.le_of_ble_eq_true rfl⟩) (va_recv hK hP (ci := 1) (q0 := 0) rfl rfl) rfl hl.1 rfl (Nat.le_of_ble_eq_true rfl) dX1_depth_15 ⟨Nat.le_of_ble_eq_true rfl, Nat.le_of_ble_eq_true rfl⟩ ?_
  refine tc_beq (tgt := 69) hx hb dX1_depth_18 (by decide) (fun c_1 => ?_) (fun c_1 => ?_)
  · refine lv_aload_n hx hb dX1_depth_69 rfl (lv_at hl 2 rfl) ?_
    refine lv_iload_n hx hb dX1_depth_70 rfl (lv_at hl 3 rfl) ?_
    refine ro_callV (As := [.int t]) (rest := []) ⟨hx, hb, hml, hown, hts⟩ hK (ro_X1_tree l D dB dZ H a hs hP t) (cwV 1 hts (lw_V q189 q191 qs12 q22 q192) rfl rfl rfl (by decide +kernel) ⟨Nat.le_of_ble_eq_true rfl, Nat.le_of_ble_eq_true rfl⟩) (va_recv hK hP (ci := 1) (q0 := 0) rfl rfl) rfl hl.1 rfl (Nat.le_of_ble_eq_true rfl) dX1_depth_71 ⟨Nat.le_of_ble_eq_true rfl, Nat.le_of_ble_eq_true rfl⟩ ?_
    refine tc_beq (tgt := 89) hx hb dX1_depth_74 (by decide) (fun c_2 => ?_) (fun c_2 => ?_)
    · refine lv_iconst (v := -1) hx hb dX1_depth_89 (by decide) ?_
      exact ro_ret hx hb hr hlocks dX1_depth_90 rfl (rfl)
    · refine lv_aload_n hx hb dX1_depth_77 rfl (lv_at hl 2 rfl) ?_
      refine lv_iload_n hx hb dX1_depth_78 rfl (lv_at hl 4 rfl) ?_
      refine ro_callV (As := [.int x]) (rest := []) ⟨hx, hb, hml, hown, hts⟩ hK (ro_X1_member l D dB dZ H a hs hP x) (cwV 1 hts (lw_V q235 q237 qs17 q22 q238) rfl rfl rfl (by decide +kernel) ⟨Nat.le_of_ble_eq_true rfl, Nat.le_of_ble_eq_true rfl⟩) (va_recv hK hP (ci := 1) (q0 := 0) rfl rfl) rfl hl.1 rfl (Nat.le_of_ble_eq_true rfl) dX1_depth_79 ⟨Nat.le_of_ble_eq_true rfl, Nat.le_of_ble_eq_true rfl⟩ ?_
      refine tc_beq (tgt := 89) hx hb dX1_depth_82 (by decide) (fun c_3 => ?_) (fun c_3 => ?_)
      · refine lv_iconst (v := -1) hx hb dX1_depth_89 (by decide) ?_
        exact ro_ret hx hb hr hlocks dX1_depth_90 rfl (rfl)
      · rw [hbad c_2] at c_3; cases c_3
  · refine lv_aload_n hx hb dX1_depth_21 rfl (lv_at hl 2 rfl) ?_
    refine lv_iload_n hx hb dX1_depth_22 rfl (lv_at hl 4 rfl) ?_
    refine ro_callV (As := [.int x]) (rest := []) ⟨hx, hb, hml, hown, hts⟩ hK (ro_X1_member l D dB dZ H a hs hP x) (cwV 1 hts (lw_V q235 q237 qs17 q22 q238) rfl rfl rfl (by decide +kernel) ⟨Nat.le_of_ble_eq_true rfl, Nat.le_of_ble_eq_true rfl⟩) (va_recv hK hP (ci := 1) (q0 := 0) rfl rfl) rfl hl.1 rfl (Nat.le_of_ble_eq_true rfl) dX1_depth_23 ⟨Nat.le_of_ble_eq_true rfl, Nat.le_of_ble_eq_true rfl⟩ ?_
    refine tc_beq (tgt := 69) hx hb dX1_depth_26 (by decide) (fun c_4 => ?_) (fun c_4 => ?_)
    · refine lv_aload_n hx hb dX1_depth_69 rfl (lv_at hl 2 rfl) ?_
      refine lv_iload_n hx hb dX1_depth_70 rfl (lv_at hl 3 rfl) ?_
      refine ro_callV (As := [.int t]) (rest := []) ⟨hx, hb, hml, hown, hts⟩ hK (ro_X1_tree l D dB dZ H a hs hP t) (cwV 1 hts (lw_V q189 q191 qs12 q22 q192) rfl rfl rfl (by decide +kernel) ⟨Nat.le_of_ble_eq_true rfl, Nat.le_of_ble_eq_true rfl⟩) (va_recv hK hP (ci := 1) (q0 := 0) rfl rfl) rfl hl.1 rfl (Nat.le_of_ble_eq_true rfl) dX1_depth_71 ⟨Nat.le_of_ble_eq_true rfl, Nat.le_of_ble_eq_true rfl⟩ ?_
      refine tc_beq (tgt := 89) hx hb dX1_depth_74 (by decide) (fun c_5 => ?_) (fun c_5 => ?_)
      · refine lv_iconst (v := -1) hx hb dX1_depth_89 (by decide) ?_
        exact ro_ret hx hb hr hlocks dX1_depth_90 rfl (rfl)
      · refine lv_aload_n hx hb dX1_depth_77 rfl (lv_at hl 2 rfl) ?_
        refine lv_iload_n hx hb dX1_depth_78 rfl (lv_at hl 4 rfl) ?_
        refine ro_callV (As := [.int x]) (rest := []) ⟨hx, hb, hml, hown, hts⟩ hK (ro_X1_member l D dB dZ H a hs hP x) (cwV 1 hts (lw_V q235 q237 qs17 q22 q238) rfl rfl rfl (by decide +kernel) ⟨Nat.le_of_ble_eq_true rfl, Nat.le_of_ble_eq_true rfl⟩) (va_recv hK hP (ci := 1) (q0 := 0) rfl rfl) rfl hl.1 rfl (Nat.le_of_ble_eq_true rfl) dX1_depth_79 ⟨Nat.le_of_ble_eq_true rfl, Nat.le_of_ble_eq_true rfl⟩ ?_
        refine tc_beq (tgt := 89) hx hb dX1_depth_82 (by decide) (fun c_6 => ?_) (fun c_6 => ?_)
        · refine lv_iconst (v := -1) hx hb dX1_depth_89 (by decide) ?_
          exact ro_ret hx hb hr hlocks dX1_depth_90 rfl (rfl)
        · rw [hbad c_5] at c_6; cases c_6
    · rw [hbad c_1] at c_4; cases c_4
set_option maxHeartbeats 4000000 in
set_option maxRecDepth 100000 in
/-- room, of a tree -/
theorem ro_X1_room (l : Launch) (D : va_G) (dB dZ : ClassId) (H : Heap) (a : Nat → Nat) (hs : Nat → Bool) (hP : va_P D vwCl (wM a dZ hs) H) (t : Nat) (ht : t < 2) : Ro l yX1_room cX1_room 4 (some .int) 2 46 [.ref (a 0), .int (nI t)] H D dB dZ ((nI (tm_room hs t))) := by
  refine Ro.ofW (by decide) (Nat.le_of_ble_eq_true rfl) (fun p e s m below meth c hx hb hr hlocks hml hown hts hK ls hl => ?_)
  have hl : lv_has ls 4 [(0, .ref (a 0)), (1, .int (nI t))] := hl
  refine lv_iconst (v := nI 0) hx hb dX1_room_0 (by decide) ?_
  refine lv_istore_n (lv' := [(2, .int (nI 0)), (0, .ref (a 0)), (1, .int (nI t))]) hx hb dX1_room_1 rfl hl (by decide) rfl (fun ls hl => ?_)
  refine lv_iconst (v := nI 1) hx hb dX1_room_2 (by decide) ?_
  refine lv_istore_n (lv' := [(3, .int (nI 1)), (2, .int (nI 0)), (0, .ref (a 0)), (1, .int (nI t))]) hx hb dX1_room_3 rfl hl (by decide) rfl (fun ls hl => ?_)
  refine tc_for (nL := 4) 127 (fun _ => True) (fun i => [(3, .int (nI (i + 1))), (2, .int (nI (tc_fold (fun i n => if hs (128 * t + (i + 1)) = false ∧ tm_fits hs t (i + 1) = true then n + 1 else n) 0 i))), (0, .ref (a 0)), (1, .int (nI t))]) (trivial) (lv_sub hl [0, 1, 2, 3] rfl) (fun i hi_i hv_1 ih_1 ls hl => ?_) (fun hv_1 ls hl => ?_)
  · have hl : lv_has ls 4 [(3, .int (nI (i + 1))), (2, .int (nI (tc_fold (fun i n => if hs (128 * t + (i + 1)) = false ∧ tm_fits hs t (i + 1) = true then n + 1 else n) 0 i))), (0, .ref (a 0)), (1, .int (nI t))] := hl
    refine lv_iload_n hx hb dX1_room_4 rfl (lv_at hl 0 rfl) ?_
    refine lv_sipush (v := nI 128) hx hb dX1_room_5 (by decide) ?_
    refine tc_ge (tgt := 57) hx hb dX1_room_8 (by decide) (by omega) (by omega) (fun c_ => absurd c_ (by omega)) (fun _ => ?_)
    refine lv_aload_n hx hb dX1_room_11 rfl (lv_at hl 2 rfl) ?_
    refine lv_iload_n hx hb dX1_room_12 rfl (lv_at hl 3 rfl) ?_
    refine ro_callV (As := [.int (nI t)]) (rest := []) ⟨hx, hb, hml, hown, hts⟩ hK (ro_X1_tree l D dB dZ H a hs hP (nI t)) (cwV 1 hts (lw_V q189 q191 qs12 q22 q192) rfl rfl rfl (by decide +kernel) ⟨Nat.le_of_ble_eq_true rfl, Nat.le_of_ble_eq_true rfl⟩) (va_recv hK hP (ci := 1) (q0 := 0) rfl rfl) rfl hl.1 rfl (Nat.le_of_ble_eq_true rfl) dX1_room_13 ⟨Nat.le_of_ble_eq_true rfl, Nat.le_of_ble_eq_true rfl⟩ ?_
    refine tc_beq (tgt := 57) hx hb dX1_room_16 (by decide) (fun c_ => absurd c_ (by rw [tx_isT_n ht] at c_; cases c_)) (fun _ => ?_)
    refine tc_at 50 [.int (nI (if hs (128 * t + (i + 1)) = false ∧ tm_fits hs t (i + 1) = true then (tc_fold (fun i n => if hs (128 * t + (i + 1)) = false ∧ tm_fits hs t (i + 1) = true then n + 1 else n) 0 i) + 1 else (tc_fold (fun i n => if hs (128 * t + (i + 1)) = false ∧ tm_fits hs t (i + 1) = true then n + 1 else n) 0 i)))] (fun hj_2 => ?_) ?_
    · refine lv_aload_n hx hb dX1_room_19 rfl (lv_at hl 2 rfl) ?_
      refine tc_getM (v := .ref (a 1)) hx hb hts hown hK hP 0 rfl q201 rfl dX1_room_20 ?_
      refine lv_sipush (v := nI 128) hx hb dX1_room_23 (by decide) ?_
      refine lv_iload_n hx hb dX1_room_26 rfl (lv_at hl 3 rfl) ?_
      refine tc_imul hx hb dX1_room_27 ?_
      refine lv_iload_n hx hb dX1_room_28 rfl (lv_at hl 0 rfl) ?_
      refine tc_iadd hx hb dX1_room_29 ?_
      refine tc_zald (k := ((128 * t) + (i + 1))) hx hb dX1_room_30 hK hP 1 1 rfl rfl (by decide) (by omega) ?_
      refine tc_bne (tgt := 49) hx hb dX1_room_31 (by decide) (fun c_3 => ?_) (fun c_3 => ?_)
      · refine lv_iload_n hx hb dX1_room_49 rfl (lv_at hl 1 rfl) ?_
        exact tc_topN (by first | (rw [if_pos ⟨c_3⟩]; done) | (rw [if_pos c_3]; done) | (rw [if_neg (fun h => c_3 h.2)]; done) | (rw [if_neg (by simp [c_3])]; done) | (rw [if_neg (by omega)]; done)) hj_2
      · refine lv_aload_n hx hb dX1_room_34 rfl (lv_at hl 2 rfl) ?_
        refine lv_iload_n hx hb dX1_room_35 rfl (lv_at hl 3 rfl) ?_
        refine lv_iload_n hx hb dX1_room_36 rfl (lv_at hl 0 rfl) ?_
        refine ro_callV (As := [.int (nI t), .int (nI (i + 1))]) (rest := []) ⟨hx, hb, hml, hown, hts⟩ hK (ro_X1_fits l D dB dZ H a hs hP t (by omega) (i + 1) (by omega)) (cwV 2 hts (lw_V q210 q212 qs15 q22 q213) rfl rfl rfl (by decide +kernel) ⟨Nat.le_of_ble_eq_true rfl, Nat.le_of_ble_eq_true rfl⟩) (va_recv hK hP (ci := 1) (q0 := 0) rfl rfl) rfl hl.1 rfl (Nat.le_of_ble_eq_true rfl) dX1_room_37 ⟨Nat.le_of_ble_eq_true rfl, Nat.le_of_ble_eq_true rfl⟩ ?_
        refine tc_beq (tgt := 49) hx hb dX1_room_40 (by decide) (fun c_4 => ?_) (fun c_4 => ?_)
        · refine lv_iload_n hx hb dX1_room_49 rfl (lv_at hl 1 rfl) ?_
          exact tc_topN (by first | (rw [if_pos ⟨c_3, c_4⟩]; done) | (rw [if_pos c_4]; done) | (rw [if_neg (fun h => c_4 h.2)]; done) | (rw [if_neg (by simp [c_3, c_4])]; done) | (rw [if_neg (by omega)]; done)) hj_2
        · refine lv_iload_n hx hb dX1_room_43 rfl (lv_at hl 1 rfl) ?_
          refine lv_iconst (v := nI 1) hx hb dX1_room_44 (by decide) ?_
          refine tc_iadd hx hb dX1_room_45 ?_
          refine lv_goto (tgt := 50) hx hb dX1_room_46 (by decide) ?_
          exact tc_topN (by first | (rw [if_pos ⟨c_3, c_4⟩]; done) | (rw [if_pos c_4]; done) | (rw [if_neg (fun h => c_4 h.2)]; done) | (rw [if_neg (by simp [c_3, c_4])]; done) | (rw [if_neg (by omega)]; done)) hj_2
    · refine lv_istore_n (lv' := [(2, .int (nI (if hs (128 * t + (i + 1)) = false ∧ tm_fits hs t (i + 1) = true then (tc_fold (fun i n => if hs (128 * t + (i + 1)) = false ∧ tm_fits hs t (i + 1) = true then n + 1 else n) 0 i) + 1 else (tc_fold (fun i n => if hs (128 * t + (i + 1)) = false ∧ tm_fits hs t (i + 1) = true then n + 1 else n) 0 i)))), (3, .int (nI (i + 1))), (0, .ref (a 0)), (1, .int (nI t))]) hx hb dX1_room_50 rfl hl (by decide) rfl (fun ls hl => ?_)
      refine lv_iinc (v := nI ((i + 1) + 1)) (lv' := [(3, .int (nI ((i + 1) + 1))), (2, .int (nI (if hs (128 * t + (i + 1)) = false ∧ tm_fits hs t (i + 1) = true then (tc_fold (fun i n => if hs (128 * t + (i + 1)) = false ∧ tm_fits hs t (i + 1) = true then n + 1 else n) 0 i) + 1 else (tc_fold (fun i n => if hs (128 * t + (i + 1)) = false ∧ tm_fits hs t (i + 1) = true then n + 1 else n) 0 i)))), (0, .ref (a 0)), (1, .int (nI t))]) hx hb dX1_room_51 hl (k := 1) rfl (t_inc _) (by decide) rfl (fun ls hl => ?_)
      refine lv_goto (tgt := 4) hx hb dX1_room_54 (by decide) ?_
      exact ih_1 ls (trivial) (lv_sub hl [0, 1, 2, 3] rfl)
  · have hl : lv_has ls 4 [(3, .int (nI (127 + 1))), (2, .int (nI (tc_fold (fun i n => if hs (128 * t + (i + 1)) = false ∧ tm_fits hs t (i + 1) = true then n + 1 else n) 0 127))), (0, .ref (a 0)), (1, .int (nI t))] := hl
    refine lv_iload_n hx hb dX1_room_4 rfl (lv_at hl 0 rfl) ?_
    refine lv_sipush (v := nI 128) hx hb dX1_room_5 (by decide) ?_
    refine tc_ge (tgt := 57) hx hb dX1_room_8 (by decide) (by omega) (by omega) (fun _ => ?_) (fun c_ => absurd c_ (by omega))
    refine lv_aload_n hx hb dX1_room_57 rfl (lv_at hl 2 rfl) ?_
    refine lv_iload_n hx hb dX1_room_58 rfl (lv_at hl 3 rfl) ?_
    refine ro_callV (As := [.int (nI t)]) (rest := []) ⟨hx, hb, hml, hown, hts⟩ hK (ro_X1_tree l D dB dZ H a hs hP (nI t)) (cwV 1 hts (lw_V q189 q191 qs12 q22 q192) rfl rfl rfl (by decide +kernel) ⟨Nat.le_of_ble_eq_true rfl, Nat.le_of_ble_eq_true rfl⟩) (va_recv hK hP (ci := 1) (q0 := 0) rfl rfl) rfl hl.1 rfl (Nat.le_of_ble_eq_true rfl) dX1_room_59 ⟨Nat.le_of_ble_eq_true rfl, Nat.le_of_ble_eq_true rfl⟩ ?_
    refine tc_beq (tgt := 69) hx hb dX1_room_62 (by decide) (fun c_ => absurd c_ (by rw [tx_isT_n ht] at c_; cases c_)) (fun _ => ?_)
    refine lv_iload_n hx hb dX1_room_65 rfl (lv_at hl 1 rfl) ?_
    refine lv_goto (tgt := 70) hx hb dX1_room_66 (by decide) ?_
    exact ro_ret hx hb hr hlocks dX1_room_70 rfl (rfl)
set_option maxHeartbeats 4000000 in
set_option maxRecDepth 100000 in
/-- room, else -/
theorem ro_X1_room_b (l : Launch) (D : va_G) (dB dZ : ClassId) (H : Heap) (a : Nat → Nat) (hs : Nat → Bool) (hP : va_P D vwCl (wM a dZ hs) H) (t : Int32) (hbad : tx_isT t = false) : Ro l yX1_room cX1_room 4 (some .int) 1 21 [.ref (a 0), .int t] H D dB dZ ((-1)) := by
  refine Ro.ofW (by decide) (Nat.le_of_ble_eq_true rfl) (fun p e s m below meth c hx hb hr hlocks hml hown hts hK ls hl => ?_)
  have hl : lv_has ls 4 [(0, .ref (a 0)), (1, .int t)] := hl
  refine lv_iconst (v := nI 0) hx hb dX1_room_0 (by decide) ?_
  refine lv_istore_n (lv' := [(2, .int (nI 0)), (0, .ref (a 0)), (1, .int t)]) hx hb dX1_room_1 rfl hl (by decide) rfl (fun ls hl => ?_)
  refine lv_iconst (v := nI 1) hx hb dX1_room_2 (by decide) ?_
  refine lv_istore_n (lv' := [(3, .int (nI 1)), (2, .int (nI 0)), (0, .ref (a 0)), (1, .int t)]) hx hb dX1_room_3 rfl hl (by decide) rfl (fun ls hl => ?_)
  refine lv_iload_n hx hb dX1_room_4 rfl (lv_at hl 0 rfl) ?_
  refine lv_sipush (v := nI 128) hx hb dX1_room_5 (by decide) ?_
  refine tc_ge (tgt := 57) hx hb dX1_room_8 (by decide) (by omega) (by omega) (fun c_ => absurd c_ (by omega)) (fun _ => ?_)
  refine lv_aload_n hx hb dX1_room_11 rfl (lv_at hl 2 rfl) ?_
  refine lv_iload_n hx hb dX1_room_12 rfl (lv_at hl 3 rfl) ?_
  refine ro_callV (As := [.int t]) (rest := []) ⟨hx, hb, hml, hown, hts⟩ hK (ro_X1_tree l D dB dZ H a hs hP t) (cwV 1 hts (lw_V q189 q191 qs12 q22 q192) rfl rfl rfl (by decide +kernel) ⟨Nat.le_of_ble_eq_true rfl, Nat.le_of_ble_eq_true rfl⟩) (va_recv hK hP (ci := 1) (q0 := 0) rfl rfl) rfl hl.1 rfl (Nat.le_of_ble_eq_true rfl) dX1_room_13 ⟨Nat.le_of_ble_eq_true rfl, Nat.le_of_ble_eq_true rfl⟩ ?_
  refine tc_beq (tgt := 57) hx hb dX1_room_16 (by decide) (fun _ => ?_) (fun c_ => absurd c_ (by rw [hbad] at c_; cases c_))
  refine lv_aload_n hx hb dX1_room_57 rfl (lv_at hl 2 rfl) ?_
  refine lv_iload_n hx hb dX1_room_58 rfl (lv_at hl 3 rfl) ?_
  refine ro_callV (As := [.int t]) (rest := []) ⟨hx, hb, hml, hown, hts⟩ hK (ro_X1_tree l D dB dZ H a hs hP t) (cwV 1 hts (lw_V q189 q191 qs12 q22 q192) rfl rfl rfl (by decide +kernel) ⟨Nat.le_of_ble_eq_true rfl, Nat.le_of_ble_eq_true rfl⟩) (va_recv hK hP (ci := 1) (q0 := 0) rfl rfl) rfl hl.1 rfl (Nat.le_of_ble_eq_true rfl) dX1_room_59 ⟨Nat.le_of_ble_eq_true rfl, Nat.le_of_ble_eq_true rfl⟩ ?_
  refine tc_beq (tgt := 69) hx hb dX1_room_62 (by decide) (fun _ => ?_) (fun c_ => absurd c_ (by rw [hbad] at c_; cases c_))
  refine lv_iconst (v := -1) hx hb dX1_room_69 (by decide) ?_
  exact ro_ret hx hb hr hlocks dX1_room_70 rfl (rfl)
end
section
/-! ROWS FOR METHODS THAT WRITE -/
def tc_upd (g : Nat → Nat) (k v : Nat) : Nat → Nat := fun j => if j = k then v else g j
def tc_updB (g : Nat → Bool) (k : Nat) (v : Bool) : Nat → Bool := fun j => if j = k then v else g j
theorem tc_upd_s {g : Nat → Nat} {k v : Nat} : tc_upd g k v k = v := if_pos rfl
theorem tc_upd_n {g : Nat → Nat} {k v j : Nat} (h : j ≠ k) : tc_upd g k v j = g j := if_neg h
theorem tc_upd_lt {g : Nat → Nat} {k v b : Nat} (h : ∀ j, g j < b) (hv : v < b) : ∀ j, tc_upd g k v j < b := by
  intro j
  unfold tc_upd
  split
  · exact hv
  · exact h j
theorem tc_upd_le {g : Nat → Nat} {k v b : Nat} (h : ∀ j, g j ≤ b) (hv : v ≤ b) : ∀ j, tc_upd g k v j ≤ b := by
  intro j
  unfold tc_upd
  split
  · exact hv
  · exact h j
abbrev tcA (a : Nat → Nat) (n : Nat) : Nat → Prop := fun q => ∃ i, i < n ∧ q = a i
abbrev tcAp (a : Nat → Nat) (n : Nat) : Prop := ∀ i j, i < n → j < n → a i = a j → i = j
theorem tc_wX {a : Nat → Nat} {dB : ClassId} {C X N K B M : Nat → Nat} : ∀ (i : Nat) (q : Nat × va_E), (wX a dB C X N K B M)[i]? = some q → i < 7 ∧ q.1 = a i := by
  intro i q h
  match i, h with
  | 0, h => cases h; exact ⟨by omega, rfl⟩
  | 1, h => cases h; exact ⟨by omega, rfl⟩
  | 2, h => cases h; exact ⟨by omega, rfl⟩
  | 3, h => cases h; exact ⟨by omega, rfl⟩
  | 4, h => cases h; exact ⟨by omega, rfl⟩
  | 5, h => cases h; exact ⟨by omega, rfl⟩
  | 6, h => cases h; exact ⟨by omega, rfl⟩
  | k + 7, h => simp at h
theorem tc_wM {a : Nat → Nat} {dZ : ClassId} {hs : Nat → Bool} : ∀ (i : Nat) (q : Nat × va_E), (wM a dZ hs)[i]? = some q → i < 2 ∧ q.1 = a i := by
  intro i q h
  match i, h with
  | 0, h => cases h; exact ⟨by omega, rfl⟩
  | 1, h => cases h; exact ⟨by omega, rfl⟩
  | k + 2, h => simp at h
theorem tc_DX {a : Nat → Nat} {dB : ClassId} {C X N K B M : Nat → Nat} (hap : tcAp a 7) : va_D (tcA a 7) (wX a dB C X N K B M) := by
  refine ⟨fun i j p q hi hj h => ?_, fun k q hk => ?_⟩
  · obtain ⟨h1, h2⟩ := tc_wX i p hi
    obtain ⟨h3, h4⟩ := tc_wX j q hj
    exact hap i j h1 h3 (by rw [← h2, ← h4]; exact h)
  · obtain ⟨h1, h2⟩ := tc_wX k q hk
    exact ⟨k, h1, h2⟩
theorem tc_DM {a : Nat → Nat} {dZ : ClassId} {hs : Nat → Bool} (hap : tcAp a 2) : va_D (tcA a 2) (wM a dZ hs) := by
  refine ⟨fun i j p q hi hj h => ?_, fun k q hk => ?_⟩
  · obtain ⟨h1, h2⟩ := tc_wM i p hi
    obtain ⟨h3, h4⟩ := tc_wM j q hj
    exact hap i j h1 h3 (by rw [← h2, ← h4]; exact h)
  · obtain ⟨h1, h2⟩ := tc_wM k q hk
    exact ⟨k, h1, h2⟩
theorem Mu.ofW {l : Launch} {y : MethodName} {code : ByteArray} {nL : Nat} {ret : Option FieldType} {f n : Nat} {as : List Value} {H : Heap} {D : va_G} {dB dZ : ClassId} {Qc : Array Value → State → Outcome → State → Prop} {A : Nat → Prop} (hy : plainName y.cls = true) (hlen : (lg_sl as).length ≤ nL)
    (body : ∀ (p : Program) (e : Env) (s : State) (m : MethodId) (below : List Frame) (meth : Method) (c : Code), p.tables.exec = Jvm.exec → c.code = code → meth.sig.returnType = ret → meth.locks = false → c.maxLocals = nL → s.vm.findClass y.cls = some m.cls → (∀ w ∈ lw_all, w.before as.toArray s = true) → tcK D dB dZ s → s.heap = H → ∀ ls, lv_has ls nL (lv_args 0 as) → W p l e (tcR f n) s m as.toArray below meth c H [] 0 0 (MQ below Qc as.toArray s 0 0 A) (F0 m 0 ls [])) : Met l y (ws_ y code nL ret) (tcR f n) (roP as H D dB dZ) Qc 0 0 A := by
  refine Met.ofW (cc := code) (maxL := nL) (ret := ret) hy rfl ?_
  intro p e s m args below meth c s₁ B hml hv
  obtain ⟨rfl, hH, hK⟩ := hv
  have hts := atoms_spec (ws := ws_ y code nL ret) B.pre
  have hl := lv_entry as hlen
  rw [lg_entry_eq]
  subst hH
  exact body p e s m below meth c B.exec B.bytes B.returns B.notSynchronized hml (findClass_of_methodNamed B.named) (fun w h => hts w (List.mem_cons_of_mem _ h)) hK rfl _ hl
section TCM
variable {p : Program} {l : Launch} {e : Env} {R : Room} {s : State} {m : MethodId} {args : Array Value} {below : List Frame} {meth : Method} {c : Code} {H : Heap} {locs : List Loc} {cells slots : Nat} {Q : State → Prop}
variable {cc : ByteArray} {pc : Nat} {ls : Array Slot} {rest : List Value}
theorem mu_ret {S : Type} {post : Int32 → S → Prop} {D : va_G} {w : S → va_W} {A : Nat → Prop} {H0 : Heap} {v : Int32} {ty : FieldType} (hx : p.tables.exec = Jvm.exec) (hb : c.code = cc) (hr : meth.sig.returnType = some ty) (hlocks : meth.locks = false) (hd : decode cc pc = .ok (.ireturn, 1)) (hn : narrow ty (.int v) = .int v) (hH : s.heap = H0) (hS : va_S A H0 H locs) (u : S) (hP : va_P D vwCl (w u) H) (hv : post v u) : W p l e R s m args below meth c H locs cells slots (MQ below (va_Qi post (fun u t => va_P D vwCl (w u) t.heap) A) args s cells slots A) (F0 m pc ls [.int v]) := by
  subst hH
  exact W.zret hx hb hr hn (fun t ht _ => ⟨⟨v, u, rfl, hv, by show va_P D vwCl (w u) t.heap; rw [ht]; exact hP⟩, hS.F ht⟩) hS.2.2 hd hlocks
theorem mu_vret {S : Type} {post : S → Prop} {D : va_G} {w : S → va_W} {A : Nat → Prop} {H0 : Heap} (hx : p.tables.exec = Jvm.exec) (hb : c.code = cc) (hr : meth.sig.returnType = none) (hlocks : meth.locks = false) (hd : decode cc pc = .ok (.return_, 1)) (hH : s.heap = H0) (hS : va_S A H0 H locs) (u : S) (hP : va_P D vwCl (w u) H) (hv : post u) : W p l e R s m args below meth c H locs cells slots (MQ below (va_Qv post (fun u t => va_P D vwCl (w u) t.heap) A) args s cells slots A) (F0 m pc ls []) := by
  subst hH
  exact W.vret hx hb hr (fun t ht _ => ⟨⟨u, rfl, hv, by show va_P D vwCl (w u) t.heap; rw [ht]; exact hP⟩, hS.F ht⟩) hS.2.2 hd hlocks
theorem mu_callV {y : MethodName} {code' : ByteArray} {nL nL' k index : Nat} {ret' : Option FieldType} {f n : Nat} {As : List Value} {b : Nat} {own C : String} {D : va_G} {dB dZ : ClassId} {st : List Value} {S : Type} {post : Int32 → S → Prop} {w : S → va_W} {A0 A1 : Nat → Prop} {H0 : Heap} (F : CallFix p m c cc nL s args lw_all own) (hK : tcK D dB dZ s) (hM : Met l y (ws_ y code' nL' ret') (tcR f n) (roP (.ref b :: As) H D dB dZ) (va_Qi post (fun u t => va_P D vwCl (w u) t.heap) A1) 0 0 A1) (cw : CallW R s args own C index y code' nL' ret' (ws_ y code' nL' ret') (tcR f n) 0 0 k) (hrec : ∃ cellB : Cell, H[b]? = some cellB ∧ cellB.vm.isStatics = false ∧ s.vm.findClass C = some cellB.cls) (hn : As.length = k) (hsize : ls.size = nL) (hst : st = As.reverse ++ .ref b :: rest) (hW : (rest.map fun v => v.category).sum ≤ 8) (hdg : decode cc pc = .ok (.invokevirtual index, 3)) (hf : cells ≤ R.cells ∧ slots ≤ R.slots) (hS : va_S A0 H0 H locs) (hA : ∀ q, A1 q → A0 q)
    (kk : ∀ (r : Int32) (u : S) (H1 : Heap) (locs1 : List Loc), post r u → va_P D vwCl (w u) H1 → H.size ≤ H1.size → (∀ q : Nat, q < H.size → ¬ A1 q → H1[q]? = H[q]?) → va_S A0 H0 H1 locs1 → W p l e R s m args below meth c H1 locs1 cells slots Q (F0 m (pc + 3) ls (.int r :: rest))) : W p l e R s m args below meth c H locs cells slots Q (F0 m pc ls st) :=
  va_calli (va_runV (g := F0 m pc ls st) (rest := rest) F hM cw ⟨fun a U g mk q => ⟨q.1, q.2.1, va_K.moved (u := U) (U := U.calling g mk a) (Vm.Alike.refl U.vm) q.2.2⟩, hrec, fun U hU hW => ⟨rfl, hU, va_K.moved hW.alike hK⟩⟩ rfl hn hsize hst (lv_room hW) hdg hf) hS (fun q _ h => hA q h) hA (fun r u t H1 locs1 ht _ hp hB hz hk hS => kk r u H1 locs1 hp (by rw [← ht]; exact hB) hz hk hS)
theorem mu_callVv {y : MethodName} {code' : ByteArray} {nL nL' k index : Nat} {ret' : Option FieldType} {f n : Nat} {As : List Value} {b : Nat} {own C : String} {D : va_G} {dB dZ : ClassId} {st : List Value} {S : Type} {post : S → Prop} {w : S → va_W} {A0 A1 : Nat → Prop} {H0 : Heap} (F : CallFix p m c cc nL s args lw_all own) (hK : tcK D dB dZ s) (hM : Met l y (ws_ y code' nL' ret') (tcR f n) (roP (.ref b :: As) H D dB dZ) (va_Qv post (fun u t => va_P D vwCl (w u) t.heap) A1) 0 0 A1) (cw : CallW R s args own C index y code' nL' ret' (ws_ y code' nL' ret') (tcR f n) 0 0 k) (hrec : ∃ cellB : Cell, H[b]? = some cellB ∧ cellB.vm.isStatics = false ∧ s.vm.findClass C = some cellB.cls) (hn : As.length = k) (hsize : ls.size = nL) (hst : st = As.reverse ++ .ref b :: rest) (hW : (rest.map fun v => v.category).sum ≤ 8) (hdg : decode cc pc = .ok (.invokevirtual index, 3)) (hf : cells ≤ R.cells ∧ slots ≤ R.slots) (hS : va_S A0 H0 H locs) (hA : ∀ q, A1 q → A0 q)
    (kk : ∀ (u : S) (H1 : Heap) (locs1 : List Loc), post u → va_P D vwCl (w u) H1 → H.size ≤ H1.size → (∀ q : Nat, q < H.size → ¬ A1 q → H1[q]? = H[q]?) → va_S A0 H0 H1 locs1 → W p l e R s m args below meth c H1 locs1 cells slots Q (F0 m (pc + 3) ls rest)) : W p l e R s m args below meth c H locs cells slots Q (F0 m pc ls st) :=
  va_callv (va_runV (g := F0 m pc ls st) (rest := rest) F hM cw ⟨fun a U g mk q => ⟨q.1, q.2.1, va_K.moved (u := U) (U := U.calling g mk a) (Vm.Alike.refl U.vm) q.2.2⟩, hrec, fun U hU hW => ⟨rfl, hU, va_K.moved hW.alike hK⟩⟩ rfl hn hsize hst (lv_room hW) hdg hf) hS (fun q _ h => hA q h) hA (fun u t H1 locs1 ht _ hp hB hz hk hS => kk u H1 locs1 hp (by rw [← ht]; exact hB) hz hk hS)
theorem tc_bast {D : va_G} {cl : List vw_C} {tys : List (ClassId × FieldType)} {ws : va_W} {a : Nat} {A : Nat → Prop} {H0 : Heap} (hx : p.tables.exec = Jvm.exec) (hb : c.code = cc) (hd : decode cc pc = .ok (.bastore, 1)) (hK : va_K D cl tys s) (hP : va_P D cl ws H) (hD : va_D A ws) (hS : va_S A H0 H locs) (q0 t0 : Nat) {cA : ClassId} {n k v : Nat} {g : Nat → Nat} (ha : ws[q0]? = some (a, .inl (cA, n, .inl (fun j => nI (g j))))) (ht : tys[t0]? = some (cA, .byte)) (hn : n < 2 ^ 31) (hk : k < n) (hv : v < 128)
    (kk : ∀ (H1 : Heap) (locs1 : List Loc), va_P D cl (ws.set q0 (a, .inl (cA, n, .inl (fun j => nI (tc_upd g k v j))))) H1 → va_S A H0 H1 locs1 → W p l e R s m args below meth c H1 locs1 cells slots Q (F0 m (pc + 1) ls rest)) : W p l e R s m args below meth c H locs cells slots Q (F0 m pc ls (.int (nI v) :: .int (nI k) :: .ref a :: rest)) := by
  refine va_bast hx hb hK hP hD hS q0 t0 ha ht (vp_in_nI hk hn) hd (fun H1 locs1 hP1 _ hS1 => kk H1 locs1 ?_ hS1)
  have : upd (fun j => nI (g j)) (nI k).toNatClampNeg (vp_nar .byte (nI v)) = fun j => nI (tc_upd g k v j) := by
    funext j
    rw [nI_clamp (by omega), vp_nar_byte, tk_i2b v hv]
    unfold upd tc_upd
    split <;> rfl
  rw [this] at hP1
  exact hP1
theorem tc_zast {D : va_G} {cl : List vw_C} {tys : List (ClassId × FieldType)} {ws : va_W} {a : Nat} {A : Nat → Prop} {H0 : Heap} (hx : p.tables.exec = Jvm.exec) (hb : c.code = cc) (hd : decode cc pc = .ok (.bastore, 1)) (hK : va_K D cl tys s) (hP : va_P D cl ws H) (hD : va_D A ws) (hS : va_S A H0 H locs) (q0 t0 : Nat) {cA : ClassId} {n k : Nat} {v : Bool} {x : Int32} {g : Nat → Bool} (ha : ws[q0]? = some (a, .inl (cA, n, .inl (fun j => tB (g j))))) (ht : tys[t0]? = some (cA, .boolean)) (hn : n < 2 ^ 31) (hk : k < n) (hv : x = tB v)
    (kk : ∀ (H1 : Heap) (locs1 : List Loc), va_P D cl (ws.set q0 (a, .inl (cA, n, .inl (fun j => tB (tc_updB g k v j))))) H1 → va_S A H0 H1 locs1 → W p l e R s m args below meth c H1 locs1 cells slots Q (F0 m (pc + 1) ls rest)) : W p l e R s m args below meth c H locs cells slots Q (F0 m pc ls (.int x :: .int (nI k) :: .ref a :: rest)) := by
  subst hv
  refine va_zast hx hb hK hP hD hS q0 t0 ha ht (vp_in_nI hk hn) hd (fun H1 locs1 hP1 _ hS1 => kk H1 locs1 ?_ hS1)
  have : upd (fun j => tB (g j)) (nI k).toNatClampNeg (vp_nar .boolean (tB v)) = fun j => tB (tc_updB g k v j) := by
    funext j
    have hz : vp_nar .boolean (tB v) = tB v := by cases v <;> rfl
    rw [nI_clamp (by omega), hz]
    unfold upd tc_updB
    split <;> rfl
  rw [this] at hP1
  exact hP1
/-- a loop from 0 to N whose world changes: the state u and the heap go round with it -/
theorem tc_forH {D : va_G} {cl : List vw_C} {A : Nat → Prop} {H0 : Heap} {σ : Type} {nL head : Nat} {st : List Value} (N : Nat) (w : σ → va_W) (Inv : Nat → σ → Prop) (lv : Nat → σ → List (Nat × Value)) (u0 : σ) (h0 : Inv 0 u0) (hP : va_P D cl (w u0) H) (hS : va_S A H0 H locs) (hl : lv_has ls nL (lv 0 u0))
    (body : ∀ i, i < N → ∀ (u : σ) (H : Heap) (locs : List Loc), Inv i u → va_P D cl (w u) H → va_S A H0 H locs → (∀ (u : σ) (H : Heap) (locs : List Loc) ls, Inv (i + 1) u → va_P D cl (w u) H → va_S A H0 H locs → lv_has ls nL (lv (i + 1) u) → W p l e R s m args below meth c H locs cells slots Q (F0 m head ls st)) → ∀ ls, lv_has ls nL (lv i u) → W p l e R s m args below meth c H locs cells slots Q (F0 m head ls st))
    (exit : ∀ (u : σ) (H : Heap) (locs : List Loc), Inv N u → va_P D cl (w u) H → va_S A H0 H locs → ∀ ls, lv_has ls nL (lv N u) → W p l e R s m args below meth c H locs cells slots Q (F0 m head ls st)) : W p l e R s m args below meth c H locs cells slots Q (F0 m head ls st) := by
  have h : ∀ n i, i + n = N → ∀ (u : σ) (H : Heap) (locs : List Loc), Inv i u → va_P D cl (w u) H → va_S A H0 H locs → ∀ ls, lv_has ls nL (lv i u) → W p l e R s m args below meth c H locs cells slots Q (F0 m head ls st) := by
    intro n
    induction n with
    | zero =>
      intro i hi u H locs hv hP hS ls hl
      have : i = N := by omega
      subst this
      exact exit u H locs hv hP hS ls hl
    | succ n ih =>
      intro i hi u H locs hv hP hS ls hl
      exact body i (by omega) u H locs hv hP hS (fun u H locs ls hv hP hS hl => ih (i + 1) (by omega) u H locs hv hP hS ls hl) ls hl
  exact h N 0 (by omega) u0 H locs h0 hP hS ls hl
/-- where roads meet and the world is the same shape on each: state u, heap and locals -/
theorem tc_atH {D : va_G} {cl : List vw_C} {A : Nat → Prop} {H0 : Heap} {st : List Value} {nL : Nat} {σ : Type} (pc' : Nat) (st' : List Value) (w : σ → va_W) (lv' : σ → List (Nat × Value)) (Pp : σ → Prop) (h : (∀ (u : σ) (H : Heap) (locs : List Loc) ls, Pp u → va_P D cl (w u) H → va_S A H0 H locs → lv_has ls nL (lv' u) → W p l e R s m args below meth c H locs cells slots Q (F0 m pc' ls st')) → W p l e R s m args below meth c H locs cells slots Q (F0 m pc ls st)) (k : ∀ (u : σ) (H : Heap) (locs : List Loc) ls, Pp u → va_P D cl (w u) H → va_S A H0 H locs → lv_has ls nL (lv' u) → W p l e R s m args below meth c H locs cells slots Q (F0 m pc' ls st')) : W p l e R s m args below meth c H locs cells slots Q (F0 m pc ls st) := h k
end TCM
end
section
/-! WHAT THE WRITING METHODS OF TreeCompare COMPUTE: the lists of groups, the matching of parts, the best agreement -/
def tx_ist (N K B M : Nat → Nat) (i q w j : Nat) (v : Nat × Nat) : Nat × Nat := if tx_part N K 1 q j = true then (v.1 + 1, if w >>> v.1 &&& 1 = 0 then v.2 else if v.2 < M (tc_dif w (1 <<< v.1)) + B (i * 13 + j) then M (tc_dif w (1 <<< v.1)) + B (i * 13 + j) else v.2) else v
def tx_impF (N K B M : Nat → Nat) (i q w j : Nat) : Nat × Nat := tc_fold (tx_ist N K B M i q w) (0, M w) j
def tx_impv (N K B M : Nat → Nat) (i q w : Nat) : Nat := (tx_impF N K B M i q w q).2
theorem tx_ist_0 {N K B M : Nat → Nat} {i q w j : Nat} {v : Nat × Nat} (h : tx_part N K 1 q j = false) : (v.1, v.2) = tx_ist N K B M i q w j v := by
  unfold tx_ist; rw [h]; rfl
theorem tx_ist_1 {N K B M : Nat → Nat} {i q w j : Nat} {v : Nat × Nat} (h : tx_part N K 1 q j = true) (hb : w >>> v.1 &&& 1 = 0) : (v.1 + 1, v.2) = tx_ist N K B M i q w j v := by
  unfold tx_ist; rw [if_pos h, if_pos hb]
theorem tx_ist_2 {N K B M : Nat → Nat} {i q w j : Nat} {v : Nat × Nat} (h : tx_part N K 1 q j = true) (hb : ¬ w >>> v.1 &&& 1 = 0) (hc : M (tc_dif w (1 <<< v.1)) + B (i * 13 + j) ≤ v.2) : (v.1 + 1, v.2) = tx_ist N K B M i q w j v := by
  unfold tx_ist; rw [if_pos h, if_neg hb, if_neg (by omega)]
theorem tx_ist_3 {N K B M : Nat → Nat} {i q w j : Nat} {v : Nat × Nat} (h : tx_part N K 1 q j = true) (hb : ¬ w >>> v.1 &&& 1 = 0) (hc : v.2 < M (tc_dif w (1 <<< v.1)) + B (i * 13 + j)) : (v.1 + 1, M (tc_dif w (1 <<< v.1)) + B (i * 13 + j)) = tx_ist N K B M i q w j v := by
  unfold tx_ist; rw [if_pos h, if_neg hb, if_pos hc]
theorem tx_impF_1 (N K B M : Nat → Nat) (i q w j : Nat) : (tx_impF N K B M i q w j).1 ≤ j := by
  induction j with
  | zero => exact Nat.le_refl _
  | succ j ih =>
    show (tx_ist N K B M i q w j (tx_impF N K B M i q w j)).1 ≤ j + 1
    unfold tx_ist
    split
    · show _ + 1 ≤ j + 1; omega
    · omega
theorem tx_impF_le {N K B M : Nat → Nat} {i q w b : Nat} (hM : ∀ j, j ≤ w → M j ≤ b) (hB : ∀ j, B j ≤ 7) (j : Nat) : (tx_impF N K B M i q w j).2 ≤ b + 7 := by
  induction j with
  | zero => exact Nat.le_trans (hM w (Nat.le_refl _)) (by omega)
  | succ j ih =>
    show (tx_ist N K B M i q w j (tx_impF N K B M i q w j)).2 ≤ b + 7
    unfold tx_ist
    split
    · show (if _ then _ else _) ≤ b + 7
      split
      · exact ih
      · split
        · have h1 := hM (tc_dif w (1 <<< (tx_impF N K B M i q w j).1)) Nat.and_le_left
          have h2 := hB (i * 13 + j)
          exact Nat.add_le_add h1 h2
        · exact ih
    · exact ih
theorem tx_impF_congr {N K B M M' : Nat → Nat} {i q w : Nat} (h : ∀ j, j ≤ w → M j = M' j) (j : Nat) : tx_impF N K B M i q w j = tx_impF N K B M' i q w j := by
  induction j with
  | zero => show (0, M w) = (0, M' w); rw [h w (Nat.le_refl _)]
  | succ j ih =>
    show tx_ist N K B M i q w j (tx_impF N K B M i q w j) = tx_ist N K B M' i q w j (tx_impF N K B M' i q w j)
    rw [ih]
    unfold tx_ist
    rw [h (tc_dif w (1 <<< (tx_impF N K B M' i q w j).1)) Nat.and_le_left]
/-- matched, after i parts of the first group -/
def tx_MM (N K B : Nat → Nat) (k q i : Nat) : Nat → Nat := tc_fold (fun i f => if tx_part N K 0 k i = true then (fun w => tx_impv N K B f i q w) else f) (fun _ => 0) i
def tx_match (N K B : Nat → Nat) (k q : Nat) : Nat := tx_MM N K B k q k 127
theorem tx_MM_s (N K B : Nat → Nat) (k q i : Nat) : tx_MM N K B k q (i + 1) = if tx_part N K 0 k i = true then (fun w => tx_impv N K B (tx_MM N K B k q i) i q w) else tx_MM N K B k q i := rfl
theorem tx_MM_le {N K B : Nat → Nat} (hB : ∀ j, B j ≤ 7) (k q i : Nat) : ∀ j, tx_MM N K B k q i j ≤ 7 * i := by
  induction i with
  | zero => intro j; exact Nat.le_refl _
  | succ i ih =>
    intro j
    rw [tx_MM_s]
    split
    · have := tx_impF_le (N := N) (K := K) (B := B) (i := i) (q := q) (w := j) (fun j _ => ih j) hB q
      show (tx_impF N K B (tx_MM N K B k q i) i q j q).2 ≤ _
      omega
    · have := ih j
      omega
def tx_bs (N K B : Nat → Nat) (t k : Nat) (at_ : Nat → Nat) (i most : Nat) : Nat := if tx_part N K t k i = true ∧ most < B (at_ i) then B (at_ i) else most
def tx_b1 (N K B : Nat → Nat) (k q i : Nat) : Nat := tc_fold (tx_bs N K B 0 k (fun i => i * 13 + q)) (tx_match N K B k q) i
def tx_b2 (N K B : Nat → Nat) (k q j : Nat) : Nat := tc_fold (tx_bs N K B 1 q (fun j => k * 13 + j)) (tx_b1 N K B k q k) j
def tx_below (N K B : Nat → Nat) (k q : Nat) : Nat := if tc_pop (N k) = 1 ∨ tc_pop (N (13 + q)) = 1 then (if N k &&& N (13 + q) = 0 then 0 else 1) else tx_b2 N K B k q q
theorem tx_bs_p {N K B : Nat → Nat} {t k : Nat} {at_ : Nat → Nat} {i most : Nat} (h1 : tx_part N K t k i = true) (h2 : most < B (at_ i)) : B (at_ i) = tx_bs N K B t k at_ i most := by unfold tx_bs; rw [if_pos ⟨h1, h2⟩]
theorem tx_bs_n1 {N K B : Nat → Nat} {t k : Nat} {at_ : Nat → Nat} {i most : Nat} (h1 : tx_part N K t k i = false) : most = tx_bs N K B t k at_ i most := by unfold tx_bs; rw [if_neg (fun h => by rw [h1] at h; exact Bool.noConfusion h.1)]
theorem tx_bs_n2 {N K B : Nat → Nat} {t k : Nat} {at_ : Nat → Nat} {i most : Nat} (h1 : B (at_ i) ≤ most) : most = tx_bs N K B t k at_ i most := by unfold tx_bs; rw [if_neg (fun h => absurd h.2 (by omega))]
theorem tx_bs_le {N K B : Nat → Nat} {t k : Nat} {at_ : Nat → Nat} {a b : Nat} (hB : ∀ j, B j ≤ 7) (ha : a ≤ b) (hb : 7 ≤ b) (n : Nat) : tc_fold (tx_bs N K B t k at_) a n ≤ b := by
  induction n with
  | zero => exact ha
  | succ n ih =>
    show tx_bs N K B t k at_ n _ ≤ b
    unfold tx_bs
    split
    · exact Nat.le_trans (hB _) hb
    · exact ih
theorem tx_match_le {N K B : Nat → Nat} (hB : ∀ j, B j ≤ 7) {k q : Nat} (hk : k < 13) : tx_match N K B k q ≤ 91 := Nat.le_trans (tx_MM_le hB k q k 127) (by omega)
theorem tx_b1_le {N K B : Nat → Nat} (hB : ∀ j, B j ≤ 7) {k q : Nat} (hk : k < 13) (i : Nat) : tx_b1 N K B k q i ≤ 91 := tx_bs_le hB (tx_match_le hB hk) (by omega) i
theorem tx_b2_le {N K B : Nat → Nat} (hB : ∀ j, B j ≤ 7) {k q : Nat} (hk : k < 13) (i : Nat) : tx_b2 N K B k q i ≤ 91 := tx_bs_le hB (tx_b1_le hB hk k) (by omega) i
/-! the lists -/
def tx_ls (C X : Nat → Nat) (t z i : Nat) (L : List Nat) : List Nat := if tc_pop (i + 1) = z + 1 ∧ tx_has C X t (i + 1) = true then L ++ [i + 1] else L
def tx_Lo (C X : Nat → Nat) (t z : Nat) : List Nat := tc_fold (fun z L => tc_fold (tx_ls C X t z) L 127) [] z
def tx_Li (C X : Nat → Nat) (t z i : Nat) : List Nat := tc_fold (tx_ls C X t z) (tx_Lo C X t z) i
def tx_list (C X : Nat → Nat) (t : Nat) : List Nat := tx_Lo C X t 7
def tx_put (N : Nat → Nat) (t : Nat) (L : List Nat) : Nat → Nat := fun j => if t * 13 ≤ j ∧ j < t * 13 + L.length then L.getD (j - t * 13) 0 else N j
theorem tx_put_nil (N : Nat → Nat) (t : Nat) : tx_put N t [] = N := by
  funext j
  unfold tx_put
  rw [if_neg (by simp)]
theorem tx_put_app (N : Nat → Nat) (t : Nat) (L : List Nat) (g : Nat) : tc_upd (tx_put N t L) (t * 13 + L.length) g = tx_put N t (L ++ [g]) := by
  funext j
  unfold tc_upd tx_put
  by_cases h : j = t * 13 + L.length
  · subst h
    simp [List.getD]
  · rw [if_neg h]
    by_cases h2 : t * 13 ≤ j ∧ j < t * 13 + L.length
    · rw [if_pos h2, if_pos (by simp; omega)]
      simp only [List.getD]
      rw [List.getElem?_append_left (by omega)]
    · rw [if_neg h2, if_neg (by simp; omega)]
theorem tx_ls_p {C X : Nat → Nat} {t z i : Nat} {L : List Nat} (h1 : tc_pop (i + 1) = z + 1) (h2 : tx_has C X t (i + 1) = true) : tx_ls C X t z i L = L ++ [i + 1] := by unfold tx_ls; rw [if_pos ⟨h1, h2⟩]
theorem tx_ls_n1 {C X : Nat → Nat} {t z i : Nat} {L : List Nat} (h1 : ¬ tc_pop (i + 1) = z + 1) : tx_ls C X t z i L = L := by unfold tx_ls; rw [if_neg (fun h => h1 h.1)]
theorem tx_ls_n2 {C X : Nat → Nat} {t z i : Nat} {L : List Nat} (h2 : tx_has C X t (i + 1) = false) : tx_ls C X t z i L = L := by unfold tx_ls; rw [if_neg (fun h => by rw [h2] at h; exact Bool.noConfusion h.2)]
theorem tx_ls_len (C X : Nat → Nat) (t z i : Nat) (L : List Nat) : L.length ≤ (tx_ls C X t z i L).length := by
  unfold tx_ls
  split
  · simp
  · exact Nat.le_refl _
theorem tx_fls_len (C X : Nat → Nat) (t z : Nat) (L : List Nat) {i n : Nat} (h : i ≤ n) : (tc_fold (tx_ls C X t z) L i).length ≤ (tc_fold (tx_ls C X t z) L n).length := by
  induction n with
  | zero => rw [show i = 0 by omega]; exact Nat.le_refl _
  | succ n ih =>
    rcases Nat.lt_or_ge i (n + 1) with q | q
    · exact Nat.le_trans (ih (by omega)) (tx_ls_len C X t z n _)
    · rw [show i = n + 1 by omega]; exact Nat.le_refl _
theorem tx_Lo_len (C X : Nat → Nat) (t : Nat) {z n : Nat} (h : z ≤ n) : (tx_Lo C X t z).length ≤ (tx_Lo C X t n).length := by
  induction n with
  | zero => rw [show z = 0 by omega]; exact Nat.le_refl _
  | succ n ih =>
    rcases Nat.lt_or_ge z (n + 1) with q | q
    · exact Nat.le_trans (ih (by omega)) (tx_fls_len C X t n _ (Nat.zero_le 127))
    · rw [show z = n + 1 by omega]; exact Nat.le_refl _
theorem tx_Li_len (C X : Nat → Nat) (t : Nat) {z i : Nat} (hz : z < 7) (hi : i ≤ 127) : (tx_Li C X t z i).length ≤ (tx_list C X t).length :=
  Nat.le_trans (tx_fls_len C X t z _ hi) (tx_Lo_len C X t (show z + 1 ≤ 7 by omega))
theorem tx_put_lt {N : Nat → Nat} {t : Nat} {L : List Nat} (hN : ∀ j, N j < 128) (hL : ∀ g, g ∈ L → g < 128) : ∀ j, tx_put N t L j < 128 := by
  intro j
  unfold tx_put
  split
  · next h =>
    rw [List.getD_eq_getElem?_getD, List.getElem?_eq_getElem (by omega)]
    exact hL _ (List.getElem_mem _)
  · exact hN j
theorem tx_put_in {N : Nat → Nat} {t : Nat} {L : List Nat} {i : Nat} (h : i < L.length) : tx_put N t L (t * 13 + i) = L.getD i 0 := by
  unfold tx_put
  rw [if_pos (by omega)]
  congr 1
  omega
theorem tx_put_out {N : Nat → Nat} {t : Nat} {L : List Nat} {j : Nat} (h : j < t * 13 ∨ t * 13 + L.length ≤ j) : tx_put N t L j = N j := by
  unfold tx_put
  rw [if_neg (by omega)]
theorem tx_fls_lt {C X : Nat → Nat} {t z : Nat} {L : List Nat} (hL : ∀ g, g ∈ L → g < 128) {n : Nat} (hn : n ≤ 127) : ∀ g, g ∈ tc_fold (tx_ls C X t z) L n → g < 128 := by
  induction n with
  | zero => exact hL
  | succ n ih =>
    intro g hg
    have hg : g ∈ tx_ls C X t z n (tc_fold (tx_ls C X t z) L n) := hg
    unfold tx_ls at hg
    split at hg
    · rcases List.mem_append.mp hg with h | h
      · exact ih (by omega) g h
      · rw [List.mem_singleton.mp h]; omega
    · exact ih (by omega) g hg
theorem tx_Lo_lt (C X : Nat → Nat) (t z : Nat) : ∀ g, g ∈ tx_Lo C X t z → g < 128 := by
  induction z with
  | zero => intro g hg; cases hg
  | succ z ih => exact tx_fls_lt ih (Nat.le_refl _)
def tx_N (C X N : Nat → Nat) : Nat → Nat := tx_put (tx_put N 0 (tx_list C X 0)) 1 (tx_list C X 1)
def tx_K (C X K : Nat → Nat) : Nat → Nat := tc_upd (tc_upd K 0 (tx_list C X 0).length) 1 (tx_list C X 1).length
def tx_aset (C X : Nat → Nat) (most : Nat) : Nat := match tx_first (fun i => decide (tc_pop i = most ∧ tx_conf C X i = 0)) 127 with
  | some k => k
  | none => 127
theorem tx_aset_at {C X : Nat → Nat} {most i : Nat} (hi : i < 127) (h : tx_first (fun i => decide (tc_pop i = most ∧ tx_conf C X i = 0)) i = none) (h1 : tc_pop i = most) (h2 : tx_conf C X i = 0) : tx_aset C X most = i := by
  have : tx_first (fun i => decide (tc_pop i = most ∧ tx_conf C X i = 0)) 127 = some i := tx_first_some.mpr ⟨hi, decide_eq_true ⟨h1, h2⟩, tx_first_none.mp h⟩
  unfold tx_aset
  rw [this]
theorem tx_aset_no {C X : Nat → Nat} {most : Nat} (h : tx_first (fun i => decide (tc_pop i = most ∧ tx_conf C X i = 0)) 127 = none) : tx_aset C X most = 127 := by
  unfold tx_aset
  rw [h]
end
section
theorem tx_zero_s {u : Nat → Nat} {i : Nat} (h : ∀ j, j < i → u j = 0) : ∀ j, j < i + 1 → tc_upd u i 0 j = 0 := by
  intro j hj
  unfold tc_upd
  split
  · rfl
  · exact h j (by omega)
theorem tx_dn_eq {z : Nat} (h : z < 128) : nI (128 - z) + (-1) = nI (127 - z) := by
  rw [show 128 - z = (127 - z) + 1 by omega]
  exact pk_m1 _
theorem tx_dn_pos {z : Nat} (h : z < 128) : ¬ nI (128 - z) + (-1) < 0 := by
  rw [tx_dn_eq h]
  exact nI_pos (by omega)
theorem tx_dn_dec {z : Nat} (h : z < 128) : nI (127 - z) + Int32.ofInt (-1) = nI (128 - (z + 1)) + (-1) := by
  rw [show 128 - (z + 1) = 127 - z by omega]
  rfl
theorem tx_MM_n {N K B : Nat → Nat} {k q i : Nat} {u : Nat → Nat} (hv : ∀ j, j < 128 → u j = tx_MM N K B k q i j) (h : tx_part N K 0 k i = false) : ∀ j, j < 128 → u j = tx_MM N K B k q (i + 1) j := by
  intro j hj
  rw [tx_MM_s, if_neg (by rw [h]; decide)]
  exact hv j hj
theorem tx_MM_p {N K B : Nat → Nat} {k q i : Nat} {u : Nat → Nat} (h : tx_part N K 0 k i = true) (hv : ∀ j, j < 128 → u j = if 128 - 128 ≤ j then tx_impv N K B (tx_MM N K B k q i) i q j else tx_MM N K B k q i j) : ∀ j, j < 128 → u j = tx_MM N K B k q (i + 1) j := by
  intro j hj
  rw [tx_MM_s, if_pos h, hv j hj, if_pos (by omega)]
theorem tx_inv_0 {N K B : Nat → Nat} {k q i : Nat} {u : Nat → Nat} (hv : ∀ j, j < 128 → u j = tx_MM N K B k q i j) : ∀ j, j < 128 → u j = if 128 - 0 ≤ j then tx_impv N K B (tx_MM N K B k q i) i q j else tx_MM N K B k q i j := by
  intro j hj
  rw [if_neg (by omega)]
  exact hv j hj
theorem tx_inv_le {N K B : Nat → Nat} {k q i z b : Nat} {u : Nat → Nat} (hB : ∀ j, B j ≤ 7) (hv : ∀ j, j < 128 → u j = if 128 - z ≤ j then tx_impv N K B (tx_MM N K B k q i) i q j else tx_MM N K B k q i j) (hz : z < 128) (hi : 7 * i ≤ b) : ∀ j, j ≤ 127 - z → u j ≤ b := by
  intro j hj
  rw [hv j (by omega), if_neg (by omega)]
  exact Nat.le_trans (tx_MM_le hB k q i j) hi
theorem tx_inv_s {N K B : Nat → Nat} {k q i z : Nat} {u : Nat → Nat} (hz : z < 128) (hv : ∀ j, j < 128 → u j = if 128 - z ≤ j then tx_impv N K B (tx_MM N K B k q i) i q j else tx_MM N K B k q i j) : ∀ j, j < 128 → tc_upd u (127 - z) (tx_impv N K B u i q (127 - z)) j = if 128 - (z + 1) ≤ j then tx_impv N K B (tx_MM N K B k q i) i q j else tx_MM N K B k q i j := by
  intro j hj
  unfold tc_upd
  split
  · next h =>
    subst h
    rw [if_pos (by omega)]
    unfold tx_impv
    rw [tx_impF_congr (M := u) (M' := tx_MM N K B k q i) (fun j hj => by rw [hv j (by omega), if_neg (by omega)])]
  · rw [hv j hj]
    by_cases h2 : 128 - z ≤ j
    · rw [if_pos h2, if_pos (by omega)]
    · rw [if_neg h2, if_neg (by omega)]
theorem tx_Li_lt {C X : Nat → Nat} {t z i : Nat} (hlen : (tx_list C X t).length ≤ 13) (hz : z < 7) (hi : i < 127) (h1 : tc_pop (i + 1) = z + 1) (h2 : tx_has C X t (i + 1) = true) : (tx_Li C X t z i).length < 13 := by
  have h := tx_Li_len C X t hz (show i + 1 ≤ 127 by omega)
  have e : tx_Li C X t z (i + 1) = tx_Li C X t z i ++ [i + 1] := tx_ls_p h1 h2
  rw [e] at h
  simp at h
  omega
theorem tx_N_lt (C X : Nat → Nat) {N : Nat → Nat} (hN : ∀ j, N j < 128) : ∀ j, tx_N C X N j < 128 := tx_put_lt (tx_put_lt hN (tx_Lo_lt C X 0 7)) (tx_Lo_lt C X 1 7)
theorem tx_K_le {C X K : Nat → Nat} (hK : ∀ j, K j ≤ 13) (h0 : (tx_list C X 0).length ≤ 13) (h1 : (tx_list C X 1).length ≤ 13) : ∀ j, tx_K C X K j ≤ 13 := tc_upd_le (tc_upd_le hK h0) h1
theorem tx_K_0 (C X K : Nat → Nat) : tx_K C X K 0 = (tx_list C X 0).length := by
  unfold tx_K
  rw [tc_upd_n (by decide), tc_upd_s]
theorem tx_K_1 (C X K : Nat → Nat) : tx_K C X K 1 = (tx_list C X 1).length := tc_upd_s
/-- what 'solve' rests on: 'below' answers sem where the cells before it hold sem -/
def tx_Sem (C X N K : Nat → Nat) (sem : Nat → Nat → Nat) : Prop := (∀ k q, sem k q ≤ 7) ∧ ∀ (B : Nat → Nat) (k q : Nat), k < tx_K C X K 0 → q < tx_K C X K 1 → (∀ x y, y < tx_K C X K 1 → (x < k ∨ (x = k ∧ y < q)) → B (x * 13 + y) = sem x y) → tx_below (tx_N C X N) (tx_K C X K) B k q = sem k q
theorem tx_sem_s {n k q : Nat} {B : Nat → Nat} {sem : Nat → Nat → Nat} (hn : n ≤ 13) (hq : q < n) (h : ∀ x y, y < n → (x < k ∨ (x = k ∧ y < q)) → B (x * 13 + y) = sem x y) : ∀ x y, y < n → (x < k ∨ (x = k ∧ y < q + 1)) → tc_upd B (k * 13 + q) (sem k q) (x * 13 + y) = sem x y := by
  intro x y hy hx
  unfold tc_upd
  split
  · next e =>
    have : x = k := by omega
    have : y = q := by omega
    subst x; subst y; rfl
  · next e =>
    exact h x y hy (by omega)
theorem tx_sem_end {n k : Nat} {B : Nat → Nat} {sem : Nat → Nat → Nat} (hk : 1 ≤ k) (hn : 1 ≤ n) (h : ∀ x y, x < k → y < n → B (x * 13 + y) = sem x y) : B ((k - 1) * 13 + n - 1) = sem (k - 1) (n - 1) := by
  rw [show (k - 1) * 13 + n - 1 = (k - 1) * 13 + (n - 1) by omega]
  exact h _ _ (by omega) (by omega)
set_option maxHeartbeats 4000000 in
set_option maxRecDepth 100000 in
/-- add: no tree or no group -/
theorem ro_X0_add_b (l : Launch) (D : va_G) (dB dZ : ClassId) (H : Heap) (a C X N K B M : Nat → Nat) (hP : va_P D vwCl (wX a dB C X N K B M) H) (hC : ∀ j, C j ≤ 5) (hX : ∀ j, X j < 128) (t g : Int32) (hbad : tx_isT t = true → ¬ g < nI 1 → nI 127 < g) : Ro l yX0_add cX0_add 3 (some .boolean) 3 64 [.ref (a 0), .int t, .int g] H D dB dZ ((tB false)) := by
  refine Ro.ofW (by decide) (Nat.le_of_ble_eq_true rfl) (fun p e s m below meth c hx hb hr hlocks hml hown hts hK ls hl => ?_)
  have hl : lv_has ls 3 [(0, .ref (a 0)), (1, .int t), (2, .int g)] := hl
  refine lv_iload_n hx hb dX0_add_0 rfl (lv_at hl 1 rfl) ?_
  refine ro_callS (As := [.int t]) (rest := []) ⟨hx, hb, hml, hown, hts⟩ hK (ro_X0_isTree l D dB dZ H t) (va_cwS 1 hts (lw_S q55 q56 q21 q57) rfl rfl rfl (by decide +kernel) ⟨Nat.le_of_ble_eq_true rfl, Nat.le_of_ble_eq_true rfl⟩) rfl hl.1 rfl (Nat.le_of_ble_eq_true rfl) dX0_add_1 ⟨Nat.le_of_ble_eq_true rfl, Nat.le_of_ble_eq_true rfl⟩ ?_
  refine tc_beq (tgt := 27) hx hb dX0_add_4 (by decide) (fun c_1 => ?_) (fun c_1 => ?_)
  · refine lv_iconst (v := nI 0) hx hb dX0_add_27 (by decide) ?_
    exact ro_ret hx hb hr hlocks dX0_add_28 rfl (rfl)
  · refine lv_iload_n hx hb dX0_add_7 rfl (lv_at hl 2 rfl) ?_
    refine lv_iconst (v := nI 1) hx hb dX0_add_8 (by decide) ?_
    refine lv_icmp_lt (tgt := 27) hx hb dX0_add_9 (by decide) (fun c_2 => ?_) (fun c_2 => ?_)
    · refine lv_iconst (v := nI 0) hx hb dX0_add_27 (by decide) ?_
      exact ro_ret hx hb hr hlocks dX0_add_28 rfl (rfl)
    · refine lv_iload_n hx hb dX0_add_12 rfl (lv_at hl 2 rfl) ?_
      refine lv_bipush (v := nI 127) hx hb dX0_add_13 (by decide) ?_
      refine lv_icmp_gt (tgt := 27) hx hb dX0_add_15 (by decide) (fun c_3 => ?_) (fun c_3 => ?_)
      · refine lv_iconst (v := nI 0) hx hb dX0_add_27 (by decide) ?_
        exact ro_ret hx hb hr hlocks dX0_add_28 rfl (rfl)
      · exact absurd (hbad c_1 c_2) c_3
set_option maxHeartbeats 4000000 in
set_option maxRecDepth 100000 in
/-- add: it does not go with the others -/
theorem ro_X0_add_n (l : Launch) (D : va_G) (dB dZ : ClassId) (H : Heap) (a C X N K B M : Nat → Nat) (hP : va_P D vwCl (wX a dB C X N K B M) H) (hC : ∀ j, C j ≤ 5) (hX : ∀ j, X j < 128) (t : Nat) (ht : t < 2) (g : Nat) (hg0 : 1 ≤ g) (hg : g < 128) (hcan : tx_can C X t g = false) : Ro l yX0_add cX0_add 3 (some .boolean) 3 64 [.ref (a 0), .int (nI t), .int (nI g)] H D dB dZ ((tB false)) := by
  refine Ro.ofW (by decide) (Nat.le_of_ble_eq_true rfl) (fun p e s m below meth c hx hb hr hlocks hml hown hts hK ls hl => ?_)
  have hl : lv_has ls 3 [(0, .ref (a 0)), (1, .int (nI t)), (2, .int (nI g))] := hl
  refine lv_iload_n hx hb dX0_add_0 rfl (lv_at hl 1 rfl) ?_
  refine ro_callS (As := [.int (nI t)]) (rest := []) ⟨hx, hb, hml, hown, hts⟩ hK (ro_X0_isTree l D dB dZ H (nI t)) (va_cwS 1 hts (lw_S q55 q56 q21 q57) rfl rfl rfl (by decide +kernel) ⟨Nat.le_of_ble_eq_true rfl, Nat.le_of_ble_eq_true rfl⟩) rfl hl.1 rfl (Nat.le_of_ble_eq_true rfl) dX0_add_1 ⟨Nat.le_of_ble_eq_true rfl, Nat.le_of_ble_eq_true rfl⟩ ?_
  refine tc_beq (tgt := 27) hx hb dX0_add_4 (by decide) (fun c_ => absurd c_ (by rw [tx_isT_n ht] at c_; cases c_)) (fun _ => ?_)
  refine lv_iload_n hx hb dX0_add_7 rfl (lv_at hl 2 rfl) ?_
  refine lv_iconst (v := nI 1) hx hb dX0_add_8 (by decide) ?_
  refine tc_lt (tgt := 27) hx hb dX0_add_9 (by decide) (by omega) (by omega) (fun c_ => absurd c_ (by omega)) (fun _ => ?_)
  refine lv_iload_n hx hb dX0_add_12 rfl (lv_at hl 2 rfl) ?_
  refine lv_bipush (v := nI 127) hx hb dX0_add_13 (by decide) ?_
  refine tc_gt (tgt := 27) hx hb dX0_add_15 (by decide) (by omega) (by omega) (fun c_ => absurd c_ (by omega)) (fun _ => ?_)
  refine lv_aload_n hx hb dX0_add_18 rfl (lv_at hl 0 rfl) ?_
  refine lv_iload_n hx hb dX0_add_19 rfl (lv_at hl 1 rfl) ?_
  refine lv_iload_n hx hb dX0_add_20 rfl (lv_at hl 2 rfl) ?_
  refine ro_callV (As := [.int (nI t), .int (nI g)]) (rest := []) ⟨hx, hb, hml, hown, hts⟩ hK (ro_X0_canAdd l D dB dZ H a C X N K B M hP hC hX t (by omega) g (by omega)) (cwV 2 hts (lw_V q58 q60 qs0 q21 q61) rfl rfl rfl (by decide +kernel) ⟨Nat.le_of_ble_eq_true rfl, Nat.le_of_ble_eq_true rfl⟩) (va_recv hK hP (ci := 0) (q0 := 0) rfl rfl) rfl hl.1 rfl (Nat.le_of_ble_eq_true rfl) dX0_add_21 ⟨Nat.le_of_ble_eq_true rfl, Nat.le_of_ble_eq_true rfl⟩ ?_
  refine tc_bne (tgt := 29) hx hb dX0_add_24 (by decide) (fun c_ => absurd c_ (by rw [hcan] at c_; cases c_)) (fun _ => ?_)
  refine lv_iconst (v := nI 0) hx hb dX0_add_27 (by decide) ?_
  exact ro_ret hx hb hr hlocks dX0_add_28 rfl (rfl)
set_option maxHeartbeats 4000000 in
set_option maxRecDepth 100000 in
/-- add: it is there -/
theorem ro_X0_add_h (l : Launch) (D : va_G) (dB dZ : ClassId) (H : Heap) (a C X N K B M : Nat → Nat) (hP : va_P D vwCl (wX a dB C X N K B M) H) (hC : ∀ j, C j ≤ 5) (hX : ∀ j, X j < 128) (t : Nat) (ht : t < 2) (g : Nat) (hg0 : 1 ≤ g) (hg : g < 128) (hcan : tx_can C X t g = true) (hhas : tx_has C X t g = true) : Ro l yX0_add cX0_add 3 (some .boolean) 3 64 [.ref (a 0), .int (nI t), .int (nI g)] H D dB dZ ((tB true)) := by
  refine Ro.ofW (by decide) (Nat.le_of_ble_eq_true rfl) (fun p e s m below meth c hx hb hr hlocks hml hown hts hK ls hl => ?_)
  have hl : lv_has ls 3 [(0, .ref (a 0)), (1, .int (nI t)), (2, .int (nI g))] := hl
  refine lv_iload_n hx hb dX0_add_0 rfl (lv_at hl 1 rfl) ?_
  refine ro_callS (As := [.int (nI t)]) (rest := []) ⟨hx, hb, hml, hown, hts⟩ hK (ro_X0_isTree l D dB dZ H (nI t)) (va_cwS 1 hts (lw_S q55 q56 q21 q57) rfl rfl rfl (by decide +kernel) ⟨Nat.le_of_ble_eq_true rfl, Nat.le_of_ble_eq_true rfl⟩) rfl hl.1 rfl (Nat.le_of_ble_eq_true rfl) dX0_add_1 ⟨Nat.le_of_ble_eq_true rfl, Nat.le_of_ble_eq_true rfl⟩ ?_
  refine tc_beq (tgt := 27) hx hb dX0_add_4 (by decide) (fun c_ => absurd c_ (by rw [tx_isT_n ht] at c_; cases c_)) (fun _ => ?_)
  refine lv_iload_n hx hb dX0_add_7 rfl (lv_at hl 2 rfl) ?_
  refine lv_iconst (v := nI 1) hx hb dX0_add_8 (by decide) ?_
  refine tc_lt (tgt := 27) hx hb dX0_add_9 (by decide) (by omega) (by omega) (fun c_ => absurd c_ (by omega)) (fun _ => ?_)
  refine lv_iload_n hx hb dX0_add_12 rfl (lv_at hl 2 rfl) ?_
  refine lv_bipush (v := nI 127) hx hb dX0_add_13 (by decide) ?_
  refine tc_gt (tgt := 27) hx hb dX0_add_15 (by decide) (by omega) (by omega) (fun c_ => absurd c_ (by omega)) (fun _ => ?_)
  refine lv_aload_n hx hb dX0_add_18 rfl (lv_at hl 0 rfl) ?_
  refine lv_iload_n hx hb dX0_add_19 rfl (lv_at hl 1 rfl) ?_
  refine lv_iload_n hx hb dX0_add_20 rfl (lv_at hl 2 rfl) ?_
  refine ro_callV (As := [.int (nI t), .int (nI g)]) (rest := []) ⟨hx, hb, hml, hown, hts⟩ hK (ro_X0_canAdd l D dB dZ H a C X N K B M hP hC hX t (by omega) g (by omega)) (cwV 2 hts (lw_V q58 q60 qs0 q21 q61) rfl rfl rfl (by decide +kernel) ⟨Nat.le_of_ble_eq_true rfl, Nat.le_of_ble_eq_true rfl⟩) (va_recv hK hP (ci := 0) (q0 := 0) rfl rfl) rfl hl.1 rfl (Nat.le_of_ble_eq_true rfl) dX0_add_21 ⟨Nat.le_of_ble_eq_true rfl, Nat.le_of_ble_eq_true rfl⟩ ?_
  refine tc_bne (tgt := 29) hx hb dX0_add_24 (by decide) (fun _ => ?_) (fun c_ => absurd c_ (by rw [hcan] at c_; cases c_))
  refine lv_aload_n hx hb dX0_add_29 rfl (lv_at hl 0 rfl) ?_
  refine lv_iload_n hx hb dX0_add_30 rfl (lv_at hl 1 rfl) ?_
  refine lv_iload_n hx hb dX0_add_31 rfl (lv_at hl 2 rfl) ?_
  refine ro_callV (As := [.int (nI t), .int (nI g)]) (rest := []) ⟨hx, hb, hml, hown, hts⟩ hK (ro_X0_hasGroup l D dB dZ H a C X N K B M hP hC hX t (by omega) g (by omega)) (cwV 2 hts (lw_V q65 q67 qs1 q21 q68) rfl rfl rfl (by decide +kernel) ⟨Nat.le_of_ble_eq_true rfl, Nat.le_of_ble_eq_true rfl⟩) (va_recv hK hP (ci := 0) (q0 := 0) rfl rfl) rfl hl.1 rfl (Nat.le_of_ble_eq_true rfl) dX0_add_32 ⟨Nat.le_of_ble_eq_true rfl, Nat.le_of_ble_eq_true rfl⟩ ?_
  refine tc_bne (tgt := 66) hx hb dX0_add_35 (by decide) (fun _ => ?_) (fun c_ => absurd c_ (by rw [hhas] at c_; cases c_))
  refine lv_iconst (v := nI 1) hx hb dX0_add_66 (by decide) ?_
  exact ro_ret hx hb hr hlocks dX0_add_67 rfl (rfl)
set_option maxHeartbeats 4000000 in
set_option maxRecDepth 100000 in
/-- add: a new group -/
theorem mu_X0_add (l : Launch) (D : va_G) (dB dZ : ClassId) (H : Heap) (a C X N K B M : Nat → Nat) (hP : va_P D vwCl (wX a dB C X N K B M) H) (hC : ∀ j, C j ≤ 5) (hX : ∀ j, X j < 128) (hap : tcAp a 7) (t : Nat) (ht : t < 2) (g : Nat) (hg0 : 1 ≤ g) (hg : g < 128) (hcan : tx_can C X t g = true) (hhas : tx_has C X t g = false) (hroom : C t < 5) : Met l yX0_add (ws_ yX0_add cX0_add 3 (some .boolean)) (tcR 3 64) (roP [.ref (a 0), .int (nI t), .int (nI g)] H D dB dZ) (va_Qi (fun r (_ : Unit) => r = nI 1) (fun (u : Unit) T_ => va_P D vwCl (wX a dB (tc_upd C t (C t + 1)) (tc_upd X (t * 5 + C t) g) N K B M) T_.heap) (tcA a 7)) 0 0 (tcA a 7) := by
  refine Mu.ofW (by decide) (Nat.le_of_ble_eq_true rfl) (fun p e s m below meth c hx hb hr hlocks hml hown hts hK hH ls hl => ?_)
  have hl : lv_has ls 3 [(0, .ref (a 0)), (1, .int (nI t)), (2, .int (nI g))] := hl
  have hS : va_S (tcA a 7) H H [] := va_S.rf
  refine lv_iload_n hx hb dX0_add_0 rfl (lv_at hl 1 rfl) ?_
  refine ro_callS (As := [.int (nI t)]) (rest := []) ⟨hx, hb, hml, hown, hts⟩ hK (ro_X0_isTree l D dB dZ H (nI t)) (va_cwS 1 hts (lw_S q55 q56 q21 q57) rfl rfl rfl (by decide +kernel) ⟨Nat.le_of_ble_eq_true rfl, Nat.le_of_ble_eq_true rfl⟩) rfl hl.1 rfl (Nat.le_of_ble_eq_true rfl) dX0_add_1 ⟨Nat.le_of_ble_eq_true rfl, Nat.le_of_ble_eq_true rfl⟩ ?_
  refine tc_beq (tgt := 27) hx hb dX0_add_4 (by decide) (fun c_ => absurd c_ (by rw [tx_isT_n ht] at c_; cases c_)) (fun _ => ?_)
  refine lv_iload_n hx hb dX0_add_7 rfl (lv_at hl 2 rfl) ?_
  refine lv_iconst (v := nI 1) hx hb dX0_add_8 (by decide) ?_
  refine tc_lt (tgt := 27) hx hb dX0_add_9 (by decide) (by omega) (by omega) (fun c_ => absurd c_ (by omega)) (fun _ => ?_)
  refine lv_iload_n hx hb dX0_add_12 rfl (lv_at hl 2 rfl) ?_
  refine lv_bipush (v := nI 127) hx hb dX0_add_13 (by decide) ?_
  refine tc_gt (tgt := 27) hx hb dX0_add_15 (by decide) (by omega) (by omega) (fun c_ => absurd c_ (by omega)) (fun _ => ?_)
  refine lv_aload_n hx hb dX0_add_18 rfl (lv_at hl 0 rfl) ?_
  refine lv_iload_n hx hb dX0_add_19 rfl (lv_at hl 1 rfl) ?_
  refine lv_iload_n hx hb dX0_add_20 rfl (lv_at hl 2 rfl) ?_
  refine ro_callV (As := [.int (nI t), .int (nI g)]) (rest := []) ⟨hx, hb, hml, hown, hts⟩ hK (ro_X0_canAdd l D dB dZ H a C X N K B M hP hC hX t (by omega) g (by omega)) (cwV 2 hts (lw_V q58 q60 qs0 q21 q61) rfl rfl rfl (by decide +kernel) ⟨Nat.le_of_ble_eq_true rfl, Nat.le_of_ble_eq_true rfl⟩) (va_recv hK hP (ci := 0) (q0 := 0) rfl rfl) rfl hl.1 rfl (Nat.le_of_ble_eq_true rfl) dX0_add_21 ⟨Nat.le_of_ble_eq_true rfl, Nat.le_of_ble_eq_true rfl⟩ ?_
  refine tc_bne (tgt := 29) hx hb dX0_add_24 (by decide) (fun _ => ?_) (fun c_ => absurd c_ (by rw [hcan] at c_; cases c_))
  refine lv_aload_n hx hb dX0_add_29 rfl (lv_at hl 0 rfl) ?_
  refine lv_iload_n hx hb dX0_add_30 rfl (lv_at hl 1 rfl) ?_
  refine lv_iload_n hx hb dX0_add_31 rfl (lv_at hl 2 rfl) ?_
  refine ro_callV (As := [.int (nI t), .int (nI g)]) (rest := []) ⟨hx, hb, hml, hown, hts⟩ hK (ro_X0_hasGroup l D dB dZ H a C X N K B M hP hC hX t (by omega) g (by omega)) (cwV 2 hts (lw_V q65 q67 qs1 q21 q68) rfl rfl rfl (by decide +kernel) ⟨Nat.le_of_ble_eq_true rfl, Nat.le_of_ble_eq_true rfl⟩) (va_recv hK hP (ci := 0) (q0 := 0) rfl rfl) rfl hl.1 rfl (Nat.le_of_ble_eq_true rfl) dX0_add_32 ⟨Nat.le_of_ble_eq_true rfl, Nat.le_of_ble_eq_true rfl⟩ ?_
  refine tc_bne (tgt := 66) hx hb dX0_add_35 (by decide) (fun c_ => absurd c_ (by rw [hhas] at c_; cases c_)) (fun _ => ?_)
  refine lv_aload_n hx hb dX0_add_38 rfl (lv_at hl 0 rfl) ?_
  refine tc_getX (a := a) (v := .ref (a 2)) hx hb hts hown hK hP 0 rfl 1 (by decide) q32 rfl rfl dX0_add_39 ?_
  refine lv_iload_n hx hb dX0_add_42 rfl (lv_at hl 1 rfl) ?_
  refine lv_iconst (v := nI 5) hx hb dX0_add_43 (by decide) ?_
  refine tc_imul hx hb dX0_add_44 ?_
  refine lv_aload_n hx hb dX0_add_45 rfl (lv_at hl 0 rfl) ?_
  refine tc_getX (a := a) (v := .ref (a 1)) hx hb hts hown hK hP 0 rfl 0 (by decide) q31 rfl rfl dX0_add_46 ?_
  refine lv_iload_n hx hb dX0_add_49 rfl (lv_at hl 1 rfl) ?_
  refine tc_bald (k := t) hx hb dX0_add_50 hK hP 1 0 rfl rfl (by decide) (by omega) ?_
  have hv_1 := hC t
  refine tc_iadd hx hb dX0_add_51 ?_
  refine lv_iload_n hx hb dX0_add_52 rfl (lv_at hl 2 rfl) ?_
  refine tc_i2b hx hb dX0_add_53 (by omega) ?_
  refine tc_bast (k := (t * 5) + (C t)) (v := g) hx hb dX0_add_54 hK hP (tc_DX hap) hS 2 0 rfl rfl (by decide) (by omega) (by omega) (fun H locs hP hS => ?_)
  have hP : va_P D vwCl (wX a dB C (tc_upd X ((t * 5) + (C t)) g) N K B M) H := hP
  refine lv_aload_n hx hb dX0_add_55 rfl (lv_at hl 0 rfl) ?_
  refine tc_getX (a := a) (v := .ref (a 1)) hx hb hts hown hK hP 0 rfl 0 (by decide) q31 rfl rfl dX0_add_56 ?_
  refine lv_iload_n hx hb dX0_add_59 rfl (lv_at hl 1 rfl) ?_
  refine lv_dup2_11 hx hb dX0_add_60 rfl rfl ?_
  refine tc_bald (k := t) hx hb dX0_add_61 hK hP 1 0 rfl rfl (by decide) (by omega) ?_
  have hv_2 := hC t
  refine lv_iconst (v := nI 1) hx hb dX0_add_62 (by decide) ?_
  refine tc_iadd hx hb dX0_add_63 ?_
  refine tc_i2b hx hb dX0_add_64 (by omega) ?_
  refine tc_bast (k := t) (v := (C t) + 1) hx hb dX0_add_65 hK hP (tc_DX hap) hS 1 0 rfl rfl (by decide) (by omega) (by omega) (fun H locs hP hS => ?_)
  have hP : va_P D vwCl (wX a dB (tc_upd C t ((C t) + 1)) (tc_upd X ((t * 5) + (C t)) g) N K B M) H := hP
  refine lv_iconst (v := nI 1) hx hb dX0_add_66 (by decide) ?_
  exact mu_ret hx hb hr hlocks dX0_add_67 rfl hH hS () hP (rfl)
set_option maxHeartbeats 4000000 in
set_option maxRecDepth 100000 in
/-- remove: no tree -/
theorem ro_X0_remove_b (l : Launch) (D : va_G) (dB dZ : ClassId) (H : Heap) (a C X N K B M : Nat → Nat) (hP : va_P D vwCl (wX a dB C X N K B M) H) (hC : ∀ j, C j ≤ 5) (hX : ∀ j, X j < 128) (t g : Int32) (hbad : tx_isT t = false) : Ro l yX0_remove cX0_remove 4 (some .boolean) 1 23 [.ref (a 0), .int t, .int g] H D dB dZ ((tB false)) := by
  refine Ro.ofW (by decide) (Nat.le_of_ble_eq_true rfl) (fun p e s m below meth c hx hb hr hlocks hml hown hts hK ls hl => ?_)
  have hl : lv_has ls 4 [(0, .ref (a 0)), (1, .int t), (2, .int g)] := hl
  refine lv_iload_n hx hb dX0_remove_0 rfl (lv_at hl 1 rfl) ?_
  refine ro_callS (As := [.int t]) (rest := []) ⟨hx, hb, hml, hown, hts⟩ hK (ro_X0_isTree l D dB dZ H t) (va_cwS 1 hts (lw_S q55 q56 q21 q57) rfl rfl rfl (by decide +kernel) ⟨Nat.le_of_ble_eq_true rfl, Nat.le_of_ble_eq_true rfl⟩) rfl hl.1 rfl (Nat.le_of_ble_eq_true rfl) dX0_remove_1 ⟨Nat.le_of_ble_eq_true rfl, Nat.le_of_ble_eq_true rfl⟩ ?_
  refine tc_beq (tgt := 16) hx hb dX0_remove_4 (by decide) (fun _ => ?_) (fun c_ => absurd c_ (by rw [hbad] at c_; cases c_))
  refine lv_iconst (v := -1) hx hb dX0_remove_16 (by decide) ?_
  refine lv_istore_n (lv' := [(3, .int (-1)), (0, .ref (a 0)), (1, .int t), (2, .int g)]) hx hb dX0_remove_17 rfl hl (by decide) rfl (fun ls hl => ?_)
  refine lv_iload_n hx hb dX0_remove_18 rfl (lv_at hl 0 rfl) ?_
  refine lv_if_ge (tgt := 24) hx hb dX0_remove_19 (by decide) (fun c_ => absurd c_ (by decide)) (fun _ => ?_)
  refine lv_iconst (v := nI 0) hx hb dX0_remove_22 (by decide) ?_
  exact ro_ret hx hb hr hlocks dX0_remove_23 rfl (rfl)
set_option maxHeartbeats 4000000 in
set_option maxRecDepth 100000 in
/-- remove: it is not there -/
theorem ro_X0_remove_n (l : Launch) (D : va_G) (dB dZ : ClassId) (H : Heap) (a C X N K B M : Nat → Nat) (hP : va_P D vwCl (wX a dB C X N K B M) H) (hC : ∀ j, C j ≤ 5) (hX : ∀ j, X j < 128) (t : Nat) (ht : t < 2) (g : Int32) (hno : tx_find C X t g = -1) : Ro l yX0_remove cX0_remove 4 (some .boolean) 1 23 [.ref (a 0), .int (nI t), .int g] H D dB dZ ((tB false)) := by
  refine Ro.ofW (by decide) (Nat.le_of_ble_eq_true rfl) (fun p e s m below meth c hx hb hr hlocks hml hown hts hK ls hl => ?_)
  have hl : lv_has ls 4 [(0, .ref (a 0)), (1, .int (nI t)), (2, .int g)] := hl
  refine lv_iload_n hx hb dX0_remove_0 rfl (lv_at hl 1 rfl) ?_
  refine ro_callS (As := [.int (nI t)]) (rest := []) ⟨hx, hb, hml, hown, hts⟩ hK (ro_X0_isTree l D dB dZ H (nI t)) (va_cwS 1 hts (lw_S q55 q56 q21 q57) rfl rfl rfl (by decide +kernel) ⟨Nat.le_of_ble_eq_true rfl, Nat.le_of_ble_eq_true rfl⟩) rfl hl.1 rfl (Nat.le_of_ble_eq_true rfl) dX0_remove_1 ⟨Nat.le_of_ble_eq_true rfl, Nat.le_of_ble_eq_true rfl⟩ ?_
  refine tc_beq (tgt := 16) hx hb dX0_remove_4 (by decide) (fun c_ => absurd c_ (by rw [tx_isT_n ht] at c_; cases c_)) (fun _ => ?_)
  refine lv_aload_n hx hb dX0_remove_7 rfl (lv_at hl 0 rfl) ?_
  refine lv_iload_n hx hb dX0_remove_8 rfl (lv_at hl 1 rfl) ?_
  refine lv_iload_n hx hb dX0_remove_9 rfl (lv_at hl 2 rfl) ?_
  refine ro_callV (As := [.int (nI t), .int g]) (rest := []) ⟨hx, hb, hml, hown, hts⟩ hK (ro_X0_find l D dB dZ H a C X N K B M hP hC hX t (by omega) g) (cwV 2 hts (lw_V q75 q77 qs2 q21 q78) rfl rfl rfl (by decide +kernel) ⟨Nat.le_of_ble_eq_true rfl, Nat.le_of_ble_eq_true rfl⟩) (va_recv hK hP (ci := 0) (q0 := 0) rfl rfl) rfl hl.1 rfl (Nat.le_of_ble_eq_true rfl) dX0_remove_10 ⟨Nat.le_of_ble_eq_true rfl, Nat.le_of_ble_eq_true rfl⟩ ?_
  refine lv_goto (tgt := 17) hx hb dX0_remove_13 (by decide) ?_
  refine lv_istore_n (lv' := [(3, .int (tx_find C X t g)), (0, .ref (a 0)), (1, .int (nI t)), (2, .int g)]) hx hb dX0_remove_17 rfl hl (by decide) rfl (fun ls hl => ?_)
  refine lv_iload_n hx hb dX0_remove_18 rfl (lv_at hl 0 rfl) ?_
  refine lv_if_ge (tgt := 24) hx hb dX0_remove_19 (by decide) (fun c_ => absurd c_ (by rw [hno]; decide)) (fun _ => ?_)
  refine lv_iconst (v := nI 0) hx hb dX0_remove_22 (by decide) ?_
  exact ro_ret hx hb hr hlocks dX0_remove_23 rfl (rfl)
set_option maxHeartbeats 4000000 in
set_option maxRecDepth 100000 in
/-- remove: it is there -/
theorem mu_X0_remove (l : Launch) (D : va_G) (dB dZ : ClassId) (H : Heap) (a C X N K B M : Nat → Nat) (hP : va_P D vwCl (wX a dB C X N K B M) H) (hC : ∀ j, C j ≤ 5) (hX : ∀ j, X j < 128) (hap : tcAp a 7) (t : Nat) (ht : t < 2) (g : Int32) (k : Nat) (hk : k < C t) (hf : tx_find C X t g = nI k) : Met l yX0_remove (ws_ yX0_remove cX0_remove 4 (some .boolean)) (tcR 1 23) (roP [.ref (a 0), .int (nI t), .int g] H D dB dZ) (va_Qi (fun r (_ : Unit) => r = nI 1) (fun (u : Unit) T_ => va_P D vwCl (wX a dB (tc_upd C t (C t - 1)) (tc_upd X (t * 5 + k) (X (t * 5 + (C t - 1)))) N K B M) T_.heap) (tcA a 7)) 0 0 (tcA a 7) := by
  refine Mu.ofW (by decide) (Nat.le_of_ble_eq_true rfl) (fun p e s m below meth c hx hb hr hlocks hml hown hts hK hH ls hl => ?_)
  have hl : lv_has ls 4 [(0, .ref (a 0)), (1, .int (nI t)), (2, .int g)] := hl
  have hS : va_S (tcA a 7) H H [] := va_S.rf
  have hct := hC t
  refine lv_iload_n hx hb dX0_remove_0 rfl (lv_at hl 1 rfl) ?_
  refine ro_callS (As := [.int (nI t)]) (rest := []) ⟨hx, hb, hml, hown, hts⟩ hK (ro_X0_isTree l D dB dZ H (nI t)) (va_cwS 1 hts (lw_S q55 q56 q21 q57) rfl rfl rfl (by decide +kernel) ⟨Nat.le_of_ble_eq_true rfl, Nat.le_of_ble_eq_true rfl⟩) rfl hl.1 rfl (Nat.le_of_ble_eq_true rfl) dX0_remove_1 ⟨Nat.le_of_ble_eq_true rfl, Nat.le_of_ble_eq_true rfl⟩ ?_
  refine tc_beq (tgt := 16) hx hb dX0_remove_4 (by decide) (fun c_ => absurd c_ (by rw [tx_isT_n ht] at c_; cases c_)) (fun _ => ?_)
  refine lv_aload_n hx hb dX0_remove_7 rfl (lv_at hl 0 rfl) ?_
  refine lv_iload_n hx hb dX0_remove_8 rfl (lv_at hl 1 rfl) ?_
  refine lv_iload_n hx hb dX0_remove_9 rfl (lv_at hl 2 rfl) ?_
  refine ro_callV (As := [.int (nI t), .int g]) (rest := []) ⟨hx, hb, hml, hown, hts⟩ hK (ro_X0_find l D dB dZ H a C X N K B M hP hC hX t (by omega) g) (cwV 2 hts (lw_V q75 q77 qs2 q21 q78) rfl rfl rfl (by decide +kernel) ⟨Nat.le_of_ble_eq_true rfl, Nat.le_of_ble_eq_true rfl⟩) (va_recv hK hP (ci := 0) (q0 := 0) rfl rfl) rfl hl.1 rfl (Nat.le_of_ble_eq_true rfl) dX0_remove_10 ⟨Nat.le_of_ble_eq_true rfl, Nat.le_of_ble_eq_true rfl⟩ ?_
  refine tc_top hf ?_
  refine lv_goto (tgt := 17) hx hb dX0_remove_13 (by decide) ?_
  refine lv_istore_n (lv' := [(3, .int (nI k)), (0, .ref (a 0)), (1, .int (nI t)), (2, .int g)]) hx hb dX0_remove_17 rfl hl (by decide) rfl (fun ls hl => ?_)
  refine lv_iload_n hx hb dX0_remove_18 rfl (lv_at hl 0 rfl) ?_
  refine lv_if_ge (tgt := 24) hx hb dX0_remove_19 (by decide) (fun _ => ?_) (fun c_ => absurd c_ (by exact fun h => h (nI_pos' (by omega))))
  refine lv_aload_n hx hb dX0_remove_24 rfl (lv_at hl 1 rfl) ?_
  refine tc_getX (a := a) (v := .ref (a 1)) hx hb hts hown hK hP 0 rfl 0 (by decide) q31 rfl rfl dX0_remove_25 ?_
  refine lv_iload_n hx hb dX0_remove_28 rfl (lv_at hl 2 rfl) ?_
  refine lv_dup2_11 hx hb dX0_remove_29 rfl rfl ?_
  refine tc_bald (k := t) hx hb dX0_remove_30 hK hP 1 0 rfl rfl (by decide) (by omega) ?_
  have hv_1 := hC t
  refine lv_iconst (v := nI 1) hx hb dX0_remove_31 (by decide) ?_
  refine tc_isub hx hb dX0_remove_32 (by omega) ?_
  refine tc_i2b hx hb dX0_remove_33 (by omega) ?_
  refine tc_bast (k := t) (v := (C t) - 1) hx hb dX0_remove_34 hK hP (tc_DX hap) hS 1 0 rfl rfl (by decide) (by omega) (by omega) (fun H locs hP hS => ?_)
  have hP : va_P D vwCl (wX a dB (tc_upd C t ((C t) - 1)) X N K B M) H := hP
  refine lv_aload_n hx hb dX0_remove_35 rfl (lv_at hl 1 rfl) ?_
  refine tc_getX (a := a) (v := .ref (a 2)) hx hb hts hown hK hP 0 rfl 1 (by decide) q32 rfl rfl dX0_remove_36 ?_
  refine lv_iload_n hx hb dX0_remove_39 rfl (lv_at hl 2 rfl) ?_
  refine lv_iconst (v := nI 5) hx hb dX0_remove_40 (by decide) ?_
  refine tc_imul hx hb dX0_remove_41 ?_
  refine lv_iload_n hx hb dX0_remove_42 rfl (lv_at hl 0 rfl) ?_
  refine tc_iadd hx hb dX0_remove_43 ?_
  refine lv_aload_n hx hb dX0_remove_44 rfl (lv_at hl 1 rfl) ?_
  refine tc_getX (a := a) (v := .ref (a 2)) hx hb hts hown hK hP 0 rfl 1 (by decide) q32 rfl rfl dX0_remove_45 ?_
  refine lv_iload_n hx hb dX0_remove_48 rfl (lv_at hl 2 rfl) ?_
  refine lv_iconst (v := nI 5) hx hb dX0_remove_49 (by decide) ?_
  refine tc_imul hx hb dX0_remove_50 ?_
  refine lv_aload_n hx hb dX0_remove_51 rfl (lv_at hl 1 rfl) ?_
  refine tc_getX (a := a) (v := .ref (a 1)) hx hb hts hown hK hP 0 rfl 0 (by decide) q31 rfl rfl dX0_remove_52 ?_
  refine lv_iload_n hx hb dX0_remove_55 rfl (lv_at hl 2 rfl) ?_
  refine tc_bald (k := t) hx hb dX0_remove_56 hK hP 1 0 rfl rfl (by decide) (by omega) ?_
  refine tc_topN tc_upd_s ?_
  refine tc_iadd hx hb dX0_remove_57 ?_
  refine tc_bald (k := ((t * 5) + (C t - 1))) hx hb dX0_remove_58 hK hP 2 0 rfl rfl (by decide) (by omega) ?_
  have hv_2 := hX ((t * 5) + (C t - 1))
  refine tc_bast (k := (t * 5) + k) (v := X ((t * 5) + (C t - 1))) hx hb dX0_remove_59 hK hP (tc_DX hap) hS 2 0 rfl rfl (by decide) (by omega) (by omega) (fun H locs hP hS => ?_)
  have hP : va_P D vwCl (wX a dB (tc_upd C t ((C t) - 1)) (tc_upd X ((t * 5) + k) (X ((t * 5) + (C t - 1)))) N K B M) H := hP
  refine lv_iconst (v := nI 1) hx hb dX0_remove_60 (by decide) ?_
  exact mu_ret hx hb hr hlocks dX0_remove_61 rfl hH hS () hP (rfl)
set_option maxHeartbeats 4000000 in
set_option maxRecDepth 100000 in
/-- clear: no tree -/
theorem ro_X0_clear_b (l : Launch) (D : va_G) (dB dZ : ClassId) (H : Heap) (a C X N K B M : Nat → Nat) (hP : va_P D vwCl (wX a dB C X N K B M) H) (hC : ∀ j, C j ≤ 5) (hX : ∀ j, X j < 128) (t : Int32) (hbad : tx_isT t = false) : Ro l yX0_clear cX0_clear 2 (some .boolean) 1 20 [.ref (a 0), .int t] H D dB dZ ((tB false)) := by
  refine Ro.ofW (by decide) (Nat.le_of_ble_eq_true rfl) (fun p e s m below meth c hx hb hr hlocks hml hown hts hK ls hl => ?_)
  have hl : lv_has ls 2 [(0, .ref (a 0)), (1, .int t)] := hl
  refine lv_iload_n hx hb dX0_clear_0 rfl (lv_at hl 1 rfl) ?_
  refine ro_callS (As := [.int t]) (rest := []) ⟨hx, hb, hml, hown, hts⟩ hK (ro_X0_isTree l D dB dZ H t) (va_cwS 1 hts (lw_S q55 q56 q21 q57) rfl rfl rfl (by decide +kernel) ⟨Nat.le_of_ble_eq_true rfl, Nat.le_of_ble_eq_true rfl⟩) rfl hl.1 rfl (Nat.le_of_ble_eq_true rfl) dX0_clear_1 ⟨Nat.le_of_ble_eq_true rfl, Nat.le_of_ble_eq_true rfl⟩ ?_
  refine tc_bne (tgt := 9) hx hb dX0_clear_4 (by decide) (fun c_ => absurd c_ (by rw [hbad] at c_; cases c_)) (fun _ => ?_)
  refine lv_iconst (v := nI 0) hx hb dX0_clear_7 (by decide) ?_
  exact ro_ret hx hb hr hlocks dX0_clear_8 rfl (rfl)
set_option maxHeartbeats 4000000 in
set_option maxRecDepth 100000 in
/-- clear: a tree -/
theorem mu_X0_clear (l : Launch) (D : va_G) (dB dZ : ClassId) (H : Heap) (a C X N K B M : Nat → Nat) (hP : va_P D vwCl (wX a dB C X N K B M) H) (hC : ∀ j, C j ≤ 5) (hX : ∀ j, X j < 128) (hap : tcAp a 7) (t : Nat) (ht : t < 2) : Met l yX0_clear (ws_ yX0_clear cX0_clear 2 (some .boolean)) (tcR 1 20) (roP [.ref (a 0), .int (nI t)] H D dB dZ) (va_Qi (fun r (_ : Unit) => r = nI 1) (fun (u : Unit) T_ => va_P D vwCl (wX a dB (tc_upd C t 0) X N K B M) T_.heap) (tcA a 7)) 0 0 (tcA a 7) := by
  refine Mu.ofW (by decide) (Nat.le_of_ble_eq_true rfl) (fun p e s m below meth c hx hb hr hlocks hml hown hts hK hH ls hl => ?_)
  have hl : lv_has ls 2 [(0, .ref (a 0)), (1, .int (nI t))] := hl
  have hS : va_S (tcA a 7) H H [] := va_S.rf
  refine lv_iload_n hx hb dX0_clear_0 rfl (lv_at hl 1 rfl) ?_
  refine ro_callS (As := [.int (nI t)]) (rest := []) ⟨hx, hb, hml, hown, hts⟩ hK (ro_X0_isTree l D dB dZ H (nI t)) (va_cwS 1 hts (lw_S q55 q56 q21 q57) rfl rfl rfl (by decide +kernel) ⟨Nat.le_of_ble_eq_true rfl, Nat.le_of_ble_eq_true rfl⟩) rfl hl.1 rfl (Nat.le_of_ble_eq_true rfl) dX0_clear_1 ⟨Nat.le_of_ble_eq_true rfl, Nat.le_of_ble_eq_true rfl⟩ ?_
  refine tc_bne (tgt := 9) hx hb dX0_clear_4 (by decide) (fun _ => ?_) (fun c_ => absurd c_ (by rw [tx_isT_n ht] at c_; cases c_))
  refine lv_aload_n hx hb dX0_clear_9 rfl (lv_at hl 0 rfl) ?_
  refine tc_getX (a := a) (v := .ref (a 1)) hx hb hts hown hK hP 0 rfl 0 (by decide) q31 rfl rfl dX0_clear_10 ?_
  refine lv_iload_n hx hb dX0_clear_13 rfl (lv_at hl 1 rfl) ?_
  refine lv_iconst (v := nI 0) hx hb dX0_clear_14 (by decide) ?_
  refine tc_bast (k := t) (v := 0) hx hb dX0_clear_15 hK hP (tc_DX hap) hS 1 0 rfl rfl (by decide) (by omega) (by omega) (fun H locs hP hS => ?_)
  have hP : va_P D vwCl (wX a dB (tc_upd C t 0) X N K B M) H := hP
  refine lv_iconst (v := nI 1) hx hb dX0_clear_16 (by decide) ?_
  exact mu_ret hx hb hr hlocks dX0_clear_17 rfl hH hS () hP (rfl)
set_option maxHeartbeats 4000000 in
set_option maxRecDepth 100000 in
/-- improve: one more part of the first group -/
theorem mu_X0_improve (l : Launch) (D : va_G) (dB dZ : ClassId) (H : Heap) (a C X N K B M : Nat → Nat) (hP : va_P D vwCl (wX a dB C X N K B M) H) (hC : ∀ j, C j ≤ 5) (hX : ∀ j, X j < 128) (hap : tcAp a 7) (hN : ∀ j, N j < 128) (hKc : ∀ j, K j ≤ 13) (hB : ∀ j, B j ≤ 7) (i0 q w : Nat) (hi0 : i0 < 13) (hq : q < 13) (hw : w < 128) (hM : ∀ j, j ≤ w → M j ≤ 120) : Met l yX0_improve (ws_ yX0_improve cX0_improve 8 none) (tcR 1 27) (roP [.ref (a 0), .int (nI i0), .int (nI q), .int (nI w)] H D dB dZ) (va_Qv (fun u : Nat → Nat => u = tc_upd M w (tx_impv N K B M i0 q w)) (fun (u : Nat → Nat) T_ => va_P D vwCl (wX a dB C X N K B u) T_.heap) (tcA a 7)) 0 0 (tcA a 7) := by
  refine Mu.ofW (by decide) (Nat.le_of_ble_eq_true rfl) (fun p e s m below meth c hx hb hr hlocks hml hown hts hK hH ls hl => ?_)
  have hl : lv_has ls 8 [(0, .ref (a 0)), (1, .int (nI i0)), (2, .int (nI q)), (3, .int (nI w))] := hl
  have hS : va_S (tcA a 7) H H [] := va_S.rf
  refine lv_iconst (v := nI 0) hx hb dX0_improve_0 (by decide) ?_
  refine lv_istore (lv' := [(4, .int (nI 0)), (0, .ref (a 0)), (1, .int (nI i0)), (2, .int (nI q)), (3, .int (nI w))]) hx hb dX0_improve_1 hl (by decide) rfl (fun ls hl => ?_)
  refine lv_aload_n hx hb dX0_improve_3 rfl (lv_at hl 1 rfl) ?_
  refine tc_getX (a := a) (v := .ref (a 6)) hx hb hts hown hK hP 0 rfl 5 (by decide) q36 rfl rfl dX0_improve_4 ?_
  refine lv_iload_n hx hb dX0_improve_7 rfl (lv_at hl 4 rfl) ?_
  have hmw := hM w (Nat.le_refl _)
  refine tc_bald (k := w) hx hb dX0_improve_8 hK hP 6 0 rfl rfl (by decide) (by omega) ?_
  refine lv_istore (lv' := [(5, .int (nI (M w))), (4, .int (nI 0)), (0, .ref (a 0)), (1, .int (nI i0)), (2, .int (nI q)), (3, .int (nI w))]) hx hb dX0_improve_9 hl (by decide) rfl (fun ls hl => ?_)
  refine lv_iconst (v := nI 0) hx hb dX0_improve_11 (by decide) ?_
  refine lv_istore (lv' := [(6, .int (nI 0)), (5, .int (nI (M w))), (4, .int (nI 0)), (0, .ref (a 0)), (1, .int (nI i0)), (2, .int (nI q)), (3, .int (nI w))]) hx hb dX0_improve_12 hl (by decide) rfl (fun ls hl => ?_)
  refine tc_for (nL := 8) q (fun _ => True) (fun j => [(6, .int (nI j)), (4, .int (nI ((tx_impF N K B M i0 q w j).1))), (5, .int (nI ((tx_impF N K B M i0 q w j).2))), (0, .ref (a 0)), (1, .int (nI i0)), (2, .int (nI q)), (3, .int (nI w))]) (trivial) (lv_sub hl [0, 2, 1, 3, 4, 5, 6] rfl) (fun j hi_j hv_1 ih_1 ls hl => ?_) (fun hv_1 ls hl => ?_)
  · have hl : lv_has ls 8 [(6, .int (nI j)), (4, .int (nI ((tx_impF N K B M i0 q w j).1))), (5, .int (nI ((tx_impF N K B M i0 q w j).2))), (0, .ref (a 0)), (1, .int (nI i0)), (2, .int (nI q)), (3, .int (nI w))] := hl
    have hn1 := tx_impF_1 N K B M i0 q w j
    have hn2 := tx_impF_le (N := N) (K := K) (i := i0) (q := q) hM hB j
    refine lv_iload hx hb dX0_improve_14 (lv_at hl 0 rfl) ?_
    refine lv_iload_n hx hb dX0_improve_16 rfl (lv_at hl 5 rfl) ?_
    refine tc_ge (tgt := 93) hx hb dX0_improve_17 (by decide) (by omega) (by omega) (fun c_ => absurd c_ (by omega)) (fun _ => ?_)
    refine tc_atV (nL := 8) 87 [] (α := Nat × Nat) (tx_ist N K B M i0 q w j (tx_impF N K B M i0 q w j)) (fun v => [(4, .int (nI v.1)), (5, .int (nI v.2)), (6, .int (nI j)), (0, .ref (a 0)), (1, .int (nI i0)), (2, .int (nI q)), (3, .int (nI w))]) (fun hj_2 => ?_) (fun ls hl => ?_)
    · refine lv_aload_n hx hb dX0_improve_20 rfl (lv_at hl 3 rfl) ?_
      refine lv_iconst (v := nI 1) hx hb dX0_improve_21 (by decide) ?_
      refine lv_iload_n hx hb dX0_improve_22 rfl (lv_at hl 5 rfl) ?_
      refine lv_iload hx hb dX0_improve_23 (lv_at hl 0 rfl) ?_
      refine ro_callV (As := [.int (nI 1), .int (nI q), .int (nI j)]) (rest := []) ⟨hx, hb, hml, hown, hts⟩ hK (ro_X0_isPart l D dB dZ H a C X N K B M hP hC hX hN hKc 1 (by omega) q j (by omega) (by omega)) (cwV 3 hts (lw_V q150 q152 qs10 q21 q153) rfl rfl rfl (by decide +kernel) ⟨Nat.le_of_ble_eq_true rfl, Nat.le_of_ble_eq_true rfl⟩) (va_recv hK hP (ci := 0) (q0 := 0) rfl rfl) rfl hl.1 rfl (Nat.le_of_ble_eq_true rfl) dX0_improve_25 ⟨Nat.le_of_ble_eq_true rfl, Nat.le_of_ble_eq_true rfl⟩ ?_
      refine tc_beq (tgt := 87) hx hb dX0_improve_28 (by decide) (fun c_3 => ?_) (fun c_3 => ?_)
      · exact hj_2 ((tx_impF N K B M i0 q w j).1, (tx_impF N K B M i0 q w j).2) (tx_ist_0 c_3) ls (lv_sub hl [1, 2, 0, 3, 4, 5, 6] rfl)
      · refine lv_iload_n hx hb dX0_improve_31 rfl (lv_at hl 6 rfl) ?_
        refine lv_iload hx hb dX0_improve_32 (lv_at hl 1 rfl) ?_
        refine tc_ishr hx hb dX0_improve_34 (by omega) (by omega) ?_
        refine lv_iconst (v := nI 1) hx hb dX0_improve_35 (by decide) ?_
        refine tc_iand hx hb dX0_improve_36 ?_
        have hv_4 : (w >>> ((tx_impF N K B M i0 q w j).1)) &&& 1 ≤ 1 := Nat.and_le_right
        refine tc_eq0 (tgt := 84) hx hb dX0_improve_37 (by decide) (by omega) (fun c_5 => ?_) (fun c_5 => ?_)
        · refine lv_iinc (v := nI (((tx_impF N K B M i0 q w j).1) + 1)) (lv' := [(4, .int (nI (((tx_impF N K B M i0 q w j).1) + 1))), (6, .int (nI j)), (5, .int (nI ((tx_impF N K B M i0 q w j).2))), (0, .ref (a 0)), (1, .int (nI i0)), (2, .int (nI q)), (3, .int (nI w))]) hx hb dX0_improve_84 hl (k := 1) rfl (t_inc _) (by decide) rfl (fun ls hl => ?_)
          exact hj_2 (((tx_impF N K B M i0 q w j).1) + 1, (tx_impF N K B M i0 q w j).2) (tx_ist_1 c_3 c_5) ls (lv_sub hl [0, 2, 1, 3, 4, 5, 6] rfl)
        · refine lv_aload_n hx hb dX0_improve_40 rfl (lv_at hl 3 rfl) ?_
          refine tc_getX (a := a) (v := .ref (a 6)) hx hb hts hown hK hP 0 rfl 5 (by decide) q36 rfl rfl dX0_improve_41 ?_
          refine lv_iload_n hx hb dX0_improve_44 rfl (lv_at hl 6 rfl) ?_
          refine lv_iconst (v := nI 1) hx hb dX0_improve_45 (by decide) ?_
          refine lv_iload hx hb dX0_improve_46 (lv_at hl 1 rfl) ?_
          refine tc_ishl hx hb dX0_improve_48 (by omega) (tc_shl_lt (by omega)) ?_
          refine lv_iconst (v := -1) hx hb dX0_improve_49 (by decide) ?_
          refine lv_ixor hx hb dX0_improve_50 ?_
          refine tc_iandn hx hb dX0_improve_51 (by omega) ?_
          have hv_6 : tc_dif w (1 <<< ((tx_impF N K B M i0 q w j).1)) ≤ w := Nat.and_le_left
          refine tc_bald (k := (tc_dif w (1 <<< ((tx_impF N K B M i0 q w j).1)))) hx hb dX0_improve_52 hK hP 6 0 rfl rfl (by decide) (by omega) ?_
          have hm1 := hM (tc_dif w (1 <<< (tx_impF N K B M i0 q w j).1)) Nat.and_le_left
          refine lv_aload_n hx hb dX0_improve_53 rfl (lv_at hl 3 rfl) ?_
          refine tc_getX (a := a) (v := .ref (a 5)) hx hb hts hown hK hP 0 rfl 4 (by decide) q35 rfl rfl dX0_improve_54 ?_
          refine lv_iload_n hx hb dX0_improve_57 rfl (lv_at hl 4 rfl) ?_
          refine lv_bipush (v := nI 13) hx hb dX0_improve_58 (by decide) ?_
          refine tc_imul hx hb dX0_improve_60 ?_
          refine lv_iload hx hb dX0_improve_61 (lv_at hl 0 rfl) ?_
          refine tc_iadd hx hb dX0_improve_63 ?_
          refine tc_bald (k := ((i0 * 13) + j)) hx hb dX0_improve_64 hK hP 5 0 rfl rfl (by decide) (by omega) ?_
          have hv_7 := hB ((i0 * 13) + j)
          refine tc_iadd hx hb dX0_improve_65 ?_
          refine lv_istore (lv' := [(7, .int (nI ((M (tc_dif w (1 <<< ((tx_impF N K B M i0 q w j).1)))) + (B ((i0 * 13) + j))))), (6, .int (nI j)), (4, .int (nI ((tx_impF N K B M i0 q w j).1))), (5, .int (nI ((tx_impF N K B M i0 q w j).2))), (0, .ref (a 0)), (1, .int (nI i0)), (2, .int (nI q)), (3, .int (nI w))]) hx hb dX0_improve_66 hl (by decide) rfl (fun ls hl => ?_)
          refine lv_iload hx hb dX0_improve_68 (lv_at hl 0 rfl) ?_
          refine lv_iload hx hb dX0_improve_70 (lv_at hl 3 rfl) ?_
          refine tc_le (tgt := 80) hx hb dX0_improve_72 (by decide) (by omega) (by omega) (fun c_8 => ?_) (fun c_8 => ?_)
          · refine lv_iload hx hb dX0_improve_80 (lv_at hl 3 rfl) ?_
            refine lv_istore (lv' := [(5, .int (nI ((tx_impF N K B M i0 q w j).2))), (7, .int (nI ((M (tc_dif w (1 <<< ((tx_impF N K B M i0 q w j).1)))) + (B ((i0 * 13) + j))))), (6, .int (nI j)), (4, .int (nI ((tx_impF N K B M i0 q w j).1))), (0, .ref (a 0)), (1, .int (nI i0)), (2, .int (nI q)), (3, .int (nI w))]) hx hb dX0_improve_82 hl (by decide) rfl (fun ls hl => ?_)
            refine lv_iinc (v := nI (((tx_impF N K B M i0 q w j).1) + 1)) (lv' := [(4, .int (nI (((tx_impF N K B M i0 q w j).1) + 1))), (5, .int (nI ((tx_impF N K B M i0 q w j).2))), (7, .int (nI ((M (tc_dif w (1 <<< ((tx_impF N K B M i0 q w j).1)))) + (B ((i0 * 13) + j))))), (6, .int (nI j)), (0, .ref (a 0)), (1, .int (nI i0)), (2, .int (nI q)), (3, .int (nI w))]) hx hb dX0_improve_84 hl (k := 3) rfl (t_inc _) (by decide) rfl (fun ls hl => ?_)
            exact hj_2 (((tx_impF N K B M i0 q w j).1) + 1, (tx_impF N K B M i0 q w j).2) (tx_ist_2 c_3 c_5 c_8) ls (lv_sub hl [0, 1, 3, 4, 5, 6, 7] rfl)
          · refine lv_iload hx hb dX0_improve_75 (lv_at hl 0 rfl) ?_
            refine lv_goto (tgt := 82) hx hb dX0_improve_77 (by decide) ?_
            refine lv_istore (lv' := [(5, .int (nI ((M (tc_dif w (1 <<< ((tx_impF N K B M i0 q w j).1)))) + (B ((i0 * 13) + j))))), (7, .int (nI ((M (tc_dif w (1 <<< ((tx_impF N K B M i0 q w j).1)))) + (B ((i0 * 13) + j))))), (6, .int (nI j)), (4, .int (nI ((tx_impF N K B M i0 q w j).1))), (0, .ref (a 0)), (1, .int (nI i0)), (2, .int (nI q)), (3, .int (nI w))]) hx hb dX0_improve_82 hl (by decide) rfl (fun ls hl => ?_)
            refine lv_iinc (v := nI (((tx_impF N K B M i0 q w j).1) + 1)) (lv' := [(4, .int (nI (((tx_impF N K B M i0 q w j).1) + 1))), (5, .int (nI ((M (tc_dif w (1 <<< ((tx_impF N K B M i0 q w j).1)))) + (B ((i0 * 13) + j))))), (7, .int (nI ((M (tc_dif w (1 <<< ((tx_impF N K B M i0 q w j).1)))) + (B ((i0 * 13) + j))))), (6, .int (nI j)), (0, .ref (a 0)), (1, .int (nI i0)), (2, .int (nI q)), (3, .int (nI w))]) hx hb dX0_improve_84 hl (k := 3) rfl (t_inc _) (by decide) rfl (fun ls hl => ?_)
            exact hj_2 (((tx_impF N K B M i0 q w j).1) + 1, (M (tc_dif w (1 <<< ((tx_impF N K B M i0 q w j).1)))) + (B ((i0 * 13) + j))) (tx_ist_3 c_3 c_5 c_8) ls (lv_sub hl [0, 1, 3, 4, 5, 6, 7] rfl)
    · have hl : lv_has ls 8 [(4, .int (nI ((tx_ist N K B M i0 q w j (tx_impF N K B M i0 q w j)).1))), (5, .int (nI ((tx_ist N K B M i0 q w j (tx_impF N K B M i0 q w j)).2))), (6, .int (nI j)), (0, .ref (a 0)), (1, .int (nI i0)), (2, .int (nI q)), (3, .int (nI w))] := hl
      refine lv_iinc (v := nI (j + 1)) (lv' := [(6, .int (nI (j + 1))), (4, .int (nI ((tx_ist N K B M i0 q w j (tx_impF N K B M i0 q w j)).1))), (5, .int (nI ((tx_ist N K B M i0 q w j (tx_impF N K B M i0 q w j)).2))), (0, .ref (a 0)), (1, .int (nI i0)), (2, .int (nI q)), (3, .int (nI w))]) hx hb dX0_improve_87 hl (k := 2) rfl (t_inc _) (by decide) rfl (fun ls hl => ?_)
      refine lv_goto (tgt := 14) hx hb dX0_improve_90 (by decide) ?_
      exact ih_1 ls (trivial) (lv_sub hl [0, 1, 2, 3, 4, 5, 6] rfl)
  · have hl : lv_has ls 8 [(6, .int (nI q)), (4, .int (nI ((tx_impF N K B M i0 q w q).1))), (5, .int (nI ((tx_impF N K B M i0 q w q).2))), (0, .ref (a 0)), (1, .int (nI i0)), (2, .int (nI q)), (3, .int (nI w))] := hl
    have hn2 := tx_impF_le (N := N) (K := K) (i := i0) (q := q) hM hB q
    refine lv_iload hx hb dX0_improve_14 (lv_at hl 0 rfl) ?_
    refine lv_iload_n hx hb dX0_improve_16 rfl (lv_at hl 5 rfl) ?_
    refine tc_ge (tgt := 93) hx hb dX0_improve_17 (by decide) (by omega) (by omega) (fun _ => ?_) (fun c_ => absurd c_ (by omega))
    refine lv_aload_n hx hb dX0_improve_93 rfl (lv_at hl 3 rfl) ?_
    refine tc_getX (a := a) (v := .ref (a 6)) hx hb hts hown hK hP 0 rfl 5 (by decide) q36 rfl rfl dX0_improve_94 ?_
    refine lv_iload_n hx hb dX0_improve_97 rfl (lv_at hl 6 rfl) ?_
    refine lv_iload hx hb dX0_improve_98 (lv_at hl 2 rfl) ?_
    refine tc_i2b hx hb dX0_improve_100 (by omega) ?_
    refine tc_bast (k := w) (v := (tx_impF N K B M i0 q w q).2) hx hb dX0_improve_101 hK hP (tc_DX hap) hS 6 0 rfl rfl (by decide) (by omega) (by omega) (fun H locs hP hS => ?_)
    have hP : va_P D vwCl (wX a dB C X N K B (tc_upd M w ((tx_impF N K B M i0 q w q).2))) H := hP
    exact mu_vret hx hb hr hlocks dX0_improve_102 hH hS (tc_upd M w (tx_impF N K B M i0 q w q).2) hP (rfl)
set_option maxHeartbeats 4000000 in
set_option maxRecDepth 100000 in
/-- matchParts: the best matching of parts -/
theorem mu_X0_matchParts (l : Launch) (D : va_G) (dB dZ : ClassId) (H : Heap) (a C X N K B M : Nat → Nat) (hP : va_P D vwCl (wX a dB C X N K B M) H) (hC : ∀ j, C j ≤ 5) (hX : ∀ j, X j < 128) (hap : tcAp a 7) (hN : ∀ j, N j < 128) (hKc : ∀ j, K j ≤ 13) (hB : ∀ j, B j ≤ 7) (k q : Nat) (hk : k < 13) (hq : q < 13) : Met l yX0_matchParts (ws_ yX0_matchParts cX0_matchParts 5 (some .int)) (tcR 2 54) (roP [.ref (a 0), .int (nI k), .int (nI q)] H D dB dZ) (va_Qi (fun r (_ : Nat → Nat) => r = nI (tx_match N K B k q)) (fun (u : Nat → Nat) T_ => va_P D vwCl (wX a dB C X N K B u) T_.heap) (tcA a 7)) 0 0 (tcA a 7) := by
  refine Mu.ofW (by decide) (Nat.le_of_ble_eq_true rfl) (fun p e s m below meth c hx hb hr hlocks hml hown hts hK hH ls hl => ?_)
  have hl : lv_has ls 5 [(0, .ref (a 0)), (1, .int (nI k)), (2, .int (nI q))] := hl
  have hS : va_S (tcA a 7) H H [] := va_S.rf
  refine lv_iconst (v := nI 0) hx hb dX0_matchParts_0 (by decide) ?_
  refine lv_istore_n (lv' := [(3, .int (nI 0)), (0, .ref (a 0)), (1, .int (nI k)), (2, .int (nI q))]) hx hb dX0_matchParts_1 rfl hl (by decide) rfl (fun ls hl => ?_)
  refine tc_forH (nL := 5) (A := (tcA a 7)) (σ := Nat → Nat) 128 (fun M1 => wX a dB C X N K B M1) (fun i M1 => ∀ j, j < i → M1 j = 0) (fun i M1 => [(3, .int (nI i)), (0, .ref (a 0)), (1, .int (nI k)), (2, .int (nI q))]) M (fun j h => absurd h (by omega)) hP hS (lv_sub hl [0, 1, 2, 3] rfl) (fun i hi_i M1 H locs hv_1 hP hS ih_1 ls hl => ?_) (fun M1 H locs hv_1 hP hS ls hl => ?_)
  · have hl : lv_has ls 5 [(3, .int (nI i)), (0, .ref (a 0)), (1, .int (nI k)), (2, .int (nI q))] := hl
    have hP : va_P D vwCl (wX a dB C X N K B M1) H := hP
    have hv_1 : ∀ j, j < i → M1 j = 0 := hv_1
    refine lv_iload_n hx hb dX0_matchParts_2 rfl (lv_at hl 0 rfl) ?_
    refine lv_sipush (v := nI 128) hx hb dX0_matchParts_3 (by decide) ?_
    refine tc_ge (tgt := 22) hx hb dX0_matchParts_6 (by decide) (by omega) (by omega) (fun c_ => absurd c_ (by omega)) (fun _ => ?_)
    refine lv_aload_n hx hb dX0_matchParts_9 rfl (lv_at hl 1 rfl) ?_
    refine tc_getX (a := a) (v := .ref (a 6)) hx hb hts hown hK hP 0 rfl 5 (by decide) q36 rfl rfl dX0_matchParts_10 ?_
    refine lv_iload_n hx hb dX0_matchParts_13 rfl (lv_at hl 0 rfl) ?_
    refine lv_iconst (v := nI 0) hx hb dX0_matchParts_14 (by decide) ?_
    refine tc_bast (k := i) (v := 0) hx hb dX0_matchParts_15 hK hP (tc_DX hap) hS 6 0 rfl rfl (by decide) (by omega) (by omega) (fun H locs hP hS => ?_)
    have hP : va_P D vwCl (wX a dB C X N K B (tc_upd M1 i 0)) H := hP
    refine lv_iinc (v := nI (i + 1)) (lv' := [(3, .int (nI (i + 1))), (0, .ref (a 0)), (1, .int (nI k)), (2, .int (nI q))]) hx hb dX0_matchParts_16 hl (k := 0) rfl (t_inc _) (by decide) rfl (fun ls hl => ?_)
    refine lv_goto (tgt := 2) hx hb dX0_matchParts_19 (by decide) ?_
    exact ih_1 (tc_upd M1 i 0) H locs ls (tx_zero_s hv_1) hP hS (lv_sub hl [0, 1, 2, 3] rfl)
  · have hl : lv_has ls 5 [(3, .int (nI 128)), (0, .ref (a 0)), (1, .int (nI k)), (2, .int (nI q))] := hl
    have hP : va_P D vwCl (wX a dB C X N K B M1) H := hP
    have hv_1 : ∀ j, j < 128 → M1 j = 0 := hv_1
    have hz_in := hv_1
    refine lv_iload_n hx hb dX0_matchParts_2 rfl (lv_at hl 0 rfl) ?_
    refine lv_sipush (v := nI 128) hx hb dX0_matchParts_3 (by decide) ?_
    refine tc_ge (tgt := 22) hx hb dX0_matchParts_6 (by decide) (by omega) (by omega) (fun _ => ?_) (fun c_ => absurd c_ (by omega))
    refine lv_iconst (v := nI 0) hx hb dX0_matchParts_22 (by decide) ?_
    refine lv_istore_n (lv' := [(3, .int (nI 0)), (0, .ref (a 0)), (1, .int (nI k)), (2, .int (nI q))]) hx hb dX0_matchParts_23 rfl hl (by decide) rfl (fun ls hl => ?_)
    refine tc_forH (nL := 5) (A := (tcA a 7)) (σ := Nat → Nat) k (fun M2 => wX a dB C X N K B M2) (fun i M2 => ∀ j, j < 128 → M2 j = tx_MM N K B k q i j) (fun i M2 => [(3, .int (nI i)), (0, .ref (a 0)), (1, .int (nI k)), (2, .int (nI q))]) M1 (fun j hj => hz_in j hj) hP hS (lv_sub hl [0, 1, 2, 3] rfl) (fun i hi_i M2 H locs hv_2 hP hS ih_2 ls hl => ?_) (fun M2 H locs hv_2 hP hS ls hl => ?_)
    · have hl : lv_has ls 5 [(3, .int (nI i)), (0, .ref (a 0)), (1, .int (nI k)), (2, .int (nI q))] := hl
      have hP : va_P D vwCl (wX a dB C X N K B M2) H := hP
      have hv_2 : ∀ j, j < 128 → M2 j = tx_MM N K B k q i j := hv_2
      have hv_out := hv_2
      refine lv_iload_n hx hb dX0_matchParts_24 rfl (lv_at hl 0 rfl) ?_
      refine lv_iload_n hx hb dX0_matchParts_25 rfl (lv_at hl 2 rfl) ?_
      refine tc_ge (tgt := 68) hx hb dX0_matchParts_26 (by decide) (by omega) (by omega) (fun c_ => absurd c_ (by omega)) (fun _ => ?_)
      refine lv_aload_n hx hb dX0_matchParts_29 rfl (lv_at hl 1 rfl) ?_
      refine lv_iconst (v := nI 0) hx hb dX0_matchParts_30 (by decide) ?_
      refine lv_iload_n hx hb dX0_matchParts_31 rfl (lv_at hl 2 rfl) ?_
      refine lv_iload_n hx hb dX0_matchParts_32 rfl (lv_at hl 0 rfl) ?_
      refine ro_callV (As := [.int (nI 0), .int (nI k), .int (nI i)]) (rest := []) ⟨hx, hb, hml, hown, hts⟩ hK (ro_X0_isPart l D dB dZ H a C X N K B M2 hP hC hX hN hKc 0 (by omega) k i (by omega) (by omega)) (cwV 3 hts (lw_V q150 q152 qs10 q21 q153) rfl rfl rfl (by decide +kernel) ⟨Nat.le_of_ble_eq_true rfl, Nat.le_of_ble_eq_true rfl⟩) (va_recv hK hP (ci := 0) (q0 := 0) rfl rfl) rfl hl.1 rfl (Nat.le_of_ble_eq_true rfl) dX0_matchParts_33 ⟨Nat.le_of_ble_eq_true rfl, Nat.le_of_ble_eq_true rfl⟩ ?_
      refine tc_beq (tgt := 62) hx hb dX0_matchParts_36 (by decide) (fun c_3 => ?_) (fun c_3 => ?_)
      · refine lv_iinc (v := nI (i + 1)) (lv' := [(3, .int (nI (i + 1))), (0, .ref (a 0)), (1, .int (nI k)), (2, .int (nI q))]) hx hb dX0_matchParts_62 hl (k := 0) rfl (t_inc _) (by decide) rfl (fun ls hl => ?_)
        refine lv_goto (tgt := 24) hx hb dX0_matchParts_65 (by decide) ?_
        exact ih_2 M2 H locs ls (tx_MM_n hv_2 c_3) hP hS (lv_sub hl [0, 1, 2, 3] rfl)
      · refine lv_bipush (v := nI 127) hx hb dX0_matchParts_39 (by decide) ?_
        refine tc_top (show nI 127 = nI (128 - 0) + (-1) from by decide) ?_
        refine lv_istore (lv' := [(4, .int (nI (128 - 0) + (-1))), (3, .int (nI i)), (0, .ref (a 0)), (1, .int (nI k)), (2, .int (nI q))]) hx hb dX0_matchParts_41 hl (by decide) rfl (fun ls hl => ?_)
        refine tc_forH (nL := 5) (A := (tcA a 7)) (σ := Nat → Nat) 128 (fun M3 => wX a dB C X N K B M3) (fun z M3 => ∀ j, j < 128 → M3 j = if 128 - z ≤ j then tx_impv N K B (tx_MM N K B k q i) i q j else tx_MM N K B k q i j) (fun z M3 => [(4, .int (nI (128 - z) + (-1))), (3, .int (nI i)), (0, .ref (a 0)), (1, .int (nI k)), (2, .int (nI q))]) M2 (tx_inv_0 hv_out) hP hS (lv_sub hl [0, 1, 2, 3, 4] rfl) (fun z hi_z M3 H locs hv_4 hP hS ih_4 ls hl => ?_) (fun M3 H locs hv_4 hP hS ls hl => ?_)
        · have hl : lv_has ls 5 [(4, .int (nI (128 - z) + (-1))), (3, .int (nI i)), (0, .ref (a 0)), (1, .int (nI k)), (2, .int (nI q))] := hl
          have hP : va_P D vwCl (wX a dB C X N K B M3) H := hP
          have hv_4 : ∀ j, j < 128 → M3 j = if 128 - z ≤ j then tx_impv N K B (tx_MM N K B k q i) i q j else tx_MM N K B k q i j := hv_4
          have hv_in := hv_4
          refine lv_iload hx hb dX0_matchParts_43 (lv_at hl 0 rfl) ?_
          refine lv_if_lt (tgt := 62) hx hb dX0_matchParts_45 (by decide) (fun c_ => absurd c_ (by exact tx_dn_pos hi_z)) (fun _ => ?_)
          rw [tx_dn_eq hi_z] at hl
          have hl : lv_has ls 5 [(4, .int (nI (127 - z))), (3, .int (nI i)), (0, .ref (a 0)), (1, .int (nI k)), (2, .int (nI q))] := hl
          refine lv_aload_n hx hb dX0_matchParts_48 rfl (lv_at hl 2 rfl) ?_
          refine lv_iload_n hx hb dX0_matchParts_49 rfl (lv_at hl 1 rfl) ?_
          refine lv_iload_n hx hb dX0_matchParts_50 rfl (lv_at hl 4 rfl) ?_
          refine lv_iload hx hb dX0_matchParts_51 (lv_at hl 0 rfl) ?_
          refine mu_callVv (As := [.int (nI i), .int (nI q), .int (nI (127 - z))]) (rest := []) ⟨hx, hb, hml, hown, hts⟩ hK (mu_X0_improve l D dB dZ H a C X N K B M3 hP hC hX hap hN hKc hB i q (127 - z) (by omega) (by omega) (by omega) (tx_inv_le hB hv_in (by omega) (by omega))) (cwV 3 hts (lw_V q154 q156 qs11 q21 q157) rfl rfl rfl (by decide +kernel) ⟨Nat.le_of_ble_eq_true rfl, Nat.le_of_ble_eq_true rfl⟩) (va_recv hK hP (ci := 0) (q0 := 0) rfl rfl) rfl hl.1 rfl (Nat.le_of_ble_eq_true rfl) dX0_matchParts_53 ⟨Nat.le_of_ble_eq_true rfl, Nat.le_of_ble_eq_true rfl⟩ hS (fun q h => h) (fun u_5 H locs hp_5 hP _ _ hS => ?_)
          subst hp_5
          have hP : va_P D vwCl (wX a dB C X N K B (tc_upd M3 (127 - z) (tx_impv N K B M3 i q (127 - z)))) H := hP
          refine lv_iinc (v := nI (128 - (z + 1)) + (-1)) (lv' := [(4, .int (nI (128 - (z + 1)) + (-1))), (3, .int (nI i)), (0, .ref (a 0)), (1, .int (nI k)), (2, .int (nI q))]) hx hb dX0_matchParts_56 hl (k := 0) rfl (tx_dn_dec hi_z) (by decide) rfl (fun ls hl => ?_)
          refine lv_goto (tgt := 43) hx hb dX0_matchParts_59 (by decide) ?_
          exact ih_4 (tc_upd M3 (127 - z) (tx_impv N K B M3 i q (127 - z))) H locs ls (tx_inv_s hi_z hv_4) hP hS (lv_sub hl [0, 1, 2, 3, 4] rfl)
        · have hl : lv_has ls 5 [(4, .int (nI (128 - 128) + (-1))), (3, .int (nI i)), (0, .ref (a 0)), (1, .int (nI k)), (2, .int (nI q))] := hl
          have hP : va_P D vwCl (wX a dB C X N K B M3) H := hP
          have hv_4 : ∀ j, j < 128 → M3 j = if 128 - 128 ≤ j then tx_impv N K B (tx_MM N K B k q i) i q j else tx_MM N K B k q i j := hv_4
          have hv_in := hv_4
          refine lv_iload hx hb dX0_matchParts_43 (lv_at hl 0 rfl) ?_
          refine lv_if_lt (tgt := 62) hx hb dX0_matchParts_45 (by decide) (fun _ => ?_) (fun c_ => absurd c_ (by decide))
          refine lv_iinc (v := nI (i + 1)) (lv' := [(3, .int (nI (i + 1))), (4, .int (nI (128 - 128) + (-1))), (0, .ref (a 0)), (1, .int (nI k)), (2, .int (nI q))]) hx hb dX0_matchParts_62 hl (k := 1) rfl (t_inc _) (by decide) rfl (fun ls hl => ?_)
          refine lv_goto (tgt := 24) hx hb dX0_matchParts_65 (by decide) ?_
          exact ih_2 M3 H locs ls (tx_MM_p c_3 hv_in) hP hS (lv_sub hl [0, 2, 3, 4] rfl)
    · have hl : lv_has ls 5 [(3, .int (nI k)), (0, .ref (a 0)), (1, .int (nI k)), (2, .int (nI q))] := hl
      have hP : va_P D vwCl (wX a dB C X N K B M2) H := hP
      have hv_2 : ∀ j, j < 128 → M2 j = tx_MM N K B k q k j := hv_2
      have hv_end := hv_2
      refine lv_iload_n hx hb dX0_matchParts_24 rfl (lv_at hl 0 rfl) ?_
      refine lv_iload_n hx hb dX0_matchParts_25 rfl (lv_at hl 2 rfl) ?_
      refine tc_ge (tgt := 68) hx hb dX0_matchParts_26 (by decide) (by omega) (by omega) (fun _ => ?_) (fun c_ => absurd c_ (by omega))
      refine lv_aload_n hx hb dX0_matchParts_68 rfl (lv_at hl 1 rfl) ?_
      refine tc_getX (a := a) (v := .ref (a 6)) hx hb hts hown hK hP 0 rfl 5 (by decide) q36 rfl rfl dX0_matchParts_69 ?_
      refine lv_bipush (v := nI 127) hx hb dX0_matchParts_72 (by decide) ?_
      refine tc_bald (k := 127) hx hb dX0_matchParts_74 hK hP 6 0 rfl rfl (by decide) (by omega) ?_
      exact mu_ret hx hb hr hlocks dX0_matchParts_75 rfl hH hS M2 hP (congrArg nI (hv_end 127 (by omega)))
set_option maxHeartbeats 4000000 in
set_option maxRecDepth 100000 in
/-- below: the largest agreement below two groups -/
theorem mu_X0_below (l : Launch) (D : va_G) (dB dZ : ClassId) (H : Heap) (a C X N K B M : Nat → Nat) (hP : va_P D vwCl (wX a dB C X N K B M) H) (hC : ∀ j, C j ≤ 5) (hX : ∀ j, X j < 128) (hap : tcAp a 7) (hN : ∀ j, N j < 128) (hKc : ∀ j, K j ≤ 13) (hB : ∀ j, B j ≤ 7) (k q : Nat) (hk : k < 13) (hq : q < 13) : Met l yX0_below (ws_ yX0_below cX0_below 7 (some .int)) (tcR 3 78) (roP [.ref (a 0), .int (nI k), .int (nI q)] H D dB dZ) (va_Qi (fun r (_ : Nat → Nat) => r = nI (tx_below N K B k q)) (fun (u : Nat → Nat) T_ => va_P D vwCl (wX a dB C X N K B u) T_.heap) (tcA a 7)) 0 0 (tcA a 7) := by
  refine Mu.ofW (by decide) (Nat.le_of_ble_eq_true rfl) (fun p e s m below meth c hx hb hr hlocks hml hown hts hK hH ls hl => ?_)
  have hl : lv_has ls 7 [(0, .ref (a 0)), (1, .int (nI k)), (2, .int (nI q))] := hl
  have hS : va_S (tcA a 7) H H [] := va_S.rf
  refine lv_aload_n hx hb dX0_below_0 rfl (lv_at hl 0 rfl) ?_
  refine tc_getX (a := a) (v := .ref (a 3)) hx hb hts hown hK hP 0 rfl 2 (by decide) q33 rfl rfl dX0_below_1 ?_
  refine lv_iload_n hx hb dX0_below_4 rfl (lv_at hl 1 rfl) ?_
  refine tc_bald (k := k) hx hb dX0_below_5 hK hP 3 0 rfl rfl (by decide) (by omega) ?_
  have hv_1 := hN k
  refine lv_istore_n (lv' := [(3, .int (nI (N k))), (0, .ref (a 0)), (1, .int (nI k)), (2, .int (nI q))]) hx hb dX0_below_6 rfl hl (by decide) rfl (fun ls hl => ?_)
  refine lv_aload_n hx hb dX0_below_7 rfl (lv_at hl 1 rfl) ?_
  refine tc_getX (a := a) (v := .ref (a 3)) hx hb hts hown hK hP 0 rfl 2 (by decide) q33 rfl rfl dX0_below_8 ?_
  refine lv_bipush (v := nI 13) hx hb dX0_below_11 (by decide) ?_
  refine lv_iload_n hx hb dX0_below_13 rfl (lv_at hl 3 rfl) ?_
  refine tc_iadd hx hb dX0_below_14 ?_
  refine tc_bald (k := (13 + q)) hx hb dX0_below_15 hK hP 3 0 rfl rfl (by decide) (by omega) ?_
  have hv_2 := hN (13 + q)
  refine lv_istore (lv' := [(4, .int (nI (N (13 + q)))), (3, .int (nI (N k))), (0, .ref (a 0)), (1, .int (nI k)), (2, .int (nI q))]) hx hb dX0_below_16 hl (by decide) rfl (fun ls hl => ?_)
  refine lv_iload_n hx hb dX0_below_18 rfl (lv_at hl 1 rfl) ?_
  refine ro_callS (As := [.int (nI (N k))]) (rest := []) ⟨hx, hb, hml, hown, hts⟩ hK (ro_X0_ones l D dB dZ H (N k) (by omega)) (va_cwS 1 hts (lw_S q72 q73 q21 q74) rfl rfl rfl (by decide +kernel) ⟨Nat.le_of_ble_eq_true rfl, Nat.le_of_ble_eq_true rfl⟩) rfl hl.1 rfl (Nat.le_of_ble_eq_true rfl) dX0_below_19 ⟨Nat.le_of_ble_eq_true rfl, Nat.le_of_ble_eq_true rfl⟩ ?_
  have hv_3 := tc_pop_le (N k)
  refine lv_iconst (v := nI 1) hx hb dX0_below_22 (by decide) ?_
  refine tc_eq (tgt := 35) hx hb dX0_below_23 (by decide) (by omega) (by omega) (fun c_4 => ?_) (fun c_4 => ?_)
  · refine lv_iload_n hx hb dX0_below_35 rfl (lv_at hl 1 rfl) ?_
    refine lv_iload hx hb dX0_below_36 (lv_at hl 0 rfl) ?_
    refine tc_iand hx hb dX0_below_38 ?_
    have hv_5 : (N k) &&& (N (13 + q)) ≤ (N k) := Nat.and_le_left
    refine tc_eq0 (tgt := 46) hx hb dX0_below_39 (by decide) (by omega) (fun c_6 => ?_) (fun c_6 => ?_)
    · refine lv_iconst (v := nI 0) hx hb dX0_below_46 (by decide) ?_
      exact mu_ret hx hb hr hlocks dX0_below_47 rfl hH hS M hP (congrArg nI (by unfold tx_below; rw [if_pos (Or.inl c_4), if_pos c_6]))
    · refine lv_iconst (v := nI 1) hx hb dX0_below_42 (by decide) ?_
      refine lv_goto (tgt := 47) hx hb dX0_below_43 (by decide) ?_
      exact mu_ret hx hb hr hlocks dX0_below_47 rfl hH hS M hP (congrArg nI (by unfold tx_below; rw [if_pos (Or.inl c_4), if_neg c_6]))
  · refine lv_iload hx hb dX0_below_26 (lv_at hl 0 rfl) ?_
    refine ro_callS (As := [.int (nI (N (13 + q)))]) (rest := []) ⟨hx, hb, hml, hown, hts⟩ hK (ro_X0_ones l D dB dZ H (N (13 + q)) (by omega)) (va_cwS 1 hts (lw_S q72 q73 q21 q74) rfl rfl rfl (by decide +kernel) ⟨Nat.le_of_ble_eq_true rfl, Nat.le_of_ble_eq_true rfl⟩) rfl hl.1 rfl (Nat.le_of_ble_eq_true rfl) dX0_below_28 ⟨Nat.le_of_ble_eq_true rfl, Nat.le_of_ble_eq_true rfl⟩ ?_
    have hv_7 := tc_pop_le (N (13 + q))
    refine lv_iconst (v := nI 1) hx hb dX0_below_31 (by decide) ?_
    refine tc_ne (tgt := 48) hx hb dX0_below_32 (by decide) (by omega) (by omega) (fun c_8 => ?_) (fun c_8 => ?_)
    · refine lv_aload_n hx hb dX0_below_48 rfl (lv_at hl 2 rfl) ?_
      refine lv_iload_n hx hb dX0_below_49 rfl (lv_at hl 3 rfl) ?_
      refine lv_iload_n hx hb dX0_below_50 rfl (lv_at hl 4 rfl) ?_
      refine mu_callV (As := [.int (nI k), .int (nI q)]) (rest := []) ⟨hx, hb, hml, hown, hts⟩ hK (mu_X0_matchParts l D dB dZ H a C X N K B M hP hC hX hap hN hKc hB k q (by omega) (by omega)) (cwV 2 hts (lw_V q146 q148 qs9 q21 q149) rfl rfl rfl (by decide +kernel) ⟨Nat.le_of_ble_eq_true rfl, Nat.le_of_ble_eq_true rfl⟩) (va_recv hK hP (ci := 0) (q0 := 0) rfl rfl) rfl hl.1 rfl (Nat.le_of_ble_eq_true rfl) dX0_below_51 ⟨Nat.le_of_ble_eq_true rfl, Nat.le_of_ble_eq_true rfl⟩ hS (fun q h => h) (fun r_9 u_9 H locs hp_9 hP _ _ hS => ?_)
      subst hp_9
      have hP : va_P D vwCl (wX a dB C X N K B u_9) H := hP
      have hbm := tx_match_le (N := N) (K := K) hB (q := q) hk
      refine lv_istore (lv' := [(5, .int (nI (tx_match N K B k q))), (4, .int (nI (N (13 + q)))), (3, .int (nI (N k))), (0, .ref (a 0)), (1, .int (nI k)), (2, .int (nI q))]) hx hb dX0_below_54 hl (by decide) rfl (fun ls hl => ?_)
      refine lv_iconst (v := nI 0) hx hb dX0_below_56 (by decide) ?_
      refine lv_istore (lv' := [(6, .int (nI 0)), (5, .int (nI (tx_match N K B k q))), (4, .int (nI (N (13 + q)))), (3, .int (nI (N k))), (0, .ref (a 0)), (1, .int (nI k)), (2, .int (nI q))]) hx hb dX0_below_57 hl (by decide) rfl (fun ls hl => ?_)
      refine tc_for (nL := 7) k (fun _ => True) (fun i => [(6, .int (nI i)), (5, .int (nI (tx_b1 N K B k q i))), (0, .ref (a 0)), (1, .int (nI k)), (2, .int (nI q))]) (trivial) (lv_sub hl [0, 1, 4, 5, 6] rfl) (fun i hi_i hv_10 ih_10 ls hl => ?_) (fun hv_10 ls hl => ?_)
      · have hl : lv_has ls 7 [(6, .int (nI i)), (5, .int (nI (tx_b1 N K B k q i))), (0, .ref (a 0)), (1, .int (nI k)), (2, .int (nI q))] := hl
        have hb1 := tx_b1_le (N := N) (K := K) hB (q := q) hk i
        refine lv_iload hx hb dX0_below_59 (lv_at hl 0 rfl) ?_
        refine lv_iload_n hx hb dX0_below_61 rfl (lv_at hl 3 rfl) ?_
        refine tc_ge (tgt := 118) hx hb dX0_below_62 (by decide) (by omega) (by omega) (fun c_ => absurd c_ (by omega)) (fun _ => ?_)
        refine tc_at 110 [.int (nI (tx_bs N K B 0 k (fun i => i * 13 + q) i (tx_b1 N K B k q i)))] (fun hj_11 => ?_) ?_
        · refine lv_aload_n hx hb dX0_below_65 rfl (lv_at hl 2 rfl) ?_
          refine lv_iconst (v := nI 0) hx hb dX0_below_66 (by decide) ?_
          refine lv_iload_n hx hb dX0_below_67 rfl (lv_at hl 3 rfl) ?_
          refine lv_iload hx hb dX0_below_68 (lv_at hl 0 rfl) ?_
          refine ro_callV (As := [.int (nI 0), .int (nI k), .int (nI i)]) (rest := []) ⟨hx, hb, hml, hown, hts⟩ hK (ro_X0_isPart l D dB dZ H a C X N K B u_9 hP hC hX hN hKc 0 (by omega) k i (by omega) (by omega)) (cwV 3 hts (lw_V q150 q152 qs10 q21 q153) rfl rfl rfl (by decide +kernel) ⟨Nat.le_of_ble_eq_true rfl, Nat.le_of_ble_eq_true rfl⟩) (va_recv hK hP (ci := 0) (q0 := 0) rfl rfl) rfl hl.1 rfl (Nat.le_of_ble_eq_true rfl) dX0_below_70 ⟨Nat.le_of_ble_eq_true rfl, Nat.le_of_ble_eq_true rfl⟩ ?_
          refine tc_beq (tgt := 108) hx hb dX0_below_73 (by decide) (fun c_12 => ?_) (fun c_12 => ?_)
          · refine lv_iload hx hb dX0_below_108 (lv_at hl 1 rfl) ?_
            exact tc_topN (tx_bs_n1 c_12) hj_11
          · refine lv_aload_n hx hb dX0_below_76 rfl (lv_at hl 2 rfl) ?_
            refine tc_getX (a := a) (v := .ref (a 5)) hx hb hts hown hK hP 0 rfl 4 (by decide) q35 rfl rfl dX0_below_77 ?_
            refine lv_iload hx hb dX0_below_80 (lv_at hl 0 rfl) ?_
            refine lv_bipush (v := nI 13) hx hb dX0_below_82 (by decide) ?_
            refine tc_imul hx hb dX0_below_84 ?_
            refine lv_iload_n hx hb dX0_below_85 rfl (lv_at hl 4 rfl) ?_
            refine tc_iadd hx hb dX0_below_86 ?_
            refine tc_bald (k := ((i * 13) + q)) hx hb dX0_below_87 hK hP 5 0 rfl rfl (by decide) (by omega) ?_
            have hv_13 := hB ((i * 13) + q)
            refine lv_iload hx hb dX0_below_88 (lv_at hl 1 rfl) ?_
            refine tc_le (tgt := 108) hx hb dX0_below_90 (by decide) (by omega) (by omega) (fun c_14 => ?_) (fun c_14 => ?_)
            · refine lv_iload hx hb dX0_below_108 (lv_at hl 1 rfl) ?_
              exact tc_topN (tx_bs_n2 (at_ := (fun i => i * 13 + q)) c_14) hj_11
            · refine lv_aload_n hx hb dX0_below_93 rfl (lv_at hl 2 rfl) ?_
              refine tc_getX (a := a) (v := .ref (a 5)) hx hb hts hown hK hP 0 rfl 4 (by decide) q35 rfl rfl dX0_below_94 ?_
              refine lv_iload hx hb dX0_below_97 (lv_at hl 0 rfl) ?_
              refine lv_bipush (v := nI 13) hx hb dX0_below_99 (by decide) ?_
              refine tc_imul hx hb dX0_below_101 ?_
              refine lv_iload_n hx hb dX0_below_102 rfl (lv_at hl 4 rfl) ?_
              refine tc_iadd hx hb dX0_below_103 ?_
              refine tc_bald (k := ((i * 13) + q)) hx hb dX0_below_104 hK hP 5 0 rfl rfl (by decide) (by omega) ?_
              have hv_15 := hB ((i * 13) + q)
              refine lv_goto (tgt := 110) hx hb dX0_below_105 (by decide) ?_
              exact tc_topN (tx_bs_p (at_ := (fun i => i * 13 + q)) c_12 c_14) hj_11
        · refine lv_istore (lv' := [(5, .int (nI (tx_bs N K B 0 k (fun i => i * 13 + q) i (tx_b1 N K B k q i)))), (6, .int (nI i)), (0, .ref (a 0)), (1, .int (nI k)), (2, .int (nI q))]) hx hb dX0_below_110 hl (by decide) rfl (fun ls hl => ?_)
          refine lv_iinc (v := nI (i + 1)) (lv' := [(6, .int (nI (i + 1))), (5, .int (nI (tx_bs N K B 0 k (fun i => i * 13 + q) i (tx_b1 N K B k q i)))), (0, .ref (a 0)), (1, .int (nI k)), (2, .int (nI q))]) hx hb dX0_below_112 hl (k := 1) rfl (t_inc _) (by decide) rfl (fun ls hl => ?_)
          refine lv_goto (tgt := 59) hx hb dX0_below_115 (by decide) ?_
          exact ih_10 ls (trivial) (lv_sub hl [0, 1, 2, 3, 4] rfl)
      · have hl : lv_has ls 7 [(6, .int (nI k)), (5, .int (nI (tx_b1 N K B k q k))), (0, .ref (a 0)), (1, .int (nI k)), (2, .int (nI q))] := hl
        refine lv_iload hx hb dX0_below_59 (lv_at hl 0 rfl) ?_
        refine lv_iload_n hx hb dX0_below_61 rfl (lv_at hl 3 rfl) ?_
        refine tc_ge (tgt := 118) hx hb dX0_below_62 (by decide) (by omega) (by omega) (fun _ => ?_) (fun c_ => absurd c_ (by omega))
        refine lv_iconst (v := nI 0) hx hb dX0_below_118 (by decide) ?_
        refine lv_istore (lv' := [(6, .int (nI 0)), (5, .int (nI (tx_b1 N K B k q k))), (0, .ref (a 0)), (1, .int (nI k)), (2, .int (nI q))]) hx hb dX0_below_119 hl (by decide) rfl (fun ls hl => ?_)
        refine tc_for (nL := 7) q (fun _ => True) (fun j => [(6, .int (nI j)), (5, .int (nI (tx_b2 N K B k q j))), (0, .ref (a 0)), (1, .int (nI k)), (2, .int (nI q))]) (trivial) (lv_sub hl [0, 1, 2, 3, 4] rfl) (fun j hi_j hv_16 ih_16 ls hl => ?_) (fun hv_16 ls hl => ?_)
        · have hl : lv_has ls 7 [(6, .int (nI j)), (5, .int (nI (tx_b2 N K B k q j))), (0, .ref (a 0)), (1, .int (nI k)), (2, .int (nI q))] := hl
          have hb2 := tx_b2_le (N := N) (K := K) hB (q := q) hk j
          refine lv_iload hx hb dX0_below_121 (lv_at hl 0 rfl) ?_
          refine lv_iload_n hx hb dX0_below_123 rfl (lv_at hl 4 rfl) ?_
          refine tc_ge (tgt := 180) hx hb dX0_below_124 (by decide) (by omega) (by omega) (fun c_ => absurd c_ (by omega)) (fun _ => ?_)
          refine tc_at 172 [.int (nI (tx_bs N K B 1 q (fun j => k * 13 + j) j (tx_b2 N K B k q j)))] (fun hj_17 => ?_) ?_
          · refine lv_aload_n hx hb dX0_below_127 rfl (lv_at hl 2 rfl) ?_
            refine lv_iconst (v := nI 1) hx hb dX0_below_128 (by decide) ?_
            refine lv_iload_n hx hb dX0_below_129 rfl (lv_at hl 4 rfl) ?_
            refine lv_iload hx hb dX0_below_130 (lv_at hl 0 rfl) ?_
            refine ro_callV (As := [.int (nI 1), .int (nI q), .int (nI j)]) (rest := []) ⟨hx, hb, hml, hown, hts⟩ hK (ro_X0_isPart l D dB dZ H a C X N K B u_9 hP hC hX hN hKc 1 (by omega) q j (by omega) (by omega)) (cwV 3 hts (lw_V q150 q152 qs10 q21 q153) rfl rfl rfl (by decide +kernel) ⟨Nat.le_of_ble_eq_true rfl, Nat.le_of_ble_eq_true rfl⟩) (va_recv hK hP (ci := 0) (q0 := 0) rfl rfl) rfl hl.1 rfl (Nat.le_of_ble_eq_true rfl) dX0_below_132 ⟨Nat.le_of_ble_eq_true rfl, Nat.le_of_ble_eq_true rfl⟩ ?_
            refine tc_beq (tgt := 170) hx hb dX0_below_135 (by decide) (fun c_18 => ?_) (fun c_18 => ?_)
            · refine lv_iload hx hb dX0_below_170 (lv_at hl 1 rfl) ?_
              exact tc_topN (tx_bs_n1 c_18) hj_17
            · refine lv_aload_n hx hb dX0_below_138 rfl (lv_at hl 2 rfl) ?_
              refine tc_getX (a := a) (v := .ref (a 5)) hx hb hts hown hK hP 0 rfl 4 (by decide) q35 rfl rfl dX0_below_139 ?_
              refine lv_iload_n hx hb dX0_below_142 rfl (lv_at hl 3 rfl) ?_
              refine lv_bipush (v := nI 13) hx hb dX0_below_143 (by decide) ?_
              refine tc_imul hx hb dX0_below_145 ?_
              refine lv_iload hx hb dX0_below_146 (lv_at hl 0 rfl) ?_
              refine tc_iadd hx hb dX0_below_148 ?_
              refine tc_bald (k := ((k * 13) + j)) hx hb dX0_below_149 hK hP 5 0 rfl rfl (by decide) (by omega) ?_
              have hv_19 := hB ((k * 13) + j)
              refine lv_iload hx hb dX0_below_150 (lv_at hl 1 rfl) ?_
              refine tc_le (tgt := 170) hx hb dX0_below_152 (by decide) (by omega) (by omega) (fun c_20 => ?_) (fun c_20 => ?_)
              · refine lv_iload hx hb dX0_below_170 (lv_at hl 1 rfl) ?_
                exact tc_topN (tx_bs_n2 (at_ := (fun j => k * 13 + j)) c_20) hj_17
              · refine lv_aload_n hx hb dX0_below_155 rfl (lv_at hl 2 rfl) ?_
                refine tc_getX (a := a) (v := .ref (a 5)) hx hb hts hown hK hP 0 rfl 4 (by decide) q35 rfl rfl dX0_below_156 ?_
                refine lv_iload_n hx hb dX0_below_159 rfl (lv_at hl 3 rfl) ?_
                refine lv_bipush (v := nI 13) hx hb dX0_below_160 (by decide) ?_
                refine tc_imul hx hb dX0_below_162 ?_
                refine lv_iload hx hb dX0_below_163 (lv_at hl 0 rfl) ?_
                refine tc_iadd hx hb dX0_below_165 ?_
                refine tc_bald (k := ((k * 13) + j)) hx hb dX0_below_166 hK hP 5 0 rfl rfl (by decide) (by omega) ?_
                have hv_21 := hB ((k * 13) + j)
                refine lv_goto (tgt := 172) hx hb dX0_below_167 (by decide) ?_
                exact tc_topN (tx_bs_p (at_ := (fun j => k * 13 + j)) c_18 c_20) hj_17
          · refine lv_istore (lv' := [(5, .int (nI (tx_bs N K B 1 q (fun j => k * 13 + j) j (tx_b2 N K B k q j)))), (6, .int (nI j)), (0, .ref (a 0)), (1, .int (nI k)), (2, .int (nI q))]) hx hb dX0_below_172 hl (by decide) rfl (fun ls hl => ?_)
            refine lv_iinc (v := nI (j + 1)) (lv' := [(6, .int (nI (j + 1))), (5, .int (nI (tx_bs N K B 1 q (fun j => k * 13 + j) j (tx_b2 N K B k q j)))), (0, .ref (a 0)), (1, .int (nI k)), (2, .int (nI q))]) hx hb dX0_below_174 hl (k := 1) rfl (t_inc _) (by decide) rfl (fun ls hl => ?_)
            refine lv_goto (tgt := 121) hx hb dX0_below_177 (by decide) ?_
            exact ih_16 ls (trivial) (lv_sub hl [0, 1, 2, 3, 4] rfl)
        · have hl : lv_has ls 7 [(6, .int (nI q)), (5, .int (nI (tx_b2 N K B k q q))), (0, .ref (a 0)), (1, .int (nI k)), (2, .int (nI q))] := hl
          refine lv_iload hx hb dX0_below_121 (lv_at hl 0 rfl) ?_
          refine lv_iload_n hx hb dX0_below_123 rfl (lv_at hl 4 rfl) ?_
          refine tc_ge (tgt := 180) hx hb dX0_below_124 (by decide) (by omega) (by omega) (fun _ => ?_) (fun c_ => absurd c_ (by omega))
          refine lv_iload hx hb dX0_below_180 (lv_at hl 1 rfl) ?_
          exact mu_ret hx hb hr hlocks dX0_below_182 rfl hH hS u_9 hP (congrArg nI (by unfold tx_below; rw [if_neg (fun h => h.elim c_4 c_8)]))
    · refine lv_iload_n hx hb dX0_below_35 rfl (lv_at hl 1 rfl) ?_
      refine lv_iload hx hb dX0_below_36 (lv_at hl 0 rfl) ?_
      refine tc_iand hx hb dX0_below_38 ?_
      have hv_22 : (N k) &&& (N (13 + q)) ≤ (N k) := Nat.and_le_left
      refine tc_eq0 (tgt := 46) hx hb dX0_below_39 (by decide) (by omega) (fun c_23 => ?_) (fun c_23 => ?_)
      · refine lv_iconst (v := nI 0) hx hb dX0_below_46 (by decide) ?_
        exact mu_ret hx hb hr hlocks dX0_below_47 rfl hH hS M hP (congrArg nI (by unfold tx_below; rw [if_pos (Or.inr c_8), if_pos c_23]))
      · refine lv_iconst (v := nI 1) hx hb dX0_below_42 (by decide) ?_
        refine lv_goto (tgt := 47) hx hb dX0_below_43 (by decide) ?_
        exact mu_ret hx hb hr hlocks dX0_below_47 rfl hH hS M hP (congrArg nI (by unfold tx_below; rw [if_pos (Or.inr c_8), if_neg c_23]))
set_option maxHeartbeats 4000000 in
set_option maxRecDepth 100000 in
/-- list: the groups of a tree, those with fewer members first -/
theorem mu_X0_list (l : Launch) (D : va_G) (dB dZ : ClassId) (H : Heap) (a C X N K B M : Nat → Nat) (hP : va_P D vwCl (wX a dB C X N K B M) H) (hC : ∀ j, C j ≤ 5) (hX : ∀ j, X j < 128) (hap : tcAp a 7) (t : Nat) (ht : t < 2) (hlen : (tx_list C X t).length ≤ 13) : Met l yX0_list (ws_ yX0_list cX0_list 5 none) (tcR 3 64) (roP [.ref (a 0), .int (nI t)] H D dB dZ) (va_Qv (fun _ : Unit => True) (fun (u : Unit) T_ => va_P D vwCl (wX a dB C X (tx_put N t (tx_list C X t)) (tc_upd K t (tx_list C X t).length) B M) T_.heap) (tcA a 7)) 0 0 (tcA a 7) := by
  refine Mu.ofW (by decide) (Nat.le_of_ble_eq_true rfl) (fun p e s m below meth c hx hb hr hlocks hml hown hts hK hH ls hl => ?_)
  have hl : lv_has ls 5 [(0, .ref (a 0)), (1, .int (nI t))] := hl
  have hS : va_S (tcA a 7) H H [] := va_S.rf
  refine lv_iconst (v := nI 0) hx hb dX0_list_0 (by decide) ?_
  refine lv_istore_n (lv' := [(2, .int (nI 0)), (0, .ref (a 0)), (1, .int (nI t))]) hx hb dX0_list_1 rfl hl (by decide) rfl (fun ls hl => ?_)
  refine lv_iconst (v := nI 1) hx hb dX0_list_2 (by decide) ?_
  refine lv_istore_n (lv' := [(3, .int (nI 1)), (2, .int (nI 0)), (0, .ref (a 0)), (1, .int (nI t))]) hx hb dX0_list_3 rfl hl (by decide) rfl (fun ls hl => ?_)
  refine tc_forH (nL := 5) (A := (tcA a 7)) (σ := Nat → Nat) 7 (fun N1 => wX a dB C X N1 K B M) (fun z N1 => N1 = tx_put N t (tx_Lo C X t z)) (fun z N1 => [(3, .int (nI (z + 1))), (2, .int (nI ((tx_Lo C X t z).length))), (0, .ref (a 0)), (1, .int (nI t))]) N ((tx_put_nil N t).symm) hP hS (lv_sub hl [0, 1, 2, 3] rfl) (fun z hi_z N1 H locs hv_1 hP hS ih_1 ls hl => ?_) (fun N1 H locs hv_1 hP hS ls hl => ?_)
  · have hl : lv_has ls 5 [(3, .int (nI (z + 1))), (2, .int (nI ((tx_Lo C X t z).length))), (0, .ref (a 0)), (1, .int (nI t))] := hl
    have hP : va_P D vwCl (wX a dB C X N1 K B M) H := hP
    have hv_1 : N1 = tx_put N t (tx_Lo C X t z) := hv_1
    have hv_out := hv_1
    refine lv_iload_n hx hb dX0_list_4 rfl (lv_at hl 0 rfl) ?_
    refine lv_bipush (v := nI 7) hx hb dX0_list_5 (by decide) ?_
    refine tc_gt (tgt := 68) hx hb dX0_list_7 (by decide) (by omega) (by omega) (fun c_ => absurd c_ (by omega)) (fun _ => ?_)
    refine lv_iconst (v := nI 1) hx hb dX0_list_10 (by decide) ?_
    refine lv_istore (lv' := [(4, .int (nI 1)), (3, .int (nI (z + 1))), (2, .int (nI ((tx_Lo C X t z).length))), (0, .ref (a 0)), (1, .int (nI t))]) hx hb dX0_list_11 hl (by decide) rfl (fun ls hl => ?_)
    refine tc_forH (nL := 5) (A := (tcA a 7)) (σ := Nat → Nat) 127 (fun N2 => wX a dB C X N2 K B M) (fun i N2 => N2 = tx_put N t (tx_Li C X t z i)) (fun i N2 => [(4, .int (nI (i + 1))), (3, .int (nI (z + 1))), (2, .int (nI ((tx_Li C X t z i).length))), (0, .ref (a 0)), (1, .int (nI t))]) N1 (hv_out) hP hS (lv_sub hl [0, 1, 2, 3, 4] rfl) (fun i hi_i N2 H locs hv_2 hP hS ih_2 ls hl => ?_) (fun N2 H locs hv_2 hP hS ls hl => ?_)
    · have hl : lv_has ls 5 [(4, .int (nI (i + 1))), (3, .int (nI (z + 1))), (2, .int (nI ((tx_Li C X t z i).length))), (0, .ref (a 0)), (1, .int (nI t))] := hl
      have hP : va_P D vwCl (wX a dB C X N2 K B M) H := hP
      have hv_2 : N2 = tx_put N t (tx_Li C X t z i) := hv_2
      have hv_in := hv_2
      refine lv_iload hx hb dX0_list_13 (lv_at hl 0 rfl) ?_
      refine lv_bipush (v := nI 127) hx hb dX0_list_15 (by decide) ?_
      refine tc_gt (tgt := 62) hx hb dX0_list_17 (by decide) (by omega) (by omega) (fun c_ => absurd c_ (by omega)) (fun _ => ?_)
      refine lv_iload hx hb dX0_list_20 (lv_at hl 0 rfl) ?_
      refine ro_callS (As := [.int (nI (i + 1))]) (rest := []) ⟨hx, hb, hml, hown, hts⟩ hK (ro_X0_ones l D dB dZ H (i + 1) (by omega)) (va_cwS 1 hts (lw_S q72 q73 q21 q74) rfl rfl rfl (by decide +kernel) ⟨Nat.le_of_ble_eq_true rfl, Nat.le_of_ble_eq_true rfl⟩) rfl hl.1 rfl (Nat.le_of_ble_eq_true rfl) dX0_list_22 ⟨Nat.le_of_ble_eq_true rfl, Nat.le_of_ble_eq_true rfl⟩ ?_
      have hv_3 := tc_pop_le (i + 1)
      refine lv_iload_n hx hb dX0_list_25 rfl (lv_at hl 1 rfl) ?_
      refine tc_ne (tgt := 56) hx hb dX0_list_26 (by decide) (by omega) (by omega) (fun c_4 => ?_) (fun c_4 => ?_)
      · refine lv_iinc (v := nI ((i + 1) + 1)) (lv' := [(4, .int (nI ((i + 1) + 1))), (3, .int (nI (z + 1))), (2, .int (nI ((tx_Li C X t z i).length))), (0, .ref (a 0)), (1, .int (nI t))]) hx hb dX0_list_56 hl (k := 0) rfl (t_inc _) (by decide) rfl (fun ls hl => ?_)
        refine lv_goto (tgt := 13) hx hb dX0_list_59 (by decide) ?_
        have e_ : tx_Li C X t z (i + 1) = tx_Li C X t z i := tx_ls_n1 c_4
        rw [← e_] at hl
        exact ih_2 N2 H locs ls (hv_2.trans (by rw [e_])) hP hS (lv_sub hl [0, 1, 2, 3, 4] rfl)
      · refine lv_aload_n hx hb dX0_list_29 rfl (lv_at hl 3 rfl) ?_
        refine lv_iload_n hx hb dX0_list_30 rfl (lv_at hl 4 rfl) ?_
        refine lv_iload hx hb dX0_list_31 (lv_at hl 0 rfl) ?_
        refine ro_callV (As := [.int (nI t), .int (nI (i + 1))]) (rest := []) ⟨hx, hb, hml, hown, hts⟩ hK (ro_X0_hasGroup l D dB dZ H a C X N2 K B M hP hC hX t (by omega) (i + 1) (by omega)) (cwV 2 hts (lw_V q65 q67 qs1 q21 q68) rfl rfl rfl (by decide +kernel) ⟨Nat.le_of_ble_eq_true rfl, Nat.le_of_ble_eq_true rfl⟩) (va_recv hK hP (ci := 0) (q0 := 0) rfl rfl) rfl hl.1 rfl (Nat.le_of_ble_eq_true rfl) dX0_list_33 ⟨Nat.le_of_ble_eq_true rfl, Nat.le_of_ble_eq_true rfl⟩ ?_
        refine tc_beq (tgt := 56) hx hb dX0_list_36 (by decide) (fun c_5 => ?_) (fun c_5 => ?_)
        · refine lv_iinc (v := nI ((i + 1) + 1)) (lv' := [(4, .int (nI ((i + 1) + 1))), (3, .int (nI (z + 1))), (2, .int (nI ((tx_Li C X t z i).length))), (0, .ref (a 0)), (1, .int (nI t))]) hx hb dX0_list_56 hl (k := 0) rfl (t_inc _) (by decide) rfl (fun ls hl => ?_)
          refine lv_goto (tgt := 13) hx hb dX0_list_59 (by decide) ?_
          have e_ : tx_Li C X t z (i + 1) = tx_Li C X t z i := tx_ls_n2 c_5
          rw [← e_] at hl
          exact ih_2 N2 H locs ls (hv_2.trans (by rw [e_])) hP hS (lv_sub hl [0, 1, 2, 3, 4] rfl)
        · have hlen1 := tx_Li_lt hlen hi_z hi_i (by assumption) (by assumption)
          refine lv_aload_n hx hb dX0_list_39 rfl (lv_at hl 3 rfl) ?_
          refine tc_getX (a := a) (v := .ref (a 3)) hx hb hts hown hK hP 0 rfl 2 (by decide) q33 rfl rfl dX0_list_40 ?_
          refine lv_iload_n hx hb dX0_list_43 rfl (lv_at hl 4 rfl) ?_
          refine lv_bipush (v := nI 13) hx hb dX0_list_44 (by decide) ?_
          refine tc_imul hx hb dX0_list_46 ?_
          refine lv_iload_n hx hb dX0_list_47 rfl (lv_at hl 2 rfl) ?_
          refine tc_iadd hx hb dX0_list_48 ?_
          refine lv_iload hx hb dX0_list_49 (lv_at hl 0 rfl) ?_
          refine tc_i2b hx hb dX0_list_51 (by omega) ?_
          refine tc_bast (k := (t * 13) + ((tx_Li C X t z i).length)) (v := i + 1) hx hb dX0_list_52 hK hP (tc_DX hap) hS 3 0 rfl rfl (by decide) (by omega) (by omega) (fun H locs hP hS => ?_)
          have hP : va_P D vwCl (wX a dB C X (tc_upd N2 ((t * 13) + ((tx_Li C X t z i).length)) (i + 1)) K B M) H := hP
          refine lv_iinc (v := nI (((tx_Li C X t z i).length) + 1)) (lv' := [(2, .int (nI (((tx_Li C X t z i).length) + 1))), (4, .int (nI (i + 1))), (3, .int (nI (z + 1))), (0, .ref (a 0)), (1, .int (nI t))]) hx hb dX0_list_53 hl (k := 2) rfl (t_inc _) (by decide) rfl (fun ls hl => ?_)
          refine lv_iinc (v := nI ((i + 1) + 1)) (lv' := [(4, .int (nI ((i + 1) + 1))), (2, .int (nI (((tx_Li C X t z i).length) + 1))), (3, .int (nI (z + 1))), (0, .ref (a 0)), (1, .int (nI t))]) hx hb dX0_list_56 hl (k := 1) rfl (t_inc _) (by decide) rfl (fun ls hl => ?_)
          refine lv_goto (tgt := 13) hx hb dX0_list_59 (by decide) ?_
          have e_ : tx_Li C X t z (i + 1) = tx_Li C X t z i ++ [i + 1] := tx_ls_p c_4 c_5
          have e2_ : (tx_Li C X t z i).length + 1 = (tx_Li C X t z (i + 1)).length := by rw [e_]; simp
          rw [e2_] at hl
          exact ih_2 (tc_upd N2 ((t * 13) + ((tx_Li C X t z i).length)) (i + 1)) H locs ls (by rw [e_, ← tx_put_app, hv_2]) hP hS (lv_sub hl [0, 2, 1, 3, 4] rfl)
    · have hl : lv_has ls 5 [(4, .int (nI (127 + 1))), (3, .int (nI (z + 1))), (2, .int (nI ((tx_Li C X t z 127).length))), (0, .ref (a 0)), (1, .int (nI t))] := hl
      have hP : va_P D vwCl (wX a dB C X N2 K B M) H := hP
      have hv_2 : N2 = tx_put N t (tx_Li C X t z 127) := hv_2
      have hv_in := hv_2
      refine lv_iload hx hb dX0_list_13 (lv_at hl 0 rfl) ?_
      refine lv_bipush (v := nI 127) hx hb dX0_list_15 (by decide) ?_
      refine tc_gt (tgt := 62) hx hb dX0_list_17 (by decide) (by omega) (by omega) (fun _ => ?_) (fun c_ => absurd c_ (by omega))
      refine lv_iinc (v := nI ((z + 1) + 1)) (lv' := [(3, .int (nI ((z + 1) + 1))), (4, .int (nI (127 + 1))), (2, .int (nI ((tx_Li C X t z 127).length))), (0, .ref (a 0)), (1, .int (nI t))]) hx hb dX0_list_62 hl (k := 1) rfl (t_inc _) (by decide) rfl (fun ls hl => ?_)
      refine lv_goto (tgt := 4) hx hb dX0_list_65 (by decide) ?_
      exact ih_1 N2 H locs ls (hv_in) hP hS (lv_sub hl [0, 2, 3, 4] rfl)
  · have hl : lv_has ls 5 [(3, .int (nI (7 + 1))), (2, .int (nI ((tx_Lo C X t 7).length))), (0, .ref (a 0)), (1, .int (nI t))] := hl
    have hP : va_P D vwCl (wX a dB C X N1 K B M) H := hP
    have hv_1 : N1 = tx_put N t (tx_Lo C X t 7) := hv_1
    subst hv_1
    have hlen2 : (tx_Lo C X t 7).length ≤ 13 := hlen
    refine lv_iload_n hx hb dX0_list_4 rfl (lv_at hl 0 rfl) ?_
    refine lv_bipush (v := nI 7) hx hb dX0_list_5 (by decide) ?_
    refine tc_gt (tgt := 68) hx hb dX0_list_7 (by decide) (by omega) (by omega) (fun _ => ?_) (fun c_ => absurd c_ (by omega))
    refine lv_aload_n hx hb dX0_list_68 rfl (lv_at hl 2 rfl) ?_
    refine tc_getX (a := a) (v := .ref (a 4)) hx hb hts hown hK hP 0 rfl 3 (by decide) q34 rfl rfl dX0_list_69 ?_
    refine lv_iload_n hx hb dX0_list_72 rfl (lv_at hl 3 rfl) ?_
    refine lv_iload_n hx hb dX0_list_73 rfl (lv_at hl 1 rfl) ?_
    refine tc_i2b hx hb dX0_list_74 (by omega) ?_
    refine tc_bast (k := t) (v := (tx_Lo C X t 7).length) hx hb dX0_list_75 hK hP (tc_DX hap) hS 4 0 rfl rfl (by decide) (by omega) (by omega) (fun H locs hP hS => ?_)
    have hP : va_P D vwCl (wX a dB C X (tx_put N t (tx_Lo C X t 7)) (tc_upd K t ((tx_Lo C X t 7).length)) B M) H := hP
    exact mu_vret hx hb hr hlocks dX0_list_76 hH hS () hP (trivial)
set_option maxHeartbeats 4000000 in
set_option maxRecDepth 100000 in
/-- solve: the largest agreement, by parts -/
theorem mu_X0_solve (l : Launch) (D : va_G) (dB dZ : ClassId) (H : Heap) (a C X N K B M : Nat → Nat) (hP : va_P D vwCl (wX a dB C X N K B M) H) (hC : ∀ j, C j ≤ 5) (hX : ∀ j, X j < 128) (hap : tcAp a 7) (hN : ∀ j, N j < 128) (hKc : ∀ j, K j ≤ 13) (hB : ∀ j, B j ≤ 7) (hl0 : (tx_list C X 0).length ≤ 13) (hl1 : (tx_list C X 1).length ≤ 13) (hl0p : 1 ≤ (tx_list C X 0).length) (hl1p : 1 ≤ (tx_list C X 1).length) (sem : Nat → Nat → Nat) (hsem : tx_Sem C X N K sem) : Met l yX0_solve (ws_ yX0_solve cX0_solve 3 (some .int)) (tcR 4 104) (roP [.ref (a 0)] H D dB dZ) (va_Qi (fun r (u : (Nat → Nat) × (Nat → Nat)) => r = nI (sem (tx_K C X K 0 - 1) (tx_K C X K 1 - 1)) ∧ ∀ j, u.1 j ≤ 7) (fun (u : (Nat → Nat) × (Nat → Nat)) T_ => va_P D vwCl (wX a dB C X (tx_N C X N) (tx_K C X K) u.1 u.2) T_.heap) (tcA a 7)) 0 0 (tcA a 7) := by
  refine Mu.ofW (by decide) (Nat.le_of_ble_eq_true rfl) (fun p e s m below meth c hx hb hr hlocks hml hown hts hK hH ls hl => ?_)
  have hl : lv_has ls 3 [(0, .ref (a 0))] := hl
  have hS : va_S (tcA a 7) H H [] := va_S.rf
  refine lv_aload_n hx hb dX0_solve_0 rfl (lv_at hl 0 rfl) ?_
  refine lv_iconst (v := nI 0) hx hb dX0_solve_1 (by decide) ?_
  refine mu_callVv (As := [.int (nI 0)]) (rest := []) ⟨hx, hb, hml, hown, hts⟩ hK (mu_X0_list l D dB dZ H a C X N K B M hP hC hX hap 0 (by omega) (by assumption)) (cwV 1 hts (lw_V q138 q140 qs7 q21 q141) rfl rfl rfl (by decide +kernel) ⟨Nat.le_of_ble_eq_true rfl, Nat.le_of_ble_eq_true rfl⟩) (va_recv hK hP (ci := 0) (q0 := 0) rfl rfl) rfl hl.1 rfl (Nat.le_of_ble_eq_true rfl) dX0_solve_2 ⟨Nat.le_of_ble_eq_true rfl, Nat.le_of_ble_eq_true rfl⟩ hS (fun q h => h) (fun u_1 H locs hp_1 hP _ _ hS => ?_)
  have hP : va_P D vwCl (wX a dB C X (tx_put N 0 (tx_list C X 0)) (tc_upd K 0 (tx_list C X 0).length) B M) H := hP
  refine lv_aload_n hx hb dX0_solve_5 rfl (lv_at hl 0 rfl) ?_
  refine lv_iconst (v := nI 1) hx hb dX0_solve_6 (by decide) ?_
  refine mu_callVv (As := [.int (nI 1)]) (rest := []) ⟨hx, hb, hml, hown, hts⟩ hK (mu_X0_list l D dB dZ H a C X (tx_put N 0 (tx_list C X 0)) (tc_upd K 0 (tx_list C X 0).length) B M hP hC hX hap 1 (by omega) (by assumption)) (cwV 1 hts (lw_V q138 q140 qs7 q21 q141) rfl rfl rfl (by decide +kernel) ⟨Nat.le_of_ble_eq_true rfl, Nat.le_of_ble_eq_true rfl⟩) (va_recv hK hP (ci := 0) (q0 := 0) rfl rfl) rfl hl.1 rfl (Nat.le_of_ble_eq_true rfl) dX0_solve_7 ⟨Nat.le_of_ble_eq_true rfl, Nat.le_of_ble_eq_true rfl⟩ hS (fun q h => h) (fun u_2 H locs hp_2 hP _ _ hS => ?_)
  have hP : va_P D vwCl (wX a dB C X (tx_N C X N) (tx_K C X K) B M) H := hP
  have hN := tx_N_lt C X hN
  have hKc := tx_K_le hKc hl0 hl1
  have hk0 := hKc 0
  have hk1 := hKc 1
  have hp0 : 1 ≤ tx_K C X K 0 := by rw [tx_K_0]; exact hl0p
  have hp1 : 1 ≤ tx_K C X K 1 := by rw [tx_K_1]; exact hl1p
  refine lv_iconst (v := nI 0) hx hb dX0_solve_10 (by decide) ?_
  refine lv_istore_n (lv' := [(1, .int (nI 0)), (0, .ref (a 0))]) hx hb dX0_solve_11 rfl hl (by decide) rfl (fun ls hl => ?_)
  refine tc_forH (nL := 3) (A := (tcA a 7)) (σ := (Nat → Nat) × (Nat → Nat)) (tx_K C X K 0) (fun v => wX a dB C X (tx_N C X N) (tx_K C X K) v.1 v.2) (fun k v => (∀ j, v.1 j ≤ 7) ∧ ∀ x y, x < k → y < tx_K C X K 1 → v.1 (x * 13 + y) = sem x y) (fun k v => [(1, .int (nI k)), (0, .ref (a 0))]) (B, M) (⟨hB, fun x y h => absurd h (by omega)⟩) hP hS (lv_sub hl [0, 1] rfl) (fun k hi_k v H locs hv_3 hP hS ih_3 ls hl => ?_) (fun v H locs hv_3 hP hS ls hl => ?_)
  · have hl : lv_has ls 3 [(1, .int (nI k)), (0, .ref (a 0))] := hl
    have hP : va_P D vwCl (wX a dB C X (tx_N C X N) (tx_K C X K) v.1 v.2) H := hP
    have hv_3 : (∀ j, v.1 j ≤ 7) ∧ ∀ x y, x < k → y < tx_K C X K 1 → v.1 (x * 13 + y) = sem x y := hv_3
    have hv_out := hv_3
    have hB := hv_out.1
    refine lv_iload_n hx hb dX0_solve_12 rfl (lv_at hl 0 rfl) ?_
    refine lv_aload_n hx hb dX0_solve_13 rfl (lv_at hl 1 rfl) ?_
    refine tc_getX (a := a) (v := .ref (a 4)) hx hb hts hown hK hP 0 rfl 3 (by decide) q34 rfl rfl dX0_solve_14 ?_
    refine lv_iconst (v := nI 0) hx hb dX0_solve_17 (by decide) ?_
    refine tc_bald (k := 0) hx hb dX0_solve_18 hK hP 4 0 rfl rfl (by decide) (by omega) ?_
    have hv_4 := hKc 0
    refine tc_ge (tgt := 64) hx hb dX0_solve_19 (by decide) (by omega) (by omega) (fun c_ => absurd c_ (by omega)) (fun _ => ?_)
    refine lv_iconst (v := nI 0) hx hb dX0_solve_22 (by decide) ?_
    refine lv_istore_n (lv' := [(2, .int (nI 0)), (1, .int (nI k)), (0, .ref (a 0))]) hx hb dX0_solve_23 rfl hl (by decide) rfl (fun ls hl => ?_)
    refine tc_forH (nL := 3) (A := (tcA a 7)) (σ := (Nat → Nat) × (Nat → Nat)) (tx_K C X K 1) (fun v => wX a dB C X (tx_N C X N) (tx_K C X K) v.1 v.2) (fun q v => (∀ j, v.1 j ≤ 7) ∧ ∀ x y, y < tx_K C X K 1 → (x < k ∨ (x = k ∧ y < q)) → v.1 (x * 13 + y) = sem x y) (fun q v => [(2, .int (nI q)), (1, .int (nI k)), (0, .ref (a 0))]) v (⟨hv_out.1, fun x y hy h => hv_out.2 x y (by omega) hy⟩) hP hS (lv_sub hl [0, 1, 2] rfl) (fun q hi_q v H locs hv_5 hP hS ih_5 ls hl => ?_) (fun v H locs hv_5 hP hS ls hl => ?_)
    · have hl : lv_has ls 3 [(2, .int (nI q)), (1, .int (nI k)), (0, .ref (a 0))] := hl
      have hP : va_P D vwCl (wX a dB C X (tx_N C X N) (tx_K C X K) v.1 v.2) H := hP
      have hv_5 : (∀ j, v.1 j ≤ 7) ∧ ∀ x y, y < tx_K C X K 1 → (x < k ∨ (x = k ∧ y < q)) → v.1 (x * 13 + y) = sem x y := hv_5
      have hv_in := hv_5
      have hB := hv_in.1
      refine lv_iload_n hx hb dX0_solve_24 rfl (lv_at hl 0 rfl) ?_
      refine lv_aload_n hx hb dX0_solve_25 rfl (lv_at hl 2 rfl) ?_
      refine tc_getX (a := a) (v := .ref (a 4)) hx hb hts hown hK hP 0 rfl 3 (by decide) q34 rfl rfl dX0_solve_26 ?_
      refine lv_iconst (v := nI 1) hx hb dX0_solve_29 (by decide) ?_
      refine tc_bald (k := 1) hx hb dX0_solve_30 hK hP 4 0 rfl rfl (by decide) (by omega) ?_
      have hv_6 := hKc 1
      refine tc_ge (tgt := 58) hx hb dX0_solve_31 (by decide) (by omega) (by omega) (fun c_ => absurd c_ (by omega)) (fun _ => ?_)
      refine lv_aload_n hx hb dX0_solve_34 rfl (lv_at hl 2 rfl) ?_
      refine tc_getX (a := a) (v := .ref (a 5)) hx hb hts hown hK hP 0 rfl 4 (by decide) q35 rfl rfl dX0_solve_35 ?_
      refine lv_iload_n hx hb dX0_solve_38 rfl (lv_at hl 1 rfl) ?_
      refine lv_bipush (v := nI 13) hx hb dX0_solve_39 (by decide) ?_
      refine tc_imul hx hb dX0_solve_41 ?_
      refine lv_iload_n hx hb dX0_solve_42 rfl (lv_at hl 0 rfl) ?_
      refine tc_iadd hx hb dX0_solve_43 ?_
      refine lv_aload_n hx hb dX0_solve_44 rfl (lv_at hl 2 rfl) ?_
      refine lv_iload_n hx hb dX0_solve_45 rfl (lv_at hl 1 rfl) ?_
      refine lv_iload_n hx hb dX0_solve_46 rfl (lv_at hl 0 rfl) ?_
      refine mu_callV (As := [.int (nI k), .int (nI q)]) (rest := [.int (nI ((k * 13) + q)), .ref (a 5)]) ⟨hx, hb, hml, hown, hts⟩ hK (mu_X0_below l D dB dZ H a C X (tx_N C X N) (tx_K C X K) v.1 v.2 hP hC hX hap hN hKc hB k q (by omega) (by omega)) (cwV 2 hts (lw_V q142 q144 qs8 q21 q145) rfl rfl rfl (by decide +kernel) ⟨Nat.le_of_ble_eq_true rfl, Nat.le_of_ble_eq_true rfl⟩) (va_recv hK hP (ci := 0) (q0 := 0) rfl rfl) rfl hl.1 rfl (Nat.le_of_ble_eq_true rfl) dX0_solve_47 ⟨Nat.le_of_ble_eq_true rfl, Nat.le_of_ble_eq_true rfl⟩ hS (fun q h => h) (fun r_7 u_7 H locs hp_7 hP _ _ hS => ?_)
      rw [hsem.2 v.1 k q hi_k hi_q hv_in.2] at hp_7
      subst hp_7
      have h7 := hsem.1 k q
      have hP : va_P D vwCl (wX a dB C X (tx_N C X N) (tx_K C X K) v.1 u_7) H := hP
      refine tc_i2b hx hb dX0_solve_50 (by omega) ?_
      refine tc_bast (k := (k * 13) + q) (v := sem k q) hx hb dX0_solve_51 hK hP (tc_DX hap) hS 5 0 rfl rfl (by decide) (by omega) (by omega) (fun H locs hP hS => ?_)
      have hP : va_P D vwCl (wX a dB C X (tx_N C X N) (tx_K C X K) (tc_upd v.1 ((k * 13) + q) (sem k q)) u_7) H := hP
      refine lv_iinc (v := nI (q + 1)) (lv' := [(2, .int (nI (q + 1))), (1, .int (nI k)), (0, .ref (a 0))]) hx hb dX0_solve_52 hl (k := 0) rfl (t_inc _) (by decide) rfl (fun ls hl => ?_)
      refine lv_goto (tgt := 24) hx hb dX0_solve_55 (by decide) ?_
      exact ih_5 ((tc_upd v.1 ((k * 13) + q) (sem k q)), u_7) H locs ls (⟨tc_upd_le hv_5.1 h7, tx_sem_s hk1 hi_q hv_5.2⟩) hP hS (lv_sub hl [0, 1, 2] rfl)
    · have hl : lv_has ls 3 [(2, .int (nI (tx_K C X K 1))), (1, .int (nI k)), (0, .ref (a 0))] := hl
      have hP : va_P D vwCl (wX a dB C X (tx_N C X N) (tx_K C X K) v.1 v.2) H := hP
      have hv_5 : (∀ j, v.1 j ≤ 7) ∧ ∀ x y, y < tx_K C X K 1 → (x < k ∨ (x = k ∧ y < (tx_K C X K 1))) → v.1 (x * 13 + y) = sem x y := hv_5
      have hv_in := hv_5
      have hB := hv_in.1
      refine lv_iload_n hx hb dX0_solve_24 rfl (lv_at hl 0 rfl) ?_
      refine lv_aload_n hx hb dX0_solve_25 rfl (lv_at hl 2 rfl) ?_
      refine tc_getX (a := a) (v := .ref (a 4)) hx hb hts hown hK hP 0 rfl 3 (by decide) q34 rfl rfl dX0_solve_26 ?_
      refine lv_iconst (v := nI 1) hx hb dX0_solve_29 (by decide) ?_
      refine tc_bald (k := 1) hx hb dX0_solve_30 hK hP 4 0 rfl rfl (by decide) (by omega) ?_
      have hv_8 := hKc 1
      refine tc_ge (tgt := 58) hx hb dX0_solve_31 (by decide) (by omega) (by omega) (fun _ => ?_) (fun c_ => absurd c_ (by omega))
      refine lv_iinc (v := nI (k + 1)) (lv' := [(1, .int (nI (k + 1))), (2, .int (nI (tx_K C X K 1))), (0, .ref (a 0))]) hx hb dX0_solve_58 hl (k := 1) rfl (t_inc _) (by decide) rfl (fun ls hl => ?_)
      refine lv_goto (tgt := 12) hx hb dX0_solve_61 (by decide) ?_
      exact ih_3 v H locs ls (⟨hv_in.1, fun x y hx hy => hv_in.2 x y hy (by omega)⟩) hP hS (lv_sub hl [0, 2] rfl)
  · have hl : lv_has ls 3 [(1, .int (nI (tx_K C X K 0))), (0, .ref (a 0))] := hl
    have hP : va_P D vwCl (wX a dB C X (tx_N C X N) (tx_K C X K) v.1 v.2) H := hP
    have hv_3 : (∀ j, v.1 j ≤ 7) ∧ ∀ x y, x < (tx_K C X K 0) → y < tx_K C X K 1 → v.1 (x * 13 + y) = sem x y := hv_3
    have hv_end := hv_3
    have hB := hv_end.1
    refine lv_iload_n hx hb dX0_solve_12 rfl (lv_at hl 0 rfl) ?_
    refine lv_aload_n hx hb dX0_solve_13 rfl (lv_at hl 1 rfl) ?_
    refine tc_getX (a := a) (v := .ref (a 4)) hx hb hts hown hK hP 0 rfl 3 (by decide) q34 rfl rfl dX0_solve_14 ?_
    refine lv_iconst (v := nI 0) hx hb dX0_solve_17 (by decide) ?_
    refine tc_bald (k := 0) hx hb dX0_solve_18 hK hP 4 0 rfl rfl (by decide) (by omega) ?_
    have hv_9 := hKc 0
    refine tc_ge (tgt := 64) hx hb dX0_solve_19 (by decide) (by omega) (by omega) (fun _ => ?_) (fun c_ => absurd c_ (by omega))
    refine lv_aload_n hx hb dX0_solve_64 rfl (lv_at hl 1 rfl) ?_
    refine tc_getX (a := a) (v := .ref (a 5)) hx hb hts hown hK hP 0 rfl 4 (by decide) q35 rfl rfl dX0_solve_65 ?_
    refine lv_aload_n hx hb dX0_solve_68 rfl (lv_at hl 1 rfl) ?_
    refine tc_getX (a := a) (v := .ref (a 4)) hx hb hts hown hK hP 0 rfl 3 (by decide) q34 rfl rfl dX0_solve_69 ?_
    refine lv_iconst (v := nI 0) hx hb dX0_solve_72 (by decide) ?_
    refine tc_bald (k := 0) hx hb dX0_solve_73 hK hP 4 0 rfl rfl (by decide) (by omega) ?_
    have hv_10 := hKc 0
    refine lv_iconst (v := nI 1) hx hb dX0_solve_74 (by decide) ?_
    refine tc_isub hx hb dX0_solve_75 (by omega) ?_
    refine lv_bipush (v := nI 13) hx hb dX0_solve_76 (by decide) ?_
    refine tc_imul hx hb dX0_solve_78 ?_
    refine lv_aload_n hx hb dX0_solve_79 rfl (lv_at hl 1 rfl) ?_
    refine tc_getX (a := a) (v := .ref (a 4)) hx hb hts hown hK hP 0 rfl 3 (by decide) q34 rfl rfl dX0_solve_80 ?_
    refine lv_iconst (v := nI 1) hx hb dX0_solve_83 (by decide) ?_
    refine tc_bald (k := 1) hx hb dX0_solve_84 hK hP 4 0 rfl rfl (by decide) (by omega) ?_
    have hv_11 := hKc 1
    refine tc_iadd hx hb dX0_solve_85 ?_
    refine lv_iconst (v := nI 1) hx hb dX0_solve_86 (by decide) ?_
    refine tc_isub hx hb dX0_solve_87 (by omega) ?_
    refine tc_bald (k := ((((((tx_K C X K) 0) - 1) * 13) + ((tx_K C X K) 1)) - 1)) hx hb dX0_solve_88 hK hP 5 0 rfl rfl (by decide) (by omega) ?_
    have hv_12 := hB ((((((tx_K C X K) 0) - 1) * 13) + ((tx_K C X K) 1)) - 1)
    exact mu_ret hx hb hr hlocks dX0_solve_89 rfl hH hS v hP (⟨congrArg nI (tx_sem_end hp0 hp1 hv_end.2), hv_end.1⟩)
set_option maxHeartbeats 4000000 in
set_option maxRecDepth 100000 in
/-- agreement -/
theorem mu_X0_agreement (l : Launch) (D : va_G) (dB dZ : ClassId) (H : Heap) (a C X N K B M : Nat → Nat) (hP : va_P D vwCl (wX a dB C X N K B M) H) (hC : ∀ j, C j ≤ 5) (hX : ∀ j, X j < 128) (hap : tcAp a 7) (hN : ∀ j, N j < 128) (hKc : ∀ j, K j ≤ 13) (hB : ∀ j, B j ≤ 7) (hl0 : (tx_list C X 0).length ≤ 13) (hl1 : (tx_list C X 1).length ≤ 13) (hl0p : 1 ≤ (tx_list C X 0).length) (hl1p : 1 ≤ (tx_list C X 1).length) (sem : Nat → Nat → Nat) (hsem : tx_Sem C X N K sem) : Met l yX0_agreement (ws_ yX0_agreement cX0_agreement 1 (some .int)) (tcR 5 126) (roP [.ref (a 0)] H D dB dZ) (va_Qi (fun r (u : (Nat → Nat) × (Nat → Nat)) => r = nI (sem (tx_K C X K 0 - 1) (tx_K C X K 1 - 1)) ∧ ∀ j, u.1 j ≤ 7) (fun (u : (Nat → Nat) × (Nat → Nat)) T_ => va_P D vwCl (wX a dB C X (tx_N C X N) (tx_K C X K) u.1 u.2) T_.heap) (tcA a 7)) 0 0 (tcA a 7) := by
  refine Mu.ofW (by decide) (Nat.le_of_ble_eq_true rfl) (fun p e s m below meth c hx hb hr hlocks hml hown hts hK hH ls hl => ?_)
  have hl : lv_has ls 1 [(0, .ref (a 0))] := hl
  have hS : va_S (tcA a 7) H H [] := va_S.rf
  refine lv_aload_n hx hb dX0_agreement_0 rfl (lv_at hl 0 rfl) ?_
  refine mu_callV (As := []) (rest := []) ⟨hx, hb, hml, hown, hts⟩ hK (mu_X0_solve l D dB dZ H a C X N K B M hP hC hX hap hN hKc hB hl0 hl1 hl0p hl1p sem hsem) (cwV 0 hts (lw_V q134 q136 qs6 q21 q137) rfl rfl rfl (by decide +kernel) ⟨Nat.le_of_ble_eq_true rfl, Nat.le_of_ble_eq_true rfl⟩) (va_recv hK hP (ci := 0) (q0 := 0) rfl rfl) rfl hl.1 rfl (Nat.le_of_ble_eq_true rfl) dX0_agreement_1 ⟨Nat.le_of_ble_eq_true rfl, Nat.le_of_ble_eq_true rfl⟩ hS (fun q h => h) (fun r_1 u_1 H locs hp_1 hP _ _ hS => ?_)
  obtain ⟨hp_1, hb7_ret⟩ := hp_1
  subst hp_1
  have hP : va_P D vwCl (wX a dB C X (tx_N C X N) (tx_K C X K) u_1.1 u_1.2) H := hP
  have h7 := hsem.1 (tx_K C X K 0 - 1) (tx_K C X K 1 - 1)
  exact mu_ret hx hb hr hlocks dX0_agreement_4 rfl hH hS u_1 hP (⟨rfl, hb7_ret⟩)
set_option maxHeartbeats 4000000 in
set_option maxRecDepth 100000 in
/-- agreeingSet -/
theorem mu_X0_agreeingSet (l : Launch) (D : va_G) (dB dZ : ClassId) (H : Heap) (a C X N K B M : Nat → Nat) (hP : va_P D vwCl (wX a dB C X N K B M) H) (hC : ∀ j, C j ≤ 5) (hX : ∀ j, X j < 128) (hap : tcAp a 7) (hN : ∀ j, N j < 128) (hKc : ∀ j, K j ≤ 13) (hB : ∀ j, B j ≤ 7) (hl0 : (tx_list C X 0).length ≤ 13) (hl1 : (tx_list C X 1).length ≤ 13) (hl0p : 1 ≤ (tx_list C X 0).length) (hl1p : 1 ≤ (tx_list C X 1).length) (sem : Nat → Nat → Nat) (hsem : tx_Sem C X N K sem) : Met l yX0_agreeingSet (ws_ yX0_agreeingSet cX0_agreeingSet 3 (some .int)) (tcR 5 126) (roP [.ref (a 0)] H D dB dZ) (va_Qi (fun r (u : (Nat → Nat) × (Nat → Nat)) => r = nI (tx_aset C X (sem (tx_K C X K 0 - 1) (tx_K C X K 1 - 1))) ∧ ∀ j, u.1 j ≤ 7) (fun (u : (Nat → Nat) × (Nat → Nat)) T_ => va_P D vwCl (wX a dB C X (tx_N C X N) (tx_K C X K) u.1 u.2) T_.heap) (tcA a 7)) 0 0 (tcA a 7) := by
  refine Mu.ofW (by decide) (Nat.le_of_ble_eq_true rfl) (fun p e s m below meth c hx hb hr hlocks hml hown hts hK hH ls hl => ?_)
  have hl : lv_has ls 3 [(0, .ref (a 0))] := hl
  have hS : va_S (tcA a 7) H H [] := va_S.rf
  refine lv_aload_n hx hb dX0_agreeingSet_0 rfl (lv_at hl 0 rfl) ?_
  refine mu_callV (As := []) (rest := []) ⟨hx, hb, hml, hown, hts⟩ hK (mu_X0_solve l D dB dZ H a C X N K B M hP hC hX hap hN hKc hB hl0 hl1 hl0p hl1p sem hsem) (cwV 0 hts (lw_V q134 q136 qs6 q21 q137) rfl rfl rfl (by decide +kernel) ⟨Nat.le_of_ble_eq_true rfl, Nat.le_of_ble_eq_true rfl⟩) (va_recv hK hP (ci := 0) (q0 := 0) rfl rfl) rfl hl.1 rfl (Nat.le_of_ble_eq_true rfl) dX0_agreeingSet_1 ⟨Nat.le_of_ble_eq_true rfl, Nat.le_of_ble_eq_true rfl⟩ hS (fun q h => h) (fun r_1 u_1 H locs hp_1 hP _ _ hS => ?_)
  obtain ⟨hp_1, hb7_ret⟩ := hp_1
  subst hp_1
  have hP : va_P D vwCl (wX a dB C X (tx_N C X N) (tx_K C X K) u_1.1 u_1.2) H := hP
  have h7 := hsem.1 (tx_K C X K 0 - 1) (tx_K C X K 1 - 1)
  refine lv_istore_n (lv' := [(1, .int (nI (sem (tx_K C X K 0 - 1) (tx_K C X K 1 - 1)))), (0, .ref (a 0))]) hx hb dX0_agreeingSet_4 rfl hl (by decide) rfl (fun ls hl => ?_)
  refine lv_iconst (v := nI 0) hx hb dX0_agreeingSet_5 (by decide) ?_
  refine lv_istore_n (lv' := [(2, .int (nI 0)), (1, .int (nI (sem (tx_K C X K 0 - 1) (tx_K C X K 1 - 1)))), (0, .ref (a 0))]) hx hb dX0_agreeingSet_6 rfl hl (by decide) rfl (fun ls hl => ?_)
  refine tc_for (nL := 3) 127 (fun i => tx_first (fun i => decide (tc_pop i = sem (tx_K C X K 0 - 1) (tx_K C X K 1 - 1) ∧ tx_conf C X i = 0)) i = none) (fun i => [(2, .int (nI i)), (1, .int (nI (sem (tx_K C X K 0 - 1) (tx_K C X K 1 - 1)))), (0, .ref (a 0))]) (rfl) (lv_sub hl [0, 1, 2] rfl) (fun i hi_i hv_2 ih_2 ls hl => ?_) (fun hv_2 ls hl => ?_)
  · have hl : lv_has ls 3 [(2, .int (nI i)), (1, .int (nI (sem (tx_K C X K 0 - 1) (tx_K C X K 1 - 1)))), (0, .ref (a 0))] := hl
    have hv_inv := hv_2
    refine lv_iload_n hx hb dX0_agreeingSet_7 rfl (lv_at hl 0 rfl) ?_
    refine lv_bipush (v := nI 127) hx hb dX0_agreeingSet_8 (by decide) ?_
    refine tc_ge (tgt := 37) hx hb dX0_agreeingSet_10 (by decide) (by omega) (by omega) (fun c_ => absurd c_ (by omega)) (fun _ => ?_)
    refine lv_iload_n hx hb dX0_agreeingSet_13 rfl (lv_at hl 0 rfl) ?_
    refine ro_callS (As := [.int (nI i)]) (rest := []) ⟨hx, hb, hml, hown, hts⟩ hK (ro_X0_ones l D dB dZ H i (by omega)) (va_cwS 1 hts (lw_S q72 q73 q21 q74) rfl rfl rfl (by decide +kernel) ⟨Nat.le_of_ble_eq_true rfl, Nat.le_of_ble_eq_true rfl⟩) rfl hl.1 rfl (Nat.le_of_ble_eq_true rfl) dX0_agreeingSet_14 ⟨Nat.le_of_ble_eq_true rfl, Nat.le_of_ble_eq_true rfl⟩ ?_
    have hv_3 := tc_pop_le i
    refine lv_iload_n hx hb dX0_agreeingSet_17 rfl (lv_at hl 1 rfl) ?_
    refine tc_ne (tgt := 31) hx hb dX0_agreeingSet_18 (by decide) (by omega) (by omega) (fun c_4 => ?_) (fun c_4 => ?_)
    · refine lv_iinc (v := nI (i + 1)) (lv' := [(2, .int (nI (i + 1))), (1, .int (nI (sem (tx_K C X K 0 - 1) (tx_K C X K 1 - 1)))), (0, .ref (a 0))]) hx hb dX0_agreeingSet_31 hl (k := 0) rfl (t_inc _) (by decide) rfl (fun ls hl => ?_)
      refine lv_goto (tgt := 7) hx hb dX0_agreeingSet_34 (by decide) ?_
      exact ih_2 ls (tx_first_s hv_2 (decide_eq_false (fun h => c_4 h.1))) (lv_sub hl [0, 1, 2] rfl)
    · refine lv_aload_n hx hb dX0_agreeingSet_21 rfl (lv_at hl 2 rfl) ?_
      refine lv_iload_n hx hb dX0_agreeingSet_22 rfl (lv_at hl 0 rfl) ?_
      refine ro_callV (As := [.int (nI i)]) (rest := []) ⟨hx, hb, hml, hown, hts⟩ hK (ro_X0_conflicts l D dB dZ H a C X (tx_N C X N) (tx_K C X K) u_1.1 u_1.2 hP hC hX i (by omega)) (cwV 1 hts (lw_V q126 q128 qs5 q21 q129) rfl rfl rfl (by decide +kernel) ⟨Nat.le_of_ble_eq_true rfl, Nat.le_of_ble_eq_true rfl⟩) (va_recv hK hP (ci := 0) (q0 := 0) rfl rfl) rfl hl.1 rfl (Nat.le_of_ble_eq_true rfl) dX0_agreeingSet_23 ⟨Nat.le_of_ble_eq_true rfl, Nat.le_of_ble_eq_true rfl⟩ ?_
      have hv_5 := tx_conf_le C X i
      refine tc_ne0 (tgt := 31) hx hb dX0_agreeingSet_26 (by decide) (by omega) (fun c_6 => ?_) (fun c_6 => ?_)
      · refine lv_iinc (v := nI (i + 1)) (lv' := [(2, .int (nI (i + 1))), (1, .int (nI (sem (tx_K C X K 0 - 1) (tx_K C X K 1 - 1)))), (0, .ref (a 0))]) hx hb dX0_agreeingSet_31 hl (k := 0) rfl (t_inc _) (by decide) rfl (fun ls hl => ?_)
        refine lv_goto (tgt := 7) hx hb dX0_agreeingSet_34 (by decide) ?_
        exact ih_2 ls (tx_first_s hv_2 (decide_eq_false (fun h => c_6 h.2))) (lv_sub hl [0, 1, 2] rfl)
      · refine lv_iload_n hx hb dX0_agreeingSet_29 rfl (lv_at hl 0 rfl) ?_
        exact mu_ret hx hb hr hlocks dX0_agreeingSet_30 rfl hH hS u_1 hP (⟨congrArg nI (tx_aset_at hi_i hv_inv c_4 c_6).symm, hb7_ret⟩)
  · have hl : lv_has ls 3 [(2, .int (nI 127)), (1, .int (nI (sem (tx_K C X K 0 - 1) (tx_K C X K 1 - 1)))), (0, .ref (a 0))] := hl
    have hv_inv := hv_2
    refine lv_iload_n hx hb dX0_agreeingSet_7 rfl (lv_at hl 0 rfl) ?_
    refine lv_bipush (v := nI 127) hx hb dX0_agreeingSet_8 (by decide) ?_
    refine tc_ge (tgt := 37) hx hb dX0_agreeingSet_10 (by decide) (by omega) (by omega) (fun _ => ?_) (fun c_ => absurd c_ (by omega))
    refine lv_bipush (v := nI 127) hx hb dX0_agreeingSet_37 (by decide) ?_
    exact mu_ret hx hb hr hlocks dX0_agreeingSet_39 rfl hH hS u_1 hP (⟨congrArg nI (tx_aset_no hv_inv).symm, hb7_ret⟩)
end
section
theorem tm_clear_s {u hs : Nat → Bool} {t i : Nat} (h : (∀ g, 1 ≤ g → g < i + 1 → u (128 * t + g) = tm_giv g) ∧ ∀ j, (∀ g, 1 ≤ g → g < i + 1 → j ≠ 128 * t + g) → u j = hs j) : (∀ g, 1 ≤ g → g < i + 1 + 1 → tc_updB u (128 * t + (i + 1)) (tm_giv (i + 1)) (128 * t + g) = tm_giv g) ∧ ∀ j, (∀ g, 1 ≤ g → g < i + 1 + 1 → j ≠ 128 * t + g) → tc_updB u (128 * t + (i + 1)) (tm_giv (i + 1)) j = hs j := by
  refine ⟨fun g h1 h2 => ?_, fun j hj => ?_⟩
  · unfold tc_updB
    split
    · next e => rw [show g = i + 1 by omega]
    · next e => exact h.1 g h1 (by omega)
  · unfold tc_updB
    rw [if_neg (hj (i + 1) (by omega) (by omega))]
    exact h.2 j (fun g h1 h2 => hj g h1 (by omega))
set_option maxHeartbeats 4000000 in
set_option maxRecDepth 100000 in
/-- add: no tree or no group -/
theorem ro_X1_add_b (l : Launch) (D : va_G) (dB dZ : ClassId) (H : Heap) (a : Nat → Nat) (hs : Nat → Bool) (hP : va_P D vwCl (wM a dZ hs) H) (t g : Int32) (hbad : tx_isT t = true → ¬ g < nI 1 → nI 127 < g) : Ro l yX1_add cX1_add 3 (some .boolean) 2 46 [.ref (a 0), .int t, .int g] H D dB dZ ((tB false)) := by
  refine Ro.ofW (by decide) (Nat.le_of_ble_eq_true rfl) (fun p e s m below meth c hx hb hr hlocks hml hown hts hK ls hl => ?_)
  have hl : lv_has ls 3 [(0, .ref (a 0)), (1, .int t), (2, .int g)] := hl
  refine lv_aload_n hx hb dX1_add_0 rfl (lv_at hl 0 rfl) ?_
  refine lv_iload_n hx hb dX1_add_1 rfl (lv_at hl 1 rfl) ?_
  refine ro_callV (As := [.int t]) (rest := []) ⟨hx, hb, hml, hown, hts⟩ hK (ro_X1_tree l D dB dZ H a hs hP t) (cwV 1 hts (lw_V q189 q191 qs12 q22 q192) rfl rfl rfl (by decide +kernel) ⟨Nat.le_of_ble_eq_true rfl, Nat.le_of_ble_eq_true rfl⟩) (va_recv hK hP (ci := 1) (q0 := 0) rfl rfl) rfl hl.1 rfl (Nat.le_of_ble_eq_true rfl) dX1_add_2 ⟨Nat.le_of_ble_eq_true rfl, Nat.le_of_ble_eq_true rfl⟩ ?_
  refine tc_beq (tgt := 28) hx hb dX1_add_5 (by decide) (fun c_1 => ?_) (fun c_1 => ?_)
  · refine lv_iconst (v := nI 0) hx hb dX1_add_28 (by decide) ?_
    exact ro_ret hx hb hr hlocks dX1_add_29 rfl (rfl)
  · refine lv_iload_n hx hb dX1_add_8 rfl (lv_at hl 2 rfl) ?_
    refine lv_iconst (v := nI 1) hx hb dX1_add_9 (by decide) ?_
    refine lv_icmp_lt (tgt := 28) hx hb dX1_add_10 (by decide) (fun c_2 => ?_) (fun c_2 => ?_)
    · refine lv_iconst (v := nI 0) hx hb dX1_add_28 (by decide) ?_
      exact ro_ret hx hb hr hlocks dX1_add_29 rfl (rfl)
    · refine lv_iload_n hx hb dX1_add_13 rfl (lv_at hl 2 rfl) ?_
      refine lv_bipush (v := nI 127) hx hb dX1_add_14 (by decide) ?_
      refine lv_icmp_gt (tgt := 28) hx hb dX1_add_16 (by decide) (fun c_3 => ?_) (fun c_3 => ?_)
      · refine lv_iconst (v := nI 0) hx hb dX1_add_28 (by decide) ?_
        exact ro_ret hx hb hr hlocks dX1_add_29 rfl (rfl)
      · exact absurd (hbad c_1 c_2) c_3
set_option maxHeartbeats 4000000 in
set_option maxRecDepth 100000 in
/-- add: it does not fit -/
theorem ro_X1_add_n (l : Launch) (D : va_G) (dB dZ : ClassId) (H : Heap) (a : Nat → Nat) (hs : Nat → Bool) (hP : va_P D vwCl (wM a dZ hs) H) (t : Nat) (ht : t < 2) (g : Nat) (hg0 : 1 ≤ g) (hg : g < 128) (hfit : tm_fits hs t g = false) : Ro l yX1_add cX1_add 3 (some .boolean) 2 46 [.ref (a 0), .int (nI t), .int (nI g)] H D dB dZ ((tB false)) := by
  refine Ro.ofW (by decide) (Nat.le_of_ble_eq_true rfl) (fun p e s m below meth c hx hb hr hlocks hml hown hts hK ls hl => ?_)
  have hl : lv_has ls 3 [(0, .ref (a 0)), (1, .int (nI t)), (2, .int (nI g))] := hl
  refine lv_aload_n hx hb dX1_add_0 rfl (lv_at hl 0 rfl) ?_
  refine lv_iload_n hx hb dX1_add_1 rfl (lv_at hl 1 rfl) ?_
  refine ro_callV (As := [.int (nI t)]) (rest := []) ⟨hx, hb, hml, hown, hts⟩ hK (ro_X1_tree l D dB dZ H a hs hP (nI t)) (cwV 1 hts (lw_V q189 q191 qs12 q22 q192) rfl rfl rfl (by decide +kernel) ⟨Nat.le_of_ble_eq_true rfl, Nat.le_of_ble_eq_true rfl⟩) (va_recv hK hP (ci := 1) (q0 := 0) rfl rfl) rfl hl.1 rfl (Nat.le_of_ble_eq_true rfl) dX1_add_2 ⟨Nat.le_of_ble_eq_true rfl, Nat.le_of_ble_eq_true rfl⟩ ?_
  refine tc_beq (tgt := 28) hx hb dX1_add_5 (by decide) (fun c_ => absurd c_ (by rw [tx_isT_n ht] at c_; cases c_)) (fun _ => ?_)
  refine lv_iload_n hx hb dX1_add_8 rfl (lv_at hl 2 rfl) ?_
  refine lv_iconst (v := nI 1) hx hb dX1_add_9 (by decide) ?_
  refine tc_lt (tgt := 28) hx hb dX1_add_10 (by decide) (by omega) (by omega) (fun c_ => absurd c_ (by omega)) (fun _ => ?_)
  refine lv_iload_n hx hb dX1_add_13 rfl (lv_at hl 2 rfl) ?_
  refine lv_bipush (v := nI 127) hx hb dX1_add_14 (by decide) ?_
  refine tc_gt (tgt := 28) hx hb dX1_add_16 (by decide) (by omega) (by omega) (fun c_ => absurd c_ (by omega)) (fun _ => ?_)
  refine lv_aload_n hx hb dX1_add_19 rfl (lv_at hl 0 rfl) ?_
  refine lv_iload_n hx hb dX1_add_20 rfl (lv_at hl 1 rfl) ?_
  refine lv_iload_n hx hb dX1_add_21 rfl (lv_at hl 2 rfl) ?_
  refine ro_callV (As := [.int (nI t), .int (nI g)]) (rest := []) ⟨hx, hb, hml, hown, hts⟩ hK (ro_X1_fits l D dB dZ H a hs hP t (by omega) g (by omega)) (cwV 2 hts (lw_V q210 q212 qs15 q22 q213) rfl rfl rfl (by decide +kernel) ⟨Nat.le_of_ble_eq_true rfl, Nat.le_of_ble_eq_true rfl⟩) (va_recv hK hP (ci := 1) (q0 := 0) rfl rfl) rfl hl.1 rfl (Nat.le_of_ble_eq_true rfl) dX1_add_22 ⟨Nat.le_of_ble_eq_true rfl, Nat.le_of_ble_eq_true rfl⟩ ?_
  refine tc_bne (tgt := 30) hx hb dX1_add_25 (by decide) (fun c_ => absurd c_ (by rw [hfit] at c_; cases c_)) (fun _ => ?_)
  refine lv_iconst (v := nI 0) hx hb dX1_add_28 (by decide) ?_
  exact ro_ret hx hb hr hlocks dX1_add_29 rfl (rfl)
set_option maxHeartbeats 4000000 in
set_option maxRecDepth 100000 in
/-- add -/
theorem mu_X1_add (l : Launch) (D : va_G) (dB dZ : ClassId) (H : Heap) (a : Nat → Nat) (hs : Nat → Bool) (hP : va_P D vwCl (wM a dZ hs) H) (hap : tcAp a 2) (t : Nat) (ht : t < 2) (g : Nat) (hg0 : 1 ≤ g) (hg : g < 128) (hfit : tm_fits hs t g = true) : Met l yX1_add (ws_ yX1_add cX1_add 3 (some .boolean)) (tcR 2 46) (roP [.ref (a 0), .int (nI t), .int (nI g)] H D dB dZ) (va_Qi (fun r (_ : Unit) => r = nI 1) (fun (u : Unit) T_ => va_P D vwCl (wM a dZ (tc_updB hs (128 * t + g) true)) T_.heap) (tcA a 2)) 0 0 (tcA a 2) := by
  refine Mu.ofW (by decide) (Nat.le_of_ble_eq_true rfl) (fun p e s m below meth c hx hb hr hlocks hml hown hts hK hH ls hl => ?_)
  have hl : lv_has ls 3 [(0, .ref (a 0)), (1, .int (nI t)), (2, .int (nI g))] := hl
  have hS : va_S (tcA a 2) H H [] := va_S.rf
  refine lv_aload_n hx hb dX1_add_0 rfl (lv_at hl 0 rfl) ?_
  refine lv_iload_n hx hb dX1_add_1 rfl (lv_at hl 1 rfl) ?_
  refine ro_callV (As := [.int (nI t)]) (rest := []) ⟨hx, hb, hml, hown, hts⟩ hK (ro_X1_tree l D dB dZ H a hs hP (nI t)) (cwV 1 hts (lw_V q189 q191 qs12 q22 q192) rfl rfl rfl (by decide +kernel) ⟨Nat.le_of_ble_eq_true rfl, Nat.le_of_ble_eq_true rfl⟩) (va_recv hK hP (ci := 1) (q0 := 0) rfl rfl) rfl hl.1 rfl (Nat.le_of_ble_eq_true rfl) dX1_add_2 ⟨Nat.le_of_ble_eq_true rfl, Nat.le_of_ble_eq_true rfl⟩ ?_
  refine tc_beq (tgt := 28) hx hb dX1_add_5 (by decide) (fun c_ => absurd c_ (by rw [tx_isT_n ht] at c_; cases c_)) (fun _ => ?_)
  refine lv_iload_n hx hb dX1_add_8 rfl (lv_at hl 2 rfl) ?_
  refine lv_iconst (v := nI 1) hx hb dX1_add_9 (by decide) ?_
  refine tc_lt (tgt := 28) hx hb dX1_add_10 (by decide) (by omega) (by omega) (fun c_ => absurd c_ (by omega)) (fun _ => ?_)
  refine lv_iload_n hx hb dX1_add_13 rfl (lv_at hl 2 rfl) ?_
  refine lv_bipush (v := nI 127) hx hb dX1_add_14 (by decide) ?_
  refine tc_gt (tgt := 28) hx hb dX1_add_16 (by decide) (by omega) (by omega) (fun c_ => absurd c_ (by omega)) (fun _ => ?_)
  refine lv_aload_n hx hb dX1_add_19 rfl (lv_at hl 0 rfl) ?_
  refine lv_iload_n hx hb dX1_add_20 rfl (lv_at hl 1 rfl) ?_
  refine lv_iload_n hx hb dX1_add_21 rfl (lv_at hl 2 rfl) ?_
  refine ro_callV (As := [.int (nI t), .int (nI g)]) (rest := []) ⟨hx, hb, hml, hown, hts⟩ hK (ro_X1_fits l D dB dZ H a hs hP t (by omega) g (by omega)) (cwV 2 hts (lw_V q210 q212 qs15 q22 q213) rfl rfl rfl (by decide +kernel) ⟨Nat.le_of_ble_eq_true rfl, Nat.le_of_ble_eq_true rfl⟩) (va_recv hK hP (ci := 1) (q0 := 0) rfl rfl) rfl hl.1 rfl (Nat.le_of_ble_eq_true rfl) dX1_add_22 ⟨Nat.le_of_ble_eq_true rfl, Nat.le_of_ble_eq_true rfl⟩ ?_
  refine tc_bne (tgt := 30) hx hb dX1_add_25 (by decide) (fun _ => ?_) (fun c_ => absurd c_ (by rw [hfit] at c_; cases c_))
  refine lv_aload_n hx hb dX1_add_30 rfl (lv_at hl 0 rfl) ?_
  refine tc_getM (v := .ref (a 1)) hx hb hts hown hK hP 0 rfl q201 rfl dX1_add_31 ?_
  refine lv_sipush (v := nI 128) hx hb dX1_add_34 (by decide) ?_
  refine lv_iload_n hx hb dX1_add_37 rfl (lv_at hl 1 rfl) ?_
  refine tc_imul hx hb dX1_add_38 ?_
  refine lv_iload_n hx hb dX1_add_39 rfl (lv_at hl 2 rfl) ?_
  refine tc_iadd hx hb dX1_add_40 ?_
  refine lv_iconst (v := nI 1) hx hb dX1_add_41 (by decide) ?_
  refine tc_zast (k := (128 * t) + g) (v := true) hx hb dX1_add_42 hK hP (tc_DM hap) hS 1 1 rfl rfl (by decide) (by omega) rfl (fun H locs hP hS => ?_)
  have hP : va_P D vwCl (wM a dZ (tc_updB hs ((128 * t) + g) true)) H := hP
  refine lv_iconst (v := nI 1) hx hb dX1_add_43 (by decide) ?_
  exact mu_ret hx hb hr hlocks dX1_add_44 rfl hH hS () hP (rfl)
set_option maxHeartbeats 4000000 in
set_option maxRecDepth 100000 in
/-- remove: no tree or no group -/
theorem ro_X1_remove_b (l : Launch) (D : va_G) (dB dZ : ClassId) (H : Heap) (a : Nat → Nat) (hs : Nat → Bool) (hP : va_P D vwCl (wM a dZ hs) H) (t g : Int32) (hbad : tx_isT t = true → ¬ g < nI 1 → nI 127 < g) : Ro l yX1_remove cX1_remove 3 (some .boolean) 2 44 [.ref (a 0), .int t, .int g] H D dB dZ ((tB false)) := by
  refine Ro.ofW (by decide) (Nat.le_of_ble_eq_true rfl) (fun p e s m below meth c hx hb hr hlocks hml hown hts hK ls hl => ?_)
  have hl : lv_has ls 3 [(0, .ref (a 0)), (1, .int t), (2, .int g)] := hl
  refine lv_aload_n hx hb dX1_remove_0 rfl (lv_at hl 0 rfl) ?_
  refine lv_iload_n hx hb dX1_remove_1 rfl (lv_at hl 1 rfl) ?_
  refine ro_callV (As := [.int t]) (rest := []) ⟨hx, hb, hml, hown, hts⟩ hK (ro_X1_tree l D dB dZ H a hs hP t) (cwV 1 hts (lw_V q189 q191 qs12 q22 q192) rfl rfl rfl (by decide +kernel) ⟨Nat.le_of_ble_eq_true rfl, Nat.le_of_ble_eq_true rfl⟩) (va_recv hK hP (ci := 1) (q0 := 0) rfl rfl) rfl hl.1 rfl (Nat.le_of_ble_eq_true rfl) dX1_remove_2 ⟨Nat.le_of_ble_eq_true rfl, Nat.le_of_ble_eq_true rfl⟩ ?_
  refine tc_beq (tgt := 42) hx hb dX1_remove_5 (by decide) (fun c_1 => ?_) (fun c_1 => ?_)
  · refine lv_iconst (v := nI 0) hx hb dX1_remove_42 (by decide) ?_
    exact ro_ret hx hb hr hlocks dX1_remove_43 rfl (rfl)
  · refine lv_iload_n hx hb dX1_remove_8 rfl (lv_at hl 2 rfl) ?_
    refine lv_iconst (v := nI 1) hx hb dX1_remove_9 (by decide) ?_
    refine lv_icmp_lt (tgt := 42) hx hb dX1_remove_10 (by decide) (fun c_2 => ?_) (fun c_2 => ?_)
    · refine lv_iconst (v := nI 0) hx hb dX1_remove_42 (by decide) ?_
      exact ro_ret hx hb hr hlocks dX1_remove_43 rfl (rfl)
    · refine lv_iload_n hx hb dX1_remove_13 rfl (lv_at hl 2 rfl) ?_
      refine lv_bipush (v := nI 127) hx hb dX1_remove_14 (by decide) ?_
      refine lv_icmp_gt (tgt := 42) hx hb dX1_remove_16 (by decide) (fun c_3 => ?_) (fun c_3 => ?_)
      · refine lv_iconst (v := nI 0) hx hb dX1_remove_42 (by decide) ?_
        exact ro_ret hx hb hr hlocks dX1_remove_43 rfl (rfl)
      · exact absurd (hbad c_1 c_2) c_3
set_option maxHeartbeats 4000000 in
set_option maxRecDepth 100000 in
/-- remove: given, or not there -/
theorem ro_X1_remove_n (l : Launch) (D : va_G) (dB dZ : ClassId) (H : Heap) (a : Nat → Nat) (hs : Nat → Bool) (hP : va_P D vwCl (wM a dZ hs) H) (t : Nat) (ht : t < 2) (g : Nat) (hg0 : 1 ≤ g) (hg : g < 128) (hno : tm_giv g = false → hs (128 * t + g) = false) : Ro l yX1_remove cX1_remove 3 (some .boolean) 2 44 [.ref (a 0), .int (nI t), .int (nI g)] H D dB dZ ((tB false)) := by
  refine Ro.ofW (by decide) (Nat.le_of_ble_eq_true rfl) (fun p e s m below meth c hx hb hr hlocks hml hown hts hK ls hl => ?_)
  have hl : lv_has ls 3 [(0, .ref (a 0)), (1, .int (nI t)), (2, .int (nI g))] := hl
  refine lv_aload_n hx hb dX1_remove_0 rfl (lv_at hl 0 rfl) ?_
  refine lv_iload_n hx hb dX1_remove_1 rfl (lv_at hl 1 rfl) ?_
  refine ro_callV (As := [.int (nI t)]) (rest := []) ⟨hx, hb, hml, hown, hts⟩ hK (ro_X1_tree l D dB dZ H a hs hP (nI t)) (cwV 1 hts (lw_V q189 q191 qs12 q22 q192) rfl rfl rfl (by decide +kernel) ⟨Nat.le_of_ble_eq_true rfl, Nat.le_of_ble_eq_true rfl⟩) (va_recv hK hP (ci := 1) (q0 := 0) rfl rfl) rfl hl.1 rfl (Nat.le_of_ble_eq_true rfl) dX1_remove_2 ⟨Nat.le_of_ble_eq_true rfl, Nat.le_of_ble_eq_true rfl⟩ ?_
  refine tc_beq (tgt := 42) hx hb dX1_remove_5 (by decide) (fun c_ => absurd c_ (by rw [tx_isT_n ht] at c_; cases c_)) (fun _ => ?_)
  refine lv_iload_n hx hb dX1_remove_8 rfl (lv_at hl 2 rfl) ?_
  refine lv_iconst (v := nI 1) hx hb dX1_remove_9 (by decide) ?_
  refine tc_lt (tgt := 42) hx hb dX1_remove_10 (by decide) (by omega) (by omega) (fun c_ => absurd c_ (by omega)) (fun _ => ?_)
  refine lv_iload_n hx hb dX1_remove_13 rfl (lv_at hl 2 rfl) ?_
  refine lv_bipush (v := nI 127) hx hb dX1_remove_14 (by decide) ?_
  refine tc_gt (tgt := 42) hx hb dX1_remove_16 (by decide) (by omega) (by omega) (fun c_ => absurd c_ (by omega)) (fun _ => ?_)
  refine lv_aload_n hx hb dX1_remove_19 rfl (lv_at hl 0 rfl) ?_
  refine lv_iload_n hx hb dX1_remove_20 rfl (lv_at hl 2 rfl) ?_
  refine ro_callV (As := [.int (nI g)]) (rest := []) ⟨hx, hb, hml, hown, hts⟩ hK (ro_X1_given l D dB dZ H a hs hP g (by omega)) (cwV 1 hts (lw_V q193 q195 qs13 q22 q196) rfl rfl rfl (by decide +kernel) ⟨Nat.le_of_ble_eq_true rfl, Nat.le_of_ble_eq_true rfl⟩) (va_recv hK hP (ci := 1) (q0 := 0) rfl rfl) rfl hl.1 rfl (Nat.le_of_ble_eq_true rfl) dX1_remove_21 ⟨Nat.le_of_ble_eq_true rfl, Nat.le_of_ble_eq_true rfl⟩ ?_
  refine tc_bne (tgt := 42) hx hb dX1_remove_24 (by decide) (fun c_1 => ?_) (fun c_1 => ?_)
  · refine lv_iconst (v := nI 0) hx hb dX1_remove_42 (by decide) ?_
    exact ro_ret hx hb hr hlocks dX1_remove_43 rfl (rfl)
  · refine lv_aload_n hx hb dX1_remove_27 rfl (lv_at hl 0 rfl) ?_
    refine tc_getM (v := .ref (a 1)) hx hb hts hown hK hP 0 rfl q201 rfl dX1_remove_28 ?_
    refine lv_sipush (v := nI 128) hx hb dX1_remove_31 (by decide) ?_
    refine lv_iload_n hx hb dX1_remove_34 rfl (lv_at hl 1 rfl) ?_
    refine tc_imul hx hb dX1_remove_35 ?_
    refine lv_iload_n hx hb dX1_remove_36 rfl (lv_at hl 2 rfl) ?_
    refine tc_iadd hx hb dX1_remove_37 ?_
    refine tc_zald (k := ((128 * t) + g)) hx hb dX1_remove_38 hK hP 1 1 rfl rfl (by decide) (by omega) ?_
    refine tc_bne (tgt := 44) hx hb dX1_remove_39 (by decide) (fun c_2 => ?_) (fun c_2 => ?_)
    · rw [hno c_1] at c_2; cases c_2
    · refine lv_iconst (v := nI 0) hx hb dX1_remove_42 (by decide) ?_
      exact ro_ret hx hb hr hlocks dX1_remove_43 rfl (rfl)
set_option maxHeartbeats 4000000 in
set_option maxRecDepth 100000 in
/-- remove -/
theorem mu_X1_remove (l : Launch) (D : va_G) (dB dZ : ClassId) (H : Heap) (a : Nat → Nat) (hs : Nat → Bool) (hP : va_P D vwCl (wM a dZ hs) H) (hap : tcAp a 2) (t : Nat) (ht : t < 2) (g : Nat) (hg0 : 1 ≤ g) (hg : g < 128) (hgiv : tm_giv g = false) (hhas : hs (128 * t + g) = true) : Met l yX1_remove (ws_ yX1_remove cX1_remove 3 (some .boolean)) (tcR 2 44) (roP [.ref (a 0), .int (nI t), .int (nI g)] H D dB dZ) (va_Qi (fun r (_ : Unit) => r = nI 1) (fun (u : Unit) T_ => va_P D vwCl (wM a dZ (tc_updB hs (128 * t + g) false)) T_.heap) (tcA a 2)) 0 0 (tcA a 2) := by
  refine Mu.ofW (by decide) (Nat.le_of_ble_eq_true rfl) (fun p e s m below meth c hx hb hr hlocks hml hown hts hK hH ls hl => ?_)
  have hl : lv_has ls 3 [(0, .ref (a 0)), (1, .int (nI t)), (2, .int (nI g))] := hl
  have hS : va_S (tcA a 2) H H [] := va_S.rf
  refine lv_aload_n hx hb dX1_remove_0 rfl (lv_at hl 0 rfl) ?_
  refine lv_iload_n hx hb dX1_remove_1 rfl (lv_at hl 1 rfl) ?_
  refine ro_callV (As := [.int (nI t)]) (rest := []) ⟨hx, hb, hml, hown, hts⟩ hK (ro_X1_tree l D dB dZ H a hs hP (nI t)) (cwV 1 hts (lw_V q189 q191 qs12 q22 q192) rfl rfl rfl (by decide +kernel) ⟨Nat.le_of_ble_eq_true rfl, Nat.le_of_ble_eq_true rfl⟩) (va_recv hK hP (ci := 1) (q0 := 0) rfl rfl) rfl hl.1 rfl (Nat.le_of_ble_eq_true rfl) dX1_remove_2 ⟨Nat.le_of_ble_eq_true rfl, Nat.le_of_ble_eq_true rfl⟩ ?_
  refine tc_beq (tgt := 42) hx hb dX1_remove_5 (by decide) (fun c_ => absurd c_ (by rw [tx_isT_n ht] at c_; cases c_)) (fun _ => ?_)
  refine lv_iload_n hx hb dX1_remove_8 rfl (lv_at hl 2 rfl) ?_
  refine lv_iconst (v := nI 1) hx hb dX1_remove_9 (by decide) ?_
  refine tc_lt (tgt := 42) hx hb dX1_remove_10 (by decide) (by omega) (by omega) (fun c_ => absurd c_ (by omega)) (fun _ => ?_)
  refine lv_iload_n hx hb dX1_remove_13 rfl (lv_at hl 2 rfl) ?_
  refine lv_bipush (v := nI 127) hx hb dX1_remove_14 (by decide) ?_
  refine tc_gt (tgt := 42) hx hb dX1_remove_16 (by decide) (by omega) (by omega) (fun c_ => absurd c_ (by omega)) (fun _ => ?_)
  refine lv_aload_n hx hb dX1_remove_19 rfl (lv_at hl 0 rfl) ?_
  refine lv_iload_n hx hb dX1_remove_20 rfl (lv_at hl 2 rfl) ?_
  refine ro_callV (As := [.int (nI g)]) (rest := []) ⟨hx, hb, hml, hown, hts⟩ hK (ro_X1_given l D dB dZ H a hs hP g (by omega)) (cwV 1 hts (lw_V q193 q195 qs13 q22 q196) rfl rfl rfl (by decide +kernel) ⟨Nat.le_of_ble_eq_true rfl, Nat.le_of_ble_eq_true rfl⟩) (va_recv hK hP (ci := 1) (q0 := 0) rfl rfl) rfl hl.1 rfl (Nat.le_of_ble_eq_true rfl) dX1_remove_21 ⟨Nat.le_of_ble_eq_true rfl, Nat.le_of_ble_eq_true rfl⟩ ?_
  refine tc_bne (tgt := 42) hx hb dX1_remove_24 (by decide) (fun c_ => absurd c_ (by rw [hgiv] at c_; cases c_)) (fun _ => ?_)
  refine lv_aload_n hx hb dX1_remove_27 rfl (lv_at hl 0 rfl) ?_
  refine tc_getM (v := .ref (a 1)) hx hb hts hown hK hP 0 rfl q201 rfl dX1_remove_28 ?_
  refine lv_sipush (v := nI 128) hx hb dX1_remove_31 (by decide) ?_
  refine lv_iload_n hx hb dX1_remove_34 rfl (lv_at hl 1 rfl) ?_
  refine tc_imul hx hb dX1_remove_35 ?_
  refine lv_iload_n hx hb dX1_remove_36 rfl (lv_at hl 2 rfl) ?_
  refine tc_iadd hx hb dX1_remove_37 ?_
  refine tc_zald (k := ((128 * t) + g)) hx hb dX1_remove_38 hK hP 1 1 rfl rfl (by decide) (by omega) ?_
  refine tc_bne (tgt := 44) hx hb dX1_remove_39 (by decide) (fun _ => ?_) (fun c_ => absurd c_ (by rw [hhas] at c_; cases c_))
  refine lv_aload_n hx hb dX1_remove_44 rfl (lv_at hl 0 rfl) ?_
  refine tc_getM (v := .ref (a 1)) hx hb hts hown hK hP 0 rfl q201 rfl dX1_remove_45 ?_
  refine lv_sipush (v := nI 128) hx hb dX1_remove_48 (by decide) ?_
  refine lv_iload_n hx hb dX1_remove_51 rfl (lv_at hl 1 rfl) ?_
  refine tc_imul hx hb dX1_remove_52 ?_
  refine lv_iload_n hx hb dX1_remove_53 rfl (lv_at hl 2 rfl) ?_
  refine tc_iadd hx hb dX1_remove_54 ?_
  refine lv_iconst (v := nI 0) hx hb dX1_remove_55 (by decide) ?_
  refine tc_zast (k := (128 * t) + g) (v := false) hx hb dX1_remove_56 hK hP (tc_DM hap) hS 1 1 rfl rfl (by decide) (by omega) rfl (fun H locs hP hS => ?_)
  have hP : va_P D vwCl (wM a dZ (tc_updB hs ((128 * t) + g) false)) H := hP
  refine lv_iconst (v := nI 1) hx hb dX1_remove_57 (by decide) ?_
  exact mu_ret hx hb hr hlocks dX1_remove_58 rfl hH hS () hP (rfl)
set_option maxHeartbeats 4000000 in
set_option maxRecDepth 100000 in
/-- clear: no tree -/
theorem ro_X1_clear_b (l : Launch) (D : va_G) (dB dZ : ClassId) (H : Heap) (a : Nat → Nat) (hs : Nat → Bool) (hP : va_P D vwCl (wM a dZ hs) H) (t : Int32) (hbad : tx_isT t = false) : Ro l yX1_clear cX1_clear 3 (some .boolean) 2 44 [.ref (a 0), .int t] H D dB dZ ((tB false)) := by
  refine Ro.ofW (by decide) (Nat.le_of_ble_eq_true rfl) (fun p e s m below meth c hx hb hr hlocks hml hown hts hK ls hl => ?_)
  have hl : lv_has ls 3 [(0, .ref (a 0)), (1, .int t)] := hl
  refine lv_iconst (v := nI 1) hx hb dX1_clear_0 (by decide) ?_
  refine lv_istore_n (lv' := [(2, .int (nI 1)), (0, .ref (a 0)), (1, .int t)]) hx hb dX1_clear_1 rfl hl (by decide) rfl (fun ls hl => ?_)
  refine lv_iload_n hx hb dX1_clear_2 rfl (lv_at hl 0 rfl) ?_
  refine lv_sipush (v := nI 128) hx hb dX1_clear_3 (by decide) ?_
  refine tc_ge (tgt := 40) hx hb dX1_clear_6 (by decide) (by omega) (by omega) (fun c_ => absurd c_ (by omega)) (fun _ => ?_)
  refine lv_aload_n hx hb dX1_clear_9 rfl (lv_at hl 1 rfl) ?_
  refine lv_iload_n hx hb dX1_clear_10 rfl (lv_at hl 2 rfl) ?_
  refine ro_callV (As := [.int t]) (rest := []) ⟨hx, hb, hml, hown, hts⟩ hK (ro_X1_tree l D dB dZ H a hs hP t) (cwV 1 hts (lw_V q189 q191 qs12 q22 q192) rfl rfl rfl (by decide +kernel) ⟨Nat.le_of_ble_eq_true rfl, Nat.le_of_ble_eq_true rfl⟩) (va_recv hK hP (ci := 1) (q0 := 0) rfl rfl) rfl hl.1 rfl (Nat.le_of_ble_eq_true rfl) dX1_clear_11 ⟨Nat.le_of_ble_eq_true rfl, Nat.le_of_ble_eq_true rfl⟩ ?_
  refine tc_beq (tgt := 40) hx hb dX1_clear_14 (by decide) (fun _ => ?_) (fun c_ => absurd c_ (by rw [hbad] at c_; cases c_))
  refine lv_aload_n hx hb dX1_clear_40 rfl (lv_at hl 1 rfl) ?_
  refine lv_iload_n hx hb dX1_clear_41 rfl (lv_at hl 2 rfl) ?_
  refine ro_callV (As := [.int t]) (rest := []) ⟨hx, hb, hml, hown, hts⟩ hK (ro_X1_tree l D dB dZ H a hs hP t) (cwV 1 hts (lw_V q189 q191 qs12 q22 q192) rfl rfl rfl (by decide +kernel) ⟨Nat.le_of_ble_eq_true rfl, Nat.le_of_ble_eq_true rfl⟩) (va_recv hK hP (ci := 1) (q0 := 0) rfl rfl) rfl hl.1 rfl (Nat.le_of_ble_eq_true rfl) dX1_clear_42 ⟨Nat.le_of_ble_eq_true rfl, Nat.le_of_ble_eq_true rfl⟩ ?_
  exact ro_ret hx hb hr hlocks dX1_clear_45 (t_narb _) (by rw [hbad])
set_option maxHeartbeats 4000000 in
set_option maxRecDepth 100000 in
/-- clear: a tree -/
theorem mu_X1_clear (l : Launch) (D : va_G) (dB dZ : ClassId) (H : Heap) (a : Nat → Nat) (hs : Nat → Bool) (hP : va_P D vwCl (wM a dZ hs) H) (hap : tcAp a 2) (t : Nat) (ht : t < 2) : Met l yX1_clear (ws_ yX1_clear cX1_clear 3 (some .boolean)) (tcR 2 44) (roP [.ref (a 0), .int (nI t)] H D dB dZ) (va_Qi (fun r (u : Nat → Bool) => r = nI 1 ∧ (∀ g, 1 ≤ g → g < 128 → u (128 * t + g) = tm_giv g) ∧ ∀ j, (∀ g, 1 ≤ g → g < 128 → j ≠ 128 * t + g) → u j = hs j) (fun (u : Nat → Bool) T_ => va_P D vwCl (wM a dZ u) T_.heap) (tcA a 2)) 0 0 (tcA a 2) := by
  refine Mu.ofW (by decide) (Nat.le_of_ble_eq_true rfl) (fun p e s m below meth c hx hb hr hlocks hml hown hts hK hH ls hl => ?_)
  have hl : lv_has ls 3 [(0, .ref (a 0)), (1, .int (nI t))] := hl
  have hS : va_S (tcA a 2) H H [] := va_S.rf
  refine lv_iconst (v := nI 1) hx hb dX1_clear_0 (by decide) ?_
  refine lv_istore_n (lv' := [(2, .int (nI 1)), (0, .ref (a 0)), (1, .int (nI t))]) hx hb dX1_clear_1 rfl hl (by decide) rfl (fun ls hl => ?_)
  refine tc_forH (nL := 3) (A := (tcA a 2)) (σ := Nat → Bool) 127 (fun u => wM a dZ u) (fun i u => (∀ g, 1 ≤ g → g < i + 1 → u (128 * t + g) = tm_giv g) ∧ ∀ j, (∀ g, 1 ≤ g → g < i + 1 → j ≠ 128 * t + g) → u j = hs j) (fun i u => [(2, .int (nI (i + 1))), (0, .ref (a 0)), (1, .int (nI t))]) hs (⟨fun g h1 h2 => absurd h1 (by omega), fun j _ => rfl⟩) hP hS (lv_sub hl [0, 1, 2] rfl) (fun i hi_i u H locs hv_1 hP hS ih_1 ls hl => ?_) (fun u H locs hv_1 hP hS ls hl => ?_)
  · have hl : lv_has ls 3 [(2, .int (nI (i + 1))), (0, .ref (a 0)), (1, .int (nI t))] := hl
    have hP : va_P D vwCl (wM a dZ u) H := hP
    have hv_1 : (∀ g, 1 ≤ g → g < i + 1 → u (128 * t + g) = tm_giv g) ∧ ∀ j, (∀ g, 1 ≤ g → g < i + 1 → j ≠ 128 * t + g) → u j = hs j := hv_1
    refine lv_iload_n hx hb dX1_clear_2 rfl (lv_at hl 0 rfl) ?_
    refine lv_sipush (v := nI 128) hx hb dX1_clear_3 (by decide) ?_
    refine tc_ge (tgt := 40) hx hb dX1_clear_6 (by decide) (by omega) (by omega) (fun c_ => absurd c_ (by omega)) (fun _ => ?_)
    refine lv_aload_n hx hb dX1_clear_9 rfl (lv_at hl 1 rfl) ?_
    refine lv_iload_n hx hb dX1_clear_10 rfl (lv_at hl 2 rfl) ?_
    refine ro_callV (As := [.int (nI t)]) (rest := []) ⟨hx, hb, hml, hown, hts⟩ hK (ro_X1_tree l D dB dZ H a u hP (nI t)) (cwV 1 hts (lw_V q189 q191 qs12 q22 q192) rfl rfl rfl (by decide +kernel) ⟨Nat.le_of_ble_eq_true rfl, Nat.le_of_ble_eq_true rfl⟩) (va_recv hK hP (ci := 1) (q0 := 0) rfl rfl) rfl hl.1 rfl (Nat.le_of_ble_eq_true rfl) dX1_clear_11 ⟨Nat.le_of_ble_eq_true rfl, Nat.le_of_ble_eq_true rfl⟩ ?_
    refine tc_beq (tgt := 40) hx hb dX1_clear_14 (by decide) (fun c_ => absurd c_ (by rw [tx_isT_n ht] at c_; cases c_)) (fun _ => ?_)
    refine lv_aload_n hx hb dX1_clear_17 rfl (lv_at hl 1 rfl) ?_
    refine tc_getM (v := .ref (a 1)) hx hb hts hown hK hP 0 rfl q201 rfl dX1_clear_18 ?_
    refine lv_sipush (v := nI 128) hx hb dX1_clear_21 (by decide) ?_
    refine lv_iload_n hx hb dX1_clear_24 rfl (lv_at hl 2 rfl) ?_
    refine tc_imul hx hb dX1_clear_25 ?_
    refine lv_iload_n hx hb dX1_clear_26 rfl (lv_at hl 0 rfl) ?_
    refine tc_iadd hx hb dX1_clear_27 ?_
    refine lv_aload_n hx hb dX1_clear_28 rfl (lv_at hl 1 rfl) ?_
    refine lv_iload_n hx hb dX1_clear_29 rfl (lv_at hl 0 rfl) ?_
    refine ro_callV (As := [.int (nI (i + 1))]) (rest := [.int (nI ((128 * t) + (i + 1))), .ref (a 1)]) ⟨hx, hb, hml, hown, hts⟩ hK (ro_X1_given l D dB dZ H a u hP (i + 1) (by omega)) (cwV 1 hts (lw_V q193 q195 qs13 q22 q196) rfl rfl rfl (by decide +kernel) ⟨Nat.le_of_ble_eq_true rfl, Nat.le_of_ble_eq_true rfl⟩) (va_recv hK hP (ci := 1) (q0 := 0) rfl rfl) rfl hl.1 rfl (Nat.le_of_ble_eq_true rfl) dX1_clear_30 ⟨Nat.le_of_ble_eq_true rfl, Nat.le_of_ble_eq_true rfl⟩ ?_
    refine tc_zast (k := (128 * t) + (i + 1)) (v := tm_giv (i + 1)) hx hb dX1_clear_33 hK hP (tc_DM hap) hS 1 1 rfl rfl (by decide) (by omega) rfl (fun H locs hP hS => ?_)
    have hP : va_P D vwCl (wM a dZ (tc_updB u ((128 * t) + (i + 1)) (tm_giv (i + 1)))) H := hP
    refine lv_iinc (v := nI ((i + 1) + 1)) (lv' := [(2, .int (nI ((i + 1) + 1))), (0, .ref (a 0)), (1, .int (nI t))]) hx hb dX1_clear_34 hl (k := 0) rfl (t_inc _) (by decide) rfl (fun ls hl => ?_)
    refine lv_goto (tgt := 2) hx hb dX1_clear_37 (by decide) ?_
    exact ih_1 (tc_updB u ((128 * t) + (i + 1)) (tm_giv (i + 1))) H locs ls (tm_clear_s hv_1) hP hS (lv_sub hl [0, 1, 2] rfl)
  · have hl : lv_has ls 3 [(2, .int (nI (127 + 1))), (0, .ref (a 0)), (1, .int (nI t))] := hl
    have hP : va_P D vwCl (wM a dZ u) H := hP
    have hv_1 : (∀ g, 1 ≤ g → g < 127 + 1 → u (128 * t + g) = tm_giv g) ∧ ∀ j, (∀ g, 1 ≤ g → g < 127 + 1 → j ≠ 128 * t + g) → u j = hs j := hv_1
    have hv_end := hv_1
    refine lv_iload_n hx hb dX1_clear_2 rfl (lv_at hl 0 rfl) ?_
    refine lv_sipush (v := nI 128) hx hb dX1_clear_3 (by decide) ?_
    refine tc_ge (tgt := 40) hx hb dX1_clear_6 (by decide) (by omega) (by omega) (fun _ => ?_) (fun c_ => absurd c_ (by omega))
    refine lv_aload_n hx hb dX1_clear_40 rfl (lv_at hl 1 rfl) ?_
    refine lv_iload_n hx hb dX1_clear_41 rfl (lv_at hl 2 rfl) ?_
    refine ro_callV (As := [.int (nI t)]) (rest := []) ⟨hx, hb, hml, hown, hts⟩ hK (ro_X1_tree l D dB dZ H a u hP (nI t)) (cwV 1 hts (lw_V q189 q191 qs12 q22 q192) rfl rfl rfl (by decide +kernel) ⟨Nat.le_of_ble_eq_true rfl, Nat.le_of_ble_eq_true rfl⟩) (va_recv hK hP (ci := 1) (q0 := 0) rfl rfl) rfl hl.1 rfl (Nat.le_of_ble_eq_true rfl) dX1_clear_42 ⟨Nat.le_of_ble_eq_true rfl, Nat.le_of_ble_eq_true rfl⟩ ?_
    exact mu_ret hx hb hr hlocks dX1_clear_45 (t_narb _) hH hS u hP (⟨by rw [tx_isT_n ht]; rfl, hv_end.1, hv_end.2⟩)
end
section
/-! THE CONSTRUCTORS -/
theorem tc_D_ap {A : Nat → Prop} {a : Nat → Nat} {dB : ClassId} {C X N K B M : Nat → Nat} (h : va_D A (wX a dB C X N K B M)) : tcAp a 7 := by
  have at_ : ∀ i, i < 7 → ∃ e, (wX a dB C X N K B M)[i]? = some (a i, e) := by
    intro i hi
    match i, hi with
    | 0, _ => exact ⟨_, rfl⟩
    | 1, _ => exact ⟨_, rfl⟩
    | 2, _ => exact ⟨_, rfl⟩
    | 3, _ => exact ⟨_, rfl⟩
    | 4, _ => exact ⟨_, rfl⟩
    | 5, _ => exact ⟨_, rfl⟩
    | 6, _ => exact ⟨_, rfl⟩
    | k + 7, h => omega
  intro i j hi hj hij
  obtain ⟨e1, h1⟩ := at_ i hi
  obtain ⟨e2, h2⟩ := at_ j hj
  exact h.1 i j _ _ h1 h2 hij
theorem tc_D_A {A : Nat → Prop} {a : Nat → Nat} {dB : ClassId} {C X N K B M : Nat → Nat} (h : va_D A (wX a dB C X N K B M)) : ∀ i, i < 7 → A (a i) := by
  intro i hi
  match i, hi with
  | 0, _ => exact h.2 0 _ rfl
  | 1, _ => exact h.2 1 _ rfl
  | 2, _ => exact h.2 2 _ rfl
  | 3, _ => exact h.2 3 _ rfl
  | 4, _ => exact h.2 4 _ rfl
  | 5, _ => exact h.2 5 _ rfl
  | 6, _ => exact h.2 6 _ rfl
  | k + 7, h => omega
section TCI
variable {p : Program} {l : Launch} {e : Env} {R : Room} {s : State} {m : MethodId} {args : Array Value} {below : List Frame} {meth : Method} {c : Code} {H : Heap} {locs : List Loc} {cells slots : Nat} {Q : State → Prop}
variable {cc : ByteArray} {pc : Nat} {ls : Array Slot} {rest : List Value}
theorem tc_newB {D : va_G} {dB dZ : ClassId} {ws : va_W} {A : Nat → Prop} {H0 : Heap} {k : Nat} (hx : p.tables.exec = Jvm.exec) (hb : c.code = cc) (hts : ∀ w ∈ lw_all, w.before args s = true) (hd : decode cc pc = .ok (.newarray .byte, 2)) (hK : tcK D dB dZ s) (hP : va_P D vwCl ws H) (hD : va_D A ws) (hS : va_S A H0 H locs) (hA : ∀ q, H0.size ≤ q → A q) (hk : k < 1000) (hc : cells + 1 ≤ R.cells) (hs : slots + k ≤ R.slots)
    (kk : ∀ (q : Nat) (H1 : Heap), va_P D vwCl (ws ++ [(q, .inl (dB, k, .inl (fun _ => nI 0)))]) H1 → va_D A (ws ++ [(q, .inl (dB, k, .inl (fun _ => nI 0)))]) → va_S A H0 H1 locs → W p l e R s m args below meth c H1 locs (cells + 1) (slots + k) Q (F0 m (pc + 2) ls (.ref q :: rest))) : W p l e R s m args below meth c H locs cells slots Q (F0 m pc ls (.int (nI k) :: rest)) := by
  refine va_newa (atype := .byte) (ty := .byte) (N' := k) (a0 := (k, .inl (fun _ => nI 0))) hx hb (hts _ q50) rfl hK hP hD hS hA (fun _ => rfl) (nI_pos (by omega)) (nI_clamp (by omega)) ?_ hc hs hd (fun q cA H1 hK1 hP1 hD1 hS1 => ?_)
  · show k * 1 ≤ _; omega
  · have e1 := (hK1.2 2 (cA, .byte) rfl).2
    have e2 := (hK.2 0 (dB, .byte) rfl).2
    have : cA = dB := Option.some.inj (Eq.trans (Eq.symm e1) e2)
    subst this
    exact kk q H1 hP1 hD1 hS1
theorem tc_newZ {D : va_G} {dB dZ : ClassId} {ws : va_W} {A : Nat → Prop} {H0 : Heap} {k : Nat} (hx : p.tables.exec = Jvm.exec) (hb : c.code = cc) (hts : ∀ w ∈ lw_all, w.before args s = true) (hd : decode cc pc = .ok (.newarray .boolean, 2)) (hK : tcK D dB dZ s) (hP : va_P D vwCl ws H) (hD : va_D A ws) (hS : va_S A H0 H locs) (hA : ∀ q, H0.size ≤ q → A q) (hk : k < 1000) (hc : cells + 1 ≤ R.cells) (hs : slots + k ≤ R.slots)
    (kk : ∀ (q : Nat) (H1 : Heap), va_P D vwCl (ws ++ [(q, .inl (dZ, k, .inl (fun _ => tB false)))]) H1 → va_D A (ws ++ [(q, .inl (dZ, k, .inl (fun _ => tB false)))]) → va_S A H0 H1 locs → W p l e R s m args below meth c H1 locs (cells + 1) (slots + k) Q (F0 m (pc + 2) ls (.ref q :: rest))) : W p l e R s m args below meth c H locs cells slots Q (F0 m pc ls (.int (nI k) :: rest)) := by
  refine va_newa (atype := .boolean) (ty := .boolean) (N' := k) (a0 := (k, .inl (fun _ => tB false))) hx hb (hts _ q205) rfl hK hP hD hS hA (fun _ => rfl) (nI_pos (by omega)) (nI_clamp (by omega)) ?_ hc hs hd (fun q cA H1 hK1 hP1 hD1 hS1 => ?_)
  · show k * 1 ≤ _; omega
  · have e1 := (hK1.2 2 (cA, .boolean) rfl).2
    have e2 := (hK.2 1 (dZ, .boolean) rfl).2
    have : cA = dZ := Option.some.inj (Eq.trans (Eq.symm e1) e2)
    subst this
    exact kk q H1 hP1 hD1 hS1
end TCI
-- INITS
theorem tc_D1 {A : Nat → Prop} {x : Nat × va_E} (h : A x.1) : va_D A [x] := by
  refine ⟨fun i j p q hi hj _ => ?_, fun k q hk => ?_⟩
  · have h1 : i < 1 := (List.getElem?_eq_some_iff.mp hi).1
    have h2 : j < 1 := (List.getElem?_eq_some_iff.mp hj).1
    omega
  · have h1 : k < 1 := (List.getElem?_eq_some_iff.mp hk).1
    rw [show k = 0 by omega] at hk
    cases hk
    exact h
abbrev z0 : Nat → Nat := fun _ => 0
def tc_a7 (h0 q1 q2 q3 q4 q5 q6 : Nat) : Nat → Nat := fun i => match i with
  | 0 => h0
  | 1 => q1
  | 2 => q2
  | 3 => q3
  | 4 => q4
  | 5 => q5
  | _ => q6
set_option maxHeartbeats 4000000 in
set_option maxRecDepth 100000 in
/-- TreeCompare(): six arrays of zeros -/
theorem in_X0c (l : Launch) (D : va_G) (dB dZ : ClassId) (H0 : Heap) (h0 : Nat) (hP0 : va_P D vwCl [(h0, .inr (0, [.null, .null, .null, .null, .null, .null]))] H0) : Met l yX0_init (ws_ yX0_init cX0_init 1 none) { frames := 1, cells := 6, slots := 337, locals := 12 } (roP [.ref h0] H0 D dB dZ) (va_Qv (fun a : Nat → Nat => a 0 = h0 ∧ tcAp a 7 ∧ ∀ i, 1 ≤ i → i < 7 → H0.size ≤ a i) (fun (a : Nat → Nat) T_ => va_P D vwCl (wX a dB z0 z0 z0 z0 z0 z0) T_.heap) (fun q : Nat => q = h0 ∨ H0.size ≤ q)) 6 337 (fun q : Nat => q = h0 ∨ H0.size ≤ q) := by
  refine Met.ofW (cc := cX0_init) (maxL := 1) (ret := none) (by decide) rfl ?_
  intro p e s m args below meth c s₁ B hml hv
  obtain ⟨rfl, hH, hK⟩ := hv
  have hx := B.exec
  have hb := B.bytes
  have hr := B.returns
  have hts := atoms_spec (ws := ws_ yX0_init cX0_init 1 none) B.pre
  have hts : ∀ w ∈ lw_all, w.before _ s = true := fun w h => hts w (List.mem_cons_of_mem _ h)
  have hown : s.vm.findClass RX0 = some m.cls := findClass_of_methodNamed B.named
  have hlocks := B.notSynchronized
  have hin : meth.name = "<init>" := (name_of_methodNamed B.named B.method).1
  have hl := lv_entry ([.ref h0]) (n := 1) (Nat.le_of_ble_eq_true rfl)
  rw [lg_entry_eq]
  generalize (lg_sl ([.ref h0]) ++ List.replicate (1 - (lg_sl ([.ref h0])).length) Slot.unset).toArray = ls at hl ⊢
  have hl : lv_has ls 1 [(0, .ref h0)] := hl
  rw [hH]
  have hh0 : h0 < H0.size := (hP0 0 _ rfl).lt
  have hP := hP0
  generalize hAe : (fun q : Nat => q = h0 ∨ H0.size ≤ q) = A
  have hA : ∀ q : Nat, H0.size ≤ q → A q := fun q h => by rw [← hAe]; exact Or.inr h
  have hD : va_D A [(h0, .inr (0, [.null, .null, .null, .null, .null, .null]))] := tc_D1 (by rw [← hAe]; exact Or.inl rfl)
  have hS : va_S A H0 H0 [] := va_S.rf
  refine lv_aload_n hx hb dX0_init_0 rfl (lv_at hl 0 rfl) ?_
  refine W.objInit hx hb hown (hts _ q28) (hts _ q29) (hts _ q30) rfl (by rw [hml]; exact hl.1) rfl dX0_init_1 (Nat.le_of_ble_eq_true rfl) (Nat.le_of_ble_eq_true rfl) ?_
  refine W.eq (g2 := F0 m 4 ls []) rfl ?_
  refine lv_aload_n hx hb dX0_init_4 rfl (lv_at hl 0 rfl) ?_
  refine lv_iconst (v := nI 2) hx hb dX0_init_5 (by decide) ?_
  refine tc_newB (k := 2) hx hb hts dX0_init_6 hK hP hD hS hA (by omega) (Nat.le_of_ble_eq_true rfl) (Nat.le_of_ble_eq_true rfl) (fun q1 H hP hD hS => ?_)
  have hP : va_P D vwCl [(h0, .inr (0, [.null, .null, .null, .null, .null, .null])), (q1, .inl (dB, 2, .inl (fun _ => nI 0)))] H := hP
  have hD : va_D A [(h0, .inr (0, [.null, .null, .null, .null, .null, .null])), (q1, .inl (dB, 2, .inl (fun _ => nI 0)))] := hD
  refine va_putF (D := D) (ci := 0) (v := .ref q1) (ty := .array .byte) (C := RX0) (T := TX0) (N := 6) hx hb hts in_X0 tyX0 tyX0_ok nmX0 hown hK hP hD hS 0 rfl rfl 0 (by decide) (hts _ q31) (fun _ h9 => h9) rfl hin rfl (by decide +kernel) rfl rfl (Nat.le_of_ble_eq_true rfl) dX0_init_8 (fun H locs hP hD hS => ?_)
  have hP : va_P D vwCl [(h0, .inr (0, [.ref q1, .null, .null, .null, .null, .null])), (q1, .inl (dB, 2, .inl (fun _ => nI 0)))] H := hP
  have hD : va_D A [(h0, .inr (0, [.ref q1, .null, .null, .null, .null, .null])), (q1, .inl (dB, 2, .inl (fun _ => nI 0)))] := hD
  refine lv_aload_n hx hb dX0_init_11 rfl (lv_at hl 0 rfl) ?_
  refine lv_bipush (v := nI 10) hx hb dX0_init_12 (by decide) ?_
  refine tc_newB (k := 10) hx hb hts dX0_init_14 hK hP hD hS hA (by omega) (Nat.le_of_ble_eq_true rfl) (Nat.le_of_ble_eq_true rfl) (fun q2 H hP hD hS => ?_)
  have hP : va_P D vwCl [(h0, .inr (0, [.ref q1, .null, .null, .null, .null, .null])), (q1, .inl (dB, 2, .inl (fun _ => nI 0))), (q2, .inl (dB, 10, .inl (fun _ => nI 0)))] H := hP
  have hD : va_D A [(h0, .inr (0, [.ref q1, .null, .null, .null, .null, .null])), (q1, .inl (dB, 2, .inl (fun _ => nI 0))), (q2, .inl (dB, 10, .inl (fun _ => nI 0)))] := hD
  refine va_putF (D := D) (ci := 0) (v := .ref q2) (ty := .array .byte) (C := RX0) (T := TX0) (N := 6) hx hb hts in_X0 tyX0 tyX0_ok nmX0 hown hK hP hD hS 0 rfl rfl 1 (by decide) (hts _ q32) (fun _ h9 => h9) rfl hin rfl (by decide +kernel) rfl rfl (Nat.le_of_ble_eq_true rfl) dX0_init_16 (fun H locs hP hD hS => ?_)
  have hP : va_P D vwCl [(h0, .inr (0, [.ref q1, .ref q2, .null, .null, .null, .null])), (q1, .inl (dB, 2, .inl (fun _ => nI 0))), (q2, .inl (dB, 10, .inl (fun _ => nI 0)))] H := hP
  have hD : va_D A [(h0, .inr (0, [.ref q1, .ref q2, .null, .null, .null, .null])), (q1, .inl (dB, 2, .inl (fun _ => nI 0))), (q2, .inl (dB, 10, .inl (fun _ => nI 0)))] := hD
  refine lv_aload_n hx hb dX0_init_19 rfl (lv_at hl 0 rfl) ?_
  refine lv_bipush (v := nI 26) hx hb dX0_init_20 (by decide) ?_
  refine tc_newB (k := 26) hx hb hts dX0_init_22 hK hP hD hS hA (by omega) (Nat.le_of_ble_eq_true rfl) (Nat.le_of_ble_eq_true rfl) (fun q3 H hP hD hS => ?_)
  have hP : va_P D vwCl [(h0, .inr (0, [.ref q1, .ref q2, .null, .null, .null, .null])), (q1, .inl (dB, 2, .inl (fun _ => nI 0))), (q2, .inl (dB, 10, .inl (fun _ => nI 0))), (q3, .inl (dB, 26, .inl (fun _ => nI 0)))] H := hP
  have hD : va_D A [(h0, .inr (0, [.ref q1, .ref q2, .null, .null, .null, .null])), (q1, .inl (dB, 2, .inl (fun _ => nI 0))), (q2, .inl (dB, 10, .inl (fun _ => nI 0))), (q3, .inl (dB, 26, .inl (fun _ => nI 0)))] := hD
  refine va_putF (D := D) (ci := 0) (v := .ref q3) (ty := .array .byte) (C := RX0) (T := TX0) (N := 6) hx hb hts in_X0 tyX0 tyX0_ok nmX0 hown hK hP hD hS 0 rfl rfl 2 (by decide) (hts _ q33) (fun _ h9 => h9) rfl hin rfl (by decide +kernel) rfl rfl (Nat.le_of_ble_eq_true rfl) dX0_init_24 (fun H locs hP hD hS => ?_)
  have hP : va_P D vwCl [(h0, .inr (0, [.ref q1, .ref q2, .ref q3, .null, .null, .null])), (q1, .inl (dB, 2, .inl (fun _ => nI 0))), (q2, .inl (dB, 10, .inl (fun _ => nI 0))), (q3, .inl (dB, 26, .inl (fun _ => nI 0)))] H := hP
  have hD : va_D A [(h0, .inr (0, [.ref q1, .ref q2, .ref q3, .null, .null, .null])), (q1, .inl (dB, 2, .inl (fun _ => nI 0))), (q2, .inl (dB, 10, .inl (fun _ => nI 0))), (q3, .inl (dB, 26, .inl (fun _ => nI 0)))] := hD
  refine lv_aload_n hx hb dX0_init_27 rfl (lv_at hl 0 rfl) ?_
  refine lv_iconst (v := nI 2) hx hb dX0_init_28 (by decide) ?_
  refine tc_newB (k := 2) hx hb hts dX0_init_29 hK hP hD hS hA (by omega) (Nat.le_of_ble_eq_true rfl) (Nat.le_of_ble_eq_true rfl) (fun q4 H hP hD hS => ?_)
  have hP : va_P D vwCl [(h0, .inr (0, [.ref q1, .ref q2, .ref q3, .null, .null, .null])), (q1, .inl (dB, 2, .inl (fun _ => nI 0))), (q2, .inl (dB, 10, .inl (fun _ => nI 0))), (q3, .inl (dB, 26, .inl (fun _ => nI 0))), (q4, .inl (dB, 2, .inl (fun _ => nI 0)))] H := hP
  have hD : va_D A [(h0, .inr (0, [.ref q1, .ref q2, .ref q3, .null, .null, .null])), (q1, .inl (dB, 2, .inl (fun _ => nI 0))), (q2, .inl (dB, 10, .inl (fun _ => nI 0))), (q3, .inl (dB, 26, .inl (fun _ => nI 0))), (q4, .inl (dB, 2, .inl (fun _ => nI 0)))] := hD
  refine va_putF (D := D) (ci := 0) (v := .ref q4) (ty := .array .byte) (C := RX0) (T := TX0) (N := 6) hx hb hts in_X0 tyX0 tyX0_ok nmX0 hown hK hP hD hS 0 rfl rfl 3 (by decide) (hts _ q34) (fun _ h9 => h9) rfl hin rfl (by decide +kernel) rfl rfl (Nat.le_of_ble_eq_true rfl) dX0_init_31 (fun H locs hP hD hS => ?_)
  have hP : va_P D vwCl [(h0, .inr (0, [.ref q1, .ref q2, .ref q3, .ref q4, .null, .null])), (q1, .inl (dB, 2, .inl (fun _ => nI 0))), (q2, .inl (dB, 10, .inl (fun _ => nI 0))), (q3, .inl (dB, 26, .inl (fun _ => nI 0))), (q4, .inl (dB, 2, .inl (fun _ => nI 0)))] H := hP
  have hD : va_D A [(h0, .inr (0, [.ref q1, .ref q2, .ref q3, .ref q4, .null, .null])), (q1, .inl (dB, 2, .inl (fun _ => nI 0))), (q2, .inl (dB, 10, .inl (fun _ => nI 0))), (q3, .inl (dB, 26, .inl (fun _ => nI 0))), (q4, .inl (dB, 2, .inl (fun _ => nI 0)))] := hD
  refine lv_aload_n hx hb dX0_init_34 rfl (lv_at hl 0 rfl) ?_
  refine lv_sipush (v := nI 169) hx hb dX0_init_35 (by decide) ?_
  refine tc_newB (k := 169) hx hb hts dX0_init_38 hK hP hD hS hA (by omega) (Nat.le_of_ble_eq_true rfl) (Nat.le_of_ble_eq_true rfl) (fun q5 H hP hD hS => ?_)
  have hP : va_P D vwCl [(h0, .inr (0, [.ref q1, .ref q2, .ref q3, .ref q4, .null, .null])), (q1, .inl (dB, 2, .inl (fun _ => nI 0))), (q2, .inl (dB, 10, .inl (fun _ => nI 0))), (q3, .inl (dB, 26, .inl (fun _ => nI 0))), (q4, .inl (dB, 2, .inl (fun _ => nI 0))), (q5, .inl (dB, 169, .inl (fun _ => nI 0)))] H := hP
  have hD : va_D A [(h0, .inr (0, [.ref q1, .ref q2, .ref q3, .ref q4, .null, .null])), (q1, .inl (dB, 2, .inl (fun _ => nI 0))), (q2, .inl (dB, 10, .inl (fun _ => nI 0))), (q3, .inl (dB, 26, .inl (fun _ => nI 0))), (q4, .inl (dB, 2, .inl (fun _ => nI 0))), (q5, .inl (dB, 169, .inl (fun _ => nI 0)))] := hD
  refine va_putF (D := D) (ci := 0) (v := .ref q5) (ty := .array .byte) (C := RX0) (T := TX0) (N := 6) hx hb hts in_X0 tyX0 tyX0_ok nmX0 hown hK hP hD hS 0 rfl rfl 4 (by decide) (hts _ q35) (fun _ h9 => h9) rfl hin rfl (by decide +kernel) rfl rfl (Nat.le_of_ble_eq_true rfl) dX0_init_40 (fun H locs hP hD hS => ?_)
  have hP : va_P D vwCl [(h0, .inr (0, [.ref q1, .ref q2, .ref q3, .ref q4, .ref q5, .null])), (q1, .inl (dB, 2, .inl (fun _ => nI 0))), (q2, .inl (dB, 10, .inl (fun _ => nI 0))), (q3, .inl (dB, 26, .inl (fun _ => nI 0))), (q4, .inl (dB, 2, .inl (fun _ => nI 0))), (q5, .inl (dB, 169, .inl (fun _ => nI 0)))] H := hP
  have hD : va_D A [(h0, .inr (0, [.ref q1, .ref q2, .ref q3, .ref q4, .ref q5, .null])), (q1, .inl (dB, 2, .inl (fun _ => nI 0))), (q2, .inl (dB, 10, .inl (fun _ => nI 0))), (q3, .inl (dB, 26, .inl (fun _ => nI 0))), (q4, .inl (dB, 2, .inl (fun _ => nI 0))), (q5, .inl (dB, 169, .inl (fun _ => nI 0)))] := hD
  refine lv_aload_n hx hb dX0_init_43 rfl (lv_at hl 0 rfl) ?_
  refine lv_sipush (v := nI 128) hx hb dX0_init_44 (by decide) ?_
  refine tc_newB (k := 128) hx hb hts dX0_init_47 hK hP hD hS hA (by omega) (Nat.le_of_ble_eq_true rfl) (Nat.le_of_ble_eq_true rfl) (fun q6 H hP hD hS => ?_)
  have hP : va_P D vwCl [(h0, .inr (0, [.ref q1, .ref q2, .ref q3, .ref q4, .ref q5, .null])), (q1, .inl (dB, 2, .inl (fun _ => nI 0))), (q2, .inl (dB, 10, .inl (fun _ => nI 0))), (q3, .inl (dB, 26, .inl (fun _ => nI 0))), (q4, .inl (dB, 2, .inl (fun _ => nI 0))), (q5, .inl (dB, 169, .inl (fun _ => nI 0))), (q6, .inl (dB, 128, .inl (fun _ => nI 0)))] H := hP
  have hD : va_D A [(h0, .inr (0, [.ref q1, .ref q2, .ref q3, .ref q4, .ref q5, .null])), (q1, .inl (dB, 2, .inl (fun _ => nI 0))), (q2, .inl (dB, 10, .inl (fun _ => nI 0))), (q3, .inl (dB, 26, .inl (fun _ => nI 0))), (q4, .inl (dB, 2, .inl (fun _ => nI 0))), (q5, .inl (dB, 169, .inl (fun _ => nI 0))), (q6, .inl (dB, 128, .inl (fun _ => nI 0)))] := hD
  refine va_putF (D := D) (ci := 0) (v := .ref q6) (ty := .array .byte) (C := RX0) (T := TX0) (N := 6) hx hb hts in_X0 tyX0 tyX0_ok nmX0 hown hK hP hD hS 0 rfl rfl 5 (by decide) (hts _ q36) (fun _ h9 => h9) rfl hin rfl (by decide +kernel) rfl rfl (Nat.le_of_ble_eq_true rfl) dX0_init_49 (fun H locs hP hD hS => ?_)
  have hP : va_P D vwCl [(h0, .inr (0, [.ref q1, .ref q2, .ref q3, .ref q4, .ref q5, .ref q6])), (q1, .inl (dB, 2, .inl (fun _ => nI 0))), (q2, .inl (dB, 10, .inl (fun _ => nI 0))), (q3, .inl (dB, 26, .inl (fun _ => nI 0))), (q4, .inl (dB, 2, .inl (fun _ => nI 0))), (q5, .inl (dB, 169, .inl (fun _ => nI 0))), (q6, .inl (dB, 128, .inl (fun _ => nI 0)))] H := hP
  have hD : va_D A [(h0, .inr (0, [.ref q1, .ref q2, .ref q3, .ref q4, .ref q5, .ref q6])), (q1, .inl (dB, 2, .inl (fun _ => nI 0))), (q2, .inl (dB, 10, .inl (fun _ => nI 0))), (q3, .inl (dB, 26, .inl (fun _ => nI 0))), (q4, .inl (dB, 2, .inl (fun _ => nI 0))), (q5, .inl (dB, 169, .inl (fun _ => nI 0))), (q6, .inl (dB, 128, .inl (fun _ => nI 0)))] := hD
  obtain ⟨a, ha⟩ : ∃ a : Nat → Nat, a = tc_a7 h0 q1 q2 q3 q4 q5 q6 := ⟨_, rfl⟩
  have ha0 : a 0 = h0 := by rw [ha]; rfl
  have hP : va_P D vwCl (wX a dB z0 z0 z0 z0 z0 z0) H := by rw [ha]; exact hP
  have hD : va_D A (wX a dB z0 z0 z0 z0 z0 z0) := by rw [ha]; exact hD
  have hap := tc_D_ap hD
  have hAi := tc_D_A hD
  refine W.widen (k := 6) (n := 337) (Nat.le_of_ble_eq_true rfl) (Nat.le_of_ble_eq_true rfl) ?_
  have hPf := hP
  subst hH
  refine W.vret hx hb hr (fun t ht hW => ⟨⟨a, rfl, ⟨ha0, hap, fun i h1 h2 => ?_⟩, ?_⟩, hS.F ht⟩) hS.2.2 dX0_init_52
  · have h3 := hAi i h2
    rw [← hAe] at h3
    rcases h3 with h3 | h3
    · exact absurd (hap i 0 h2 (by omega) (h3.trans ha0.symm)) (by omega)
    · exact h3
  · show va_P D vwCl (wX a dB z0 z0 z0 z0 z0 z0) t.heap
    rw [ht]
    exact hPf
set_option maxHeartbeats 4000000 in
set_option maxRecDepth 100000 in
/-- TreeCompareModel(): both trees cleared -/
theorem in_X1c (l : Launch) (D : va_G) (dB dZ : ClassId) (H0 : Heap) (h0 : Nat) (hP0 : va_P D vwCl [(h0, .inr (1, [.null]))] H0) : Met l yX1_init (ws_ yX1_init cX1_init 1 none) { frames := 4, cells := 1, slots := 256, locals := 100 } (roP [.ref h0] H0 D dB dZ) (va_Qv (fun u : (Nat → Nat) × (Nat → Bool) => u.1 0 = h0 ∧ tcAp u.1 2 ∧ H0.size ≤ u.1 1 ∧ ∀ t g, t < 2 → 1 ≤ g → g < 128 → u.2 (128 * t + g) = tm_giv g) (fun (u : (Nat → Nat) × (Nat → Bool)) T_ => va_P D vwCl (wM u.1 dZ u.2) T_.heap) (fun q : Nat => q = h0 ∨ H0.size ≤ q)) 1 256 (fun q : Nat => q = h0 ∨ H0.size ≤ q) := by
  refine Met.ofW (cc := cX1_init) (maxL := 1) (ret := none) (by decide) rfl ?_
  intro p e s m args below meth c s₁ B hml hv
  obtain ⟨rfl, hH, hK⟩ := hv
  have hx := B.exec
  have hb := B.bytes
  have hr := B.returns
  have hts := atoms_spec (ws := ws_ yX1_init cX1_init 1 none) B.pre
  have hts : ∀ w ∈ lw_all, w.before _ s = true := fun w h => hts w (List.mem_cons_of_mem _ h)
  have hown : s.vm.findClass RX1 = some m.cls := findClass_of_methodNamed B.named
  have hlocks := B.notSynchronized
  have hl := lv_entry ([.ref h0]) (n := 1) (Nat.le_of_ble_eq_true rfl)
  rw [lg_entry_eq]
  generalize (lg_sl ([.ref h0]) ++ List.replicate (1 - (lg_sl ([.ref h0])).length) Slot.unset).toArray = ls at hl ⊢
  have hl : lv_has ls 1 [(0, .ref h0)] := hl
  rw [hH]
  have hh0 : h0 < H0.size := (hP0 0 _ rfl).lt
  have hP := hP0
  generalize hAe : (fun q : Nat => q = h0 ∨ H0.size ≤ q) = A
  have hA : ∀ q : Nat, H0.size ≤ q → A q := fun q h => by rw [← hAe]; exact Or.inr h
  have hD : va_D A [(h0, .inr (1, [.null]))] := tc_D1 (by rw [← hAe]; exact Or.inl rfl)
  have hS : va_S A H0 H0 [] := va_S.rf
  refine lv_aload_n hx hb dX1_init_0 rfl (lv_at hl 0 rfl) ?_
  refine W.objInit hx hb hown (hts _ q184) (hts _ q29) (hts _ q30) rfl (by rw [hml]; exact hl.1) rfl dX1_init_1 (Nat.le_of_ble_eq_true rfl) (Nat.le_of_ble_eq_true rfl) ?_
  refine W.eq (g2 := F0 m 4 ls []) rfl ?_
  refine lv_aload_n hx hb dX1_init_4 rfl (lv_at hl 0 rfl) ?_
  refine lv_sipush (v := nI 256) hx hb dX1_init_5 (by decide) ?_
  refine tc_newZ (k := 256) hx hb hts dX1_init_8 hK hP hD hS hA (by omega) (Nat.le_of_ble_eq_true rfl) (Nat.le_of_ble_eq_true rfl) (fun q1 H hP hD hS => ?_)
  have hP : va_P D vwCl [(h0, .inr (1, [.null])), (q1, .inl (dZ, 256, .inl (fun _ => tB false)))] H := hP
  have hD : va_D A [(h0, .inr (1, [.null])), (q1, .inl (dZ, 256, .inl (fun _ => tB false)))] := hD
  refine va_put (D := D) (ci := 1) (v := .ref q1) (ty := .array .boolean) (C := RX1) (T := TX1) (N := 1) hx hb hts in_X1 tyX1 tyX1_ok nmX1 hown hK hP hD hS 0 rfl rfl 0 (by decide) (hts _ q201) (fun _ h9 => h9) rfl (by decide +kernel) rfl rfl (Nat.le_of_ble_eq_true rfl) dX1_init_10 (fun H locs hP hD hS => ?_)
  obtain ⟨a, ha⟩ : ∃ a : Nat → Nat, a = (fun i => match i with | 0 => h0 | _ => q1) := ⟨_, rfl⟩
  have ha0 : a 0 = h0 := by rw [ha]; rfl
  have hl : lv_has ls 1 [(0, .ref (a 0))] := by rw [ha0]; exact hl
  have hP : va_P D vwCl (wM a dZ (fun _ => false)) H := by rw [ha]; exact hP
  have hD : va_D A (wM a dZ (fun _ => false)) := by rw [ha]; exact hD
  have hap : tcAp a 2 := by
    intro i j hi hj hij
    have h1 : ∀ i, i < 2 → ∃ e, (wM a dZ (fun _ => false))[i]? = some (a i, e) := by
      intro i hi
      match i, hi with
      | 0, _ => exact ⟨_, rfl⟩
      | 1, _ => exact ⟨_, rfl⟩
      | k + 2, h => omega
    obtain ⟨e1, g1⟩ := h1 i hi
    obtain ⟨e2, g2⟩ := h1 j hj
    exact hD.1 i j _ _ g1 g2 hij
  have hA0 : A (a 0) := hD.2 0 _ rfl
  have hA1 : A (a 1) := hD.2 1 _ rfl
  have hAq : ∀ q, tcA a 2 q → A q := by
    rintro q ⟨i, hi, rfl⟩
    rcases (show i = 0 ∨ i = 1 by omega) with rfl | rfl
    · exact hA0
    · exact hA1
  have hsz1 : H0.size ≤ a 1 := by
    have h3 := hA1
    rw [← hAe] at h3
    rcases h3 with h3 | h3
    · exact absurd (hap 1 0 (by omega) (by omega) (h3.trans ha0.symm)) (by omega)
    · exact h3
  refine lv_aload_n hx hb dX1_init_13 rfl (lv_at hl 0 rfl) ?_
  refine lv_iconst (v := nI 0) hx hb dX1_init_14 (by decide) ?_
  refine mu_callV (As := [.int (nI 0)]) (rest := []) ⟨hx, hb, hml, hown, hts⟩ hK (mu_X1_clear l D dB dZ H a (fun _ => false) hP hap 0 (by omega)) (cwV 1 hts (lw_V q185 q186 q187 q22 q188) rfl rfl rfl (by decide +kernel) ⟨Nat.le_of_ble_eq_true rfl, Nat.le_of_ble_eq_true rfl⟩) (va_recv hK hP (ci := 1) (q0 := 0) rfl rfl) rfl hl.1 rfl (Nat.le_of_ble_eq_true rfl) dX1_init_15 ⟨Nat.le_of_ble_eq_true rfl, Nat.le_of_ble_eq_true rfl⟩ hS hAq (fun r1 u1 H locs hp1 hP _ _ hS => ?_)
  have hP : va_P D vwCl (wM a dZ u1) H := hP
  refine lv_pop hx hb dX1_init_18 rfl ?_
  refine lv_aload_n hx hb dX1_init_19 rfl (lv_at hl 0 rfl) ?_
  refine lv_iconst (v := nI 1) hx hb dX1_init_20 (by decide) ?_
  refine mu_callV (As := [.int (nI 1)]) (rest := []) ⟨hx, hb, hml, hown, hts⟩ hK (mu_X1_clear l D dB dZ H a u1 hP hap 1 (by omega)) (cwV 1 hts (lw_V q185 q186 q187 q22 q188) rfl rfl rfl (by decide +kernel) ⟨Nat.le_of_ble_eq_true rfl, Nat.le_of_ble_eq_true rfl⟩) (va_recv hK hP (ci := 1) (q0 := 0) rfl rfl) rfl hl.1 rfl (Nat.le_of_ble_eq_true rfl) dX1_init_21 ⟨Nat.le_of_ble_eq_true rfl, Nat.le_of_ble_eq_true rfl⟩ hS hAq (fun r2 u2 H locs hp2 hP _ _ hS => ?_)
  have hP : va_P D vwCl (wM a dZ u2) H := hP
  refine lv_pop hx hb dX1_init_24 rfl ?_
  refine W.widen (k := 1) (n := 256) (Nat.le_of_ble_eq_true rfl) (Nat.le_of_ble_eq_true rfl) ?_
  have hPf := hP
  subst hH
  refine W.vret hx hb hr (fun t ht hW => ⟨⟨(a, u2), rfl, ⟨ha0, hap, hsz1, fun t g h1 h2 h3 => ?_⟩, ?_⟩, hS.F ht⟩) hS.2.2 dX1_init_25
  · rcases (show t = 0 ∨ t = 1 by omega) with rfl | rfl
    · show u2 (128 * 0 + g) = _
      rw [hp2.2.2 (128 * 0 + g) (fun g' _ _ => by omega)]
      exact hp1.2.1 g h2 h3
    · exact hp2.2.1 g h2 h3
  · show va_P D vwCl (wM a dZ u2) t.heap
    rw [ht]
    exact hPf
end
section
/-! BITS AND SUMS, in plain Lean -/
theorem tb_one (w x : Nat) : (w >>> x) &&& 1 = (w.testBit x).toNat := by
  rw [Nat.testBit_eq_decide_div_mod_eq, Nat.shiftRight_eq_div_pow, Nat.and_one_is_mod]
  have : w / 2 ^ x % 2 < 2 := Nat.mod_lt _ (by decide)
  rcases (show w / 2 ^ x % 2 = 0 ∨ w / 2 ^ x % 2 = 1 by omega) with h | h <;> rw [h] <;> rfl
theorem tb_1 {w x : Nat} : (w >>> x) &&& 1 = 1 ↔ w.testBit x = true := by
  rw [tb_one]; cases w.testBit x <;> decide
theorem tb_0 {w x : Nat} : (w >>> x) &&& 1 = 0 ↔ w.testBit x = false := by
  rw [tb_one]; cases w.testBit x <;> decide
theorem tb_big {w x : Nat} (hw : w < 128) (hx : 7 ≤ x) : w.testBit x = false := Nat.testBit_lt_two_pow (Nat.lt_of_lt_of_le hw (show 2 ^ 7 ≤ 2 ^ x from Nat.pow_le_pow_right (by decide) hx))
theorem tb_lt {w x : Nat} (hw : w < 128) (h : w.testBit x = true) : x < 7 := by
  rcases Nat.lt_or_ge x 7 with q | q
  · exact q
  · rw [tb_big hw q] at h; cases h
theorem tb_ext {a b : Nat} (ha : a < 128) (hb : b < 128) (h : ∀ x, x < 7 → a.testBit x = b.testBit x) : a = b := by
  apply Nat.eq_of_testBit_eq
  intro x
  rcases Nat.lt_or_ge x 7 with q | q
  · exact h x q
  · rw [tb_big ha q, tb_big hb q]
theorem tb_127 {x : Nat} (h : x < 7) : (127 : Nat).testBit x = true := (t_bit127 x h).2
theorem tb_single : ∀ x, x < 7 → ∀ y, y < 7 → (1 <<< x).testBit y = decide (x = y) := by decide +kernel
theorem tb_shl_lt {x : Nat} (h : x < 7) : 1 <<< x < 128 := by
  rw [Nat.shiftLeft_eq, Nat.one_mul]; exact Nat.pow_lt_pow_right (by decide) h
theorem tb_dif {a b x : Nat} (hx : x < 7) : (tc_dif a b).testBit x = (a.testBit x && !b.testBit x) := by
  unfold tc_dif
  rw [Nat.testBit_and, Nat.testBit_xor, tb_127 hx, Bool.true_xor]
theorem tb_dif_lt {a b : Nat} (ha : a < 128) : tc_dif a b < 128 := Nat.lt_of_le_of_lt Nat.and_le_left ha
theorem tb_and_lt {a b : Nat} (ha : a < 128) : a &&& b < 128 := Nat.lt_of_le_of_lt Nat.and_le_left ha
theorem tb_or_lt {a b : Nat} (ha : a < 128) (hb : b < 128) : a ||| b < 128 := Nat.or_lt_two_pow (n := 7) ha hb
theorem tb_sub {a b : Nat} (ha : a < 128) : tc_dif a b = 0 ↔ ∀ x, x < 7 → a.testBit x = true → b.testBit x = true := by
  constructor
  · intro h x hx hax
    have := tb_dif (a := a) (b := b) hx
    rw [h, hax] at this
    simp at this
    exact this
  · intro h
    refine tb_ext (tb_dif_lt ha) (by decide) (fun x hx => ?_)
    rw [tb_dif hx, Nat.zero_testBit]
    cases hq : a.testBit x with
    | false => rfl
    | true => rw [h x hx hq]; rfl
theorem tb_z {a : Nat} (ha : a < 128) : a = 0 ↔ ∀ x, x < 7 → a.testBit x = false := by
  constructor
  · intro h x _; rw [h, Nat.zero_testBit]
  · intro h; exact tb_ext ha (by decide) (fun x hx => by rw [h x hx, Nat.zero_testBit])
theorem tb_nz {a : Nat} (ha : a < 128) (h : a ≠ 0) : ∃ x, x < 7 ∧ a.testBit x = true := by
  apply Classical.byContradiction
  intro hn
  exact h ((tb_z ha).mpr (fun x hx => by
    cases hq : a.testBit x with
    | false => rfl
    | true => exact absurd ⟨x, hx, hq⟩ hn))
/-- two groups go together: apart, or one within the other -/
theorem tb_go {g h : Nat} (hg : g < 128) (hh : h < 128) : tx_go g h = true ↔ (∀ x, x < 7 → ¬ (g.testBit x = true ∧ h.testBit x = true)) ∨ (∀ x, x < 7 → g.testBit x = true → h.testBit x = true) ∨ (∀ x, x < 7 → h.testBit x = true → g.testBit x = true) := by
  have e0 : g &&& h = 0 ↔ ∀ x, x < 7 → ¬ (g.testBit x = true ∧ h.testBit x = true) := by
    rw [tb_z (tb_and_lt hg)]
    constructor
    · intro q x hx hc
      have := q x hx
      rw [Nat.testBit_and, hc.1, hc.2] at this
      cases this
    · intro q x hx
      rw [Nat.testBit_and]
      cases h1 : g.testBit x <;> cases h2 : h.testBit x <;> first | rfl | exact absurd ⟨h1, h2⟩ (q x hx)
  have e1 : g &&& h = g ↔ ∀ x, x < 7 → g.testBit x = true → h.testBit x = true := by
    constructor
    · intro q x hx hc
      have := congrArg (fun w => w.testBit x) q
      simp only [Nat.testBit_and, hc, Bool.true_and] at this
      exact this
    · intro q
      refine tb_ext (tb_and_lt hg) hg (fun x hx => ?_)
      rw [Nat.testBit_and]
      cases h1 : g.testBit x with
      | false => rfl
      | true => rw [q x hx h1]; rfl
  have e2 : g &&& h = h ↔ ∀ x, x < 7 → h.testBit x = true → g.testBit x = true := by
    constructor
    · intro q x hx hc
      have := congrArg (fun w => w.testBit x) q
      simp only [Nat.testBit_and, hc, Bool.and_true] at this
      exact this
    · intro q
      refine tb_ext (tb_and_lt hg) hh (fun x hx => ?_)
      rw [Nat.testBit_and]
      cases h1 : h.testBit x with
      | false => exact Bool.and_false _
      | true => rw [q x hx h1]; rfl
  unfold tx_go
  rw [decide_eq_true_iff, e0, e1, e2]
theorem tb_go_comm {g h : Nat} : tx_go g h = tx_go h g := by
  unfold tx_go
  rw [Nat.and_comm h g]
  congr 1
  apply propext
  constructor
  · rintro (q | q | q)
    · exact Or.inl q
    · exact Or.inr (Or.inr q)
    · exact Or.inr (Or.inl q)
  · rintro (q | q | q)
    · exact Or.inl q
    · exact Or.inr (Or.inr q)
    · exact Or.inr (Or.inl q)
theorem tb_go_self {g : Nat} : tx_go g g = true := decide_eq_true (Or.inr (Or.inl (Nat.and_self g)))
/-! pop -/
theorem tb_cr : ∀ g, g < 128 → ∀ h, h < 128 → tm_cr h g = !tx_go g h := by decide +kernel
theorem tb_ev_go : ∀ g, g < 128 → ∀ h, h < 128 → tx_ev h = true → tx_go g h = true := by decide +kernel
theorem tb_giv : ∀ g, g < 128 → tm_giv g = tx_ev g := by decide +kernel
theorem tb_pop_sub : ∀ a, a < 128 → ∀ b, b < 128 → tc_dif a b = 0 → tc_pop a ≤ tc_pop b ∧ (tc_pop a = tc_pop b → a = b) := by decide +kernel
theorem tb_pop_or : ∀ a, a < 128 → ∀ b, b < 128 → a &&& b = 0 → tc_pop (a ||| b) = tc_pop a + tc_pop b := by decide +kernel
theorem tb_pop1 : ∀ a, a < 128 → tc_pop a = 1 → ∃ x, x < 7 ∧ a = 1 <<< x := by decide +kernel
theorem tb_pop_s : ∀ x, x < 7 → tc_pop (1 <<< x) = 1 := by decide +kernel
theorem tb_pop0 : ∀ a, a < 128 → (tc_pop a = 0 ↔ a = 0) := by decide +kernel
theorem tb_pop7 : ∀ a, a < 128 → tc_pop a = 7 → a = 127 := by decide +kernel
/-! sums -/
theorem tc_sum_congr {f g : Nat → Nat} {n : Nat} (h : ∀ i, i < n → f i = g i) : tc_sum f n = tc_sum g n := by
  induction n with
  | zero => rfl
  | succ n ih => rw [tc_sum, tc_sum, ih (fun i hi => h i (by omega)), h n (by omega)]
theorem tc_sum_add (f g : Nat → Nat) (n : Nat) : tc_sum (fun i => f i + g i) n = tc_sum f n + tc_sum g n := by
  induction n with
  | zero => rfl
  | succ n ih => simp only [tc_sum, ih]; omega
theorem tc_sum_zero (n : Nat) : tc_sum (fun _ => 0) n = 0 := by
  induction n with
  | zero => rfl
  | succ n ih => simp only [tc_sum, ih]
theorem tc_sum_const (c n : Nat) : tc_sum (fun _ => c) n = n * c := by
  induction n with
  | zero => simp [tc_sum]
  | succ n ih => simp only [tc_sum, ih, Nat.succ_mul]
theorem tc_sum_eq0 {f : Nat → Nat} {n : Nat} : tc_sum f n = 0 ↔ ∀ i, i < n → f i = 0 := by
  induction n with
  | zero => simp [tc_sum]
  | succ n ih =>
    simp only [tc_sum, Nat.add_eq_zero_iff, ih]
    constructor
    · rintro ⟨h1, h2⟩ i hi
      rcases Nat.lt_or_ge i n with q | q
      · exact h1 i q
      · rw [show i = n by omega]; exact h2
    · intro h
      exact ⟨fun i hi => h i (by omega), h n (by omega)⟩
theorem tc_sum_one (c : Nat) {v n : Nat} (h : v < n) : tc_sum (fun i => if i = v then c else 0) n = c := by
  induction n with
  | zero => omega
  | succ n ih =>
    simp only [tc_sum]
    rcases Nat.lt_or_ge v n with q | q
    · rw [ih q, if_neg (by omega)]; rfl
    · have : v = n := by omega
      subst this
      rw [if_pos rfl, tc_sum_eq0.mpr (fun i hi => if_neg (by omega)), Nat.zero_add]
theorem tc_sum_mul (f : Nat → Nat) (c n : Nat) : tc_sum (fun i => f i * c) n = tc_sum f n * c := by
  induction n with
  | zero => simp [tc_sum]
  | succ n ih => simp only [tc_sum, ih, Nat.add_mul]
theorem tc_sum_swap (f : Nat → Nat → Nat) (n m : Nat) : tc_sum (fun i => tc_sum (fun j => f i j) m) n = tc_sum (fun j => tc_sum (fun i => f i j) n) m := by
  induction n with
  | zero => simp only [tc_sum]; rw [tc_sum_zero]
  | succ n ih => simp only [tc_sum, ih]; rw [tc_sum_add]
theorem tc_fold_cnt (p : Nat → Prop) [DecidablePred p] (n : Nat) : tc_fold (fun i k => if p i then k + 1 else k) 0 n = tc_sum (fun i => if p i then 1 else 0) n := by
  induction n with
  | zero => rfl
  | succ n ih =>
    simp only [tc_fold, tc_sum, ih]
    split <;> rfl
theorem tc_fold_cntN (p : Nat → Prop) [DecidablePred p] (n : Nat) : tc_fold (fun i k => if p i then k else k + 1) 0 n = tc_sum (fun i => if p i then 0 else 1) n := by
  induction n with
  | zero => rfl
  | succ n ih =>
    simp only [tc_fold, tc_sum, ih]
    split <;> rfl
/-- the sum over a set's members is the sum over the list that names each once -/
theorem tc_sum_img (f x : Nat → Nat) (n : Nat) (hinj : ∀ i j, i < n → j < n → x i = x j → i = j) (hr : ∀ i, i < n → 1 ≤ x i ∧ x i < 128) : tc_sum (fun i => if tc_any (fun k => decide (x k = i + 1)) n = true then f (i + 1) else 0) 127 = tc_sum (fun k => f (x k)) n := by
  induction n with
  | zero =>
    rw [tc_sum_eq0.mpr (fun i _ => by simp [tc_any])]
    rfl
  | succ n ih =>
    have ih := ih (fun i j hi hj => hinj i j (by omega) (by omega)) (fun i hi => hr i (by omega))
    have hn := hr n (by omega)
    have e : ∀ i, i < 127 → (if tc_any (fun k => decide (x k = i + 1)) (n + 1) = true then f (i + 1) else 0) = (if tc_any (fun k => decide (x k = i + 1)) n = true then f (i + 1) else 0) + (if i = x n - 1 then f (x n) else 0) := by
      intro i _
      by_cases h : x n = i + 1
      · have hno : ¬ tc_any (fun k => decide (x k = i + 1)) n = true := by
          intro hc
          obtain ⟨k, hk, he⟩ := tc_any_iff.mp hc
          have := hinj k n (by omega) (by omega) ((of_decide_eq_true he).trans h.symm)
          omega
        have hyes : tc_any (fun k => decide (x k = i + 1)) (n + 1) = true := tc_any_iff.mpr ⟨n, by omega, decide_eq_true h⟩
        rw [if_pos hyes, if_neg hno, if_pos (show i = x n - 1 by omega), h, Nat.zero_add]
      · rw [if_neg (show ¬ i = x n - 1 by omega)]
        have : tc_any (fun k => decide (x k = i + 1)) (n + 1) = tc_any (fun k => decide (x k = i + 1)) n := by
          show (_ || decide (x n = i + 1)) = _
          rw [decide_eq_false h, Bool.or_false]
        rw [this]
        exact (Nat.add_zero _).symm
    rw [tc_sum_congr e, tc_sum_add, ih, tc_sum_one _ (by omega)]
    rfl
end
section
/-! A FAMILY OF GROUPS THAT GO TOGETHER HAS AT MOST FIVE PROPER ONES (by a search that the kernel runs) -/
def tl_go (g h : Nat) : Bool := Nat.beq (g &&& h) 0 || Nat.beq (g &&& h) g || Nat.beq (g &&& h) h
theorem tl_go_eq (g h : Nat) : tx_go g h = tl_go g h := by
  rw [Bool.eq_iff_iff]
  unfold tx_go tl_go
  rw [decide_eq_true_iff, Bool.or_eq_true, Bool.or_eq_true, Nat.beq_eq, Nat.beq_eq, Nat.beq_eq, or_assoc]
def tl_x : Nat → List Nat → Nat → Bool
  | 0, _, _ => true
  | _ + 1, _, 0 => true
  | _ + 1, [], _ + 1 => false
  | f + 1, c :: r, n + 1 => tl_x f (r.filter (tl_go c)) n || tl_x f r (n + 1)
theorem tl_sound : ∀ (f : Nat) (cs : List Nat) (n : Nat) (L : List Nat), L.Sublist cs → L.Pairwise (fun a b => tl_go a b = true) → L.length = n → tl_x f cs n = true := by
  intro f
  induction f with
  | zero => intros; rfl
  | succ f ih =>
    intro cs n L hs hp hn
    match n, cs, L, hs, hp, hn with
    | 0, _, _, _, _, _ => rfl
    | n + 1, [], L, hs, _, hn =>
      have := hs.length_le
      simp at this
      simp [this] at hn
    | n + 1, c :: r, L, hs, hp, hn =>
      show (tl_x f (r.filter (tl_go c)) n || tl_x f r (n + 1)) = true
      rcases List.sublist_cons_iff.mp hs with h | ⟨L', rfl, h⟩
      · rw [ih r (n + 1) L h hp hn, Bool.or_true]
      · rw [List.pairwise_cons] at hp
        have e : L'.filter (tl_go c) = L' := List.filter_eq_self.mpr (fun a ha => hp.1 a ha)
        have h2 : L'.Sublist (r.filter (tl_go c)) := by
          have := h.filter (tl_go c)
          rwa [e] at this
        rw [ih _ n L' h2 hp.2 (by simpa using hn), Bool.true_or]
def tl_nt : List Nat := [3, 5, 6, 7, 9, 10, 11, 12, 13, 14, 15, 17, 18, 19, 20, 21, 22, 23, 24, 25, 26, 27, 28, 29, 30, 31, 33, 34, 35, 36, 37, 38, 39, 40, 41, 42, 43, 44, 45, 46, 47, 48, 49, 50, 51, 52, 53, 54, 55, 56, 57, 58, 59, 60, 61, 62, 63, 65, 66, 67, 68, 69, 70, 71, 72, 73, 74, 75, 76, 77, 78, 79, 80, 81, 82, 83, 84, 85, 86, 87, 88, 89, 90, 91, 92, 93, 94, 95, 96, 97, 98, 99, 100, 101, 102, 103, 104, 105, 106, 107, 108, 109, 110, 111, 112, 113, 114, 115, 116, 117, 118, 119, 120, 121, 122, 123, 124, 125, 126]
theorem tl_six : tl_x 200 tl_nt 6 = false := by decide +kernel
theorem tl_mem : ∀ g, g < 128 → 1 ≤ g → tx_ev g = false → g ∈ tl_nt := by decide +kernel
theorem tl_max (L : List Nat) (hn : L.Nodup) (hr : ∀ g, g ∈ L → 1 ≤ g ∧ g < 128 ∧ tx_ev g = false) (hp : ∀ g, g ∈ L → ∀ h, h ∈ L → tx_go g h = true) : L.length ≤ 5 := by
  apply Classical.byContradiction
  intro hc
  have hsub : L ⊆ tl_nt.filter (fun g => decide (g ∈ L)) := by
    intro g hg
    obtain ⟨h1, h2, h3⟩ := hr g hg
    exact List.mem_filter.mpr ⟨tl_mem g h2 h1 h3, decide_eq_true hg⟩
  have hlen := hn.length_le_of_subset hsub
  have hsl : ((tl_nt.filter (fun g => decide (g ∈ L))).take 6).Sublist tl_nt := (List.take_sublist _ _).trans List.filter_sublist
  have hpw : ((tl_nt.filter (fun g => decide (g ∈ L))).take 6).Pairwise (fun a b => tl_go a b = true) := by
    rw [List.pairwise_iff_forall_sublist]
    intro a b hab
    have ha : a ∈ (tl_nt.filter (fun g => decide (g ∈ L))).take 6 := hab.subset (by simp)
    have hb : b ∈ (tl_nt.filter (fun g => decide (g ∈ L))).take 6 := hab.subset (by simp)
    have ha := of_decide_eq_true (List.mem_filter.mp (List.mem_of_mem_take ha)).2
    have hb := of_decide_eq_true (List.mem_filter.mp (List.mem_of_mem_take hb)).2
    rw [← tl_go_eq]
    exact hp a ha b hb
  have := tl_sound 200 tl_nt 6 _ hsl hpw (by rw [List.length_take]; omega)
  rw [tl_six] at this
  cases this
end
section
/-! THE INVARIANT between TreeCompare's lists (C, X) and TreeCompareModel's table (hs) -/
def tI (C X : Nat → Nat) (hs : Nat → Bool) : Prop :=
  (∀ j, C j ≤ 5) ∧ (∀ j, X j < 128) ∧ (∀ t k, t < 2 → k < C t → 1 ≤ X (t * 5 + k) ∧ tx_ev (X (t * 5 + k)) = false) ∧ (∀ t i j, t < 2 → i < C t → j < C t → X (t * 5 + i) = X (t * 5 + j) → i = j) ∧ (∀ t i j, t < 2 → i < C t → j < C t → tx_go (X (t * 5 + i)) (X (t * 5 + j)) = true) ∧ (∀ t g, t < 2 → 1 ≤ g → g < 128 → hs (128 * t + g) = tx_has C X t g)
theorem tx_in_iff {C X : Nat → Nat} {t g : Nat} : tx_in C X t g = true ↔ ∃ k, k < C t ∧ X (t * 5 + k) = g := by
  unfold tx_in
  rw [tc_any_iff]
  constructor
  · rintro ⟨k, h1, h2⟩; exact ⟨k, h1, of_decide_eq_true h2⟩
  · rintro ⟨k, h1, h2⟩; exact ⟨k, h1, decide_eq_true h2⟩
theorem tx_has_iff {C X : Nat → Nat} {t g : Nat} : tx_has C X t g = true ↔ tx_ev g = true ∨ ∃ k, k < C t ∧ X (t * 5 + k) = g := by
  unfold tx_has
  rw [Bool.or_eq_true, tx_in_iff]
theorem tI_has_go {C X : Nat → Nat} {hs : Nat → Bool} (h : tI C X hs) {t g g' : Nat} (ht : t < 2) (hg : g < 128) (hg' : g' < 128) (h1 : tx_has C X t g = true) (h2 : tx_has C X t g' = true) : tx_go g g' = true := by
  rcases tx_has_iff.mp h2 with e | ⟨j, hj, rfl⟩
  · exact tb_ev_go g hg g' hg' e
  · rcases tx_has_iff.mp h1 with e | ⟨i, hi, rfl⟩
    · rw [tb_go_comm]; exact tb_ev_go _ hg' _ hg e
    · exact h.2.2.2.2.1 t i j ht hi hj
theorem tx_can_iff {C X : Nat → Nat} {t g : Nat} : tx_can C X t g = true ↔ ∀ k, k < C t → tx_go g (X (t * 5 + k)) = true := tc_all_iff
theorem tI_fits {C X : Nat → Nat} {hs : Nat → Bool} (h : tI C X hs) {t g : Nat} (ht : t < 2) (hg : g < 128) : tm_fits hs t g = tx_can C X t g := by
  rw [Bool.eq_iff_iff, tx_can_iff]
  unfold tm_fits
  rw [tc_all_iff]
  constructor
  · intro q k hk
    obtain ⟨h1, h2⟩ := h.2.2.1 t k ht hk
    have h3 := h.2.1 (t * 5 + k)
    have := q (X (t * 5 + k) - 1) (by omega)
    rw [show X (t * 5 + k) - 1 + 1 = X (t * 5 + k) by omega, h.2.2.2.2.2 t _ ht h1 h3, tx_has_iff.mpr (Or.inr ⟨k, hk, rfl⟩), tb_cr g hg _ h3] at this
    simpa using this
  · intro q i hi
    rw [h.2.2.2.2.2 t (i + 1) ht (by omega) (by omega), tb_cr g hg (i + 1) (by omega)]
    cases hq : tx_has C X t (i + 1) with
    | false => rfl
    | true =>
      have : tx_go g (i + 1) = true := by
        rcases tx_has_iff.mp hq with e | ⟨k, hk, e⟩
        · exact tb_ev_go g hg _ (by omega) e
        · rw [← e]; exact q k hk
      rw [this]; rfl
/-- the extras of a tree, as a list -/
def tI_L (C X : Nat → Nat) (t : Nat) : List Nat := (List.range (C t)).map (fun k => X (t * 5 + k))
theorem tI_L_mem {C X : Nat → Nat} {t g : Nat} : g ∈ tI_L C X t ↔ ∃ k, k < C t ∧ X (t * 5 + k) = g := by
  unfold tI_L
  rw [List.mem_map]
  constructor
  · rintro ⟨k, h1, h2⟩; exact ⟨k, List.mem_range.mp h1, h2⟩
  · rintro ⟨k, h1, h2⟩; exact ⟨k, List.mem_range.mpr h1, h2⟩
theorem tI_L_nodup {C X : Nat → Nat} {hs : Nat → Bool} (h : tI C X hs) {t : Nat} (ht : t < 2) : (tI_L C X t).Nodup := by
  unfold tI_L
  rw [List.Nodup, List.pairwise_map]
  refine List.Pairwise.imp_of_mem ?_ (List.pairwise_lt_range (n := C t))
  intro a b ha hb hab he
  have := h.2.2.2.1 t a b ht (List.mem_range.mp ha) (List.mem_range.mp hb) he
  omega
theorem tI_room {C X : Nat → Nat} {hs : Nat → Bool} (h : tI C X hs) {t g : Nat} (ht : t < 2) (hg0 : 1 ≤ g) (hg : g < 128) (hc : tx_can C X t g = true) (hn : tx_has C X t g = false) : C t < 5 := by
  have hcan := tx_can_iff.mp hc
  have hev : tx_ev g = false := by
    cases hq : tx_ev g with
    | false => rfl
    | true => rw [tx_has_iff.mpr (Or.inl hq)] at hn; cases hn
  have hni : g ∉ tI_L C X t := by
    intro hm
    rw [tx_has_iff.mpr (Or.inr (tI_L_mem.mp hm))] at hn
    cases hn
  have := tl_max (g :: tI_L C X t) (List.nodup_cons.mpr ⟨hni, tI_L_nodup h ht⟩) (fun x hx => by
    rcases List.mem_cons.mp hx with rfl | hx
    · exact ⟨hg0, hg, hev⟩
    · obtain ⟨k, hk, rfl⟩ := tI_L_mem.mp hx
      exact ⟨(h.2.2.1 t k ht hk).1, h.2.1 _, (h.2.2.1 t k ht hk).2⟩) (fun x hx y hy => by
    rcases List.mem_cons.mp hx with rfl | hx
    · rcases List.mem_cons.mp hy with rfl | hy
      · exact tb_go_self
      · obtain ⟨k, hk, rfl⟩ := tI_L_mem.mp hy
        exact hcan k hk
    · obtain ⟨i, hi, rfl⟩ := tI_L_mem.mp hx
      rcases List.mem_cons.mp hy with rfl | hy
      · rw [tb_go_comm]; exact hcan i hi
      · obtain ⟨k, hk, rfl⟩ := tI_L_mem.mp hy
        exact h.2.2.2.2.1 t i k ht hi hk)
  have hl : (tI_L C X t).length = C t := by unfold tI_L; simp
  simp only [List.length_cons, hl] at this
  omega
theorem tc_updB_s {g : Nat → Bool} {k : Nat} {v : Bool} : tc_updB g k v k = v := if_pos rfl
theorem tc_updB_n {g : Nat → Bool} {k j : Nat} {v : Bool} (h : j ≠ k) : tc_updB g k v j = g j := if_neg h
theorem tI_addh {C X : Nat → Nat} {hs : Nat → Bool} (h : tI C X hs) {t g : Nat} (ht : t < 2) (hg0 : 1 ≤ g) (hg : g < 128) (hh : tx_has C X t g = true) : tI C X (tc_updB hs (128 * t + g) true) := by
  refine ⟨h.1, h.2.1, h.2.2.1, h.2.2.2.1, h.2.2.2.2.1, fun t' g' ht' h1 h2 => ?_⟩
  by_cases e : 128 * t' + g' = 128 * t + g
  · have e1 : t' = t := by omega
    have e2 : g' = g := by omega
    subst e1; subst e2
    rw [tc_updB_s, hh]
  · rw [tc_updB_n e]
    exact h.2.2.2.2.2 t' g' ht' h1 h2
theorem tI_add {C X : Nat → Nat} {hs : Nat → Bool} (h : tI C X hs) {t g : Nat} (ht : t < 2) (hg0 : 1 ≤ g) (hg : g < 128) (hc : tx_can C X t g = true) (hn : tx_has C X t g = false) : tI (tc_upd C t (C t + 1)) (tc_upd X (t * 5 + C t) g) (tc_updB hs (128 * t + g) true) := by
  have hroom := tI_room h ht hg0 hg hc hn
  have hcan := tx_can_iff.mp hc
  have hev : tx_ev g = false := by
    cases hq : tx_ev g with
    | false => rfl
    | true => rw [tx_has_iff.mpr (Or.inl hq)] at hn; cases hn
  have hni : ∀ k, k < C t → X (t * 5 + k) ≠ g := by
    intro k hk he
    rw [tx_has_iff.mpr (Or.inr ⟨k, hk, he⟩)] at hn
    cases hn
  -- where the new cells lie
  have hold : ∀ t' k, t' < 2 → k < tc_upd C t (C t + 1) t' → (t' = t ∧ k = C t ∧ tc_upd X (t * 5 + C t) g (t' * 5 + k) = g) ∨ (k < C t' ∧ tc_upd X (t * 5 + C t) g (t' * 5 + k) = X (t' * 5 + k)) := by
    intro t' k ht' hk
    have h5 := h.1 t'
    by_cases e : t' = t
    · subst e
      rw [tc_upd_s] at hk
      rcases Nat.lt_or_ge k (C t') with q | q
      · exact Or.inr ⟨q, tc_upd_n (by omega)⟩
      · have : k = C t' := by omega
        subst this
        exact Or.inl ⟨rfl, rfl, tc_upd_s⟩
    · rw [tc_upd_n e] at hk
      exact Or.inr ⟨hk, tc_upd_n (by omega)⟩
  have hnew : ∀ t', t' < 2 → ∀ k, k < C t' → k < tc_upd C t (C t + 1) t' ∧ tc_upd X (t * 5 + C t) g (t' * 5 + k) = X (t' * 5 + k) := by
    intro t' ht' k hk
    have h5 := h.1 t'
    by_cases e : t' = t
    · subst e
      rw [tc_upd_s]
      exact ⟨by omega, tc_upd_n (by omega)⟩
    · rw [tc_upd_n e]
      exact ⟨hk, tc_upd_n (by omega)⟩
  refine ⟨tc_upd_le h.1 (by omega), tc_upd_lt h.2.1 hg, fun t' k ht' hk => ?_, fun t' i j ht' hi hj he => ?_, fun t' i j ht' hi hj => ?_, fun t' g' ht' h1 h2 => ?_⟩
  · rcases hold t' k ht' hk with ⟨-, -, e⟩ | ⟨q, e⟩
    · rw [e]; exact ⟨hg0, hev⟩
    · rw [e]; exact h.2.2.1 t' k ht' q
  · rcases hold t' i ht' hi with ⟨rfl, rfl, e⟩ | ⟨q, e⟩
    · rcases hold t' j ht' hj with ⟨-, e2, -⟩ | ⟨q', e'⟩
      · exact e2.symm
      · rw [e, e'] at he; exact absurd he.symm (hni j q')
    · rcases hold t' j ht' hj with ⟨rfl, rfl, e'⟩ | ⟨q', e'⟩
      · rw [e, e'] at he; exact absurd he (hni i q)
      · rw [e, e'] at he; exact h.2.2.2.1 t' i j ht' q q' he
  · rcases hold t' i ht' hi with ⟨rfl, rfl, e⟩ | ⟨q, e⟩
    · rcases hold t' j ht' hj with ⟨-, -, e'⟩ | ⟨q', e'⟩
      · rw [e, e']; exact tb_go_self
      · rw [e, e']; exact hcan j q'
    · rcases hold t' j ht' hj with ⟨rfl, rfl, e'⟩ | ⟨q', e'⟩
      · rw [e, e', tb_go_comm]; exact hcan i q
      · rw [e, e']; exact h.2.2.2.2.1 t' i j ht' q q'
  · by_cases e : 128 * t' + g' = 128 * t + g
    · have e1 : t' = t := by omega
      have e2 : g' = g := by omega
      subst e1; subst e2
      rw [tc_updB_s]
      exact (tx_has_iff.mpr (Or.inr ⟨C t', by rw [tc_upd_s]; omega, tc_upd_s⟩)).symm
    · rw [tc_updB_n e, h.2.2.2.2.2 t' g' ht' h1 h2, Bool.eq_iff_iff, tx_has_iff, tx_has_iff]
      constructor
      · rintro (q | ⟨k, hk, he⟩)
        · exact Or.inl q
        · exact Or.inr ⟨k, (hnew t' ht' k hk).1, (hnew t' ht' k hk).2.trans he⟩
      · rintro (q | ⟨k, hk, he⟩)
        · exact Or.inl q
        · rcases hold t' k ht' hk with ⟨e1, -, e2⟩ | ⟨q, e2⟩
          · rw [e2] at he; subst e1; exact absurd (by rw [he]) e
          · exact Or.inr ⟨k, q, e2.symm.trans he⟩
theorem tI_remove {C X : Nat → Nat} {hs : Nat → Bool} (h : tI C X hs) {t k : Nat} (ht : t < 2) (hk : k < C t) : tI (tc_upd C t (C t - 1)) (tc_upd X (t * 5 + k) (X (t * 5 + (C t - 1)))) (tc_updB hs (128 * t + X (t * 5 + k)) false) := by
  have h5 := h.1 t
  -- each new place is an old one that isn't k, and the other way round
  have hold : ∀ t' i, t' < 2 → i < tc_upd C t (C t - 1) t' → ∃ j, j < C t' ∧ (t' = t → j ≠ k) ∧ tc_upd X (t * 5 + k) (X (t * 5 + (C t - 1))) (t' * 5 + i) = X (t' * 5 + j) ∧ (j = if t' = t ∧ i = k then C t - 1 else i) := by
    intro t' i ht' hi
    have h5' := h.1 t'
    by_cases e : t' = t
    · subst e
      rw [tc_upd_s] at hi
      by_cases e2 : i = k
      · subst e2
        exact ⟨C t' - 1, by omega, fun _ => by omega, tc_upd_s, by rw [if_pos ⟨rfl, rfl⟩]⟩
      · exact ⟨i, by omega, fun _ => e2, tc_upd_n (by omega), by rw [if_neg (fun q => e2 q.2)]⟩
    · rw [tc_upd_n e] at hi
      exact ⟨i, hi, fun q => absurd q e, tc_upd_n (by omega), by rw [if_neg (fun q => e q.1)]⟩
  have hnew : ∀ t' j, t' < 2 → j < C t' → (t' = t → j ≠ k) → ∃ i, i < tc_upd C t (C t - 1) t' ∧ tc_upd X (t * 5 + k) (X (t * 5 + (C t - 1))) (t' * 5 + i) = X (t' * 5 + j) := by
    intro t' j ht' hj hjk
    have h5' := h.1 t'
    by_cases e : t' = t
    · subst e
      have hjk := hjk rfl
      rw [tc_upd_s]
      by_cases e2 : j = C t' - 1
      · subst e2
        exact ⟨k, by omega, tc_upd_s⟩
      · exact ⟨j, by omega, tc_upd_n (by omega)⟩
    · rw [tc_upd_n e]
      exact ⟨j, hj, tc_upd_n (by omega)⟩
  refine ⟨tc_upd_le h.1 (by omega), tc_upd_lt h.2.1 (h.2.1 _), fun t' i ht' hi => ?_, fun t' i j ht' hi hj he => ?_, fun t' i j ht' hi hj => ?_, fun t' g' ht' h1 h2 => ?_⟩
  · obtain ⟨j, q, -, e, -⟩ := hold t' i ht' hi
    rw [e]; exact h.2.2.1 t' j ht' q
  · obtain ⟨i', q, -, e, ei⟩ := hold t' i ht' hi
    obtain ⟨j', q', -, e', ej⟩ := hold t' j ht' hj
    rw [e, e'] at he
    have := h.2.2.2.1 t' i' j' ht' q q' he
    rw [ei, ej] at this
    by_cases et : t' = t
    · subst et
      rw [tc_upd_s] at hi hj
      by_cases a : i = k
      · by_cases b : j = k
        · omega
        · rw [if_pos ⟨rfl, a⟩, if_neg (fun q => b q.2)] at this; omega
      · by_cases b : j = k
        · rw [if_neg (fun q => a q.2), if_pos ⟨rfl, b⟩] at this; omega
        · rw [if_neg (fun q => a q.2), if_neg (fun q => b q.2)] at this; omega
    · rw [if_neg (fun q => et q.1), if_neg (fun q => et q.1)] at this; exact this
  · obtain ⟨i', q, -, e, -⟩ := hold t' i ht' hi
    obtain ⟨j', q', -, e', -⟩ := hold t' j ht' hj
    rw [e, e']; exact h.2.2.2.2.1 t' i' j' ht' q q'
  · have hb := h.2.2.1 t k ht hk
    have hx := h.2.1 (t * 5 + k)
    by_cases e : 128 * t' + g' = 128 * t + X (t * 5 + k)
    · have e1 : t' = t := by omega
      have e2 : g' = X (t * 5 + k) := by omega
      subst e1; subst e2
      rw [tc_updB_s]
      cases hq : tx_has (tc_upd C t' (C t' - 1)) (tc_upd X (t' * 5 + k) (X (t' * 5 + (C t' - 1)))) t' (X (t' * 5 + k)) with
      | false => rfl
      | true =>
        exfalso
        rcases tx_has_iff.mp hq with q | ⟨i, hi, he⟩
        · rw [hb.2] at q; cases q
        · obtain ⟨j, q, hjk, e3, -⟩ := hold t' i ht' hi
          rw [e3] at he
          exact hjk rfl (h.2.2.2.1 t' j k ht' q hk he)
    · rw [tc_updB_n e, h.2.2.2.2.2 t' g' ht' h1 h2, Bool.eq_iff_iff, tx_has_iff, tx_has_iff]
      constructor
      · rintro (q | ⟨j, hj, he⟩)
        · exact Or.inl q
        · obtain ⟨i, hi, e3⟩ := hnew t' j ht' hj (fun et hjk => by subst et; subst hjk; exact e (by rw [he]))
          exact Or.inr ⟨i, hi, e3.trans he⟩
      · rintro (q | ⟨i, hi, he⟩)
        · exact Or.inl q
        · obtain ⟨j, q, -, e3, -⟩ := hold t' i ht' hi
          exact Or.inr ⟨j, q, e3.symm.trans he⟩
theorem tI_clear {C X : Nat → Nat} {hs u : Nat → Bool} (h : tI C X hs) {t : Nat} (ht : t < 2) (h1 : ∀ g, 1 ≤ g → g < 128 → u (128 * t + g) = tm_giv g) (h2 : ∀ j, (∀ g, 1 ≤ g → g < 128 → j ≠ 128 * t + g) → u j = hs j) : tI (tc_upd C t 0) X u := by
  have hlt : ∀ t' k, k < tc_upd C t 0 t' → t' ≠ t ∧ k < C t' := by
    intro t' k hk
    by_cases e : t' = t
    · subst e; rw [tc_upd_s] at hk; omega
    · rw [tc_upd_n e] at hk; exact ⟨e, hk⟩
  refine ⟨tc_upd_le h.1 (by omega), h.2.1, fun t' k ht' hk => h.2.2.1 t' k ht' (hlt t' k hk).2, fun t' i j ht' hi hj => h.2.2.2.1 t' i j ht' (hlt t' i hi).2 (hlt t' j hj).2, fun t' i j ht' hi hj => h.2.2.2.2.1 t' i j ht' (hlt t' i hi).2 (hlt t' j hj).2, fun t' g ht' hg0 hg => ?_⟩
  by_cases e : t' = t
  · subst e
    rw [h1 g hg0 hg, tb_giv g hg, Bool.eq_iff_iff, tx_has_iff]
    constructor
    · exact Or.inl
    · rintro (q | ⟨k, hk, -⟩)
      · exact q
      · exact absurd rfl (hlt t' k hk).1
  · rw [h2 _ (fun g' _ _ => by omega), h.2.2.2.2.2 t' g ht' hg0 hg, Bool.eq_iff_iff, tx_has_iff, tx_has_iff]
    constructor
    · rintro (q | ⟨k, hk, he⟩)
      · exact Or.inl q
      · exact Or.inr ⟨k, by rw [tc_upd_n e]; exact hk, he⟩
    · rintro (q | ⟨k, hk, he⟩)
      · exact Or.inl q
      · exact Or.inr ⟨k, (hlt t' k hk).2, he⟩
theorem tI_init {hs : Nat → Bool} (h : ∀ t g, t < 2 → 1 ≤ g → g < 128 → hs (128 * t + g) = tm_giv g) : tI z0 z0 hs := by
  refine ⟨fun _ => Nat.zero_le _, fun _ => (show (0 : Nat) < 128 by decide), fun t k _ hk => absurd hk (Nat.not_lt_zero _), fun t i j _ hi => absurd hi (Nat.not_lt_zero _), fun t i j _ hi => absurd hi (Nat.not_lt_zero _), fun t g ht hg0 hg => ?_⟩
  rw [h t g ht hg0 hg, tb_giv g hg, Bool.eq_iff_iff, tx_has_iff]
  constructor
  · exact Or.inl
  · rintro (q | ⟨k, hk, -⟩)
    · exact q
    · exact absurd hk (Nat.not_lt_zero _)
end
section
/-! WHAT THE TWO SIDES ANSWER IS THE SAME: counts -/
theorem tc_add2 {a b c d : Nat} (h1 : a = c) (h2 : b = d) : a + b = c + d := by rw [h1, h2]
theorem tm_groups_eq (hs : Nat → Bool) (t : Nat) : tm_groups hs t = tc_sum (fun i => if hs (128 * t + (i + 1)) = true then 1 else 0) 127 := tc_fold_cnt _ _
theorem tb_sum_ev : tc_sum (fun i => if tx_ev (i + 1) = true then 1 else 0) 127 = 8 := by decide +kernel
theorem tb_sum_evm : ∀ m, m < 7 → tc_sum (fun i => if tx_ev (i + 1) = true ∧ (i + 1) >>> m &&& 1 = 1 then 1 else 0) 127 = 2 := by decide +kernel
/-- a sum over a tree's groups: over the given ones, and over the extras -/
theorem tI_sum {C X : Nat → Nat} {hs : Nat → Bool} (h : tI C X hs) {t : Nat} (ht : t < 2) (f : Nat → Nat) : tc_sum (fun i => if tx_has C X t (i + 1) = true then f (i + 1) else 0) 127 = tc_sum (fun i => if tx_ev (i + 1) = true then f (i + 1) else 0) 127 + tc_sum (fun k => f (X (t * 5 + k))) (C t) := by
  have e : ∀ i, i < 127 → (if tx_has C X t (i + 1) = true then f (i + 1) else 0) = (if tx_ev (i + 1) = true then f (i + 1) else 0) + (if tc_any (fun k => decide (X (t * 5 + k) = i + 1)) (C t) = true then f (i + 1) else 0) := by
    intro i hi
    unfold tx_has tx_in
    by_cases h1 : tx_ev (i + 1) = true
    · have h2 : ¬ tc_any (fun k => decide (X (t * 5 + k) = i + 1)) (C t) = true := by
        intro hc
        obtain ⟨k, hk, he⟩ := tc_any_iff.mp hc
        have := (h.2.2.1 t k ht hk).2
        rw [of_decide_eq_true he, h1] at this
        cases this
      rw [if_pos h1, if_neg h2, if_pos (by rw [h1]; rfl)]
      rfl
    · rw [if_neg h1, Nat.zero_add]
      have : tx_ev (i + 1) = false := by cases hq : tx_ev (i + 1) with
        | false => rfl
        | true => exact absurd hq h1
      rw [this, Bool.false_or]
  rw [tc_sum_congr e, tc_sum_add]
  refine tc_add2 rfl ?_
  exact tc_sum_img f (fun k => X (t * 5 + k)) (C t) (fun i j hi hj he => h.2.2.2.1 t i j ht hi hj he) (fun i hi => ⟨(h.2.2.1 t i ht hi).1, h.2.1 _⟩)
theorem tI_groups {C X : Nat → Nat} {hs : Nat → Bool} (h : tI C X hs) {t : Nat} (ht : t < 2) : tm_groups hs t = 8 + C t := by
  rw [tm_groups_eq]
  have e : ∀ i, i < 127 → (if hs (128 * t + (i + 1)) = true then 1 else 0) = (if tx_has C X t (i + 1) = true then (fun _ => 1) (i + 1) else 0) := by
    intro i hi
    rw [h.2.2.2.2.2 t (i + 1) ht (by omega) (by omega)]
  rw [tc_sum_congr e, tI_sum h ht (fun _ => 1), tb_sum_ev, tc_sum_const, Nat.mul_one]
theorem tI_depth {C X : Nat → Nat} {hs : Nat → Bool} (h : tI C X hs) {t m : Nat} (ht : t < 2) (hm : m < 7) : tm_dep hs t m = tx_depth C X t m := by
  rw [tx_depth_eq, show tm_dep hs t m = _ from tc_fold_cnt (fun i => hs (128 * t + (i + 1)) = true ∧ (i + 1) >>> m &&& 1 = 1) 127]
  have e : ∀ i, i < 127 → (if hs (128 * t + (i + 1)) = true ∧ (i + 1) >>> m &&& 1 = 1 then 1 else 0) = (if tx_has C X t (i + 1) = true then (fun g => (g >>> m) &&& 1) (i + 1) else 0) := by
    intro i hi
    rw [h.2.2.2.2.2 t (i + 1) ht (by omega) (by omega)]
    by_cases h1 : tx_has C X t (i + 1) = true
    · rw [if_pos h1]
      show _ = (i + 1) >>> m &&& 1
      rw [tb_one]
      cases (i + 1).testBit m <;> simp [h1]
    · rw [if_neg h1, if_neg (fun q => h1 q.1)]
  rw [tc_sum_congr e, tI_sum h ht (fun g => (g >>> m) &&& 1)]
  refine tc_add2 ?_ rfl
  rw [← tb_sum_evm m hm]
  apply tc_sum_congr
  intro i _
  by_cases h1 : tx_ev (i + 1) = true
  · rw [if_pos h1]
    show (i + 1) >>> m &&& 1 = _
    rw [tb_one]
    cases (i + 1).testBit m <;> simp [h1]
  · rw [if_neg h1, if_neg (fun q => h1 q.1)]
theorem tI_common {C X : Nat → Nat} {hs : Nat → Bool} (h : tI C X hs) : tm_com hs = tx_common C X := by
  rw [tx_common_eq, show tm_com hs = _ from tc_fold_cnt (fun i => hs (i + 1) = true ∧ hs (128 + (i + 1)) = true) 127]
  have e : ∀ i, i < 127 → (if hs (i + 1) = true ∧ hs (128 + (i + 1)) = true then 1 else 0) = (if tx_has C X 0 (i + 1) = true then (fun g => if tx_has C X 1 g = true then 1 else 0) (i + 1) else 0) := by
    intro i hi
    have h0 := h.2.2.2.2.2 0 (i + 1) (by omega) (by omega) (by omega)
    have h1 := h.2.2.2.2.2 1 (i + 1) (by omega) (by omega) (by omega)
    rw [show 128 * 0 + (i + 1) = i + 1 by omega] at h0
    rw [show 128 * 1 + (i + 1) = 128 + (i + 1) by omega] at h1
    rw [h0, h1]
    by_cases q0 : tx_has C X 0 (i + 1) = true
    · rw [if_pos q0]
      show _ = if tx_has C X 1 (i + 1) = true then 1 else 0
      by_cases q1 : tx_has C X 1 (i + 1) = true
      · rw [if_pos q1, if_pos ⟨q0, q1⟩]
      · rw [if_neg q1, if_neg (fun q => q1 q.2)]
    · rw [if_neg q0, if_neg (fun q => q0 q.1)]
  rw [tc_sum_congr e, tI_sum h (by omega) (fun g => if tx_has C X 1 g = true then 1 else 0)]
  refine tc_add2 ?_ ?_
  · rw [← tb_sum_ev]
    apply tc_sum_congr
    intro i _
    by_cases h1 : tx_ev (i + 1) = true
    · rw [if_pos h1, if_pos h1]
      exact if_pos (tx_has_iff.mpr (Or.inl h1))
    · rw [if_neg h1, if_neg h1]
  · apply tc_sum_congr
    intro k hk
    show (if tx_has C X 1 (X (0 * 5 + k)) = true then 1 else 0) = _
    rw [show 0 * 5 + k = k by omega]
    have hev := (h.2.2.1 0 k (by omega) hk).2
    rw [show 0 * 5 + k = k by omega] at hev
    have : tx_has C X 1 (X k) = tx_in C X 1 (X k) := by unfold tx_has; rw [hev, Bool.false_or]
    rw [this]
theorem tI_gd0 {C X : Nat → Nat} {hs : Nat → Bool} (h : tI C X hs) : tm_gd hs + 2 * (tx_common C X - 8) = C 0 + C 1 := by
  have hg0 := tI_groups h (t := 0) (by omega)
  have hg1 := tI_groups h (t := 1) (by omega)
  have hc := tI_common h
  have hle := (tx_common_le C X).2
  rw [tm_groups_eq] at hg0 hg1
  rw [show tm_com hs = _ from tc_fold_cnt (fun i => hs (i + 1) = true ∧ hs (128 + (i + 1)) = true) 127] at hc
  have e : tc_sum (fun i => (if hs (i + 1) = hs (128 + (i + 1)) then 0 else 1) + ((if hs (i + 1) = true ∧ hs (128 + (i + 1)) = true then 1 else 0) + (if hs (i + 1) = true ∧ hs (128 + (i + 1)) = true then 1 else 0))) 127 = tc_sum (fun i => (if hs (128 * 0 + (i + 1)) = true then 1 else 0) + (if hs (128 * 1 + (i + 1)) = true then 1 else 0)) 127 := by
    apply tc_sum_congr
    intro i _
    rw [show 128 * 0 + (i + 1) = i + 1 by omega, show 128 * 1 + (i + 1) = 128 + (i + 1) by omega]
    cases hs (i + 1) <;> cases hs (128 + (i + 1)) <;> rfl
  rw [tc_sum_add, tc_sum_add, tc_sum_add, hc, hg0, hg1] at e
  rw [show tm_gd hs = _ from tc_fold_cntN (fun i => hs (i + 1) = hs (128 + (i + 1))) 127]
  omega
theorem tI_gd_le {C X : Nat → Nat} {hs : Nat → Bool} (h : tI C X hs) : 2 * (tx_common C X - 7 - 1) ≤ C 0 + C 1 := by
  have := tI_gd0 h
  omega
theorem tI_gd {C X : Nat → Nat} {hs : Nat → Bool} (h : tI C X hs) : tm_gd hs = tx_gd C X := by
  have := tI_gd0 h
  unfold tx_gd
  omega
theorem tI_rooms {C X : Nat → Nat} {hs : Nat → Bool} (h : tI C X hs) {t : Nat} (ht : t < 2) : tm_room hs t = tx_room C X t := by
  rw [show tm_room hs t = _ from tc_fold_cnt (fun i => hs (128 * t + (i + 1)) = false ∧ tm_fits hs t (i + 1) = true) 127]
  unfold tx_room
  apply tc_sum_congr
  intro i hi
  rw [h.2.2.2.2.2 t (i + 1) ht (by omega) (by omega), tI_fits h ht (by omega)]
theorem tI_tog {C X : Nat → Nat} {hs : Nat → Bool} (h : tI C X hs) : tm_tog hs = tx_tog C X := by
  rw [Bool.eq_iff_iff]
  unfold tm_tog tx_tog
  rw [tc_all_iff, tc_all_iff]
  constructor
  · intro q k hk
    rw [tx_can_iff]
    intro j hj
    obtain ⟨h1, h2⟩ := h.2.2.1 1 j (by omega) hj
    have h3 := h.2.1 (1 * 5 + j)
    have := q (X (1 * 5 + j) - 1) (by omega)
    rw [show X (1 * 5 + j) - 1 + 1 = X (1 * 5 + j) by omega, show 128 + X (1 * 5 + j) = 128 * 1 + X (1 * 5 + j) by omega, h.2.2.2.2.2 1 _ (by omega) h1 h3, tx_has_iff.mpr (Or.inr ⟨j, hj, rfl⟩), Bool.not_true, Bool.false_or, tI_fits h (by omega) h3, tx_can_iff] at this
    have := this k hk
    rw [show 0 * 5 + k = k by omega] at this
    rw [tb_go_comm]
    exact this
  · intro q i hi
    have h1 := h.2.2.2.2.2 1 (i + 1) (by omega) (by omega) (by omega)
    rw [show 128 * 1 + (i + 1) = 128 + (i + 1) by omega] at h1
    rw [h1, tI_fits h (by omega) (by omega)]
    cases hq : tx_has C X 1 (i + 1) with
    | false => rfl
    | true =>
      rw [Bool.not_true, Bool.false_or, tx_can_iff]
      intro k hk
      have hk128 := h.2.1 (0 * 5 + k)
      rcases tx_has_iff.mp hq with e | ⟨j, hj, e⟩
      · rw [tb_go_comm]; exact tb_ev_go _ hk128 _ (by omega) e
      · rw [← e, tb_go_comm, show 0 * 5 + k = k by omega]
        exact tx_can_iff.mp (q k hk) j hj
end
section
/-! TRIPLES: the least group that holds a set, and which of three joins last -/
def tt_cl (hs : Nat → Bool) (t a b c : Nat) : Prop := ∃ g, 1 ≤ g ∧ g < 128 ∧ hs (128 * t + g) = true ∧ g.testBit a = true ∧ g.testBit b = true ∧ g.testBit c = false
theorem tt_closer {hs : Nat → Bool} {t a b c : Nat} : tm_closer hs t a b c = true ↔ tt_cl hs t a b c := by
  unfold tm_closer
  rw [tc_any_iff]
  constructor
  · rintro ⟨i, hi, h⟩
    obtain ⟨h1, h2, h3, h4⟩ := of_decide_eq_true h
    exact ⟨i + 1, by omega, by omega, h1, tb_1.mp h2, tb_1.mp h3, tb_0.mp h4⟩
  · rintro ⟨g, h0, h1, h2, h3, h4, h5⟩
    refine ⟨g - 1, by omega, ?_⟩
    have e : g - 1 + 1 = g := by omega
    unfold tm_clo
    rw [e]
    exact decide_eq_true ⟨h2, tb_1.mpr h3, tb_1.mpr h4, tb_0.mpr h5⟩
theorem tt_cl_sym {hs : Nat → Bool} {t a b c : Nat} : tt_cl hs t a b c → tt_cl hs t b a c := by
  rintro ⟨g, h0, h1, h2, h3, h4, h5⟩
  exact ⟨g, h0, h1, h2, h4, h3, h5⟩
theorem tt_go {C X : Nat → Nat} {hs : Nat → Bool} (h : tI C X hs) {t g g' : Nat} (ht : t < 2) (hg0 : 1 ≤ g) (hg : g < 128) (hg0' : 1 ≤ g') (hg' : g' < 128) (h1 : hs (128 * t + g) = true) (h2 : hs (128 * t + g') = true) : tx_go g g' = true := by
  rw [h.2.2.2.2.2 t g ht hg0 hg] at h1
  rw [h.2.2.2.2.2 t g' ht hg0' hg'] at h2
  exact tI_has_go h ht hg hg' h1 h2
/-- two groups that share x: one holds the other -/
theorem tt_nest {g g' x : Nat} (hg : g < 128) (hg' : g' < 128) (hgo : tx_go g g' = true) (hx : x < 7) (h1 : g.testBit x = true) (h2 : g'.testBit x = true) : (∀ y, y < 7 → g.testBit y = true → g'.testBit y = true) ∨ (∀ y, y < 7 → g'.testBit y = true → g.testBit y = true) := by
  rcases (tb_go hg hg').mp hgo with q | q
  · exact absurd ⟨h1, h2⟩ (q x hx)
  · exact q
theorem tt_excl {C X : Nat → Nat} {hs : Nat → Bool} (h : tI C X hs) {t a b c : Nat} (ht : t < 2) (ha : a < 7) (hb : b < 7) (hc : c < 7) (h1 : tt_cl hs t a b c) (h2 : tt_cl hs t a c b) : False := by
  obtain ⟨g, a0, a1, a2, a3, a4, a5⟩ := h1
  obtain ⟨g', b0, b1, b2, b3, b4, b5⟩ := h2
  rcases tt_nest a1 b1 (tt_go h ht a0 a1 b0 b1 a2 b2) ha a3 b3 with q | q
  · rw [q b hb a4] at b5; cases b5
  · rw [q c hc b4] at a5; cases a5
/-! the least group that holds a set -/
def tt_lst (P : Nat → Prop) (w J : Nat) : Prop := P J ∧ tc_dif w J = 0 ∧ ∀ g, P g → tc_dif w g = 0 → tc_pop J ≤ tc_pop g
def tt_P (hs : Nat → Bool) (t g : Nat) : Prop := 1 ≤ g ∧ g < 128 ∧ hs (128 * t + g) = true
theorem tt_lst_sub {C X : Nat → Nat} {hs : Nat → Bool} (h : tI C X hs) {t w J g : Nat} (ht : t < 2) (hw : w < 128) (hw0 : w ≠ 0) (h1 : tt_lst (tt_P hs t) w J) (h2 : tt_P hs t g) (h3 : tc_dif w g = 0) : ∀ y, y < 7 → J.testBit y = true → g.testBit y = true := by
  obtain ⟨x, hx, hwx⟩ := tb_nz hw hw0
  have hJx := (tb_sub hw).mp h1.2.1 x hx hwx
  have hgx := (tb_sub hw).mp h3 x hx hwx
  rcases tt_nest h1.1.2.1 h2.2.1 (tt_go h ht h1.1.1 h1.1.2.1 h2.1 h2.2.1 h1.1.2.2 h2.2.2) hx hJx hgx with q | q
  · exact q
  · have hle := h1.2.2 g h2 h3
    have hd : tc_dif g J = 0 := (tb_sub h2.2.1).mpr q
    obtain ⟨p1, p2⟩ := tb_pop_sub g h2.2.1 J h1.1.2.1 hd
    have e : g = J := p2 (by omega)
    rw [e]
    exact fun y _ hy => hy
theorem tt_lst_uniq {C X : Nat → Nat} {hs : Nat → Bool} (h : tI C X hs) {t w J J' : Nat} (ht : t < 2) (hw : w < 128) (hw0 : w ≠ 0) (h1 : tt_lst (tt_P hs t) w J) (h2 : tt_lst (tt_P hs t) w J') : J = J' :=
  tb_ext h1.1.2.1 h2.1.2.1 (fun y hy => by
    have q1 := tt_lst_sub h ht hw hw0 h1 h2.1 h2.2.1 y hy
    have q2 := tt_lst_sub h ht hw hw0 h2 h1.1 h1.2.1 y hy
    rw [Bool.eq_iff_iff]
    exact ⟨q1, q2⟩)
theorem tt_127 {C X : Nat → Nat} {hs : Nat → Bool} (h : tI C X hs) {t : Nat} (ht : t < 2) : tt_P hs t 127 := by
  refine ⟨by decide, by decide, ?_⟩
  rw [h.2.2.2.2.2 t 127 ht (by decide) (by decide)]
  exact tx_has_iff.mpr (Or.inl (by decide +kernel))
theorem tt_foldX {C X : Nat → Nat} {hs : Nat → Bool} (h : tI C X hs) {t w : Nat} (ht : t < 2) (hw : w < 128) : ∀ n, n ≤ C t → tt_P hs t (tc_fold (tx_jstep X t w) 127 n) ∧ tc_dif w (tc_fold (tx_jstep X t w) 127 n) = 0 ∧ ∀ k, k < n → tc_dif w (X (t * 5 + k)) = 0 → tc_pop (tc_fold (tx_jstep X t w) 127 n) ≤ tc_pop (X (t * 5 + k)) := by
  intro n
  induction n with
  | zero =>
    intro _
    exact ⟨tt_127 h ht, (tb_sub hw).mpr (fun x hx _ => tb_127 hx), fun k hk => absurd hk (Nat.not_lt_zero _)⟩
  | succ n ih =>
    intro hn
    obtain ⟨i1, i2, i3⟩ := ih (by omega)
    show tt_P hs t (tx_jstep X t w n (tc_fold (tx_jstep X t w) 127 n)) ∧ tc_dif w (tx_jstep X t w n (tc_fold (tx_jstep X t w) 127 n)) = 0 ∧ ∀ k, k < n + 1 → tc_dif w (X (t * 5 + k)) = 0 → tc_pop (tx_jstep X t w n (tc_fold (tx_jstep X t w) 127 n)) ≤ tc_pop (X (t * 5 + k))
    generalize tc_fold (tx_jstep X t w) 127 n = J at i1 i2 i3 ⊢
    unfold tx_jstep
    split
    · next hc =>
      have hb := h.2.2.1 t n ht (by omega)
      refine ⟨⟨hb.1, h.2.1 _, ?_⟩, hc.1, fun k hk hd => ?_⟩
      · rw [h.2.2.2.2.2 t _ ht hb.1 (h.2.1 _)]
        exact tx_has_iff.mpr (Or.inr ⟨n, by omega, rfl⟩)
      · rcases Nat.lt_or_ge k n with q | q
        · have := i3 k q hd
          omega
        · rw [show k = n by omega]; exact Nat.le_refl _
    · next hc =>
      refine ⟨i1, i2, fun k hk hd => ?_⟩
      rcases Nat.lt_or_ge k n with q | q
      · exact i3 k q hd
      · have e : k = n := by omega
        subst e
        apply Classical.byContradiction
        intro hh
        exact hc ⟨hd, by omega⟩
theorem tt_joinX {C X : Nat → Nat} {hs : Nat → Bool} (h : tI C X hs) {t w : Nat} (ht : t < 2) (hw : w < 128) (hw0 : w ≠ 0) : tt_lst (tt_P hs t) w (tx_join C X t w) := by
  have hpop : tc_pop w ≠ 0 := fun q => hw0 ((tb_pop0 w hw).mp q)
  unfold tx_join
  split
  · next hc =>
    have h1 : tc_pop w = 1 := by
      rcases hc with q | q
      · exact absurd q hw0
      · exact q
    refine ⟨⟨by omega, hw, ?_⟩, (tb_sub hw).mpr (fun _ _ q => q), fun g hg hd => (tb_pop_sub w hw g hg.2.1 hd).1⟩
    rw [h.2.2.2.2.2 t w ht (by omega) hw]
    exact tx_has_iff.mpr (Or.inl (decide_eq_true (Or.inr h1)))
  · next hc =>
    obtain ⟨i1, i2, i3⟩ := tt_foldX h ht hw (C t) (Nat.le_refl _)
    refine ⟨i1, i2, fun g hg hd => ?_⟩
    have hhas := hg.2.2
    rw [h.2.2.2.2.2 t g ht hg.1 hg.2.1] at hhas
    rcases tx_has_iff.mp hhas with q | ⟨k, hk, e⟩
    · rcases of_decide_eq_true q with e | e
      · rw [e]
        exact Nat.le_trans (tc_pop_le _) (show 7 ≤ tc_pop 127 by decide +kernel)
      · have := (tb_pop_sub w hw g hg.2.1 hd).1
        exact absurd (Or.inr (show tc_pop w = 1 by omega)) hc
    · rw [← e] at hd ⊢
      exact i3 k hk hd
theorem tt_foldM {C X : Nat → Nat} {hs : Nat → Bool} (h : tI C X hs) {t w : Nat} (ht : t < 2) (hw : w < 128) : ∀ n, n ≤ 127 → tt_P hs t (tc_fold (tm_jstep hs t w) 127 n) ∧ tc_dif w (tc_fold (tm_jstep hs t w) 127 n) = 0 ∧ ∀ k, k < n → hs (128 * t + (k + 1)) = true → tc_dif w (k + 1) = 0 → tc_pop (tc_fold (tm_jstep hs t w) 127 n) ≤ tc_pop (k + 1) := by
  intro n
  induction n with
  | zero =>
    intro _
    exact ⟨tt_127 h ht, (tb_sub hw).mpr (fun x hx _ => tb_127 hx), fun k hk => absurd hk (Nat.not_lt_zero _)⟩
  | succ n ih =>
    intro hn
    obtain ⟨i1, i2, i3⟩ := ih (by omega)
    show tt_P hs t (tm_jstep hs t w n (tc_fold (tm_jstep hs t w) 127 n)) ∧ tc_dif w (tm_jstep hs t w n (tc_fold (tm_jstep hs t w) 127 n)) = 0 ∧ ∀ k, k < n + 1 → hs (128 * t + (k + 1)) = true → tc_dif w (k + 1) = 0 → tc_pop (tm_jstep hs t w n (tc_fold (tm_jstep hs t w) 127 n)) ≤ tc_pop (k + 1)
    generalize tc_fold (tm_jstep hs t w) 127 n = J at i1 i2 i3 ⊢
    unfold tm_jstep
    split
    · next hc =>
      refine ⟨⟨by omega, by omega, hc.1⟩, hc.2.1, fun k hk hg hd => ?_⟩
      rcases Nat.lt_or_ge k n with q | q
      · have := i3 k q hg hd
        have := hc.2.2
        omega
      · rw [show k = n by omega]; exact Nat.le_refl _
    · next hc =>
      refine ⟨i1, i2, fun k hk hg hd => ?_⟩
      rcases Nat.lt_or_ge k n with q | q
      · exact i3 k q hg hd
      · have e : k = n := by omega
        subst e
        apply Classical.byContradiction
        intro hh
        exact hc ⟨hg, hd, by omega⟩
theorem tt_joinM {C X : Nat → Nat} {hs : Nat → Bool} (h : tI C X hs) {t w : Nat} (ht : t < 2) (hw : w < 128) (hw0 : w ≠ 0) : tt_lst (tt_P hs t) w (tm_join hs t w) := by
  unfold tm_join
  rw [if_neg hw0]
  obtain ⟨i1, i2, i3⟩ := tt_foldM h ht hw 127 (Nat.le_refl _)
  refine ⟨i1, i2, fun g hg hd => ?_⟩
  have e : g - 1 + 1 = g := by have := hg.1; omega
  have hlt := hg.2.1
  have := i3 (g - 1) (by omega) (by rw [e]; exact hg.2.2) (by rw [e]; exact hd)
  rw [e] at this
  exact this
theorem tI_join {C X : Nat → Nat} {hs : Nat → Bool} (h : tI C X hs) {t w : Nat} (ht : t < 2) (hw : w < 128) : tm_join hs t w = tx_join C X t w := by
  by_cases hw0 : w = 0
  · subst hw0
    rw [show tm_join hs t 0 = 0 from if_pos rfl, show tx_join C X t 0 = 0 from if_pos (Or.inl rfl)]
  · exact tt_lst_uniq h ht hw hw0 (tt_joinM h ht hw hw0) (tt_joinX h ht hw hw0)
/-! which of three joins last -/
theorem tt_pair {a b x : Nat} (ha : a < 7) (hb : b < 7) (hx : x < 7) : (1 <<< a ||| 1 <<< b).testBit x = true ↔ a = x ∨ b = x := by
  rw [Nat.testBit_or, tb_single a ha x hx, tb_single b hb x hx, Bool.or_eq_true, decide_eq_true_iff, decide_eq_true_iff]
theorem tt_lastc {C X : Nat → Nat} {hs : Nat → Bool} (h : tI C X hs) {t a b c : Nat} (ht : t < 2) (ha : a < 7) (hb : b < 7) (hc : c < 7) : (tx_join C X t (1 <<< a ||| 1 <<< b) >>> c) &&& 1 = 0 ↔ tt_cl hs t a b c := by
  have hw := tc_shl2_lt ha hb
  have hwa : (1 <<< a ||| 1 <<< b).testBit a = true := (tt_pair ha hb ha).mpr (Or.inl rfl)
  have hwb : (1 <<< a ||| 1 <<< b).testBit b = true := (tt_pair ha hb hb).mpr (Or.inr rfl)
  have hw0 : 1 <<< a ||| 1 <<< b ≠ 0 := fun q => by
    rw [q, Nat.zero_testBit] at hwa
    cases hwa
  have hJ := tt_joinX h ht hw hw0
  rw [tb_0]
  constructor
  · intro q
    exact ⟨_, hJ.1.1, hJ.1.2.1, hJ.1.2.2, (tb_sub hw).mp hJ.2.1 a ha hwa, (tb_sub hw).mp hJ.2.1 b hb hwb, q⟩
  · rintro ⟨g, g0, g1, g2, g3, g4, g5⟩
    have hd : tc_dif (1 <<< a ||| 1 <<< b) g = 0 := (tb_sub hw).mpr (fun x hx q => by
      rcases (tt_pair ha hb hx).mp q with e | e
      · rw [← e]; exact g3
      · rw [← e]; exact g4)
    cases hq : (tx_join C X t (1 <<< a ||| 1 <<< b)).testBit c with
    | false => rfl
    | true =>
      rw [tt_lst_sub h ht hw hw0 hJ ⟨g0, g1, g2⟩ hd c hc hq] at g5
      cases g5
theorem tI_last {C X : Nat → Nat} {hs : Nat → Bool} (h : tI C X hs) {t a b c : Nat} (ht : t < 2) (ha : a < 7) (hb : b < 7) (hc : c < 7) : tx_last C X t a b c = tm_says hs t a b c := by
  unfold tx_last tm_says
  have e1 := tt_lastc h ht ha hb hc
  have e2 := tt_lastc h ht ha hc hb
  have e3 := tt_lastc h ht hb hc ha
  by_cases q1 : tt_cl hs t a b c
  · have n2 : ¬ tt_cl hs t a c b := fun q => tt_excl h ht ha hb hc q1 q
    have n3 : ¬ tt_cl hs t b c a := fun q => tt_excl h ht hb ha hc (tt_cl_sym q1) q
    rw [if_pos (e1.mpr q1), if_neg (fun q => n3 (tt_closer.mp q)), if_neg (fun q => n2 (tt_closer.mp q)), if_pos (tt_closer.mpr q1)]
  · by_cases q2 : tt_cl hs t a c b
    · have n3 : ¬ tt_cl hs t b c a := fun q => tt_excl h ht hc ha hb (tt_cl_sym q2) (tt_cl_sym q)
      rw [if_neg (fun q => q1 (e1.mp q)), if_pos (e2.mpr q2), if_neg (fun q => n3 (tt_closer.mp q)), if_pos (tt_closer.mpr q2)]
    · by_cases q3 : tt_cl hs t b c a
      · rw [if_neg (fun q => q1 (e1.mp q)), if_neg (fun q => q2 (e2.mp q)), if_pos (e3.mpr q3), if_pos (tt_closer.mpr q3)]
      · rw [if_neg (fun q => q1 (e1.mp q)), if_neg (fun q => q2 (e2.mp q)), if_neg (fun q => q3 (e3.mp q)), if_neg (fun q => q3 (tt_closer.mp q)), if_neg (fun q => q2 (tt_closer.mp q)), if_neg (fun q => q1 (tt_closer.mp q))]
/-! the triples by their numbers, and by their sets -/
theorem tt_sum_fm {α : Type} (p : Nat → Option α) (f : α → Nat) (n : Nat) : tc_sum (fun i => ((p i).map f).getD 0) n = (((List.range n).filterMap p).map f).sum := by
  induction n with
  | zero => rfl
  | succ n ih =>
    rw [tc_sum, ih, List.range_succ, List.filterMap_append, List.map_append, List.sum_append_nat]
    congr 1
    cases hq : p n with
    | none => simp [hq]
    | some v => simp [hq]
def tt_p1 (i : Nat) : Option (Nat × Nat × Nat) := if i / 49 < i / 7 % 7 ∧ i / 7 % 7 < i % 7 then some (i / 49, i / 7 % 7, i % 7) else none
def tt_p2 (w : Nat) : Option (Nat × Nat × Nat) := if tc_pop w = 3 then some (tm_1 w, tm_2 w, tm_3 w) else none
theorem tt_perm : ((List.range 343).filterMap tt_p1).Perm ((List.range 128).filterMap tt_p2) := by decide +kernel
theorem tt_sum3 (f : Nat → Nat → Nat → Nat) : tc_sum (fun i => if i / 49 < i / 7 % 7 ∧ i / 7 % 7 < i % 7 then f (i / 49) (i / 7 % 7) (i % 7) else 0) 343 = tc_sum (fun w => if tc_pop w = 3 then f (tm_1 w) (tm_2 w) (tm_3 w) else 0) 128 := by
  have e1 : ∀ i, i < 343 → (if i / 49 < i / 7 % 7 ∧ i / 7 % 7 < i % 7 then f (i / 49) (i / 7 % 7) (i % 7) else 0) = ((tt_p1 i).map (fun v => f v.1 v.2.1 v.2.2)).getD 0 := by
    intro i _
    unfold tt_p1
    split <;> rfl
  have e2 : ∀ w, w < 128 → (if tc_pop w = 3 then f (tm_1 w) (tm_2 w) (tm_3 w) else 0) = ((tt_p2 w).map (fun v => f v.1 v.2.1 v.2.2)).getD 0 := by
    intro w _
    unfold tt_p2
    split <;> rfl
  rw [tc_sum_congr e1, tc_sum_congr e2, tt_sum_fm, tt_sum_fm]
  exact (tt_perm.map _).sum_nat
theorem tI_about {C X : Nat → Nat} {hs : Nat → Bool} (h : tI C X hs) {t v : Nat} (ht : t < 2) (hv : v < 128) (h3 : tc_pop v = 3) : tx_last C X t (tm_1 v) (tm_2 v) (tm_3 v) = tm_about hs t v := by
  obtain ⟨-, h1, h2, h4⟩ := tm_ab_spec v hv h3
  exact tI_last h ht (by omega) (by omega) h4
theorem tI_dec {C X : Nat → Nat} {hs : Nat → Bool} (h : tI C X hs) {t : Nat} (ht : t < 2) : tm_dec hs t = tx_dec C X t := by
  rw [show tm_dec hs t = _ from tc_fold_cnt (fun i => tc_pop i = 3 ∧ ¬ tm_about hs t i = 3) 128]
  have e1 : ∀ i, i < 343 → (if i / 49 < i / 7 % 7 ∧ i / 7 % 7 < i % 7 ∧ ¬ tx_last C X t (i / 49) (i / 7 % 7) (i % 7) = 3 then 1 else 0) = (if i / 49 < i / 7 % 7 ∧ i / 7 % 7 < i % 7 then (fun a b c => if tx_last C X t a b c = 3 then 0 else 1) (i / 49) (i / 7 % 7) (i % 7) else 0) := by
    intro i _
    by_cases q : i / 49 < i / 7 % 7 ∧ i / 7 % 7 < i % 7
    · rw [if_pos q]
      show _ = if tx_last C X t (i / 49) (i / 7 % 7) (i % 7) = 3 then 0 else 1
      by_cases q2 : tx_last C X t (i / 49) (i / 7 % 7) (i % 7) = 3
      · rw [if_pos q2, if_neg (fun z => z.2.2 q2)]
      · rw [if_neg q2, if_pos ⟨q.1, q.2, q2⟩]
    · rw [if_neg q, if_neg (fun z => q ⟨z.1, z.2.1⟩)]
  unfold tx_dec
  rw [tc_sum_congr e1, tt_sum3 (fun a b c => if tx_last C X t a b c = 3 then 0 else 1)]
  apply tc_sum_congr
  intro v hv
  by_cases q : tc_pop v = 3
  · rw [if_pos q]
    show _ = if tx_last C X t (tm_1 v) (tm_2 v) (tm_3 v) = 3 then 0 else 1
    rw [tI_about h ht hv q]
    by_cases q2 : tm_about hs t v = 3
    · rw [if_pos q2, if_neg (fun z => z.2 q2)]
    · rw [if_neg q2, if_pos ⟨q, q2⟩]
  · rw [if_neg q, if_neg (fun z => q z.1)]
theorem tt_bit3 {w a b c : Nat} : ((w >>> a) &&& (w >>> b)) &&& (w >>> c) &&& 1 = 0 ↔ ¬ (w.testBit a = true ∧ w.testBit b = true ∧ w.testBit c = true) := by
  have e : ((w >>> a) &&& (w >>> b)) &&& (w >>> c) &&& 1 = 0 ↔ (((w >>> a) &&& (w >>> b)) &&& (w >>> c)).testBit 0 = false := tb_0 (w := ((w >>> a) &&& (w >>> b)) &&& (w >>> c)) (x := 0)
  rw [e, Nat.testBit_and, Nat.testBit_and, Nat.testBit_shiftRight, Nat.testBit_shiftRight, Nat.testBit_shiftRight, Nat.add_zero, Nat.add_zero, Nat.add_zero]
  cases w.testBit a <;> cases w.testBit b <;> cases w.testBit c <;> decide
theorem tt_conf {C X : Nat → Nat} {hs : Nat → Bool} (h : tI C X hs) (w : Nat) : tx_conf C X w = tc_sum (fun v => if tc_pop v = 3 ∧ (w.testBit (tm_1 v) = true ∧ w.testBit (tm_2 v) = true ∧ w.testBit (tm_3 v) = true) ∧ ¬ tm_about hs 0 v = tm_about hs 1 v then 1 else 0) 128 := by
  have e1 : ∀ i, i < 343 → (if ¬ ((w >>> (i / 49)) &&& (w >>> (i / 7 % 7))) &&& (w >>> (i % 7)) &&& 1 = 0 ∧ i / 49 < i / 7 % 7 ∧ i / 7 % 7 < i % 7 ∧ ¬ tx_last C X 0 (i / 49) (i / 7 % 7) (i % 7) = tx_last C X 1 (i / 49) (i / 7 % 7) (i % 7) then 1 else 0) = (if i / 49 < i / 7 % 7 ∧ i / 7 % 7 < i % 7 then (fun a b c => if (w.testBit a = true ∧ w.testBit b = true ∧ w.testBit c = true) ∧ ¬ tx_last C X 0 a b c = tx_last C X 1 a b c then 1 else 0) (i / 49) (i / 7 % 7) (i % 7) else 0) := by
    intro i _
    by_cases q : i / 49 < i / 7 % 7 ∧ i / 7 % 7 < i % 7
    · rw [if_pos q]
      show _ = if (w.testBit (i / 49) = true ∧ w.testBit (i / 7 % 7) = true ∧ w.testBit (i % 7) = true) ∧ ¬ tx_last C X 0 (i / 49) (i / 7 % 7) (i % 7) = tx_last C X 1 (i / 49) (i / 7 % 7) (i % 7) then 1 else 0
      by_cases q2 : (w.testBit (i / 49) = true ∧ w.testBit (i / 7 % 7) = true ∧ w.testBit (i % 7) = true) ∧ ¬ tx_last C X 0 (i / 49) (i / 7 % 7) (i % 7) = tx_last C X 1 (i / 49) (i / 7 % 7) (i % 7)
      · rw [if_pos q2, if_pos ⟨fun z => tt_bit3.mp z q2.1, q.1, q.2, q2.2⟩]
      · rw [if_neg q2, if_neg (fun z => q2 ⟨Classical.byContradiction (fun y => z.1 (tt_bit3.mpr y)), z.2.2.2⟩)]
    · rw [if_neg q, if_neg (fun z => q ⟨z.2.1, z.2.2.1⟩)]
  unfold tx_conf
  rw [tc_sum_congr e1, tt_sum3 (fun a b c => if (w.testBit a = true ∧ w.testBit b = true ∧ w.testBit c = true) ∧ ¬ tx_last C X 0 a b c = tx_last C X 1 a b c then 1 else 0)]
  apply tc_sum_congr
  intro v hv
  by_cases q : tc_pop v = 3
  · rw [if_pos q]
    show (if (w.testBit (tm_1 v) = true ∧ w.testBit (tm_2 v) = true ∧ w.testBit (tm_3 v) = true) ∧ ¬ tx_last C X 0 (tm_1 v) (tm_2 v) (tm_3 v) = tx_last C X 1 (tm_1 v) (tm_2 v) (tm_3 v) then 1 else 0) = _
    rw [tI_about h (by omega) hv q, tI_about h (by omega) hv q]
    by_cases q2 : (w.testBit (tm_1 v) = true ∧ w.testBit (tm_2 v) = true ∧ w.testBit (tm_3 v) = true) ∧ ¬ tm_about hs 0 v = tm_about hs 1 v
    · rw [if_pos q2, if_pos ⟨q, q2⟩]
    · rw [if_neg q2, if_neg (fun z => q2 z.2)]
  · rw [if_neg q, if_neg (fun z => q z.1)]
theorem tI_td {C X : Nat → Nat} {hs : Nat → Bool} (h : tI C X hs) : tm_td hs = tx_conf C X 127 := by
  rw [tt_conf h, show tm_td hs = _ from tc_fold_cnt (fun i => tc_pop i = 3 ∧ ¬ tm_about hs 0 i = tm_about hs 1 i) 128]
  apply tc_sum_congr
  intro v hv
  by_cases q : tc_pop v = 3 ∧ ¬ tm_about hs 0 v = tm_about hs 1 v
  · obtain ⟨-, h1, h2, h4⟩ := tm_ab_spec v hv q.1
    rw [if_pos q, if_pos ⟨q.1, ⟨tb_127 (by omega), tb_127 (by omega), tb_127 h4⟩, q.2⟩]
  · rw [if_neg q, if_neg (fun z => q ⟨z.1, z.2.2⟩)]
theorem tt_v3 : ∀ v, v < 128 → tc_pop v = 3 → v = (1 <<< tm_1 v ||| 1 <<< tm_2 v) ||| 1 <<< tm_3 v := by decide +kernel
theorem tt_v3_bit {v x : Nat} (hv : v < 128) (h3 : tc_pop v = 3) (hx : x < 7) : v.testBit x = true ↔ tm_1 v = x ∨ tm_2 v = x ∨ tm_3 v = x := by
  obtain ⟨-, h1, h2, h4⟩ := tm_ab_spec v hv h3
  have e : v.testBit x = ((1 <<< tm_1 v ||| 1 <<< tm_2 v) ||| 1 <<< tm_3 v).testBit x := by rw [← tt_v3 v hv h3]
  rw [e, Nat.testBit_or, Bool.or_eq_true, tt_pair (by omega) (by omega) hx, tb_single _ h4 x hx, decide_eq_true_iff, or_assoc]
theorem tt_v3_sub {v w : Nat} (hv : v < 128) (h3 : tc_pop v = 3) : tc_dif v w = 0 ↔ w.testBit (tm_1 v) = true ∧ w.testBit (tm_2 v) = true ∧ w.testBit (tm_3 v) = true := by
  obtain ⟨-, h1, h2, h4⟩ := tm_ab_spec v hv h3
  rw [tb_sub hv]
  constructor
  · intro q
    exact ⟨q _ (by omega) ((tt_v3_bit hv h3 (by omega)).mpr (Or.inl rfl)), q _ (by omega) ((tt_v3_bit hv h3 (by omega)).mpr (Or.inr (Or.inl rfl))), q _ h4 ((tt_v3_bit hv h3 h4).mpr (Or.inr (Or.inr rfl)))⟩
  · rintro ⟨q1, q2, q3⟩ x hx hb
    rcases (tt_v3_bit hv h3 hx).mp hb with e | e | e
    · rw [← e]; exact q1
    · rw [← e]; exact q2
    · rw [← e]; exact q3
theorem tt_agree {hs : Nat → Bool} {w : Nat} : tm_agree hs w = true ↔ ∀ v, v < 128 → tc_pop v = 3 → tc_dif v w = 0 → tm_about hs 0 v = tm_about hs 1 v := by
  unfold tm_agree
  rw [tc_all_iff]
  constructor
  · intro q v hv h3 hd
    rcases of_decide_eq_true (q v hv) with e | e | e
    · exact absurd hd e
    · exact absurd h3 e
    · exact e
  · intro q v hv
    refine decide_eq_true ?_
    by_cases hd : tc_dif v w = 0
    · by_cases h3 : tc_pop v = 3
      · exact Or.inr (Or.inr (q v hv h3 hd))
      · exact Or.inr (Or.inl h3)
    · exact Or.inl hd
theorem tI_conf {C X : Nat → Nat} {hs : Nat → Bool} (h : tI C X hs) (w : Nat) : decide (tx_conf C X w = 0) = tm_agree hs w := by
  rw [Bool.eq_iff_iff, decide_eq_true_iff, tt_agree, tt_conf h, tc_sum_eq0]
  constructor
  · intro q v hv h3 hd
    apply Classical.byContradiction
    intro hn
    have := q v hv
    rw [if_pos ⟨h3, (tt_v3_sub hv h3).mp hd, hn⟩] at this
    cases this
  · intro q v hv
    refine if_neg (fun z => z.2.2 ?_)
    exact q v hv z.1 ((tt_v3_sub hv z.1).mpr z.2.1)
/-- what a tree says of three, by its groups -/
theorem tt_says_cl {C X : Nat → Nat} {hs : Nat → Bool} (h : tI C X hs) {t a b c : Nat} (ht : t < 2) (ha : a < 7) (hb : b < 7) (hc : c < 7) : (tm_says hs t a b c = 0 ↔ tt_cl hs t b c a) ∧ (tm_says hs t a b c = 1 ↔ tt_cl hs t a c b) ∧ (tm_says hs t a b c = 2 ↔ tt_cl hs t a b c) := by
  unfold tm_says
  by_cases q0 : tt_cl hs t b c a
  · have n1 : ¬ tt_cl hs t a c b := fun q => tt_excl h ht hc ha hb (tt_cl_sym q) (tt_cl_sym q0)
    have n2 : ¬ tt_cl hs t a b c := fun q => tt_excl h ht hb ha hc (tt_cl_sym q) q0
    rw [if_pos (tt_closer.mpr q0)]
    exact ⟨⟨fun _ => q0, fun _ => rfl⟩, ⟨fun z => absurd z (by decide), fun z => absurd z n1⟩, ⟨fun z => absurd z (by decide), fun z => absurd z n2⟩⟩
  · rw [if_neg (fun q => q0 (tt_closer.mp q))]
    by_cases q1 : tt_cl hs t a c b
    · have n2 : ¬ tt_cl hs t a b c := fun q => tt_excl h ht ha hb hc q q1
      rw [if_pos (tt_closer.mpr q1)]
      exact ⟨⟨fun z => absurd z (by decide), fun z => absurd z q0⟩, ⟨fun _ => q1, fun _ => rfl⟩, ⟨fun z => absurd z (by decide), fun z => absurd z n2⟩⟩
    · rw [if_neg (fun q => q1 (tt_closer.mp q))]
      by_cases q2 : tt_cl hs t a b c
      · rw [if_pos (tt_closer.mpr q2)]
        exact ⟨⟨fun z => absurd z (by decide), fun z => absurd z q0⟩, ⟨fun z => absurd z (by decide), fun z => absurd z q1⟩, ⟨fun _ => q2, fun _ => rfl⟩⟩
      · rw [if_neg (fun q => q2 (tt_closer.mp q))]
        exact ⟨⟨fun z => absurd z (by decide), fun z => absurd z q0⟩, ⟨fun z => absurd z (by decide), fun z => absurd z q1⟩, ⟨fun z => absurd z (by decide), fun z => absurd z q2⟩⟩
theorem tt_pop3 : ∀ a, a < 7 → ∀ b, b < 7 → ∀ c, c < 7 → (¬ a = b ∧ ¬ a = c ∧ ¬ b = c) → tc_pop ((1 <<< a ||| 1 <<< b) ||| 1 <<< c) = 3 := by decide +kernel
/-- the trees agree on a set: of any three of its members the same two are closer in both -/
theorem tt_agree_iff {C X : Nat → Nat} {hs : Nat → Bool} (h : tI C X hs) {w : Nat} : tm_agree hs w = true ↔ ∀ a b c, a < 7 → b < 7 → c < 7 → ¬ a = b → ¬ a = c → ¬ b = c → w.testBit a = true → w.testBit b = true → w.testBit c = true → (tt_cl hs 0 a b c ↔ tt_cl hs 1 a b c) := by
  rw [tt_agree]
  constructor
  · intro q a b c ha hb hc hab hac hbc wa wb wc
    have hv : (1 <<< a ||| 1 <<< b) ||| 1 <<< c < 128 := tb_or_lt (tc_shl2_lt ha hb) (tb_shl_lt hc)
    have h3 := tt_pop3 a ha b hb c hc ⟨hab, hac, hbc⟩
    have hbit : ∀ x, x < 7 → (((1 <<< a ||| 1 <<< b) ||| 1 <<< c).testBit x = true ↔ a = x ∨ b = x ∨ c = x) := by
      intro x hx
      rw [Nat.testBit_or, Bool.or_eq_true, tt_pair ha hb hx, tb_single c hc x hx, decide_eq_true_iff, or_assoc]
    generalize (1 <<< a ||| 1 <<< b) ||| 1 <<< c = v at hv h3 hbit
    have hd : tc_dif v w = 0 := (tb_sub hv).mpr (fun x hx hb' => by
      rcases (hbit x hx).mp hb' with e | e | e
      · rw [← e]; exact wa
      · rw [← e]; exact wb
      · rw [← e]; exact wc)
    have heq : tm_says hs 0 (tm_1 v) (tm_2 v) (tm_3 v) = tm_says hs 1 (tm_1 v) (tm_2 v) (tm_3 v) := q v hv h3 hd
    obtain ⟨-, l1, l2, l3⟩ := tm_ab_spec v hv h3
    have ka := (tt_v3_bit hv h3 ha).mp ((hbit a ha).mpr (Or.inl rfl))
    have kb := (tt_v3_bit hv h3 hb).mp ((hbit b hb).mpr (Or.inr (Or.inl rfl)))
    have kc := (tt_v3_bit hv h3 hc).mp ((hbit c hc).mpr (Or.inr (Or.inr rfl)))
    generalize tm_1 v = x at heq l1 l2 l3 ka kb kc
    generalize tm_2 v = y at heq l1 l2 l3 ka kb kc
    generalize tm_3 v = z at heq l1 l2 l3 ka kb kc
    obtain ⟨a0, a1, a2⟩ := tt_says_cl h (t := 0) (a := x) (b := y) (c := z) (by omega) (by omega) (by omega) l3
    obtain ⟨b0, b1, b2⟩ := tt_says_cl h (t := 1) (a := x) (b := y) (c := z) (by omega) (by omega) (by omega) l3
    rw [heq] at a0 a1 a2
    have r0 : tt_cl hs 0 y z x ↔ tt_cl hs 1 y z x := a0.symm.trans b0
    have r1 : tt_cl hs 0 x z y ↔ tt_cl hs 1 x z y := a1.symm.trans b1
    have r2 : tt_cl hs 0 x y z ↔ tt_cl hs 1 x y z := a2.symm.trans b2
    have s0 : tt_cl hs 0 z y x ↔ tt_cl hs 1 z y x := ⟨fun q => tt_cl_sym (r0.mp (tt_cl_sym q)), fun q => tt_cl_sym (r0.mpr (tt_cl_sym q))⟩
    have s1 : tt_cl hs 0 z x y ↔ tt_cl hs 1 z x y := ⟨fun q => tt_cl_sym (r1.mp (tt_cl_sym q)), fun q => tt_cl_sym (r1.mpr (tt_cl_sym q))⟩
    have s2 : tt_cl hs 0 y x z ↔ tt_cl hs 1 y x z := ⟨fun q => tt_cl_sym (r2.mp (tt_cl_sym q)), fun q => tt_cl_sym (r2.mpr (tt_cl_sym q))⟩
    rcases ka with ka | ka | ka <;> rcases kb with kb | kb | kb <;> first | (exact absurd (ka.symm.trans kb) hab) | skip
    all_goals rcases kc with kc | kc | kc <;> first | (exact absurd (ka.symm.trans kc) hac) | (exact absurd (kb.symm.trans kc) hbc) | (subst ka; subst kb; subst kc; first | exact r0 | exact r1 | exact r2 | exact s0 | exact s1 | exact s2)
  · intro q v hv h3 hd
    obtain ⟨-, l1, l2, l3⟩ := tm_ab_spec v hv h3
    obtain ⟨w1, w2, w3⟩ := (tt_v3_sub hv h3).mp hd
    have r0 := q (tm_2 v) (tm_3 v) (tm_1 v) (by omega) l3 (by omega) (by omega) (by omega) (by omega) w2 w3 w1
    have r1 := q (tm_1 v) (tm_3 v) (tm_2 v) (by omega) l3 (by omega) (by omega) (by omega) (by omega) w1 w3 w2
    have r2 := q (tm_1 v) (tm_2 v) (tm_3 v) (by omega) (by omega) l3 (by omega) (by omega) (by omega) w1 w2 w3
    obtain ⟨a0, a1, a2⟩ := tt_says_cl h (t := 0) (a := tm_1 v) (b := tm_2 v) (c := tm_3 v) (by omega) (by omega) (by omega) l3
    obtain ⟨b0, b1, b2⟩ := tt_says_cl h (t := 1) (a := tm_1 v) (b := tm_2 v) (c := tm_3 v) (by omega) (by omega) (by omega) l3
    have u := tm_says_le hs 0 (tm_1 v) (tm_2 v) (tm_3 v)
    have u' := tm_says_le hs 1 (tm_1 v) (tm_2 v) (tm_3 v)
    have e0 := a0.trans (r0.trans b0.symm)
    have e1 := a1.trans (r1.trans b1.symm)
    have e2 := a2.trans (r2.trans b2.symm)
    show tm_says hs 0 (tm_1 v) (tm_2 v) (tm_3 v) = tm_says hs 1 (tm_1 v) (tm_2 v) (tm_3 v)
    omega
end
section
/-! ONE TREE, as a list of its groups, the smaller ones first; the parts of a group -/
def tT (F : Nat → Nat) (n : Nat) : Prop := (∀ k, k < n → 1 ≤ F k ∧ F k < 128) ∧ (∀ i j, i < n → j < n → tx_go (F i) (F j) = true) ∧ (∀ i j, i < n → j < n → tc_dif (F i) (F j) = 0 → i ≤ j) ∧ (∀ x, x < 7 → ∃ k, k < n ∧ F k = 1 <<< x)
def tPart (F : Nat → Nat) (n k q : Nat) : Prop := (¬ k = q ∧ tc_dif (F q) (F k) = 0) ∧ ∀ i, i < n → (i = k ∨ i = q ∨ ¬ tc_dif (F q) (F i) = 0 ∨ ¬ tc_dif (F i) (F k) = 0)
def tF (N : Nat → Nat) (t j : Nat) : Nat := N (t * 13 + j)
def tcl (F : Nat → Nat) (n a b c : Nat) : Prop := ∃ i, i < n ∧ (F i).testBit a = true ∧ (F i).testBit b = true ∧ (F i).testBit c = false
def tsp (F : Nat → Nat) (n k a b : Nat) : Prop := ∃ q, q < k ∧ tPart F n k q ∧ (F q).testBit a = true ∧ (F q).testBit b = true
theorem tsp_sym {F : Nat → Nat} {n k a b : Nat} : tsp F n k a b → tsp F n k b a := by
  rintro ⟨q, h1, h2, h3, h4⟩
  exact ⟨q, h1, h2, h4, h3⟩
theorem tx_part_iff {N K : Nat → Nat} {t k q : Nat} : tx_part N K t k q = true ↔ tPart (tF N t) (K t) k q := by
  unfold tx_part tPart
  rw [Bool.and_eq_true, decide_eq_true_iff, tc_all_iff]
  constructor
  · rintro ⟨h1, h2⟩
    exact ⟨h1, fun i hi => of_decide_eq_true (h2 i hi)⟩
  · rintro ⟨h1, h2⟩
    exact ⟨h1, fun i hi => decide_eq_true (h2 i hi)⟩
/-- the last place below k with a property -/
theorem tk_last (P : Nat → Prop) : ∀ k, (∃ i, i < k ∧ P i) → ∃ i, i < k ∧ P i ∧ ∀ j, i < j → j < k → ¬ P j := by
  intro k
  induction k with
  | zero =>
    rintro ⟨i, hi, -⟩
    omega
  | succ k ih =>
    rintro ⟨i, hi, hp⟩
    by_cases hk : P k
    · exact ⟨k, by omega, hk, fun j h1 h2 => absurd h1 (by omega)⟩
    · have hne : i ≠ k := fun e => hk (e ▸ hp)
      obtain ⟨j, h1, h2, h3⟩ := ih ⟨i, by omega, hp⟩
      refine ⟨j, by omega, h2, fun u hu1 hu2 => ?_⟩
      by_cases e : u = k
      · rw [e]; exact hk
      · exact h3 u hu1 (by omega)
/-- the parts of a group cover it -/
theorem tk_cover {F : Nat → Nat} {n : Nat} (hT : tT F n) {k x : Nat} (hk : k < n) (hp : tc_pop (F k) ≠ 1) (hx : x < 7) (hb : (F k).testBit x = true) : ∃ q, q < k ∧ tPart F n k q ∧ (F q).testBit x = true := by
  obtain ⟨s, hs, es⟩ := hT.2.2.2 x hx
  have hsub : tc_dif (F s) (F k) = 0 := by
    rw [tb_sub (hT.1 s hs).2]
    intro y hy q
    rw [es, tb_single x hx y hy] at q
    rw [← of_decide_eq_true q]
    exact hb
  have hle := hT.2.2.1 s k hs hk hsub
  have hne : s ≠ k := fun e => by
    subst e
    exact hp (by rw [es]; exact tb_pop_s x hx)
  have hsx : (F s).testBit x = true := by
    rw [es, tb_single x hx x hx]
    exact decide_eq_true rfl
  obtain ⟨q, h1, ⟨h2, h3⟩, h4⟩ := tk_last (fun q => (F q).testBit x = true ∧ tc_dif (F q) (F k) = 0) k ⟨s, by omega, hsx, hsub⟩
  refine ⟨q, h1, ⟨⟨by omega, h3⟩, fun i hi => ?_⟩, h2⟩
  by_cases e1 : i = k
  · exact Or.inl e1
  · by_cases e2 : i = q
    · exact Or.inr (Or.inl e2)
    · by_cases e3 : tc_dif (F q) (F i) = 0
      · by_cases e4 : tc_dif (F i) (F k) = 0
        · exfalso
          have a1 := hT.2.2.1 q i (by omega) hi e3
          have a2 := hT.2.2.1 i k hi hk e4
          exact h4 i (by omega) (by omega) ⟨(tb_sub (hT.1 q (by omega)).2).mp e3 x hx h2, e4⟩
        · exact Or.inr (Or.inr (Or.inr e4))
      · exact Or.inr (Or.inr (Or.inl e3))
/-- the parts of a group are apart -/
theorem tk_disj {F : Nat → Nat} {n : Nat} (hT : tT F n) {k q q' x : Nat} (hq : q < n) (hq' : q' < n) (h1 : tPart F n k q) (h2 : tPart F n k q') (hx : x < 7) (b1 : (F q).testBit x = true) (b2 : (F q').testBit x = true) : q = q' := by
  rcases tt_nest (hT.1 q hq).2 (hT.1 q' hq').2 (hT.2.1 q q' hq hq') hx b1 b2 with z | z
  · rcases h1.2 q' hq' with e | e | e | e
    · exact absurd e.symm h2.1.1
    · exact e.symm
    · exact absurd ((tb_sub (hT.1 q hq).2).mpr z) e
    · exact absurd h2.1.2 e
  · rcases h2.2 q hq with e | e | e | e
    · exact absurd e.symm h1.1.1
    · exact e
    · exact absurd ((tb_sub (hT.1 q' hq').2).mpr z) e
    · exact absurd h1.1.2 e
/-- a group that parts c from a, b, all three within group k: then a and b are in one part of k -/
theorem tk_below {F : Nat → Nat} {n : Nat} (hT : tT F n) {k a b c : Nat} (hk : k < n) (ha : a < 7) (hb : b < 7) (hc : c < 7) (ka : (F k).testBit a = true) (kc : (F k).testBit c = true) (h : tcl F n a b c) : tsp F n k a b := by
  obtain ⟨i, hi, ia, ib, ic⟩ := h
  have hac : a ≠ c := fun e => by
    rw [e, ic] at ia
    cases ia
  have hp : tc_pop (F k) ≠ 1 := fun e => by
    obtain ⟨y, hy, ey⟩ := tb_pop1 (F k) (hT.1 k hk).2 e
    rw [ey, tb_single y hy a ha] at ka
    rw [ey, tb_single y hy c hc] at kc
    exact hac ((of_decide_eq_true ka).symm.trans (of_decide_eq_true kc))
  have hik : ∀ y, y < 7 → (F i).testBit y = true → (F k).testBit y = true := by
    rcases tt_nest (hT.1 i hi).2 (hT.1 k hk).2 (hT.2.1 i k hi hk) ha ia ka with q | q
    · exact q
    · rw [q c hc kc] at ic
      cases ic
  obtain ⟨q, hq, hpq, qa⟩ := tk_cover hT hk hp ha ka
  refine ⟨q, hq, hpq, qa, ?_⟩
  rcases tt_nest (hT.1 i hi).2 (hT.1 q (by omega)).2 (hT.2.1 i q hi (by omega)) ha ia qa with z | z
  · exact z b hb ib
  · rcases hpq.2 i hi with e | e | e | e
    · rw [e, kc] at ic
      cases ic
    · rw [← e]; exact ib
    · exact absurd ((tb_sub (hT.1 q (by omega)).2).mpr z) e
    · exact absurd ((tb_sub (hT.1 i hi).2).mpr hik) e
theorem tk_apart {F : Nat → Nat} {n k a b c : Nat} (hk : k < n) (h1 : tsp F n k a b) (h2 : ¬ tsp F n k a c) : tcl F n a b c := by
  obtain ⟨q, hq, hp, qa, qb⟩ := h1
  refine ⟨q, by omega, qa, qb, ?_⟩
  cases z : (F q).testBit c with
  | false => rfl
  | true => exact absurd ⟨q, hq, hp, qa, z⟩ h2
theorem tk_ex {W g : Nat} (h : ¬ ∀ x, x < 7 → W.testBit x = true → g.testBit x = true) : ∃ x, x < 7 ∧ W.testBit x = true ∧ g.testBit x = false := by
  apply Classical.byContradiction
  intro hn
  refine h (fun x hx hw => ?_)
  cases z : g.testBit x with
  | true => rfl
  | false => exact absurd ⟨x, hx, hw, z⟩ hn
/-! TWO TREES -/
def tA (F : Nat → Nat) (n : Nat) (G : Nat → Nat) (m W : Nat) : Prop := ∀ a b c, a < 7 → b < 7 → c < 7 → ¬ a = b → ¬ a = c → ¬ b = c → W.testBit a = true → W.testBit b = true → W.testBit c = true → (tcl F n a b c ↔ tcl G m a b c)
def tBl (F : Nat → Nat) (n : Nat) (G : Nat → Nat) (m k q W : Nat) : Prop := ∀ a b, a < 7 → b < 7 → W.testBit a = true → W.testBit b = true → (tsp F n k a b ↔ tsp G m q a b)
def tIn (F : Nat → Nat) (n : Nat) (G : Nat → Nat) (m k W : Nat) : Prop := ∀ a b c, a < 7 → b < 7 → c < 7 → ¬ a = b → ¬ a = c → ¬ b = c → W.testBit a = true → W.testBit b = true → W.testBit c = true → tsp F n k a b → tsp F n k a c → (tcl F n a b c ↔ tcl G m a b c)
def tSub (W g h : Nat) : Prop := ∀ x, x < 7 → W.testBit x = true → g.testBit x = true ∧ h.testBit x = true
theorem tk_M1 {F : Nat → Nat} {n : Nat} {G : Nat → Nat} {m k q W : Nat} (hF : tT F n) (hG : tT G m) (hk : k < n) (hq : q < m) (hW : tSub W (F k) (G q)) (hbl : tBl F n G m k q W) (hin : tIn F n G m k W) : tA F n G m W := by
  intro a b c ha hb hc hab hac hbc wa wb wc
  obtain ⟨fa, ga⟩ := hW a ha wa
  obtain ⟨fc, gc⟩ := hW c hc wc
  by_cases s1 : tsp F n k a b
  · by_cases s2 : tsp F n k a c
    · exact hin a b c ha hb hc hab hac hbc wa wb wc s1 s2
    · exact ⟨fun _ => tk_apart hq ((hbl a b ha hb wa wb).mp s1) (fun z => s2 ((hbl a c ha hc wa wc).mpr z)), fun _ => tk_apart hk s1 s2⟩
  · exact ⟨fun z => absurd (tk_below hF hk ha hb hc fa fc z) s1, fun z => absurd ((hbl a b ha hb wa wb).mpr (tk_below hG hq ha hb hc ga gc z)) s1⟩
theorem tk_M2a {F : Nat → Nat} {n : Nat} {G : Nat → Nat} {m k q W : Nat} (hG : tT G m) (hk : k < n) (hq : q < m) (hpG : tc_pop (G q) ≠ 1) (hW : ∀ x, x < 7 → W.testBit x = true → (G q).testBit x = true) (hA : tA F n G m W) (nF : ∀ i, i < k → tPart F n k i → ¬ ∀ x, x < 7 → W.testBit x = true → (F i).testBit x = true) {a b : Nat} (ha : a < 7) (hb : b < 7) (wa : W.testBit a = true) (wb : W.testBit b = true) (h : tsp F n k a b) : tsp G m q a b := by
  by_cases e : a = b
  · subst e
    obtain ⟨j, h1, h2, h3⟩ := tk_cover hG hq hpG ha (hW a ha wa)
    exact ⟨j, h1, h2, h3, h3⟩
  · obtain ⟨i, hi, hp, ia, ib⟩ := h
    obtain ⟨c, hc, wc, ic⟩ := tk_ex (nF i hi hp)
    have hac : ¬ a = c := fun e => by
      rw [e, ic] at ia
      cases ia
    have hbc : ¬ b = c := fun e => by
      rw [e, ic] at ib
      cases ib
    exact tk_below hG hq ha hb hc (hW a ha wa) (hW c hc wc) ((hA a b c ha hb hc e hac hbc wa wb wc).mp ⟨i, by omega, ia, ib, ic⟩)
theorem tA_sym {F : Nat → Nat} {n : Nat} {G : Nat → Nat} {m W : Nat} (h : tA F n G m W) : tA G m F n W := fun a b c h1 h2 h3 h4 h5 h6 h7 h8 h9 => (h a b c h1 h2 h3 h4 h5 h6 h7 h8 h9).symm
theorem tA_sub {F : Nat → Nat} {n : Nat} {G : Nat → Nat} {m W V : Nat} (h : tA F n G m W) (hs : ∀ x, x < 7 → V.testBit x = true → W.testBit x = true) : tA F n G m V := fun a b c h1 h2 h3 h4 h5 h6 h7 h8 h9 => h a b c h1 h2 h3 h4 h5 h6 (hs a h1 h7) (hs b h2 h8) (hs c h3 h9)
theorem tk_M2 {F : Nat → Nat} {n : Nat} {G : Nat → Nat} {m k q W : Nat} (hF : tT F n) (hG : tT G m) (hk : k < n) (hq : q < m) (hpF : tc_pop (F k) ≠ 1) (hpG : tc_pop (G q) ≠ 1) (hW : tSub W (F k) (G q)) (hA : tA F n G m W) (nF : ∀ i, i < k → tPart F n k i → ¬ ∀ x, x < 7 → W.testBit x = true → (F i).testBit x = true) (nG : ∀ i, i < q → tPart G m q i → ¬ ∀ x, x < 7 → W.testBit x = true → (G i).testBit x = true) : tBl F n G m k q W := fun a b ha hb wa wb =>
  ⟨fun h => tk_M2a hG hk hq hpG (fun x hx hw => (hW x hx hw).2) hA nF ha hb wa wb h, fun h => tk_M2a hF hq hk hpF (fun x hx hw => (hW x hx hw).1) (tA_sym hA) nG ha hb wa wb h⟩
/-- v is the size of the largest agreement within g and h -/
def tMax (F : Nat → Nat) (n : Nat) (G : Nat → Nat) (m g h v : Nat) : Prop := (∃ V, V < 128 ∧ tc_pop V = v ∧ tSub V g h ∧ tA F n G m V) ∧ ∀ V, V < 128 → tSub V g h → tA F n G m V → tc_pop V ≤ v
theorem tMax_uniq {F : Nat → Nat} {n : Nat} {G : Nat → Nat} {m g h v v' : Nat} (h1 : tMax F n G m g h v) (h2 : tMax F n G m g h v') : v = v' := by
  obtain ⟨⟨V, a1, a2, a3, a4⟩, a5⟩ := h1
  obtain ⟨⟨V', b1, b2, b3, b4⟩, b5⟩ := h2
  have := a5 V' b1 b3 b4
  have := b5 V a1 a3 a4
  omega
/-- a set that is matched part by part -/
def tG (F : Nat → Nat) (n : Nat) (G : Nat → Nat) (m k q : Nat) (num : Nat → Nat) (i w W : Nat) : Prop := W < 128 ∧ tSub W (F k) (G q) ∧ tBl F n G m k q W ∧ tIn F n G m k W ∧ (∀ x, x < 7 → W.testBit x = true → ∃ i', i' < i ∧ tPart F n k i' ∧ (F i').testBit x = true) ∧ (∀ x, x < 7 → W.testBit x = true → ∃ j, j < q ∧ tPart G m q j ∧ (G j).testBit x = true ∧ w.testBit (num j) = true)
theorem tk_join {F : Nat → Nat} {n : Nat} {G : Nat → Nat} {m k q : Nat} {num : Nat → Nat} {i j w W V : Nat} (hF : tT F n) (hG : tT G m) (hk : k < n) (hq : q < m) (hi : i < k) (hj : j < q) (hpi : tPart F n k i) (hpj : tPart G m q j) (hnum : num j < 7) (hwj : w.testBit (num j) = true) (hNum : ∀ j', j' < q → tPart G m q j' → num j' < 7) (hW : tG F n G m k q num i (tc_dif w (1 <<< num j)) W) (hV : V < 128) (hVs : tSub V (F i) (G j)) (hVA : tA F n G m V) : tG F n G m k q num (i + 1) w (W ||| V) ∧ tc_pop (W ||| V) = tc_pop W + tc_pop V := by
  obtain ⟨w0, w1, w2, w3, w4, w5⟩ := hW
  have hWF : ∀ x, x < 7 → W.testBit x = true → ¬ (F i).testBit x = true := by
    intro x hx hw z
    obtain ⟨i', hi', hp', hx'⟩ := w4 x hx hw
    have := tk_disj hF (by omega) (by omega) hp' hpi hx hx' z
    omega
  have hWG : ∀ x, x < 7 → W.testBit x = true → ¬ (G j).testBit x = true := by
    intro x hx hw z
    obtain ⟨j', hj', hp', hx', hn'⟩ := w5 x hx hw
    have e := tk_disj hG (by omega) (by omega) hp' hpj hx hx' z
    rw [e, tb_dif hnum, tb_single _ hnum _ hnum, decide_eq_true rfl, Bool.not_true, Bool.and_false] at hn'
    cases hn'
  have mem : ∀ x, (W ||| V).testBit x = true → W.testBit x = true ∨ V.testBit x = true := by
    intro x hx
    rw [Nat.testBit_or, Bool.or_eq_true] at hx
    exact hx
  have cross : ∀ a b, a < 7 → b < 7 → W.testBit a = true → V.testBit b = true → ¬ tsp F n k a b ∧ ¬ tsp G m q a b := by
    intro a b ha hb wa vb
    constructor
    · rintro ⟨u, hu, hp, ua, ub⟩
      have e := tk_disj hF (by omega) (by omega) hp hpi hb ub (hVs b hb vb).1
      rw [e] at ua
      exact hWF a ha wa ua
    · rintro ⟨u, hu, hp, ua, ub⟩
      have e := tk_disj hG (by omega) (by omega) hp hpj hb ub (hVs b hb vb).2
      rw [e] at ua
      exact hWG a ha wa ua
  have fi : ∀ x, x < 7 → (F i).testBit x = true → (F k).testBit x = true := (tb_sub (hF.1 i (by omega)).2).mp hpi.1.2
  have gj : ∀ x, x < 7 → (G j).testBit x = true → (G q).testBit x = true := (tb_sub (hG.1 j (by omega)).2).mp hpj.1.2
  refine ⟨⟨tb_or_lt w0 hV, fun x hx hb => ?_, fun a b ha hb ua ub => ?_, fun a b c ha hb hc hab hac hbc ua ub uc s1 s2 => ?_, fun x hx hb => ?_, fun x hx hb => ?_⟩, ?_⟩
  · rcases mem x hb with z | z
    · exact w1 x hx z
    · exact ⟨fi x hx (hVs x hx z).1, gj x hx (hVs x hx z).2⟩
  · rcases mem a ua with za | za
    · rcases mem b ub with zb | zb
      · exact w2 a b ha hb za zb
      · obtain ⟨c1, c2⟩ := cross a b ha hb za zb
        exact ⟨fun z => absurd z c1, fun z => absurd z c2⟩
    · rcases mem b ub with zb | zb
      · obtain ⟨c1, c2⟩ := cross b a hb ha zb za
        exact ⟨fun z => absurd (tsp_sym z) c1, fun z => absurd (tsp_sym z) c2⟩
      · exact ⟨fun _ => ⟨j, hj, hpj, (hVs a ha za).2, (hVs b hb zb).2⟩, fun _ => ⟨i, hi, hpi, (hVs a ha za).1, (hVs b hb zb).1⟩⟩
  · rcases mem a ua with za | za
    · rcases mem b ub with zb | zb
      · rcases mem c uc with zc | zc
        · exact w3 a b c ha hb hc hab hac hbc za zb zc s1 s2
        · exact absurd s2 (cross a c ha hc za zc).1
      · exact absurd s1 (cross a b ha hb za zb).1
    · rcases mem b ub with zb | zb
      · exact absurd (tsp_sym s1) (cross b a hb ha zb za).1
      · rcases mem c uc with zc | zc
        · exact absurd (tsp_sym s2) (cross c a hc ha zc za).1
        · exact hVA a b c ha hb hc hab hac hbc za zb zc
  · rcases mem x hb with z | z
    · obtain ⟨i', h1, h2⟩ := w4 x hx z
      exact ⟨i', by omega, h2⟩
    · exact ⟨i, by omega, hpi, (hVs x hx z).1⟩
  · rcases mem x hb with z | z
    · obtain ⟨j', h1, h2, h3, h4⟩ := w5 x hx z
      rw [tb_dif (hNum j' h1 h2), Bool.and_eq_true] at h4
      exact ⟨j', h1, h2, h3, h4.1⟩
    · exact ⟨j, hj, hpj, (hVs x hx z).2, hwj⟩
  · refine tb_pop_or W w0 V hV ?_
    rw [tb_z (tb_and_lt w0)]
    intro x hx
    rw [Nat.testBit_and]
    cases z1 : W.testBit x with
    | false => rfl
    | true =>
      cases z2 : V.testBit x with
      | false => rfl
      | true => exact absurd (hVs x hx z2).1 (hWF x hx z1)
end
section
/-! THE MATCHING OF PARTS: what the table holds -/
def tp_num (N K : Nat → Nat) (q j : Nat) : Nat := tc_sum (fun j' => if tx_part N K 1 q j' = true then 1 else 0) j
theorem tp_num_s {N K : Nat → Nat} {q j : Nat} (h : tx_part N K 1 q j = true) : tp_num N K q (j + 1) = tp_num N K q j + 1 := by
  show tp_num N K q j + (if tx_part N K 1 q j = true then 1 else 0) = _
  rw [if_pos h]
theorem tc_sum_upto (f : Nat → Nat) {a b : Nat} (h : a ≤ b) : tc_sum f a ≤ tc_sum f b := by
  induction b with
  | zero =>
    rw [show a = 0 by omega]
    exact Nat.le_refl _
  | succ b ih =>
    by_cases e : a = b + 1
    · rw [e]; exact Nat.le_refl _
    · exact Nat.le_trans (ih (by omega)) (Nat.le_add_right _ _)
theorem tp_num_inj {N K : Nat → Nat} {q j j' : Nat} (h : tx_part N K 1 q j = true) (h' : tx_part N K 1 q j' = true) (e : tp_num N K q j = tp_num N K q j') : j = j' := by
  have key : ∀ a b, tx_part N K 1 q a = true → a < b → tp_num N K q a < tp_num N K q b := by
    intro a b ha hab
    have h1 : tp_num N K q (a + 1) ≤ tp_num N K q b := tc_sum_upto _ hab
    rw [tp_num_s ha] at h1
    omega
  rcases Nat.lt_trichotomy j j' with z | z | z
  · have := key j j' h z
    omega
  · exact z
  · have := key j' j h' z
    omega
theorem tp_cov {N K : Nat → Nat} {q : Nat} (hG : tT (tF N 1) (K 1)) (hq : q < K 1) : ∀ j, j ≤ q → ∃ U, U < 128 ∧ tp_num N K q j ≤ tc_pop U ∧ ∀ x, x < 7 → U.testBit x = true → ∃ j', j' < j ∧ tPart (tF N 1) (K 1) q j' ∧ (tF N 1 j').testBit x = true := by
  intro j
  induction j with
  | zero =>
    intro _
    refine ⟨0, by decide, Nat.zero_le _, fun x _ h => ?_⟩
    rw [Nat.zero_testBit] at h
    cases h
  | succ j ih =>
    intro hj
    obtain ⟨U, u1, u2, u3⟩ := ih (by omega)
    by_cases hp : tx_part N K 1 q j = true
    · have hp' := tx_part_iff.mp hp
      have hg := hG.1 j (by omega)
      have hpop : tc_pop (tF N 1 j) ≠ 0 := fun z => by
        have := (tb_pop0 _ hg.2).mp z
        omega
      have hdis : U &&& tF N 1 j = 0 := by
        rw [tb_z (tb_and_lt u1)]
        intro x hx
        rw [Nat.testBit_and]
        cases z1 : U.testBit x with
        | false => rfl
        | true =>
          cases z2 : (tF N 1 j).testBit x with
          | false => rfl
          | true =>
            exfalso
            obtain ⟨j', h1, h2, h3⟩ := u3 x hx z1
            have := tk_disj hG (by omega) (by omega) h2 hp' hx h3 z2
            omega
      refine ⟨U ||| tF N 1 j, tb_or_lt u1 hg.2, ?_, fun x hx hb => ?_⟩
      · rw [tp_num_s hp, tb_pop_or U u1 _ hg.2 hdis]
        omega
      · rw [Nat.testBit_or, Bool.or_eq_true] at hb
        rcases hb with z | z
        · obtain ⟨j', h1, h2⟩ := u3 x hx z
          exact ⟨j', by omega, h2⟩
        · exact ⟨j, by omega, hp', z⟩
    · refine ⟨U, u1, ?_, fun x hx hb => ?_⟩
      · show tp_num N K q j + (if tx_part N K 1 q j = true then 1 else 0) ≤ _
        rw [if_neg hp]
        exact u2
      · obtain ⟨j', h1, h2⟩ := u3 x hx hb
        exact ⟨j', by omega, h2⟩
theorem tp_num_lt {N K : Nat → Nat} {q j : Nat} (hG : tT (tF N 1) (K 1)) (hq : q < K 1) (hj : j < q) (hp : tx_part N K 1 q j = true) : tp_num N K q j < 7 := by
  obtain ⟨U, u1, u2, -⟩ := tp_cov hG hq (j + 1) hj
  rw [tp_num_s hp] at u2
  have := tc_pop_le U
  omega
/-! one more part -/
theorem tp_imp1 (N K B M : Nat → Nat) (i q w j : Nat) : (tx_impF N K B M i q w j).1 = tp_num N K q j := by
  induction j with
  | zero => rfl
  | succ j ih =>
    show (tx_ist N K B M i q w j (tx_impF N K B M i q w j)).1 = tp_num N K q j + (if tx_part N K 1 q j = true then 1 else 0)
    rw [← ih]
    unfold tx_ist
    split
    · rfl
    · rfl
theorem tp_step (N K B M : Nat → Nat) (i q w j : Nat) : (tx_impF N K B M i q w j).2 ≤ (tx_impF N K B M i q w (j + 1)).2 ∧ (tx_part N K 1 q j = true → w.testBit (tp_num N K q j) = true → M (tc_dif w (1 <<< tp_num N K q j)) + B (i * 13 + j) ≤ (tx_impF N K B M i q w (j + 1)).2) ∧ ((tx_impF N K B M i q w (j + 1)).2 = (tx_impF N K B M i q w j).2 ∨ (tx_part N K 1 q j = true ∧ w.testBit (tp_num N K q j) = true ∧ (tx_impF N K B M i q w (j + 1)).2 = M (tc_dif w (1 <<< tp_num N K q j)) + B (i * 13 + j))) := by
  rw [show tx_impF N K B M i q w (j + 1) = tx_ist N K B M i q w j (tx_impF N K B M i q w j) from rfl]
  have e1 := tp_imp1 N K B M i q w j
  generalize tx_impF N K B M i q w j = v at e1 ⊢
  rw [← e1]
  by_cases hp : tx_part N K 1 q j = true
  · by_cases hb : w >>> v.1 &&& 1 = 0
    · rw [← tx_ist_1 hp hb]
      have hb' := tb_0.mp hb
      exact ⟨Nat.le_refl _, fun _ z => absurd (hb'.symm.trans z) (by decide), Or.inl rfl⟩
    · have hb' : w.testBit v.1 = true := by
        cases hq : w.testBit v.1 with
        | true => rfl
        | false => exact absurd (tb_0.mpr hq) hb
      by_cases hc : v.2 < M (tc_dif w (1 <<< v.1)) + B (i * 13 + j)
      · rw [← tx_ist_3 hp hb hc]
        exact ⟨Nat.le_of_lt hc, fun _ _ => Nat.le_refl _, Or.inr ⟨hp, hb', rfl⟩⟩
      · rw [← tx_ist_2 hp hb (Nat.le_of_not_lt hc)]
        exact ⟨Nat.le_refl _, fun _ _ => Nat.le_of_not_lt hc, Or.inl rfl⟩
  · have hp' : tx_part N K 1 q j = false := by
      cases z : tx_part N K 1 q j with
      | false => rfl
      | true => exact absurd z hp
    rw [← tx_ist_0 hp']
    exact ⟨Nat.le_refl _, fun z => absurd z hp, Or.inl rfl⟩
theorem tp_imp (N K B M : Nat → Nat) (i q w : Nat) : ∀ j, M w ≤ (tx_impF N K B M i q w j).2 ∧ (∀ j', j' < j → tx_part N K 1 q j' = true → w.testBit (tp_num N K q j') = true → M (tc_dif w (1 <<< tp_num N K q j')) + B (i * 13 + j') ≤ (tx_impF N K B M i q w j).2) ∧ ((tx_impF N K B M i q w j).2 = M w ∨ ∃ j', j' < j ∧ tx_part N K 1 q j' = true ∧ w.testBit (tp_num N K q j') = true ∧ (tx_impF N K B M i q w j).2 = M (tc_dif w (1 <<< tp_num N K q j')) + B (i * 13 + j')) := by
  intro j
  induction j with
  | zero => exact ⟨Nat.le_refl _, fun j' h => absurd h (Nat.not_lt_zero _), Or.inl rfl⟩
  | succ j ih =>
    obtain ⟨h1, h2, h3⟩ := ih
    obtain ⟨s1, s2, s3⟩ := tp_step N K B M i q w j
    refine ⟨Nat.le_trans h1 s1, fun j' hj' hp hb => ?_, ?_⟩
    · by_cases e : j' = j
      · rw [e] at hp hb ⊢
        exact s2 hp hb
      · exact Nat.le_trans (h2 j' (by omega) hp hb) s1
    · rcases s3 with e | ⟨hp, hb, e⟩
      · rw [e]
        rcases h3 with e' | ⟨j', a1, a2, a3, a4⟩
        · exact Or.inl e'
        · exact Or.inr ⟨j', by omega, a2, a3, a4⟩
      · exact Or.inr ⟨j, by omega, hp, hb, e⟩
/-! the largest of some cells -/
theorem tp_bs (N K B : Nat → Nat) (t k : Nat) (at_ : Nat → Nat) (a : Nat) : ∀ n, a ≤ tc_fold (tx_bs N K B t k at_) a n ∧ (∀ i, i < n → tx_part N K t k i = true → B (at_ i) ≤ tc_fold (tx_bs N K B t k at_) a n) ∧ (tc_fold (tx_bs N K B t k at_) a n = a ∨ ∃ i, i < n ∧ tx_part N K t k i = true ∧ tc_fold (tx_bs N K B t k at_) a n = B (at_ i)) := by
  intro n
  induction n with
  | zero => exact ⟨Nat.le_refl _, fun i h => absurd h (Nat.not_lt_zero _), Or.inl rfl⟩
  | succ n ih =>
    obtain ⟨h1, h2, h3⟩ := ih
    rw [show tc_fold (tx_bs N K B t k at_) a (n + 1) = tx_bs N K B t k at_ n (tc_fold (tx_bs N K B t k at_) a n) from rfl]
    generalize tc_fold (tx_bs N K B t k at_) a n = v at h1 h2 h3 ⊢
    unfold tx_bs
    split
    · next hc =>
      refine ⟨by omega, fun i hi hp => ?_, Or.inr ⟨n, by omega, hc.1, rfl⟩⟩
      by_cases e : i = n
      · rw [e]; exact Nat.le_refl _
      · have := h2 i (by omega) hp
        omega
    · next hc =>
      refine ⟨h1, fun i hi hp => ?_, ?_⟩
      · by_cases e : i = n
        · rw [e] at hp ⊢
          exact Nat.le_of_not_lt (fun z => hc ⟨hp, z⟩)
        · exact h2 i (by omega) hp
      · rcases h3 with e | ⟨i, a1, a2⟩
        · exact Or.inl e
        · exact Or.inr ⟨i, by omega, a2⟩
/-! the table is met by sets -/
theorem tk_sound {N K B : Nat → Nat} {k q : Nat} (hF : tT (tF N 0) (K 0)) (hG : tT (tF N 1) (K 1)) (hk : k < K 0) (hq : q < K 1) (hB : ∀ i j, i < k → j < q → ∃ V, V < 128 ∧ tc_pop V = B (i * 13 + j) ∧ tSub V (tF N 0 i) (tF N 1 j) ∧ tA (tF N 0) (K 0) (tF N 1) (K 1) V) : ∀ i, i ≤ k → ∀ w, ∃ W, tG (tF N 0) (K 0) (tF N 1) (K 1) k q (tp_num N K q) i w W ∧ tc_pop W = tx_MM N K B k q i w := by
  intro i
  induction i with
  | zero =>
    intro _ w
    have z : ∀ x : Nat, ¬ (0 : Nat).testBit x = true := fun x h => by
      rw [Nat.zero_testBit] at h
      cases h
    exact ⟨0, ⟨by decide, fun x _ h => absurd h (z x), fun a b _ _ h => absurd h (z a), fun a b c _ _ _ _ _ _ h => absurd h (z a), fun x _ h => absurd h (z x), fun x _ h => absurd h (z x)⟩, rfl⟩
  | succ i ih =>
    intro hi w
    have ih := ih (by omega)
    rw [tx_MM_s]
    have wid : ∀ W, tG (tF N 0) (K 0) (tF N 1) (K 1) k q (tp_num N K q) i w W → tG (tF N 0) (K 0) (tF N 1) (K 1) k q (tp_num N K q) (i + 1) w W := by
      intro W h
      refine ⟨h.1, h.2.1, h.2.2.1, h.2.2.2.1, fun x hx hb => ?_, h.2.2.2.2.2⟩
      obtain ⟨i', h1, h2⟩ := h.2.2.2.2.1 x hx hb
      exact ⟨i', by omega, h2⟩
    by_cases hp : tx_part N K 0 k i = true
    · rw [if_pos hp]
      show ∃ W, _ ∧ tc_pop W = (tx_impF N K B (tx_MM N K B k q i) i q w q).2
      rcases (tp_imp N K B (tx_MM N K B k q i) i q w q).2.2 with e | ⟨j, hj, hpj, hb, e⟩
      · rw [e]
        obtain ⟨W, h1, h2⟩ := ih w
        exact ⟨W, wid W h1, h2⟩
      · rw [e]
        obtain ⟨W, h1, h2⟩ := ih (tc_dif w (1 <<< tp_num N K q j))
        obtain ⟨V, v1, v2, v3, v4⟩ := hB i j (by omega) hj
        obtain ⟨g1, g2⟩ := tk_join hF hG hk hq (by omega) hj (tx_part_iff.mp hp) (tx_part_iff.mp hpj) (tp_num_lt hG hq hj hpj) hb (fun j' a1 a2 => tp_num_lt hG hq a1 (tx_part_iff.mpr a2)) h1 v1 v3 v4
        exact ⟨W ||| V, g1, by rw [g2, h2, v2]⟩
    · rw [if_neg hp]
      obtain ⟨W, h1, h2⟩ := ih w
      exact ⟨W, wid W h1, h2⟩
/-! no set that is matched part by part is larger -/
theorem tk_comp {N K B : Nat → Nat} {k q : Nat} (hF : tT (tF N 0) (K 0)) (hG : tT (tF N 1) (K 1)) (hk : k < K 0) (hq : q < K 1) (hB : ∀ i j, i < k → j < q → ∀ V, V < 128 → tSub V (tF N 0 i) (tF N 1 j) → tA (tF N 0) (K 0) (tF N 1) (K 1) V → tc_pop V ≤ B (i * 13 + j)) {W : Nat} (hWA : tA (tF N 0) (K 0) (tF N 1) (K 1) W) (hbl : tBl (tF N 0) (K 0) (tF N 1) (K 1) k q W) :
    ∀ i, i ≤ k → ∀ w, (∀ x, x < 7 → W.testBit x = true → (∃ i', i' < i ∧ tPart (tF N 0) (K 0) k i' ∧ (tF N 0 i').testBit x = true) → ∃ j, j < q ∧ tPart (tF N 1) (K 1) q j ∧ (tF N 1 j).testBit x = true ∧ w.testBit (tp_num N K q j) = true) → ∀ V, V < 128 → (∀ x, x < 7 → V.testBit x = true → W.testBit x = true ∧ ∃ i', i' < i ∧ tPart (tF N 0) (K 0) k i' ∧ (tF N 0 i').testBit x = true) → tc_pop V ≤ tx_MM N K B k q i w := by
  intro i
  induction i with
  | zero =>
    intro _ w _ V hV hs
    have e : V = 0 := (tb_z hV).mpr (fun x hx => by
      cases z : V.testBit x with
      | false => rfl
      | true =>
        obtain ⟨-, i', h1, -⟩ := hs x hx z
        omega)
    rw [e]
    exact Nat.le_refl 0
  | succ i ih =>
    intro hi w hw V hV hs
    have ih := ih (by omega)
    rw [tx_MM_s]
    by_cases hp : tx_part N K 0 k i = true
    · rw [if_pos hp]
      show tc_pop V ≤ (tx_impF N K B (tx_MM N K B k q i) i q w q).2
      have hp' := tx_part_iff.mp hp
      have hg := hF.1 i (by omega)
      obtain ⟨m1, m2, -⟩ := tp_imp N K B (tx_MM N K B k q i) i q w q
      -- V within part i, and V without it
      have h0lt : tc_dif V (tF N 0 i) < 128 := tb_dif_lt hV
      have h1lt : V &&& tF N 0 i < 128 := tb_and_lt hV
      have b0 : ∀ x, x < 7 → (tc_dif V (tF N 0 i)).testBit x = true → V.testBit x = true ∧ (tF N 0 i).testBit x = false := by
        intro x hx h
        rw [tb_dif hx] at h
        revert h
        cases V.testBit x <;> cases (tF N 0 i).testBit x <;> simp
      have b1 : ∀ x, x < 7 → (V &&& tF N 0 i).testBit x = true → V.testBit x = true ∧ (tF N 0 i).testBit x = true := by
        intro x hx h
        rw [Nat.testBit_and, Bool.and_eq_true] at h
        exact h
      have hsum : tc_pop V = tc_pop (tc_dif V (tF N 0 i)) + tc_pop (V &&& tF N 0 i) := by
        rw [← tb_pop_or _ h0lt _ h1lt]
        · congr 1
          refine tb_ext hV (tb_or_lt h0lt h1lt) (fun x hx => ?_)
          rw [Nat.testBit_or, Nat.testBit_and, tb_dif hx]
          cases V.testBit x <;> cases (tF N 0 i).testBit x <;> rfl
        · rw [tb_z (tb_and_lt h0lt)]
          intro x hx
          rw [Nat.testBit_and, Nat.testBit_and, tb_dif hx]
          cases V.testBit x <;> cases (tF N 0 i).testBit x <;> rfl
      have hs0 : ∀ x, x < 7 → (tc_dif V (tF N 0 i)).testBit x = true → W.testBit x = true ∧ ∃ i', i' < i ∧ tPart (tF N 0) (K 0) k i' ∧ (tF N 0 i').testBit x = true := by
        intro x hx h
        obtain ⟨z1, z2⟩ := b0 x hx h
        obtain ⟨y1, i', y2, y3, y4⟩ := hs x hx z1
        refine ⟨y1, i', ?_, y3, y4⟩
        by_cases e : i' = i
        · rw [e, z2] at y4
          cases y4
        · omega
      by_cases hz : V &&& tF N 0 i = 0
      · rw [hsum, hz]
        have : tc_pop (tc_dif V (tF N 0 i)) ≤ tx_MM N K B k q i w := ih w (fun x hx hb ⟨i', a1, a2⟩ => hw x hx hb ⟨i', by omega, a2⟩) _ h0lt hs0
        exact Nat.le_trans this m1
      · obtain ⟨y, hy, yb⟩ := tb_nz h1lt hz
        obtain ⟨yv, yi⟩ := b1 y hy yb
        have yW := (hs y hy yv).1
        obtain ⟨j, hj, hpj, yj, hn⟩ := hw y hy yW ⟨i, by omega, hp', yi⟩
        have hpj' := tx_part_iff.mpr hpj
        have hnum := tp_num_lt hG hq hj hpj'
        have hsub : tSub (V &&& tF N 0 i) (tF N 0 i) (tF N 1 j) := by
          intro x hx hb
          obtain ⟨xv, xi⟩ := b1 x hx hb
          have xW := (hs x hx xv).1
          obtain ⟨u, hu, hpu, ux, uy⟩ := (hbl x y hx hy xW yW).mp ⟨i, by omega, hp', xi, yi⟩
          have e := tk_disj hG (by omega) (by omega) hpu hpj hy uy yj
          rw [e] at ux
          exact ⟨xi, ux⟩
        have hle1 : tc_pop (V &&& tF N 0 i) ≤ B (i * 13 + j) := hB i j (by omega) hj _ h1lt hsub (tA_sub hWA (fun x hx hb => (hs x hx (b1 x hx hb).1).1))
        have hle0 : tc_pop (tc_dif V (tF N 0 i)) ≤ tx_MM N K B k q i (tc_dif w (1 <<< tp_num N K q j)) := by
          refine ih _ (fun x hx hb hex => ?_) _ h0lt hs0
          obtain ⟨i', a1, a2, a3⟩ := hex
          obtain ⟨j', c1, c2, c3, c4⟩ := hw x hx hb ⟨i', by omega, a2, a3⟩
          have hpj'' := tx_part_iff.mpr c2
          have hnum' := tp_num_lt hG hq c1 hpj''
          refine ⟨j', c1, c2, c3, ?_⟩
          rw [tb_dif hnum', c4, tb_single _ hnum _ hnum', Bool.true_and, Bool.not_eq_true', decide_eq_false_iff_not]
          intro e
          have ej := tp_num_inj hpj' hpj'' e
          rw [← ej] at c3
          obtain ⟨u, hu, hpu, ux, uy⟩ := (hbl x y hx hy hb yW).mpr ⟨j, hj, hpj, c3, yj⟩
          have e1 := tk_disj hF (by omega) (by omega) hpu hp' hy uy yi
          have e2 := tk_disj hF (by omega) (by omega) hpu a2 hx ux a3
          omega
        have := m2 j hj hpj' hn
        omega
    · rw [if_neg hp]
      refine ih w (fun x hx hb ⟨i', a1, a2⟩ => hw x hx hb ⟨i', by omega, a2⟩) V hV (fun x hx hb => ?_)
      obtain ⟨y1, i', y2, y3, y4⟩ := hs x hx hb
      refine ⟨y1, i', ?_, y3, y4⟩
      by_cases e : i' = i
      · rw [e] at y3
        exact absurd (tx_part_iff.mpr y3) hp
      · omega
/-! THE LARGEST AGREEMENT BELOW TWO GROUPS, by parts -/
theorem tk_one {F : Nat → Nat} {n : Nat} {G : Nat → Nat} {m x : Nat} (hx : x < 7) : tA F n G m (1 <<< x) := by
  intro a b c ha hb _ hab _ _ wa wb _
  rw [tb_single x hx a ha] at wa
  rw [tb_single x hx b hb] at wb
  exact absurd ((of_decide_eq_true wa).symm.trans (of_decide_eq_true wb)) hab
theorem tk_zero {F : Nat → Nat} {n : Nat} {G : Nat → Nat} {m : Nat} : tA F n G m 0 := by
  intro a b c _ _ _ _ _ _ wa
  rw [Nat.zero_testBit] at wa
  cases wa
theorem tk_main {N K B : Nat → Nat} {k q : Nat} (hF : tT (tF N 0) (K 0)) (hG : tT (tF N 1) (K 1)) (hk : k < K 0) (hq : q < K 1) (hB : ∀ x y, y < K 1 → (x < k ∨ (x = k ∧ y < q)) → tMax (tF N 0) (K 0) (tF N 1) (K 1) (tF N 0 x) (tF N 1 y) (B (x * 13 + y))) : tMax (tF N 0) (K 0) (tF N 1) (K 1) (tF N 0 k) (tF N 1 q) (tx_below N K B k q) := by
  have eF : N k = tF N 0 k := by
    unfold tF
    rw [Nat.zero_mul, Nat.zero_add]
  have eG : N (13 + q) = tF N 1 q := by
    unfold tF
    rw [Nat.one_mul]
  have lF := hF.1 k hk
  have lG := hG.1 q hq
  unfold tx_below
  rw [eF, eG]
  split
  · next hc =>
    split
    · next hz =>
      have none : ∀ V, tSub V (tF N 0 k) (tF N 1 q) → ∀ x, x < 7 → V.testBit x = false := by
        intro V hs x hx
        cases z : V.testBit x with
        | false => rfl
        | true =>
          obtain ⟨z1, z2⟩ := hs x hx z
          have := (tb_z (tb_and_lt lF.2)).mp hz x hx
          rw [Nat.testBit_and, z1, z2] at this
          cases this
      refine ⟨⟨0, by decide, by decide, fun x _ h => ?_, tk_zero⟩, fun V hV hs _ => ?_⟩
      · rw [Nat.zero_testBit] at h
        cases h
      · rw [(tb_z hV).mpr (none V hs)]
        exact Nat.le_refl _
    · next hz =>
      obtain ⟨x, hx, hb⟩ := tb_nz (tb_and_lt lF.2) hz
      rw [Nat.testBit_and, Bool.and_eq_true] at hb
      refine ⟨⟨1 <<< x, tb_shl_lt hx, tb_pop_s x hx, fun y hy h => ?_, tk_one hx⟩, fun V hV hs _ => ?_⟩
      · rw [tb_single x hx y hy] at h
        rw [← of_decide_eq_true h]
        exact hb
      · rcases hc with e | e
        · have := (tb_pop_sub V hV _ lF.2 ((tb_sub hV).mpr (fun y hy h => (hs y hy h).1))).1
          omega
        · have := (tb_pop_sub V hV _ lG.2 ((tb_sub hV).mpr (fun y hy h => (hs y hy h).2))).1
          omega
  · next hc =>
    have hpF : tc_pop (tF N 0 k) ≠ 1 := fun z => hc (Or.inl z)
    have hpG : tc_pop (tF N 1 q) ≠ 1 := fun z => hc (Or.inr z)
    obtain ⟨p1, p2, p3⟩ := tp_bs N K B 0 k (fun i => i * 13 + q) (tx_match N K B k q) k
    obtain ⟨r1, r2, r3⟩ := tp_bs N K B 1 q (fun j => k * 13 + j) (tx_b1 N K B k q k) q
    have subF : ∀ i, i < k → tx_part N K 0 k i = true → ∀ x, x < 7 → (tF N 0 i).testBit x = true → (tF N 0 k).testBit x = true := fun i hi hp => (tb_sub (hF.1 i (by omega)).2).mp (tx_part_iff.mp hp).1.2
    have subG : ∀ i, i < q → tx_part N K 1 q i = true → ∀ x, x < 7 → (tF N 1 i).testBit x = true → (tF N 1 q).testBit x = true := fun i hi hp => (tb_sub (hG.1 i (by omega)).2).mp (tx_part_iff.mp hp).1.2
    constructor
    · -- it is met
      rcases r3 with e | ⟨j, hj, hp, e⟩
      · rcases p3 with e' | ⟨i, hi, hp, e'⟩
        · obtain ⟨W, h1, h2⟩ := tk_sound hF hG hk hq (fun i j hi hj => (hB i j (by omega) (Or.inl hi)).1) k (Nat.le_refl _) 127
          refine ⟨W, h1.1, ?_, h1.2.1, tk_M1 hF hG hk hq h1.2.1 h1.2.2.1 h1.2.2.2.1⟩
          rw [h2]
          exact (e.trans e').symm
        · obtain ⟨V, v1, v2, v3, v4⟩ := (hB i q hq (Or.inl hi)).1
          refine ⟨V, v1, ?_, fun x hx h => ⟨subF i hi hp x hx (v3 x hx h).1, (v3 x hx h).2⟩, v4⟩
          rw [v2]
          exact (e.trans e').symm
      · obtain ⟨V, v1, v2, v3, v4⟩ := (hB k j (by omega) (Or.inr ⟨rfl, hj⟩)).1
        refine ⟨V, v1, ?_, fun x hx h => ⟨(v3 x hx h).1, subG j hj hp x hx (v3 x hx h).2⟩, v4⟩
        rw [v2]
        exact e.symm
    · -- none is larger
      intro V hV hs hA
      by_cases nF : ∀ i, i < k → tPart (tF N 0) (K 0) k i → ¬ ∀ x, x < 7 → V.testBit x = true → (tF N 0 i).testBit x = true
      · by_cases nG : ∀ i, i < q → tPart (tF N 1) (K 1) q i → ¬ ∀ x, x < 7 → V.testBit x = true → (tF N 1 i).testBit x = true
        · have hbl := tk_M2 hF hG hk hq hpF hpG hs hA nF nG
          have := tk_comp hF hG hk hq (fun i j hi hj => (hB i j (by omega) (Or.inl hi)).2) hA hbl k (Nat.le_refl _) 127 (fun x hx hb _ => by
            obtain ⟨j, h1, h2, h3⟩ := tk_cover hG hq hpG hx (hs x hx hb).2
            exact ⟨j, h1, h2, h3, tb_127 (tp_num_lt hG hq h1 (tx_part_iff.mpr h2))⟩) V hV (fun x hx hb => by
            obtain ⟨i, h1, h2, h3⟩ := tk_cover hF hk hpF hx (hs x hx hb).1
            exact ⟨hb, i, h1, h2, h3⟩)
          exact Nat.le_trans this (Nat.le_trans p1 r1)
        · obtain ⟨j, hj⟩ := Classical.not_forall.mp nG
          obtain ⟨hjq, hj⟩ := Classical.not_imp.mp hj
          obtain ⟨hpj, hj⟩ := Classical.not_imp.mp hj
          have hj := Classical.not_not.mp hj
          exact Nat.le_trans ((hB k j (by omega) (Or.inr ⟨rfl, hjq⟩)).2 V hV (fun x hx hb => ⟨(hs x hx hb).1, hj x hx hb⟩) hA) (r2 j hjq (tx_part_iff.mpr hpj))
      · obtain ⟨i, hi⟩ := Classical.not_forall.mp nF
        obtain ⟨hik, hi⟩ := Classical.not_imp.mp hi
        obtain ⟨hpi, hi⟩ := Classical.not_imp.mp hi
        have hi := Classical.not_not.mp hi
        exact Nat.le_trans ((hB i q hq (Or.inl hik)).2 V hV (fun x hx hb => ⟨hi x hx hb, (hs x hx hb).2⟩) hA) (Nat.le_trans (p2 i hik (tx_part_iff.mpr hpi)) r1)
end
section
/-! THE LISTS OF GROUPS, and the largest agreement of the whole -/
theorem tn_fls {C X : Nat → Nat} {t z : Nat} {L : List Nat} : ∀ n g, g ∈ tc_fold (tx_ls C X t z) L n ↔ g ∈ L ∨ (1 ≤ g ∧ g ≤ n ∧ tc_pop g = z + 1 ∧ tx_has C X t g = true) := by
  intro n
  induction n with
  | zero =>
    intro g
    constructor
    · exact Or.inl
    · rintro (q | ⟨h1, h2, -⟩)
      · exact q
      · omega
  | succ n ih =>
    intro g
    show g ∈ tx_ls C X t z n (tc_fold (tx_ls C X t z) L n) ↔ _
    have ih := ih g
    generalize tc_fold (tx_ls C X t z) L n = R at ih ⊢
    unfold tx_ls
    split
    · next hc =>
      rw [List.mem_append, List.mem_singleton, ih]
      constructor
      · rintro ((q | ⟨h1, h2, h3⟩) | q)
        · exact Or.inl q
        · exact Or.inr ⟨h1, by omega, h3⟩
        · subst q
          exact Or.inr ⟨by omega, by omega, hc⟩
      · rintro (q | ⟨h1, h2, h3⟩)
        · exact Or.inl (Or.inl q)
        · by_cases e : g = n + 1
          · exact Or.inr e
          · exact Or.inl (Or.inr ⟨h1, by omega, h3⟩)
    · next hc =>
      rw [ih]
      constructor
      · rintro (q | ⟨h1, h2, h3⟩)
        · exact Or.inl q
        · exact Or.inr ⟨h1, by omega, h3⟩
      · rintro (q | ⟨h1, h2, h3⟩)
        · exact Or.inl q
        · by_cases e : g = n + 1
          · subst e
            exact absurd h3 hc
          · exact Or.inr ⟨h1, by omega, h3⟩
theorem tn_Lo {C X : Nat → Nat} {t : Nat} : ∀ z g, g ∈ tx_Lo C X t z ↔ 1 ≤ g ∧ g < 128 ∧ tc_pop g ≤ z ∧ tx_has C X t g = true := by
  intro z
  induction z with
  | zero =>
    intro g
    constructor
    · intro h
      cases h
    · rintro ⟨h1, h2, h3, -⟩
      have := (tb_pop0 g h2).mp (by omega)
      omega
  | succ z ih =>
    intro g
    show g ∈ tc_fold (tx_ls C X t z) (tx_Lo C X t z) 127 ↔ _
    rw [tn_fls, ih]
    constructor
    · rintro (⟨h1, h2, h3, h4⟩ | ⟨h1, h2, h3, h4⟩)
      · exact ⟨h1, h2, by omega, h4⟩
      · exact ⟨h1, by omega, by omega, h4⟩
    · rintro ⟨h1, h2, h3, h4⟩
      by_cases e : tc_pop g = z + 1
      · exact Or.inr ⟨h1, by omega, e, h4⟩
      · exact Or.inl ⟨h1, h2, by omega, h4⟩
def tn_lt (a b : Nat) : Prop := tc_pop a < tc_pop b ∨ (tc_pop a = tc_pop b ∧ a < b)
theorem tn_fls_pw {C X : Nat → Nat} {t z : Nat} {L : List Nat} (hL : L.Pairwise tn_lt) (hz : ∀ g, g ∈ L → tc_pop g ≤ z) : ∀ n, (tc_fold (tx_ls C X t z) L n).Pairwise tn_lt := by
  intro n
  induction n with
  | zero => exact hL
  | succ n ih =>
    show (tx_ls C X t z n (tc_fold (tx_ls C X t z) L n)).Pairwise tn_lt
    unfold tx_ls
    split
    · next hc =>
      rw [List.pairwise_append]
      refine ⟨ih, List.pairwise_singleton _ _, fun a ha b hb => ?_⟩
      rw [List.mem_singleton] at hb
      subst hb
      rcases (tn_fls n a).mp ha with q | ⟨h1, h2, h3, h4⟩
      · have h5 := hz a q
        have h6 := hc.1
        exact Or.inl (by omega)
      · exact Or.inr ⟨by rw [h3, hc.1], by omega⟩
    · exact ih
theorem tn_Lo_pw {C X : Nat → Nat} {t : Nat} : ∀ z, (tx_Lo C X t z).Pairwise tn_lt := by
  intro z
  induction z with
  | zero => exact List.Pairwise.nil
  | succ z ih => exact tn_fls_pw ih (fun g hg => ((tn_Lo z g).mp hg).2.2.1) 127
theorem tn_mem {C X : Nat → Nat} {t g : Nat} : g ∈ tx_list C X t ↔ 1 ≤ g ∧ g < 128 ∧ tx_has C X t g = true :=
  (tn_Lo 7 g).trans ⟨fun h => ⟨h.1, h.2.1, h.2.2.2⟩, fun h => ⟨h.1, h.2.1, tc_pop_le g, h.2.2⟩⟩
theorem tn_getD {L : List Nat} {i : Nat} (h : i < L.length) : L.getD i 0 = L[i] := by
  rw [List.getD_eq_getElem?_getD, List.getElem?_eq_getElem h]
  rfl
theorem tn_pw {C X : Nat → Nat} {t i j : Nat} (hij : i < j) (hj : j < (tx_list C X t).length) : tn_lt ((tx_list C X t).getD i 0) ((tx_list C X t).getD j 0) := by
  rw [tn_getD (by omega), tn_getD hj]
  exact List.pairwise_iff_getElem.mp (tn_Lo_pw 7) i j (Nat.lt_trans hij hj) hj hij
theorem tn_get {C X : Nat → Nat} {t i : Nat} (hi : i < (tx_list C X t).length) : 1 ≤ (tx_list C X t).getD i 0 ∧ (tx_list C X t).getD i 0 < 128 ∧ tx_has C X t ((tx_list C X t).getD i 0) = true := by
  rw [tn_getD hi]
  exact tn_mem.mp (List.getElem_mem _)
theorem tn_at {C X : Nat → Nat} {t g : Nat} (h0 : 1 ≤ g) (h1 : g < 128) (h : tx_has C X t g = true) : ∃ i, i < (tx_list C X t).length ∧ (tx_list C X t).getD i 0 = g := by
  obtain ⟨i, hi, e⟩ := List.mem_iff_getElem.mp (tn_mem.mpr ⟨h0, h1, h⟩)
  exact ⟨i, hi, by rw [tn_getD hi]; exact e⟩
def tn_ev : List Nat := [1, 2, 4, 8, 16, 32, 64, 127]
theorem tn_ev_mem : ∀ g, g < 128 → tx_ev g = true → g ∈ tn_ev := by decide +kernel
theorem tn_nodup {C X : Nat → Nat} {t : Nat} : (tx_list C X t).Nodup := by
  refine List.Pairwise.imp ?_ (tn_Lo_pw (C := C) (X := X) (t := t) 7)
  intro a b h e
  subst e
  rcases h with h | h
  · exact absurd h (Nat.lt_irrefl _)
  · exact absurd h.2 (Nat.lt_irrefl _)
theorem tn_len {C X : Nat → Nat} (hC : ∀ j, C j ≤ 5) (t : Nat) : (tx_list C X t).length ≤ 13 := by
  have hsub : tx_list C X t ⊆ tn_ev ++ tI_L C X t := by
    intro g hg
    obtain ⟨h0, h1, h2⟩ := tn_mem.mp hg
    rcases tx_has_iff.mp h2 with q | q
    · exact List.mem_append_left _ (tn_ev_mem g h1 q)
    · exact List.mem_append_right _ (tI_L_mem.mpr q)
  have := tn_nodup.length_le_of_subset hsub
  have hl : (tn_ev ++ tI_L C X t).length = 8 + C t := by
    rw [List.length_append]
    unfold tI_L
    simp [tn_ev]
  have := hC t
  omega
theorem tn_len1 (C X : Nat → Nat) (t : Nat) : 1 ≤ (tx_list C X t).length := by
  obtain ⟨i, hi, -⟩ := tn_at (C := C) (X := X) (t := t) (g := 127) (by decide) (by decide) (tx_has_iff.mpr (Or.inl (by decide +kernel)))
  omega
theorem tn_top (C X : Nat → Nat) (t : Nat) : (tx_list C X t).getD ((tx_list C X t).length - 1) 0 = 127 := by
  obtain ⟨i, hi, e⟩ := tn_at (C := C) (X := X) (t := t) (g := 127) (by decide) (by decide) (tx_has_iff.mpr (Or.inl (by decide +kernel)))
  by_cases h : i = (tx_list C X t).length - 1
  · rw [← h]; exact e
  · exfalso
    have hl := tn_pw (C := C) (X := X) (t := t) (i := i) (j := (tx_list C X t).length - 1) (by omega) (by omega)
    have hg := tn_get (C := C) (X := X) (t := t) (i := (tx_list C X t).length - 1) (by omega)
    rw [e] at hl
    have h7 : tc_pop 127 = 7 := by decide +kernel
    have hle := tc_pop_le ((tx_list C X t).getD ((tx_list C X t).length - 1) 0)
    rcases hl with q | q
    · omega
    · have := q.2
      omega
/-! a tree of the table nodes -/
theorem tn_K {C X K : Nat → Nat} {t : Nat} (ht : t < 2) : tx_K C X K t = (tx_list C X t).length := by
  unfold tx_K
  rcases (show t = 0 ∨ t = 1 by omega) with e | e
  · subst e
    rw [tc_upd_n (by decide), tc_upd_s]
  · subst e
    rw [tc_upd_s]
theorem tn_N {C X N : Nat → Nat} (hC : ∀ j, C j ≤ 5) {t k : Nat} (ht : t < 2) (hk : k < (tx_list C X t).length) : tF (tx_N C X N) t k = (tx_list C X t).getD k 0 := by
  unfold tF tx_N
  rcases (show t = 0 ∨ t = 1 by omega) with e | e
  · subst e
    have := tn_len (C := C) (X := X) hC 0
    rw [tx_put_out (Or.inl (by omega)), tx_put_in hk]
  · subst e
    rw [tx_put_in hk]
theorem tn_T {C X : Nat → Nat} {hs : Nat → Bool} (h : tI C X hs) (N K : Nat → Nat) {t : Nat} (ht : t < 2) : tT (tF (tx_N C X N) t) (tx_K C X K t) := by
  rw [tn_K ht]
  refine ⟨fun k hk => ?_, fun i j hi hj => ?_, fun i j hi hj hd => ?_, fun x hx => ?_⟩
  · rw [tn_N h.1 ht hk]
    exact ⟨(tn_get hk).1, (tn_get hk).2.1⟩
  · rw [tn_N h.1 ht hi, tn_N h.1 ht hj]
    exact tI_has_go h ht (tn_get hi).2.1 (tn_get hj).2.1 (tn_get hi).2.2 (tn_get hj).2.2
  · rw [tn_N h.1 ht hi, tn_N h.1 ht hj] at hd
    obtain ⟨p1, p2⟩ := tb_pop_sub _ (tn_get hi).2.1 _ (tn_get hj).2.1 hd
    apply Classical.byContradiction
    intro hn
    rcases tn_pw (C := C) (X := X) (t := t) (i := j) (j := i) (by omega) hi with q | q
    · omega
    · have := p2 q.1.symm
      have := q.2
      omega
  · obtain ⟨k, hk, e⟩ := tn_at (C := C) (X := X) (t := t) (g := 1 <<< x) (by rw [Nat.shiftLeft_eq, Nat.one_mul]; exact Nat.one_le_two_pow) (tb_shl_lt hx) (tx_has_iff.mpr (Or.inl (decide_eq_true (Or.inr (tb_pop_s x hx)))))
    exact ⟨k, hk, by rw [tn_N h.1 ht hk]; exact e⟩
theorem tn_cl {C X : Nat → Nat} {hs : Nat → Bool} (h : tI C X hs) (N K : Nat → Nat) {t a b c : Nat} (ht : t < 2) : tcl (tF (tx_N C X N) t) (tx_K C X K t) a b c ↔ tt_cl hs t a b c := by
  rw [tn_K ht]
  constructor
  · rintro ⟨i, hi, h1, h2, h3⟩
    rw [tn_N h.1 ht hi] at h1 h2 h3
    refine ⟨_, (tn_get hi).1, (tn_get hi).2.1, ?_, h1, h2, h3⟩
    rw [h.2.2.2.2.2 t _ ht (tn_get hi).1 (tn_get hi).2.1]
    exact (tn_get hi).2.2
  · rintro ⟨g, g0, g1, g2, h1, h2, h3⟩
    rw [h.2.2.2.2.2 t g ht g0 g1] at g2
    obtain ⟨i, hi, e⟩ := tn_at g0 g1 g2
    refine ⟨i, hi, ?_⟩
    rw [tn_N h.1 ht hi, e]
    exact ⟨h1, h2, h3⟩
theorem tn_A {C X : Nat → Nat} {hs : Nat → Bool} (h : tI C X hs) (N K : Nat → Nat) {W : Nat} : tA (tF (tx_N C X N) 0) (tx_K C X K 0) (tF (tx_N C X N) 1) (tx_K C X K 1) W ↔ tm_agree hs W = true := by
  rw [tt_agree_iff h]
  constructor
  · intro q a b c ha hb hc hab hac hbc wa wb wc
    exact ((tn_cl h N K (by omega)).symm.trans (q a b c ha hb hc hab hac hbc wa wb wc)).trans (tn_cl h N K (by omega))
  · intro q a b c ha hb hc hab hac hbc wa wb wc
    exact ((tn_cl h N K (by omega)).trans (q a b c ha hb hc hab hac hbc wa wb wc)).trans (tn_cl h N K (by omega)).symm
/-! the largest agreement within a set, by trial -/
def tn_ss (P : Nat → Bool) (g : Nat) (w most : Nat) : Nat := if most < tc_pop w ∧ tc_dif w g = 0 ∧ P w = true then tc_pop w else most
def tn_sem (P : Nat → Bool) (g : Nat) : Nat := tc_fold (tn_ss P g) 0 128
theorem tn_sem_fold {P : Nat → Bool} {g : Nat} (h0 : P 0 = true) : ∀ n, n ≤ 128 → (∀ w, w < n → tc_dif w g = 0 → P w = true → tc_pop w ≤ tc_fold (tn_ss P g) 0 n) ∧ ∃ w, w < 128 ∧ tc_dif w g = 0 ∧ P w = true ∧ tc_pop w = tc_fold (tn_ss P g) 0 n := by
  intro n
  induction n with
  | zero =>
    intro _
    refine ⟨fun w h => absurd h (Nat.not_lt_zero _), 0, by decide, ?_, h0, (show tc_pop 0 = 0 by decide +kernel)⟩
    unfold tc_dif
    rw [Nat.zero_and]
  | succ n ih =>
    intro hn
    obtain ⟨h1, w, w1, w2, w3, w4⟩ := ih (by omega)
    rw [show tc_fold (tn_ss P g) 0 (n + 1) = tn_ss P g n (tc_fold (tn_ss P g) 0 n) from rfl]
    generalize tc_fold (tn_ss P g) 0 n = v at h1 w4 ⊢
    unfold tn_ss
    split
    · next hc =>
      refine ⟨fun u hu hd hp => ?_, n, by omega, hc.2.1, hc.2.2, rfl⟩
      by_cases e : u = n
      · rw [e]; exact Nat.le_refl _
      · have := h1 u (by omega) hd hp
        omega
    · next hc =>
      refine ⟨fun u hu hd hp => ?_, w, w1, w2, w3, w4⟩
      by_cases e : u = n
      · rw [e] at hd hp ⊢
        exact Nat.le_of_not_lt (fun z => hc ⟨z, hd, hp⟩)
      · exact h1 u (by omega) hd hp
theorem tn_agree0 (hs : Nat → Bool) : tm_agree hs 0 = true := by
  rw [tt_agree]
  intro v hv h3 hd
  have e : v = 0 := (tb_z hv).mpr (fun x hx => by
    cases z : v.testBit x with
    | false => rfl
    | true =>
      have := (tb_sub hv).mp hd x hx z
      rw [Nat.zero_testBit] at this
      cases this)
  rw [e, show tc_pop 0 = 0 by decide +kernel] at h3
  cases h3
theorem tn_sem_le (P : Nat → Bool) (g : Nat) : tn_sem P g ≤ 7 := by
  have : ∀ n, tc_fold (tn_ss P g) 0 n ≤ 7 := by
    intro n
    induction n with
    | zero => exact Nat.zero_le _
    | succ n ih =>
      show tn_ss P g n _ ≤ 7
      unfold tn_ss
      split
      · exact tc_pop_le n
      · exact ih
  exact this 128
theorem tn_Max {C X : Nat → Nat} {hs : Nat → Bool} (h : tI C X hs) (N K : Nat → Nat) (g g' : Nat) : tMax (tF (tx_N C X N) 0) (tx_K C X K 0) (tF (tx_N C X N) 1) (tx_K C X K 1) g g' (tn_sem (tm_agree hs) (g &&& g')) := by
  have e : ∀ V, V < 128 → (tSub V g g' ↔ tc_dif V (g &&& g') = 0) := by
    intro V hV
    rw [tb_sub hV]
    constructor
    · intro q x hx hb
      rw [Nat.testBit_and, (q x hx hb).1, (q x hx hb).2]
      rfl
    · intro q x hx hb
      have := q x hx hb
      rw [Nat.testBit_and, Bool.and_eq_true] at this
      exact this
  obtain ⟨h1, w, w1, w2, w3, w4⟩ := tn_sem_fold (P := tm_agree hs) (g := g &&& g') (tn_agree0 hs) 128 (Nat.le_refl _)
  exact ⟨⟨w, w1, w4, (e w w1).mpr w2, (tn_A h N K).mpr w3⟩, fun V hV hs' hA => h1 V hV ((e V hV).mp hs') ((tn_A h N K).mp hA)⟩
theorem tn_Sem {C X : Nat → Nat} {hs : Nat → Bool} (h : tI C X hs) (N K : Nat → Nat) : tx_Sem C X N K (fun k q => tn_sem (tm_agree hs) (tx_N C X N k &&& tx_N C X N (13 + q))) := by
  refine ⟨fun k q => tn_sem_le _ _, fun B k q hk hq hB => ?_⟩
  have e0 : ∀ x, tx_N C X N x = tF (tx_N C X N) 0 x := fun x => by
    unfold tF
    rw [Nat.zero_mul, Nat.zero_add]
  have e1 : ∀ x, tx_N C X N (13 + x) = tF (tx_N C X N) 1 x := fun x => by
    unfold tF
    rw [Nat.one_mul]
  refine tMax_uniq (tk_main (tn_T h N K (by omega)) (tn_T h N K (by omega)) hk hq (fun x y hy hxy => ?_)) ?_
  · rw [hB x y hy hxy]
    show tMax _ _ _ _ _ _ (tn_sem (tm_agree hs) (tx_N C X N x &&& tx_N C X N (13 + y)))
    rw [e0 x, e1 y]
    exact tn_Max h N K _ _
  · show tMax _ _ _ _ _ _ (tn_sem (tm_agree hs) (tx_N C X N k &&& tx_N C X N (13 + q)))
    rw [e0 k, e1 q]
    exact tn_Max h N K _ _
theorem tc_fold_congr {α : Type} {f g : Nat → α → α} {a : α} {n : Nat} (h : ∀ i, i < n → ∀ x, f i x = g i x) : tc_fold f a n = tc_fold g a n := by
  induction n with
  | zero => rfl
  | succ n ih =>
    show f n (tc_fold f a n) = g n (tc_fold g a n)
    rw [ih (fun i hi => h i (by omega)), h n (by omega)]
theorem tn_agr (hs : Nat → Bool) : tn_sem (tm_agree hs) 127 = tm_agr hs := by
  unfold tn_sem tm_agr
  apply tc_fold_congr
  intro w hw v
  unfold tn_ss tm_agrs
  have hd : tc_dif w 127 = 0 := (tb_sub hw).mpr (fun x hx _ => tb_127 hx)
  by_cases q : v < tc_pop w ∧ tm_agree hs w = true
  · rw [if_pos q, if_pos ⟨q.1, hd, q.2⟩]
  · rw [if_neg q, if_neg (fun z => q ⟨z.1, z.2.2⟩)]
theorem tn_whole {C X : Nat → Nat} {hs : Nat → Bool} (h : tI C X hs) (N K : Nat → Nat) : (fun k q => tn_sem (tm_agree hs) (tx_N C X N k &&& tx_N C X N (13 + q))) (tx_K C X K 0 - 1) (tx_K C X K 1 - 1) = tm_agr hs := by
  show tn_sem (tm_agree hs) (tx_N C X N (tx_K C X K 0 - 1) &&& tx_N C X N (13 + (tx_K C X K 1 - 1))) = tm_agr hs
  have h0 : tx_N C X N (tx_K C X K 0 - 1) = 127 := by
    have := tn_N (C := C) (X := X) (N := N) h.1 (t := 0) (k := (tx_list C X 0).length - 1) (by omega) (by have := tn_len1 C X 0; omega)
    unfold tF at this
    rw [Nat.zero_mul, Nat.zero_add] at this
    rw [tn_K (by omega), this]
    exact tn_top C X 0
  have h1 : tx_N C X N (13 + (tx_K C X K 1 - 1)) = 127 := by
    have := tn_N (C := C) (X := X) (N := N) h.1 (t := 1) (k := (tx_list C X 1).length - 1) (by omega) (by have := tn_len1 C X 1; omega)
    unfold tF at this
    rw [Nat.one_mul] at this
    rw [tn_K (by omega), this]
    exact tn_top C X 1
  rw [h0, h1, Nat.and_self]
  exact tn_agr hs
theorem tn_aset {C X : Nat → Nat} {hs : Nat → Bool} (h : tI C X hs) : tx_aset C X (tm_agr hs) = tm_aset hs := by
  have e : (fun i => decide (tc_pop i = tm_agr hs ∧ tx_conf C X i = 0)) = (fun i => decide (tc_pop i = tm_agr hs ∧ tm_agree hs i = true)) := by
    funext i
    have hc := tI_conf h i
    rw [Bool.eq_iff_iff, decide_eq_true_iff] at hc
    rw [Bool.eq_iff_iff, decide_eq_true_iff, decide_eq_true_iff, hc]
  unfold tx_aset tm_aset
  rw [e]
  cases hq : tx_first (fun i => decide (tc_pop i = tm_agr hs ∧ tm_agree hs i = true)) 127 with
  | some k =>
    have : tx_first (fun i => decide (tc_pop i = tm_agr hs ∧ tm_agree hs i = true)) 128 = some k := by
      obtain ⟨a1, a2, a3⟩ := tx_first_some.mp hq
      exact tx_first_some.mpr ⟨by omega, a2, a3⟩
    rw [this]
  | none =>
    have hn := tx_first_none.mp hq
    obtain ⟨-, w, w1, w2, w3, w4⟩ := tn_sem_fold (P := tm_agree hs) (g := 127) (tn_agree0 hs) 128 (Nat.le_refl _)
    have w4 : tc_pop w = tm_agr hs := w4.trans (tn_agr hs)
    have hw : w = 127 := by
      apply Classical.byContradiction
      intro hne
      have := hn w (by omega)
      rw [decide_eq_true ⟨w4, w3⟩] at this
      cases this
    rw [hw] at w3 w4
    have : tx_first (fun i => decide (tc_pop i = tm_agr hs ∧ tm_agree hs i = true)) 128 = some 127 := tx_first_some.mpr ⟨by decide, decide_eq_true ⟨w4, w3⟩, hn⟩
    rw [this]
end
section
/-! THE CLAIM OUT OF ONE WALK OF THE LAW'S BODY. Your part is whole_start (and what it stands on); all else here is the same for every law, but numbers. -/
def R_law : String := "TreeCompareLaw"
def lw_P (b : Addr) (xs : List Int32) (args : Array Value) (s : State) : Prop := args = #[.ref b] ∧ s.IntsAt b xs ∧ xs.length ≤ 320 ∧ (Jvm.Cond.and given_1 narrow_1).before args s = true
def lw_Q (_ : Array Value) (s : State) (o : Outcome) (t : State) : Prop := o = .returned (some (.int 1)) ∧ Framed s o t [] 600000 7290000
def lw_Z (below : List Frame) (a : Array Value) (s : State) : State → Prop := fun t => ∃ o, t.status = .running ∧ Ended t below o ∧ lw_Q a s o t
/-- the law's own end, with 1 on the stack, nothing written that was there before, its room as the claim has it -/
theorem lw_ret {p : Program} {l : Launch} {e : Env} {s : State} {m : MethodId} {below : List Frame} {meth : Method} {c : Code} {b : Nat} (hx : p.tables.exec = Jvm.exec) (hb : c.code = code) (hr : meth.sig.returnType = ret) (hlocks : meth.locks = false) {pc : Nat} {H : Heap} {ls : Array Slot} (hdg : decode code pc = .ok (.ireturn, 1)) : W p l e room_1 s m #[Value.ref b] below meth c H [] 600000 7290000 (lw_Z below #[Value.ref b] s) (F0 m pc ls [.int 1]) := by
  intro T hT X
  obtain ⟨fs, hret, hrun, hended, hW, hframe⟩ := X.leave (v := some (.int 1)) (hlocks := hlocks) (fun h => by rw [hr] at h; cases h)
  have hmeth' : T.vm.method? m = some meth := X.method'
  refine ⟨T.setFrames fs, ?_, .returned (some (.int 1)), hrun, hended, rfl, ⟨_, rfl⟩, hW, hframe⟩
  jvm_step X.here [X.here.top, hx, hb, hdg, hmeth', hr, ret, narrow_b1]
  (try refine ⟨rfl, ?_⟩); (try refine ⟨rfl, ?_⟩)
  first | (intro acts; rw [hret _ acts rfl rfl rfl]) | rw [hret _ _ rfl rfl rfl]
  exact Steps.refl _
/-- what holds at the law's entry: the machine, the code, the tables' words (any of lw_tbl by 'hts w (by decide +kernel)'), the script of L ints xs at the cell b, what the Statement gives of the start (any of its parts by flat_of_before) -/
def lw_At (p : Program) (s : State) (m : MethodId) (meth : Method) (c : Code) (b L : Nat) (xs : Nat → Int32) : Prop :=
  p.tables.exec = Jvm.exec ∧ c.code = code ∧ meth.sig.returnType = ret ∧ c.maxLocals = 4 ∧ s.vm.findClass R_law = some m.cls ∧ (∀ w ∈ lw_tbl, w.before #[Value.ref b] s = true) ∧ va_X b L xs s s.heap ∧ b < s.heap.size ∧ meth.locks = false ∧ (Jvm.Cond.and given_1 narrow_1).before #[Value.ref b] s = true
end
section
/-! THE LAW: what stays through its loop, and what one call on both sides owes -/
def tL_ok (a b : Nat → Nat) (A : Nat → Prop) : Prop := tcAp a 7 ∧ tcAp b 2 ∧ (∀ i j, i < 7 → j < 2 → a i ≠ b j) ∧ (∀ i, i < 7 → A (a i)) ∧ (∀ j, j < 2 → A (b j))
def tL_I (D : va_G) (dB dZ : ClassId) (a b : Nat → Nat) (H : Heap) : Prop := ∃ (C X N K B M : Nat → Nat) (hs : Nat → Bool), va_P D vwCl (wX a dB C X N K B M) H ∧ va_P D vwCl (wM b dZ hs) H ∧ tI C X hs ∧ (∀ j, N j < 128) ∧ (∀ j, K j ≤ 13) ∧ (∀ j, B j ≤ 7)
theorem tL_A7 {a b : Nat → Nat} {A : Nat → Prop} (h : tL_ok a b A) : ∀ q, tcA a 7 q → A q := by
  rintro q ⟨i, hi, rfl⟩
  exact h.2.2.2.1 i hi
theorem tL_A2 {a b : Nat → Nat} {A : Nat → Prop} (h : tL_ok a b A) : ∀ q, tcA b 2 q → A q := by
  rintro q ⟨i, hi, rfl⟩
  exact h.2.2.2.2 i hi
/-- the other side's cells stay -/
theorem tL_keepM {D : va_G} {dZ : ClassId} {a b : Nat → Nat} {A : Nat → Prop} {hs : Nat → Bool} {H H1 : Heap} (h : tL_ok a b A) (hP : va_P D vwCl (wM b dZ hs) H) (hk : ∀ q : Nat, q < H.size → ¬ tcA a 7 q → H1[q]? = H[q]?) : va_P D vwCl (wM b dZ hs) H1 :=
  hP.kept (fun k x hx => hk x.1 ((hP k x hx).lt) (by
    rintro ⟨i, hi, e⟩
    obtain ⟨h1, h2⟩ := tc_wM k x hx
    exact h.2.2.1 i k hi h1 (e.symm.trans h2)))
theorem tL_keepX {D : va_G} {a b : Nat → Nat} {A : Nat → Prop} {ws : va_W} {H H1 : Heap} (h : tL_ok a b A) (hw : ∀ k x, ws[k]? = some x → k < 7 ∧ x.1 = a k) (hP : va_P D vwCl ws H) (hk : ∀ q : Nat, q < H.size → ¬ tcA b 2 q → H1[q]? = H[q]?) : va_P D vwCl ws H1 :=
  hP.kept (fun k x hx => hk x.1 ((hP k x hx).lt) (by
    rintro ⟨j, hj, e⟩
    obtain ⟨h1, h2⟩ := hw k x hx
    exact h.2.2.1 k j h1 hj (h2.symm.trans e)))
/-- a contract that only reads, as one that may write -/
theorem tL_ofRo {l : Launch} {y : MethodName} {cy : ByteArray} {nL : Nat} {rt : Option FieldType} {f n : Nat} {as : List Value} {H : Heap} {D : va_G} {dB dZ : ClassId} {r : Int32} {w : va_W} {A : Nat → Prop} (h : Ro l y cy nL rt f n as H D dB dZ r) (hP : va_P D vwCl w H) : Met l y (ws_ y cy nL rt) (tcR f n) (roP as H D dB dZ) (va_Qi (fun r' (_ : Unit) => r' = r) (fun (_ : Unit) T_ => va_P D vwCl w T_.heap) A) 0 0 A := by
  intro p e ha hc hk s m args below hf happ hpre hT
  obtain ⟨k, o, h1, h2, h3, hQ, Ls, hF, hLs⟩ := h p e ha hc hk s m args below hf happ hpre hT
  refine ⟨k, o, h1, h2, h3, ⟨⟨r, (), hQ.1, rfl, ?_⟩, ?_, fun q _ _ => ?_⟩, Ls, hF, fun q hq => (hLs q hq).elim⟩
  · show va_P D vwCl w _
    rw [hQ.2]
    exact hP
  · rw [hQ.2, hpre.2.1]
    exact Nat.le_refl _
  · rw [hQ.2, hpre.2.1]
/-- what one call on both sides owes -/
def tL_2 (l : Launch) (D : va_G) (dB dZ : ClassId) (a b : Nat → Nat) (hs : Nat → Bool) (H : Heap) (yX : MethodName) (cX : ByteArray) (nX : Nat) (yM : MethodName) (cM : ByteArray) (nM : Nat) (rt : Option FieldType) (As : List Value) : Prop :=
  ∃ (f n f' n' : Nat) (S S' : Type) (post : Int32 → S → Prop) (w : S → va_W) (post' : Int32 → S' → Prop) (w' : S' → va_W), (f + 1 ≤ 8 ∧ n ≤ 200 ∧ f' + 1 ≤ 8 ∧ n' ≤ 200) ∧ Met l yX (ws_ yX cX nX rt) (tcR f n) (roP (.ref (a 0) :: As) H D dB dZ) (va_Qi post (fun u T_ => va_P D vwCl (w u) T_.heap) (tcA a 7)) 0 0 (tcA a 7) ∧ (∀ H1, va_P D vwCl (wM b dZ hs) H1 → Met l yM (ws_ yM cM nM rt) (tcR f' n') (roP (.ref (b 0) :: As) H1 D dB dZ) (va_Qi post' (fun u T_ => va_P D vwCl (w' u) T_.heap) (tcA b 2)) 0 0 (tcA b 2)) ∧ (∀ u k x, (w u)[k]? = some x → k < 7 ∧ x.1 = a k) ∧ (∀ r u r' u', post r u → post' r' u' → r = r' ∧ ∀ H, va_P D vwCl (w u) H → va_P D vwCl (w' u') H → tL_I D dB dZ a b H)
section TL2
variable {l : Launch} {D : va_G} {dB dZ : ClassId} {a b : Nat → Nat} {hs : Nat → Bool} {H : Heap} {C X N K B M : Nat → Nat}
theorem tL_2.ro {yX : MethodName} {cX : ByteArray} {nX : Nat} {yM : MethodName} {cM : ByteArray} {nM : Nat} {rt : Option FieldType} {As : List Value} {f n f' n' : Nat} {r r' : Int32} (hPX : va_P D vwCl (wX a dB C X N K B M) H) (hI : tI C X hs) (hN : ∀ j, N j < 128) (hKc : ∀ j, K j ≤ 13) (hB : ∀ j, B j ≤ 7) (h1 : Ro l yX cX nX rt f n (.ref (a 0) :: As) H D dB dZ r) (h2 : ∀ H1, va_P D vwCl (wM b dZ hs) H1 → Ro l yM cM nM rt f' n' (.ref (b 0) :: As) H1 D dB dZ r') (hr : r = r') (hf : f + 1 ≤ 8 ∧ n ≤ 200 ∧ f' + 1 ≤ 8 ∧ n' ≤ 200) : tL_2 l D dB dZ a b hs H yX cX nX yM cM nM rt As :=
  ⟨f, n, f', n', Unit, Unit, fun v _ => v = r, fun _ => wX a dB C X N K B M, fun v _ => v = r', fun _ => wM b dZ hs, hf, tL_ofRo h1 hPX, fun H1 hP1 => tL_ofRo (h2 H1 hP1) hP1, fun _ k x h => tc_wX k x h, fun v _ v' _ e e' => ⟨by rw [e, e', hr], fun H p1 p2 => ⟨C, X, N, K, B, M, hs, p1, p2, hI, hN, hKc, hB⟩⟩⟩
end TL2
/-! numbers of the script -/
theorem tL_w {w : Int32} (h0 : ¬ w < 0) (h1 : ¬ nI 127 < w) : ∃ k, k < 128 ∧ w = nI k := by
  obtain ⟨j, hj, rfl⟩ := nI_of h0
  refine ⟨j, ?_, rfl⟩
  rw [nI_ltI (by omega) hj] at h1
  omega
theorem tL_g {w : Int32} (h0 : ¬ w < nI 1) (h1 : ¬ nI 127 < w) : ∃ k, 1 ≤ k ∧ k < 128 ∧ w = nI k := by
  have hz : ¬ w < 0 := by
    intro h
    apply h0
    rw [Int32.lt_iff_toInt_lt] at h ⊢
    rw [nI_toInt (by omega)]
    have : (0 : Int32).toInt = 0 := by decide
    omega
  obtain ⟨k, hk, rfl⟩ := tL_w hz h1
  refine ⟨k, ?_, hk, rfl⟩
  rw [nI_ltI (by omega) (by omega)] at h0
  omega
theorem tL_isF {t : Int32} (h : ¬ tx_isT t = true) : tx_isT t = false := by
  cases z : tx_isT t with
  | false => rfl
  | true => exact absurd z h
theorem tL_isMF {t : Int32} (h : ¬ tx_isM t = true) : tx_isM t = false := by
  cases z : tx_isM t with
  | false => rfl
  | true => exact absurd z h
theorem tL_find0 {C X : Nat → Nat} {t : Nat} {g : Int32} (h : ∀ k, k < C t → ¬ nI (X (t * 5 + k)) = g) : tx_find C X t g = -1 := by
  unfold tx_find
  rw [tx_first_none.mpr (fun k hk => decide_eq_false (h k hk))]
theorem tL_find1 {C X : Nat → Nat} (hX : ∀ j, X j < 128) {t g : Nat} (hg : g < 128) (h : ∃ k, k < C t ∧ X (t * 5 + k) = g) : ∃ k, k < C t ∧ X (t * 5 + k) = g ∧ tx_find C X t (nI g) = nI k := by
  unfold tx_find
  cases hq : tx_first (fun k => decide (nI (X (t * 5 + k)) = nI g)) (C t) with
  | none =>
    obtain ⟨k, hk, e⟩ := h
    have := tx_first_none.mp hq k hk
    rw [e] at this
    simp at this
  | some k =>
    obtain ⟨h1, h2, -⟩ := tx_first_some.mp hq
    have h4 := of_decide_eq_true h2
    have h5 := hX (t * 5 + k)
    rw [nI_eq (by omega) (by omega)] at h4
    exact ⟨k, h1, h4, rfl⟩
end
section
/-! EACH CALL ON BOTH SIDES: the answers are the same, and what holds goes on holding -/
section TWO
variable {l : Launch} {D : va_G} {dB dZ : ClassId} {a b : Nat → Nat} {hs : Nat → Bool} {H : Heap} {C X N K B M : Nat → Nat}
theorem t2_groups (hPX : va_P D vwCl (wX a dB C X N K B M) H) (hI : tI C X hs) (hN : ∀ j, N j < 128) (hKc : ∀ j, K j ≤ 13) (hB : ∀ j, B j ≤ 7) (t : Int32) : tL_2 l D dB dZ a b hs H yX0_groups cX0_groups 2 yX1_groups cX1_groups 4 (some .int) [.int t] := by
  by_cases h : tx_isT t = true
  · obtain ⟨k, hk, rfl⟩ := tx_isT_of h
    exact tL_2.ro hPX hI hN hKc hB (ro_X0_groups l D dB dZ H a C X N K B M hPX hI.1 hI.2.1 k hk) (fun H1 hP1 => ro_X1_groups l D dB dZ H1 b hs hP1 k hk) (by rw [tI_groups hI hk]) (by decide)
  · exact tL_2.ro hPX hI hN hKc hB (ro_X0_groups_b l D dB dZ H a C X N K B M hPX hI.1 hI.2.1 t (tL_isF h)) (fun H1 hP1 => ro_X1_groups_b l D dB dZ H1 b hs hP1 t (tL_isF h)) rfl (by decide)
theorem t2_join (hPX : va_P D vwCl (wX a dB C X N K B M) H) (hI : tI C X hs) (hN : ∀ j, N j < 128) (hKc : ∀ j, K j ≤ 13) (hB : ∀ j, B j ≤ 7) (t w : Int32) : tL_2 l D dB dZ a b hs H yX0_join cX0_join 3 yX1_join cX1_join 5 (some .int) [.int t, .int w] := by
  by_cases h : tx_isT t = true ∧ ¬ w < 0 ∧ ¬ nI 127 < w
  · obtain ⟨k, hk, rfl⟩ := tx_isT_of h.1
    obtain ⟨j, hj, rfl⟩ := tL_w h.2.1 h.2.2
    exact tL_2.ro hPX hI hN hKc hB (ro_X0_join l D dB dZ H a C X N K B M hPX hI.1 hI.2.1 k hk j hj) (fun H1 hP1 => ro_X1_join l D dB dZ H1 b hs hP1 k hk j hj) (by rw [tI_join hI hk hj]) (by decide)
  · have hbad : tx_isT t = true → ¬ w < 0 → nI 127 < w := fun h1 h2 => Classical.byContradiction (fun h3 => h ⟨h1, h2, h3⟩)
    exact tL_2.ro hPX hI hN hKc hB (ro_X0_join_b l D dB dZ H a C X N K B M hPX hI.1 hI.2.1 t w hbad) (fun H1 hP1 => ro_X1_join_b l D dB dZ H1 b hs hP1 t w hbad) rfl (by decide)
theorem t2_says (hPX : va_P D vwCl (wX a dB C X N K B M) H) (hI : tI C X hs) (hN : ∀ j, N j < 128) (hKc : ∀ j, K j ≤ 13) (hB : ∀ j, B j ≤ 7) (t x y z : Int32) : tL_2 l D dB dZ a b hs H yX0_says cX0_says 5 yX1_says cX1_says 5 (some .int) [.int t, .int x, .int y, .int z] := by
  by_cases h : tx_isT t = true ∧ tx_isM x = true ∧ tx_isM y = true ∧ tx_isM z = true ∧ ¬ x = y ∧ ¬ x = z ∧ ¬ y = z
  · obtain ⟨h1, h2, h3, h4, n1, n2, n3⟩ := h
    obtain ⟨k, hk, rfl⟩ := tx_isT_of h1
    obtain ⟨i1, hi1, rfl⟩ := tx_isM_of h2
    obtain ⟨i2, hi2, rfl⟩ := tx_isM_of h3
    obtain ⟨i3, hi3, rfl⟩ := tx_isM_of h4
    have m1 : ¬ i1 = i2 := fun e => n1 (by rw [e])
    have m2 : ¬ i1 = i3 := fun e => n2 (by rw [e])
    have m3 : ¬ i2 = i3 := fun e => n3 (by rw [e])
    exact tL_2.ro hPX hI hN hKc hB (ro_X0_says l D dB dZ H a C X N K B M hPX hI.1 hI.2.1 k hk i1 i2 i3 hi1 hi2 hi3 m1 m2 m3) (fun H1 hP1 => ro_X1_says l D dB dZ H1 b hs hP1 k hk i1 i2 i3 hi1 hi2 hi3 m1 m2 m3) (by rw [tI_last hI hk hi1 hi2 hi3]) (by decide)
  · have hbad : tx_isT t = true → tx_isM x = true → tx_isM y = true → tx_isM z = true → ¬ x = y → ¬ x = z → y = z := fun h1 h2 h3 h4 h5 h6 => Classical.byContradiction (fun h7 => h ⟨h1, h2, h3, h4, h5, h6, h7⟩)
    exact tL_2.ro hPX hI hN hKc hB (ro_X0_says_b l D dB dZ H a C X N K B M hPX hI.1 hI.2.1 t x y z hbad) (fun H1 hP1 => ro_X1_says_b l D dB dZ H1 b hs hP1 t x y z hbad) rfl (by decide)
theorem t2_decided (hPX : va_P D vwCl (wX a dB C X N K B M) H) (hI : tI C X hs) (hN : ∀ j, N j < 128) (hKc : ∀ j, K j ≤ 13) (hB : ∀ j, B j ≤ 7) (t : Int32) : tL_2 l D dB dZ a b hs H yX0_decided cX0_decided 7 yX1_decided cX1_decided 4 (some .int) [.int t] := by
  by_cases h : tx_isT t = true
  · obtain ⟨k, hk, rfl⟩ := tx_isT_of h
    exact tL_2.ro hPX hI hN hKc hB (ro_X0_decided l D dB dZ H a C X N K B M hPX hI.1 hI.2.1 k hk) (fun H1 hP1 => ro_X1_decided l D dB dZ H1 b hs hP1 k hk) (by rw [tI_dec hI hk]) (by decide)
  · exact tL_2.ro hPX hI hN hKc hB (ro_X0_decided_b l D dB dZ H a C X N K B M hPX hI.1 hI.2.1 t (tL_isF h)) (fun H1 hP1 => ro_X1_decided_b l D dB dZ H1 b hs hP1 t (tL_isF h)) rfl (by decide)
theorem t2_groupDistance (hPX : va_P D vwCl (wX a dB C X N K B M) H) (hI : tI C X hs) (hN : ∀ j, N j < 128) (hKc : ∀ j, K j ≤ 13) (hB : ∀ j, B j ≤ 7) : tL_2 l D dB dZ a b hs H yX0_groupDistance cX0_groupDistance 2 yX1_groupDistance cX1_groupDistance 3 (some .int) [] :=
  tL_2.ro hPX hI hN hKc hB (ro_X0_groupDistance l D dB dZ H a C X N K B M hPX hI.1 hI.2.1 (tI_gd_le hI)) (fun H1 hP1 => ro_X1_groupDistance l D dB dZ H1 b hs hP1) (by rw [tI_gd hI]) (by decide)
theorem t2_tripleDistance (hPX : va_P D vwCl (wX a dB C X N K B M) H) (hI : tI C X hs) (hN : ∀ j, N j < 128) (hKc : ∀ j, K j ≤ 13) (hB : ∀ j, B j ≤ 7) : tL_2 l D dB dZ a b hs H yX0_tripleDistance cX0_tripleDistance 1 yX1_tripleDistance cX1_tripleDistance 3 (some .int) [] :=
  tL_2.ro hPX hI hN hKc hB (ro_X0_tripleDistance l D dB dZ H a C X N K B M hPX hI.1 hI.2.1) (fun H1 hP1 => ro_X1_tripleDistance l D dB dZ H1 b hs hP1) (by rw [tI_td hI]) (by decide)
theorem t2_agree (hPX : va_P D vwCl (wX a dB C X N K B M) H) (hI : tI C X hs) (hN : ∀ j, N j < 128) (hKc : ∀ j, K j ≤ 13) (hB : ∀ j, B j ≤ 7) (w : Int32) : tL_2 l D dB dZ a b hs H yX0_agree cX0_agree 2 yX1_agree cX1_agree 4 (some .boolean) [.int w] := by
  by_cases h : ¬ w < 0 ∧ ¬ nI 127 < w
  · obtain ⟨j, hj, rfl⟩ := tL_w h.1 h.2
    exact tL_2.ro hPX hI hN hKc hB (ro_X0_agree l D dB dZ H a C X N K B M hPX hI.1 hI.2.1 j hj) (fun H1 hP1 => ro_X1_agree l D dB dZ H1 b hs hP1 j hj) (by rw [tI_conf hI]) (by decide)
  · have hbad : ¬ w < 0 → nI 127 < w := fun h2 => Classical.byContradiction (fun h3 => h ⟨h2, h3⟩)
    exact tL_2.ro hPX hI hN hKc hB (ro_X0_agree_b l D dB dZ H a C X N K B M hPX hI.1 hI.2.1 w hbad) (fun H1 hP1 => ro_X1_agree_b l D dB dZ H1 b hs hP1 w hbad) rfl (by decide)
theorem t2_together (hPX : va_P D vwCl (wX a dB C X N K B M) H) (hI : tI C X hs) (hN : ∀ j, N j < 128) (hKc : ∀ j, K j ≤ 13) (hB : ∀ j, B j ≤ 7) : tL_2 l D dB dZ a b hs H yX0_together cX0_together 2 yX1_together cX1_together 3 (some .boolean) [] :=
  tL_2.ro hPX hI hN hKc hB (ro_X0_together l D dB dZ H a C X N K B M hPX hI.1 hI.2.1) (fun H1 hP1 => ro_X1_together l D dB dZ H1 b hs hP1) (by rw [tI_tog hI]) (by decide)
theorem t2_common (hPX : va_P D vwCl (wX a dB C X N K B M) H) (hI : tI C X hs) (hN : ∀ j, N j < 128) (hKc : ∀ j, K j ≤ 13) (hB : ∀ j, B j ≤ 7) : tL_2 l D dB dZ a b hs H yX0_common cX0_common 3 yX1_common cX1_common 3 (some .int) [] :=
  tL_2.ro hPX hI hN hKc hB (ro_X0_common l D dB dZ H a C X N K B M hPX hI.1 hI.2.1) (fun H1 hP1 => ro_X1_common l D dB dZ H1 b hs hP1) (by rw [tI_common hI]) (by decide)
theorem t2_depth (hPX : va_P D vwCl (wX a dB C X N K B M) H) (hI : tI C X hs) (hN : ∀ j, N j < 128) (hKc : ∀ j, K j ≤ 13) (hB : ∀ j, B j ≤ 7) (t x : Int32) : tL_2 l D dB dZ a b hs H yX0_depth cX0_depth 5 yX1_depth cX1_depth 5 (some .int) [.int t, .int x] := by
  by_cases h : tx_isT t = true ∧ tx_isM x = true
  · obtain ⟨k, hk, rfl⟩ := tx_isT_of h.1
    obtain ⟨j, hj, rfl⟩ := tx_isM_of h.2
    exact tL_2.ro hPX hI hN hKc hB (ro_X0_depth l D dB dZ H a C X N K B M hPX hI.1 hI.2.1 k hk j hj) (fun H1 hP1 => ro_X1_depth l D dB dZ H1 b hs hP1 k hk j hj) (by rw [tI_depth hI hk hj]) (by decide)
  · have hbad : tx_isT t = true → tx_isM x = false := fun h1 => tL_isMF (fun h2 => h ⟨h1, h2⟩)
    exact tL_2.ro hPX hI hN hKc hB (ro_X0_depth_b l D dB dZ H a C X N K B M hPX hI.1 hI.2.1 t x hbad) (fun H1 hP1 => ro_X1_depth_b l D dB dZ H1 b hs hP1 t x hbad) rfl (by decide)
theorem t2_room (hPX : va_P D vwCl (wX a dB C X N K B M) H) (hI : tI C X hs) (hN : ∀ j, N j < 128) (hKc : ∀ j, K j ≤ 13) (hB : ∀ j, B j ≤ 7) (t : Int32) : tL_2 l D dB dZ a b hs H yX0_room cX0_room 4 yX1_room cX1_room 4 (some .int) [.int t] := by
  by_cases h : tx_isT t = true
  · obtain ⟨k, hk, rfl⟩ := tx_isT_of h
    exact tL_2.ro hPX hI hN hKc hB (ro_X0_room l D dB dZ H a C X N K B M hPX hI.1 hI.2.1 k hk) (fun H1 hP1 => ro_X1_room l D dB dZ H1 b hs hP1 k hk) (by rw [tI_rooms hI hk]) (by decide)
  · exact tL_2.ro hPX hI hN hKc hB (ro_X0_room_b l D dB dZ H a C X N K B M hPX hI.1 hI.2.1 t (tL_isF h)) (fun H1 hP1 => ro_X1_room_b l D dB dZ H1 b hs hP1 t (tL_isF h)) rfl (by decide)
theorem t2_add (hPX : va_P D vwCl (wX a dB C X N K B M) H) (hI : tI C X hs) (hN : ∀ j, N j < 128) (hKc : ∀ j, K j ≤ 13) (hB : ∀ j, B j ≤ 7) (hap : tcAp a 7) (hbp : tcAp b 2) (t g : Int32) : tL_2 l D dB dZ a b hs H yX0_add cX0_add 3 yX1_add cX1_add 3 (some .boolean) [.int t, .int g] := by
  by_cases h : tx_isT t = true ∧ ¬ g < nI 1 ∧ ¬ nI 127 < g
  · obtain ⟨k, hk, rfl⟩ := tx_isT_of h.1
    obtain ⟨j, hj0, hj, rfl⟩ := tL_g h.2.1 h.2.2
    have hfit := tI_fits hI hk hj
    cases hcan : tx_can C X k j with
    | false =>
      rw [hcan] at hfit
      exact tL_2.ro hPX hI hN hKc hB (ro_X0_add_n l D dB dZ H a C X N K B M hPX hI.1 hI.2.1 k hk j hj0 hj hcan) (fun H1 hP1 => ro_X1_add_n l D dB dZ H1 b hs hP1 k hk j hj0 hj hfit) rfl (by decide)
    | true =>
      rw [hcan] at hfit
      cases hhas : tx_has C X k j with
      | true =>
        exact ⟨3, 64, 2, 46, Unit, Unit, fun v _ => v = tB true, fun _ => wX a dB C X N K B M, fun v _ => v = nI 1, fun _ => wM b dZ (tc_updB hs (128 * k + j) true), by decide, tL_ofRo (ro_X0_add_h l D dB dZ H a C X N K B M hPX hI.1 hI.2.1 k hk j hj0 hj hcan hhas) hPX, fun H1 hP1 => mu_X1_add l D dB dZ H1 b hs hP1 hbp k hk j hj0 hj hfit, fun _ k x h => tc_wX k x h, fun v _ v' _ e e' => ⟨by rw [e, e']; rfl, fun H p1 p2 => ⟨C, X, N, K, B, M, _, p1, p2, tI_addh hI hk hj0 hj hhas, hN, hKc, hB⟩⟩⟩
      | false =>
        exact ⟨3, 64, 2, 46, Unit, Unit, fun v _ => v = nI 1, fun _ => wX a dB (tc_upd C k (C k + 1)) (tc_upd X (k * 5 + C k) j) N K B M, fun v _ => v = nI 1, fun _ => wM b dZ (tc_updB hs (128 * k + j) true), by decide, mu_X0_add l D dB dZ H a C X N K B M hPX hI.1 hI.2.1 hap k hk j hj0 hj hcan hhas (tI_room hI hk hj0 hj hcan hhas), fun H1 hP1 => mu_X1_add l D dB dZ H1 b hs hP1 hbp k hk j hj0 hj hfit, fun _ k x h => tc_wX k x h, fun v _ v' _ e e' => ⟨by rw [e, e'], fun H p1 p2 => ⟨_, _, N, K, B, M, _, p1, p2, tI_add hI hk hj0 hj hcan hhas, hN, hKc, hB⟩⟩⟩
  · have hbad : tx_isT t = true → ¬ g < nI 1 → nI 127 < g := fun h1 h2 => Classical.byContradiction (fun h3 => h ⟨h1, h2, h3⟩)
    exact tL_2.ro hPX hI hN hKc hB (ro_X0_add_b l D dB dZ H a C X N K B M hPX hI.1 hI.2.1 t g hbad) (fun H1 hP1 => ro_X1_add_b l D dB dZ H1 b hs hP1 t g hbad) rfl (by decide)
theorem t2_remove (hPX : va_P D vwCl (wX a dB C X N K B M) H) (hI : tI C X hs) (hN : ∀ j, N j < 128) (hKc : ∀ j, K j ≤ 13) (hB : ∀ j, B j ≤ 7) (hap : tcAp a 7) (hbp : tcAp b 2) (t g : Int32) : tL_2 l D dB dZ a b hs H yX0_remove cX0_remove 4 yX1_remove cX1_remove 3 (some .boolean) [.int t, .int g] := by
  by_cases ht : tx_isT t = true
  · obtain ⟨k, hk, rfl⟩ := tx_isT_of ht
    by_cases h : ¬ g < nI 1 ∧ ¬ nI 127 < g
    · obtain ⟨j, hj0, hj, rfl⟩ := tL_g h.1 h.2
      have hh := hI.2.2.2.2.2 k j hk hj0 hj
      by_cases hin : ∃ i, i < C k ∧ X (k * 5 + i) = j
      · obtain ⟨i, hi, e, hf⟩ := tL_find1 hI.2.1 hj hin
        have hev := (hI.2.2.1 k i hk hi).2
        rw [e] at hev
        have hgiv : tm_giv j = false := (tb_giv j hj).trans hev
        have hhs : hs (128 * k + j) = true := hh.trans (tx_has_iff.mpr (Or.inr hin))
        exact ⟨1, 23, 2, 44, Unit, Unit, fun v _ => v = nI 1, fun _ => wX a dB (tc_upd C k (C k - 1)) (tc_upd X (k * 5 + i) (X (k * 5 + (C k - 1)))) N K B M, fun v _ => v = nI 1, fun _ => wM b dZ (tc_updB hs (128 * k + j) false), by decide, mu_X0_remove l D dB dZ H a C X N K B M hPX hI.1 hI.2.1 hap k hk (nI j) i hi hf, fun H1 hP1 => mu_X1_remove l D dB dZ H1 b hs hP1 hbp k hk j hj0 hj hgiv hhs, fun _ k x h => tc_wX k x h, fun v _ v' _ e1 e2 => ⟨by rw [e1, e2], fun H p1 p2 => ⟨_, _, N, K, B, M, _, p1, p2, by rw [← e]; exact tI_remove hI hk hi, hN, hKc, hB⟩⟩⟩
      · have hno : tx_find C X k (nI j) = -1 := tL_find0 (fun i hi e => hin ⟨i, hi, by
          have := hI.2.1 (k * 5 + i)
          rw [nI_eq (by omega) (by omega)] at e
          exact e⟩)
        have hno' : tm_giv j = false → hs (128 * k + j) = false := by
          intro hg
          rw [tb_giv j hj] at hg
          rw [hh]
          cases z : tx_has C X k j with
          | false => rfl
          | true =>
            rcases tx_has_iff.mp z with q | q
            · rw [hg] at q
              cases q
            · exact absurd q hin
        exact tL_2.ro hPX hI hN hKc hB (ro_X0_remove_n l D dB dZ H a C X N K B M hPX hI.1 hI.2.1 k hk (nI j) hno) (fun H1 hP1 => ro_X1_remove_n l D dB dZ H1 b hs hP1 k hk j hj0 hj hno') rfl (by decide)
    · have hbad : ¬ g < nI 1 → nI 127 < g := fun h2 => Classical.byContradiction (fun h3 => h ⟨h2, h3⟩)
      have hno : tx_find C X k g = -1 := tL_find0 (fun i hi e => by
        have h1 := hI.2.1 (k * 5 + i)
        have h2 := (hI.2.2.1 k i hk hi).1
        apply h
        rw [← e, nI_ltI (by omega) (by omega), nI_ltI (by omega) (by omega)]
        omega)
      exact tL_2.ro hPX hI hN hKc hB (ro_X0_remove_n l D dB dZ H a C X N K B M hPX hI.1 hI.2.1 k hk g hno) (fun H1 hP1 => ro_X1_remove_b l D dB dZ H1 b hs hP1 (nI k) g (fun _ => hbad)) rfl (by decide)
  · exact tL_2.ro hPX hI hN hKc hB (ro_X0_remove_b l D dB dZ H a C X N K B M hPX hI.1 hI.2.1 t g (tL_isF ht)) (fun H1 hP1 => ro_X1_remove_b l D dB dZ H1 b hs hP1 t g (fun q => absurd q ht)) rfl (by decide)
theorem t2_clear (hPX : va_P D vwCl (wX a dB C X N K B M) H) (hI : tI C X hs) (hN : ∀ j, N j < 128) (hKc : ∀ j, K j ≤ 13) (hB : ∀ j, B j ≤ 7) (hap : tcAp a 7) (hbp : tcAp b 2) (t : Int32) : tL_2 l D dB dZ a b hs H yX0_clear cX0_clear 2 yX1_clear cX1_clear 3 (some .boolean) [.int t] := by
  by_cases h : tx_isT t = true
  · obtain ⟨k, hk, rfl⟩ := tx_isT_of h
    exact ⟨1, 20, 2, 44, Unit, Nat → Bool, fun v _ => v = nI 1, fun _ => wX a dB (tc_upd C k 0) X N K B M, fun v u => v = nI 1 ∧ (∀ g, 1 ≤ g → g < 128 → u (128 * k + g) = tm_giv g) ∧ ∀ j, (∀ g, 1 ≤ g → g < 128 → j ≠ 128 * k + g) → u j = hs j, fun u => wM b dZ u, by decide, mu_X0_clear l D dB dZ H a C X N K B M hPX hI.1 hI.2.1 hap k hk, fun H1 hP1 => mu_X1_clear l D dB dZ H1 b hs hP1 hbp k hk, fun _ k x h => tc_wX k x h, fun v _ v' u e e' => ⟨by rw [e, e'.1], fun H p1 p2 => ⟨_, X, N, K, B, M, u, p1, p2, tI_clear hI hk e'.2.1 e'.2.2, hN, hKc, hB⟩⟩⟩
  · exact tL_2.ro hPX hI hN hKc hB (ro_X0_clear_b l D dB dZ H a C X N K B M hPX hI.1 hI.2.1 t (tL_isF h)) (fun H1 hP1 => ro_X1_clear_b l D dB dZ H1 b hs hP1 t (tL_isF h)) rfl (by decide)
theorem tL_N (hC : ∀ j, C j ≤ 5) (hN : ∀ j, N j < 128) (hKc : ∀ j, K j ≤ 13) : (∀ j, tx_N C X N j < 128) ∧ ∀ j, tx_K C X K j ≤ 13 :=
  ⟨tx_put_lt (tx_put_lt hN (tx_Lo_lt C X 0 7)) (tx_Lo_lt C X 1 7), tc_upd_le (tc_upd_le hKc (tn_len hC 0)) (tn_len hC 1)⟩
theorem t2_sem (hI : tI C X hs) (N K : Nat → Nat) : tn_sem (tm_agree hs) (tx_N C X N (tx_K C X K 0 - 1) &&& tx_N C X N (13 + (tx_K C X K 1 - 1))) = tm_agr hs := tn_whole hI N K
theorem t2_agreement (hPX : va_P D vwCl (wX a dB C X N K B M) H) (hI : tI C X hs) (hN : ∀ j, N j < 128) (hKc : ∀ j, K j ≤ 13) (hB : ∀ j, B j ≤ 7) (hap : tcAp a 7) : tL_2 l D dB dZ a b hs H yX0_agreement cX0_agreement 1 yX1_agreement cX1_agreement 4 (some .int) [] :=
  ⟨5, 126, 4, 99, (Nat → Nat) × (Nat → Nat), Unit, _, fun u => wX a dB C X (tx_N C X N) (tx_K C X K) u.1 u.2, fun v _ => v = nI (tm_agr hs), fun _ => wM b dZ hs, by decide, mu_X0_agreement l D dB dZ H a C X N K B M hPX hI.1 hI.2.1 hap hN hKc hB (tn_len hI.1 0) (tn_len hI.1 1) (tn_len1 C X 0) (tn_len1 C X 1) _ (tn_Sem hI N K), fun H1 hP1 => tL_ofRo (ro_X1_agreement l D dB dZ H1 b hs hP1) hP1, fun _ k x h => tc_wX k x h, fun v u v' _ e e' => ⟨by rw [e.1, e', t2_sem hI N K], fun H p1 p2 => ⟨C, X, _, _, u.1, u.2, hs, p1, p2, hI, (tL_N hI.1 hN hKc).1, (tL_N hI.1 hN hKc).2, e.2⟩⟩⟩
theorem t2_agreeingSet (hPX : va_P D vwCl (wX a dB C X N K B M) H) (hI : tI C X hs) (hN : ∀ j, N j < 128) (hKc : ∀ j, K j ≤ 13) (hB : ∀ j, B j ≤ 7) (hap : tcAp a 7) : tL_2 l D dB dZ a b hs H yX0_agreeingSet cX0_agreeingSet 3 yX1_agreeingSet cX1_agreeingSet 3 (some .int) [] :=
  ⟨5, 126, 5, 122, (Nat → Nat) × (Nat → Nat), Unit, _, fun u => wX a dB C X (tx_N C X N) (tx_K C X K) u.1 u.2, fun v _ => v = nI (tm_aset hs), fun _ => wM b dZ hs, by decide, mu_X0_agreeingSet l D dB dZ H a C X N K B M hPX hI.1 hI.2.1 hap hN hKc hB (tn_len hI.1 0) (tn_len hI.1 1) (tn_len1 C X 0) (tn_len1 C X 1) _ (tn_Sem hI N K), fun H1 hP1 => tL_ofRo (ro_X1_agreeingSet l D dB dZ H1 b hs hP1) hP1, fun _ k x h => tc_wX k x h, fun v u v' _ e e' => ⟨by rw [e.1, e', t2_sem hI N K, tn_aset hI], fun H p1 p2 => ⟨C, X, _, _, u.1, u.2, hs, p1, p2, hI, (tL_N hI.1 hN hKc).1, (tL_N hI.1 hN hKc).2, e.2⟩⟩⟩
end TWO
end
section
/-! THE LAW: its sixteen cases -/
set_option maxHeartbeats 4000000 in
set_option maxRecDepth 100000 in
/-- the case add -/
theorem lo_add {p : Program} {e : Env} {s : State} {m : MethodId} {below : List Frame} {meth : Method} {c : Code} (l : Launch) {bb L : Nat} {xs : Nat → Int32} (hL : L ≤ 320) (C0 : lw_At p s m meth c bb L xs) {D : va_G} {dB dZ : ClassId} (hK : tcK D dB dZ s) {a b : Nat → Nat} (hok : tL_ok a b (fun q : Nat => s.heap.size ≤ q)) {i : Nat} (hi : i + 5 ≤ L) {H : Heap} {locs : List Loc} {hs : Nat → Bool} {C X N K B M : Nat → Nat} (hPX : va_P D vwCl (wX a dB C X N K B M) H) (hPM : va_P D vwCl (wM b dZ hs) H) (hS : va_S (fun q : Nat => s.heap.size ≤ q) s.heap H locs) (h2 : tL_2 l D dB dZ a b hs H yX0_add cX0_add 3 yX1_add cX1_add 3 (some .boolean) [.int (xs (i + 1)), .int (xs (i + 2))]) {ls : Array Slot} (hl : lv_has ls 4 [(0, .ref bb), (1, .ref (a 0)), (2, .ref (b 0)), (3, .int (nI i))])
    (kk : ∀ (H : Heap) (locs : List Loc) (ls : Array Slot), tL_I D dB dZ a b H → va_S (fun q : Nat => s.heap.size ≤ q) s.heap H locs → lv_has ls 4 [(0, .ref bb), (1, .ref (a 0)), (2, .ref (b 0)), (3, .int (nI i))] → W p l e room_1 s m #[Value.ref bb] below meth c H locs 600000 7290000 (lw_Z below #[Value.ref bb] s) (F0 m 490 ls [])) : W p l e room_1 s m #[Value.ref bb] below meth c H locs 600000 7290000 (lw_Z below #[Value.ref bb] s) (F0 m 112 ls []) := by
  obtain ⟨hx, hb, hr, hml, hown, hts0, hX, hbl, hlocks, hgv⟩ := C0
  have hts : ∀ w ∈ lw_all, w.before #[Value.ref bb] s = true := fun w h => hts0 w (lw_all_tbl h)
  have hbA : ¬ (fun q : Nat => s.heap.size ≤ q) bb := Nat.not_le.mpr hbl
  obtain ⟨f, n, f', n', S, S', post, w, post', w', ⟨hf1, hf2, hf3, hf4⟩, hM1, hM2, hw, fin⟩ := h2
  refine lv_aload_n hx hb dL_law_112 rfl (lv_at hl 1 rfl) ?_
  refine lv_aload_n hx hb dL_law_113 rfl (lv_at hl 0 rfl) ?_
  refine lv_iload_n hx hb dL_law_114 rfl (lv_at hl 3 rfl) ?_
  refine lv_iconst (v := nI 1) hx hb dL_law_115 (by decide) ?_
  refine tc_iadd hx hb dL_law_116 ?_
  refine va_sld hx hb hX hbl hbA hS (vp_in_nI (by omega) (by omega)) dL_law_117 ?_
  refine tc_top (congrArg xs (nI_clamp (by omega))) ?_
  refine lv_aload_n hx hb dL_law_118 rfl (lv_at hl 0 rfl) ?_
  refine lv_iload_n hx hb dL_law_119 rfl (lv_at hl 3 rfl) ?_
  refine lv_iconst (v := nI 2) hx hb dL_law_120 (by decide) ?_
  refine tc_iadd hx hb dL_law_121 ?_
  refine va_sld hx hb hX hbl hbA hS (vp_in_nI (by omega) (by omega)) dL_law_122 ?_
  refine tc_top (congrArg xs (nI_clamp (by omega))) ?_
  refine mu_callV (As := [.int (xs (i + 1)), .int (xs (i + 2))]) (rest := []) ⟨hx, hb, hml, hown, hts⟩ hK hM1 (cwV 2 hts (lw_V q51 q52 q53 q21 q54) rfl rfl rfl (by decide +kernel) ⟨hf1, by show 8 + (3 + 11) + n ≤ 296; omega⟩) (va_recv hK hPX (ci := 0) (q0 := 0) rfl rfl) rfl hl.1 rfl (Nat.le_of_ble_eq_true rfl) dL_law_123 ⟨Nat.le_refl _, Nat.le_refl _⟩ hS (tL_A7 hok) (fun r1 u1 H1 locs1 hp1 hPX1 _ hk1 hS => ?_)
  have hPM1 := tL_keepM hok hPM hk1
  refine lv_aload_n hx hb dL_law_126 rfl (lv_at hl 2 rfl) ?_
  refine lv_aload_n hx hb dL_law_127 rfl (lv_at hl 0 rfl) ?_
  refine lv_iload_n hx hb dL_law_128 rfl (lv_at hl 3 rfl) ?_
  refine lv_iconst (v := nI 1) hx hb dL_law_129 (by decide) ?_
  refine tc_iadd hx hb dL_law_130 ?_
  refine va_sld hx hb hX hbl hbA hS (vp_in_nI (by omega) (by omega)) dL_law_131 ?_
  refine tc_top (congrArg xs (nI_clamp (by omega))) ?_
  refine lv_aload_n hx hb dL_law_132 rfl (lv_at hl 0 rfl) ?_
  refine lv_iload_n hx hb dL_law_133 rfl (lv_at hl 3 rfl) ?_
  refine lv_iconst (v := nI 2) hx hb dL_law_134 (by decide) ?_
  refine tc_iadd hx hb dL_law_135 ?_
  refine va_sld hx hb hX hbl hbA hS (vp_in_nI (by omega) (by omega)) dL_law_136 ?_
  refine tc_top (congrArg xs (nI_clamp (by omega))) ?_
  refine mu_callV (As := [.int (xs (i + 1)), .int (xs (i + 2))]) (rest := [.int r1]) ⟨hx, hb, hml, hown, hts⟩ hK (hM2 H1 hPM1) (cwV 2 hts (lw_V q206 q207 q208 q22 q209) rfl rfl rfl (by decide +kernel) ⟨hf3, by show 8 + (3 + 11) + n' ≤ 296; omega⟩) (va_recv hK hPM1 (ci := 1) (q0 := 0) rfl rfl) rfl hl.1 rfl (Nat.le_of_ble_eq_true rfl) dL_law_137 ⟨Nat.le_refl _, Nat.le_refl _⟩ hS (tL_A2 hok) (fun r2 u2 H2 locs2 hp2 hPM2 _ hk2 hS => ?_)
  have hPX2 := tL_keepX hok (hw u1) hPX1 hk2
  obtain ⟨hr12, hI2⟩ := fin r1 u1 r2 u2 hp1 hp2
  refine lv_icmp_eq (tgt := 490) hx hb dL_law_140 (by decide) (fun _ => ?_) (fun c_ => absurd hr12 c_)
  exact kk H2 locs2 ls (hI2 H2 hPX2 hPM2) hS hl
set_option maxHeartbeats 4000000 in
set_option maxRecDepth 100000 in
/-- the case remove -/
theorem lo_remove {p : Program} {e : Env} {s : State} {m : MethodId} {below : List Frame} {meth : Method} {c : Code} (l : Launch) {bb L : Nat} {xs : Nat → Int32} (hL : L ≤ 320) (C0 : lw_At p s m meth c bb L xs) {D : va_G} {dB dZ : ClassId} (hK : tcK D dB dZ s) {a b : Nat → Nat} (hok : tL_ok a b (fun q : Nat => s.heap.size ≤ q)) {i : Nat} (hi : i + 5 ≤ L) {H : Heap} {locs : List Loc} {hs : Nat → Bool} {C X N K B M : Nat → Nat} (hPX : va_P D vwCl (wX a dB C X N K B M) H) (hPM : va_P D vwCl (wM b dZ hs) H) (hS : va_S (fun q : Nat => s.heap.size ≤ q) s.heap H locs) (h2 : tL_2 l D dB dZ a b hs H yX0_remove cX0_remove 4 yX1_remove cX1_remove 3 (some .boolean) [.int (xs (i + 1)), .int (xs (i + 2))]) {ls : Array Slot} (hl : lv_has ls 4 [(0, .ref bb), (1, .ref (a 0)), (2, .ref (b 0)), (3, .int (nI i))])
    (kk : ∀ (H : Heap) (locs : List Loc) (ls : Array Slot), tL_I D dB dZ a b H → va_S (fun q : Nat => s.heap.size ≤ q) s.heap H locs → lv_has ls 4 [(0, .ref bb), (1, .ref (a 0)), (2, .ref (b 0)), (3, .int (nI i))] → W p l e room_1 s m #[Value.ref bb] below meth c H locs 600000 7290000 (lw_Z below #[Value.ref bb] s) (F0 m 490 ls [])) : W p l e room_1 s m #[Value.ref bb] below meth c H locs 600000 7290000 (lw_Z below #[Value.ref bb] s) (F0 m 145 ls []) := by
  obtain ⟨hx, hb, hr, hml, hown, hts0, hX, hbl, hlocks, hgv⟩ := C0
  have hts : ∀ w ∈ lw_all, w.before #[Value.ref bb] s = true := fun w h => hts0 w (lw_all_tbl h)
  have hbA : ¬ (fun q : Nat => s.heap.size ≤ q) bb := Nat.not_le.mpr hbl
  obtain ⟨f, n, f', n', S, S', post, w, post', w', ⟨hf1, hf2, hf3, hf4⟩, hM1, hM2, hw, fin⟩ := h2
  refine lv_aload_n hx hb dL_law_145 rfl (lv_at hl 1 rfl) ?_
  refine lv_aload_n hx hb dL_law_146 rfl (lv_at hl 0 rfl) ?_
  refine lv_iload_n hx hb dL_law_147 rfl (lv_at hl 3 rfl) ?_
  refine lv_iconst (v := nI 1) hx hb dL_law_148 (by decide) ?_
  refine tc_iadd hx hb dL_law_149 ?_
  refine va_sld hx hb hX hbl hbA hS (vp_in_nI (by omega) (by omega)) dL_law_150 ?_
  refine tc_top (congrArg xs (nI_clamp (by omega))) ?_
  refine lv_aload_n hx hb dL_law_151 rfl (lv_at hl 0 rfl) ?_
  refine lv_iload_n hx hb dL_law_152 rfl (lv_at hl 3 rfl) ?_
  refine lv_iconst (v := nI 2) hx hb dL_law_153 (by decide) ?_
  refine tc_iadd hx hb dL_law_154 ?_
  refine va_sld hx hb hX hbl hbA hS (vp_in_nI (by omega) (by omega)) dL_law_155 ?_
  refine tc_top (congrArg xs (nI_clamp (by omega))) ?_
  refine mu_callV (As := [.int (xs (i + 1)), .int (xs (i + 2))]) (rest := []) ⟨hx, hb, hml, hown, hts⟩ hK hM1 (cwV 2 hts (lw_V q79 q80 q81 q21 q82) rfl rfl rfl (by decide +kernel) ⟨hf1, by show 8 + (4 + 11) + n ≤ 296; omega⟩) (va_recv hK hPX (ci := 0) (q0 := 0) rfl rfl) rfl hl.1 rfl (Nat.le_of_ble_eq_true rfl) dL_law_156 ⟨Nat.le_refl _, Nat.le_refl _⟩ hS (tL_A7 hok) (fun r1 u1 H1 locs1 hp1 hPX1 _ hk1 hS => ?_)
  have hPM1 := tL_keepM hok hPM hk1
  refine lv_aload_n hx hb dL_law_159 rfl (lv_at hl 2 rfl) ?_
  refine lv_aload_n hx hb dL_law_160 rfl (lv_at hl 0 rfl) ?_
  refine lv_iload_n hx hb dL_law_161 rfl (lv_at hl 3 rfl) ?_
  refine lv_iconst (v := nI 1) hx hb dL_law_162 (by decide) ?_
  refine tc_iadd hx hb dL_law_163 ?_
  refine va_sld hx hb hX hbl hbA hS (vp_in_nI (by omega) (by omega)) dL_law_164 ?_
  refine tc_top (congrArg xs (nI_clamp (by omega))) ?_
  refine lv_aload_n hx hb dL_law_165 rfl (lv_at hl 0 rfl) ?_
  refine lv_iload_n hx hb dL_law_166 rfl (lv_at hl 3 rfl) ?_
  refine lv_iconst (v := nI 2) hx hb dL_law_167 (by decide) ?_
  refine tc_iadd hx hb dL_law_168 ?_
  refine va_sld hx hb hX hbl hbA hS (vp_in_nI (by omega) (by omega)) dL_law_169 ?_
  refine tc_top (congrArg xs (nI_clamp (by omega))) ?_
  refine mu_callV (As := [.int (xs (i + 1)), .int (xs (i + 2))]) (rest := [.int r1]) ⟨hx, hb, hml, hown, hts⟩ hK (hM2 H1 hPM1) (cwV 2 hts (lw_V q218 q219 q220 q22 q221) rfl rfl rfl (by decide +kernel) ⟨hf3, by show 8 + (3 + 11) + n' ≤ 296; omega⟩) (va_recv hK hPM1 (ci := 1) (q0 := 0) rfl rfl) rfl hl.1 rfl (Nat.le_of_ble_eq_true rfl) dL_law_170 ⟨Nat.le_refl _, Nat.le_refl _⟩ hS (tL_A2 hok) (fun r2 u2 H2 locs2 hp2 hPM2 _ hk2 hS => ?_)
  have hPX2 := tL_keepX hok (hw u1) hPX1 hk2
  obtain ⟨hr12, hI2⟩ := fin r1 u1 r2 u2 hp1 hp2
  refine lv_icmp_eq (tgt := 490) hx hb dL_law_173 (by decide) (fun _ => ?_) (fun c_ => absurd hr12 c_)
  exact kk H2 locs2 ls (hI2 H2 hPX2 hPM2) hS hl
set_option maxHeartbeats 4000000 in
set_option maxRecDepth 100000 in
/-- the case clear -/
theorem lo_clear {p : Program} {e : Env} {s : State} {m : MethodId} {below : List Frame} {meth : Method} {c : Code} (l : Launch) {bb L : Nat} {xs : Nat → Int32} (hL : L ≤ 320) (C0 : lw_At p s m meth c bb L xs) {D : va_G} {dB dZ : ClassId} (hK : tcK D dB dZ s) {a b : Nat → Nat} (hok : tL_ok a b (fun q : Nat => s.heap.size ≤ q)) {i : Nat} (hi : i + 5 ≤ L) {H : Heap} {locs : List Loc} {hs : Nat → Bool} {C X N K B M : Nat → Nat} (hPX : va_P D vwCl (wX a dB C X N K B M) H) (hPM : va_P D vwCl (wM b dZ hs) H) (hS : va_S (fun q : Nat => s.heap.size ≤ q) s.heap H locs) (h2 : tL_2 l D dB dZ a b hs H yX0_clear cX0_clear 2 yX1_clear cX1_clear 3 (some .boolean) [.int (xs (i + 1))]) {ls : Array Slot} (hl : lv_has ls 4 [(0, .ref bb), (1, .ref (a 0)), (2, .ref (b 0)), (3, .int (nI i))])
    (kk : ∀ (H : Heap) (locs : List Loc) (ls : Array Slot), tL_I D dB dZ a b H → va_S (fun q : Nat => s.heap.size ≤ q) s.heap H locs → lv_has ls 4 [(0, .ref bb), (1, .ref (a 0)), (2, .ref (b 0)), (3, .int (nI i))] → W p l e room_1 s m #[Value.ref bb] below meth c H locs 600000 7290000 (lw_Z below #[Value.ref bb] s) (F0 m 490 ls [])) : W p l e room_1 s m #[Value.ref bb] below meth c H locs 600000 7290000 (lw_Z below #[Value.ref bb] s) (F0 m 178 ls []) := by
  obtain ⟨hx, hb, hr, hml, hown, hts0, hX, hbl, hlocks, hgv⟩ := C0
  have hts : ∀ w ∈ lw_all, w.before #[Value.ref bb] s = true := fun w h => hts0 w (lw_all_tbl h)
  have hbA : ¬ (fun q : Nat => s.heap.size ≤ q) bb := Nat.not_le.mpr hbl
  obtain ⟨f, n, f', n', S, S', post, w, post', w', ⟨hf1, hf2, hf3, hf4⟩, hM1, hM2, hw, fin⟩ := h2
  refine lv_aload_n hx hb dL_law_178 rfl (lv_at hl 1 rfl) ?_
  refine lv_aload_n hx hb dL_law_179 rfl (lv_at hl 0 rfl) ?_
  refine lv_iload_n hx hb dL_law_180 rfl (lv_at hl 3 rfl) ?_
  refine lv_iconst (v := nI 1) hx hb dL_law_181 (by decide) ?_
  refine tc_iadd hx hb dL_law_182 ?_
  refine va_sld hx hb hX hbl hbA hS (vp_in_nI (by omega) (by omega)) dL_law_183 ?_
  refine tc_top (congrArg xs (nI_clamp (by omega))) ?_
  refine mu_callV (As := [.int (xs (i + 1))]) (rest := []) ⟨hx, hb, hml, hown, hts⟩ hK hM1 (cwV 1 hts (lw_V q83 q84 q85 q21 q86) rfl rfl rfl (by decide +kernel) ⟨hf1, by show 8 + (2 + 11) + n ≤ 296; omega⟩) (va_recv hK hPX (ci := 0) (q0 := 0) rfl rfl) rfl hl.1 rfl (Nat.le_of_ble_eq_true rfl) dL_law_184 ⟨Nat.le_refl _, Nat.le_refl _⟩ hS (tL_A7 hok) (fun r1 u1 H1 locs1 hp1 hPX1 _ hk1 hS => ?_)
  have hPM1 := tL_keepM hok hPM hk1
  refine lv_aload_n hx hb dL_law_187 rfl (lv_at hl 2 rfl) ?_
  refine lv_aload_n hx hb dL_law_188 rfl (lv_at hl 0 rfl) ?_
  refine lv_iload_n hx hb dL_law_189 rfl (lv_at hl 3 rfl) ?_
  refine lv_iconst (v := nI 1) hx hb dL_law_190 (by decide) ?_
  refine tc_iadd hx hb dL_law_191 ?_
  refine va_sld hx hb hX hbl hbA hS (vp_in_nI (by omega) (by omega)) dL_law_192 ?_
  refine tc_top (congrArg xs (nI_clamp (by omega))) ?_
  refine mu_callV (As := [.int (xs (i + 1))]) (rest := [.int r1]) ⟨hx, hb, hml, hown, hts⟩ hK (hM2 H1 hPM1) (cwV 1 hts (lw_V q222 q186 q187 q22 q188) rfl rfl rfl (by decide +kernel) ⟨hf3, by show 8 + (3 + 11) + n' ≤ 296; omega⟩) (va_recv hK hPM1 (ci := 1) (q0 := 0) rfl rfl) rfl hl.1 rfl (Nat.le_of_ble_eq_true rfl) dL_law_193 ⟨Nat.le_refl _, Nat.le_refl _⟩ hS (tL_A2 hok) (fun r2 u2 H2 locs2 hp2 hPM2 _ hk2 hS => ?_)
  have hPX2 := tL_keepX hok (hw u1) hPX1 hk2
  obtain ⟨hr12, hI2⟩ := fin r1 u1 r2 u2 hp1 hp2
  refine lv_icmp_eq (tgt := 490) hx hb dL_law_196 (by decide) (fun _ => ?_) (fun c_ => absurd hr12 c_)
  exact kk H2 locs2 ls (hI2 H2 hPX2 hPM2) hS hl
set_option maxHeartbeats 4000000 in
set_option maxRecDepth 100000 in
/-- the case groups -/
theorem lo_groups {p : Program} {e : Env} {s : State} {m : MethodId} {below : List Frame} {meth : Method} {c : Code} (l : Launch) {bb L : Nat} {xs : Nat → Int32} (hL : L ≤ 320) (C0 : lw_At p s m meth c bb L xs) {D : va_G} {dB dZ : ClassId} (hK : tcK D dB dZ s) {a b : Nat → Nat} (hok : tL_ok a b (fun q : Nat => s.heap.size ≤ q)) {i : Nat} (hi : i + 5 ≤ L) {H : Heap} {locs : List Loc} {hs : Nat → Bool} {C X N K B M : Nat → Nat} (hPX : va_P D vwCl (wX a dB C X N K B M) H) (hPM : va_P D vwCl (wM b dZ hs) H) (hS : va_S (fun q : Nat => s.heap.size ≤ q) s.heap H locs) (h2 : tL_2 l D dB dZ a b hs H yX0_groups cX0_groups 2 yX1_groups cX1_groups 4 (some .int) [.int (xs (i + 1))]) {ls : Array Slot} (hl : lv_has ls 4 [(0, .ref bb), (1, .ref (a 0)), (2, .ref (b 0)), (3, .int (nI i))])
    (kk : ∀ (H : Heap) (locs : List Loc) (ls : Array Slot), tL_I D dB dZ a b H → va_S (fun q : Nat => s.heap.size ≤ q) s.heap H locs → lv_has ls 4 [(0, .ref bb), (1, .ref (a 0)), (2, .ref (b 0)), (3, .int (nI i))] → W p l e room_1 s m #[Value.ref bb] below meth c H locs 600000 7290000 (lw_Z below #[Value.ref bb] s) (F0 m 490 ls [])) : W p l e room_1 s m #[Value.ref bb] below meth c H locs 600000 7290000 (lw_Z below #[Value.ref bb] s) (F0 m 201 ls []) := by
  obtain ⟨hx, hb, hr, hml, hown, hts0, hX, hbl, hlocks, hgv⟩ := C0
  have hts : ∀ w ∈ lw_all, w.before #[Value.ref bb] s = true := fun w h => hts0 w (lw_all_tbl h)
  have hbA : ¬ (fun q : Nat => s.heap.size ≤ q) bb := Nat.not_le.mpr hbl
  obtain ⟨f, n, f', n', S, S', post, w, post', w', ⟨hf1, hf2, hf3, hf4⟩, hM1, hM2, hw, fin⟩ := h2
  refine lv_aload_n hx hb dL_law_201 rfl (lv_at hl 1 rfl) ?_
  refine lv_aload_n hx hb dL_law_202 rfl (lv_at hl 0 rfl) ?_
  refine lv_iload_n hx hb dL_law_203 rfl (lv_at hl 3 rfl) ?_
  refine lv_iconst (v := nI 1) hx hb dL_law_204 (by decide) ?_
  refine tc_iadd hx hb dL_law_205 ?_
  refine va_sld hx hb hX hbl hbA hS (vp_in_nI (by omega) (by omega)) dL_law_206 ?_
  refine tc_top (congrArg xs (nI_clamp (by omega))) ?_
  refine mu_callV (As := [.int (xs (i + 1))]) (rest := []) ⟨hx, hb, hml, hown, hts⟩ hK hM1 (cwV 1 hts (lw_V q87 q88 q89 q21 q90) rfl rfl rfl (by decide +kernel) ⟨hf1, by show 8 + (2 + 11) + n ≤ 296; omega⟩) (va_recv hK hPX (ci := 0) (q0 := 0) rfl rfl) rfl hl.1 rfl (Nat.le_of_ble_eq_true rfl) dL_law_207 ⟨Nat.le_refl _, Nat.le_refl _⟩ hS (tL_A7 hok) (fun r1 u1 H1 locs1 hp1 hPX1 _ hk1 hS => ?_)
  have hPM1 := tL_keepM hok hPM hk1
  refine lv_aload_n hx hb dL_law_210 rfl (lv_at hl 2 rfl) ?_
  refine lv_aload_n hx hb dL_law_211 rfl (lv_at hl 0 rfl) ?_
  refine lv_iload_n hx hb dL_law_212 rfl (lv_at hl 3 rfl) ?_
  refine lv_iconst (v := nI 1) hx hb dL_law_213 (by decide) ?_
  refine tc_iadd hx hb dL_law_214 ?_
  refine va_sld hx hb hX hbl hbA hS (vp_in_nI (by omega) (by omega)) dL_law_215 ?_
  refine tc_top (congrArg xs (nI_clamp (by omega))) ?_
  refine mu_callV (As := [.int (xs (i + 1))]) (rest := [.int r1]) ⟨hx, hb, hml, hown, hts⟩ hK (hM2 H1 hPM1) (cwV 1 hts (lw_V q223 q224 q225 q22 q226) rfl rfl rfl (by decide +kernel) ⟨hf3, by show 8 + (4 + 11) + n' ≤ 296; omega⟩) (va_recv hK hPM1 (ci := 1) (q0 := 0) rfl rfl) rfl hl.1 rfl (Nat.le_of_ble_eq_true rfl) dL_law_216 ⟨Nat.le_refl _, Nat.le_refl _⟩ hS (tL_A2 hok) (fun r2 u2 H2 locs2 hp2 hPM2 _ hk2 hS => ?_)
  have hPX2 := tL_keepX hok (hw u1) hPX1 hk2
  obtain ⟨hr12, hI2⟩ := fin r1 u1 r2 u2 hp1 hp2
  refine lv_icmp_eq (tgt := 490) hx hb dL_law_219 (by decide) (fun _ => ?_) (fun c_ => absurd hr12 c_)
  exact kk H2 locs2 ls (hI2 H2 hPX2 hPM2) hS hl
set_option maxHeartbeats 4000000 in
set_option maxRecDepth 100000 in
/-- the case join -/
theorem lo_join {p : Program} {e : Env} {s : State} {m : MethodId} {below : List Frame} {meth : Method} {c : Code} (l : Launch) {bb L : Nat} {xs : Nat → Int32} (hL : L ≤ 320) (C0 : lw_At p s m meth c bb L xs) {D : va_G} {dB dZ : ClassId} (hK : tcK D dB dZ s) {a b : Nat → Nat} (hok : tL_ok a b (fun q : Nat => s.heap.size ≤ q)) {i : Nat} (hi : i + 5 ≤ L) {H : Heap} {locs : List Loc} {hs : Nat → Bool} {C X N K B M : Nat → Nat} (hPX : va_P D vwCl (wX a dB C X N K B M) H) (hPM : va_P D vwCl (wM b dZ hs) H) (hS : va_S (fun q : Nat => s.heap.size ≤ q) s.heap H locs) (h2 : tL_2 l D dB dZ a b hs H yX0_join cX0_join 3 yX1_join cX1_join 5 (some .int) [.int (xs (i + 1)), .int (xs (i + 2))]) {ls : Array Slot} (hl : lv_has ls 4 [(0, .ref bb), (1, .ref (a 0)), (2, .ref (b 0)), (3, .int (nI i))])
    (kk : ∀ (H : Heap) (locs : List Loc) (ls : Array Slot), tL_I D dB dZ a b H → va_S (fun q : Nat => s.heap.size ≤ q) s.heap H locs → lv_has ls 4 [(0, .ref bb), (1, .ref (a 0)), (2, .ref (b 0)), (3, .int (nI i))] → W p l e room_1 s m #[Value.ref bb] below meth c H locs 600000 7290000 (lw_Z below #[Value.ref bb] s) (F0 m 490 ls [])) : W p l e room_1 s m #[Value.ref bb] below meth c H locs 600000 7290000 (lw_Z below #[Value.ref bb] s) (F0 m 224 ls []) := by
  obtain ⟨hx, hb, hr, hml, hown, hts0, hX, hbl, hlocks, hgv⟩ := C0
  have hts : ∀ w ∈ lw_all, w.before #[Value.ref bb] s = true := fun w h => hts0 w (lw_all_tbl h)
  have hbA : ¬ (fun q : Nat => s.heap.size ≤ q) bb := Nat.not_le.mpr hbl
  obtain ⟨f, n, f', n', S, S', post, w, post', w', ⟨hf1, hf2, hf3, hf4⟩, hM1, hM2, hw, fin⟩ := h2
  refine lv_aload_n hx hb dL_law_224 rfl (lv_at hl 1 rfl) ?_
  refine lv_aload_n hx hb dL_law_225 rfl (lv_at hl 0 rfl) ?_
  refine lv_iload_n hx hb dL_law_226 rfl (lv_at hl 3 rfl) ?_
  refine lv_iconst (v := nI 1) hx hb dL_law_227 (by decide) ?_
  refine tc_iadd hx hb dL_law_228 ?_
  refine va_sld hx hb hX hbl hbA hS (vp_in_nI (by omega) (by omega)) dL_law_229 ?_
  refine tc_top (congrArg xs (nI_clamp (by omega))) ?_
  refine lv_aload_n hx hb dL_law_230 rfl (lv_at hl 0 rfl) ?_
  refine lv_iload_n hx hb dL_law_231 rfl (lv_at hl 3 rfl) ?_
  refine lv_iconst (v := nI 2) hx hb dL_law_232 (by decide) ?_
  refine tc_iadd hx hb dL_law_233 ?_
  refine va_sld hx hb hX hbl hbA hS (vp_in_nI (by omega) (by omega)) dL_law_234 ?_
  refine tc_top (congrArg xs (nI_clamp (by omega))) ?_
  refine mu_callV (As := [.int (xs (i + 1)), .int (xs (i + 2))]) (rest := []) ⟨hx, hb, hml, hown, hts⟩ hK hM1 (cwV 2 hts (lw_V q91 q92 q93 q21 q94) rfl rfl rfl (by decide +kernel) ⟨hf1, by show 8 + (3 + 11) + n ≤ 296; omega⟩) (va_recv hK hPX (ci := 0) (q0 := 0) rfl rfl) rfl hl.1 rfl (Nat.le_of_ble_eq_true rfl) dL_law_235 ⟨Nat.le_refl _, Nat.le_refl _⟩ hS (tL_A7 hok) (fun r1 u1 H1 locs1 hp1 hPX1 _ hk1 hS => ?_)
  have hPM1 := tL_keepM hok hPM hk1
  refine lv_aload_n hx hb dL_law_238 rfl (lv_at hl 2 rfl) ?_
  refine lv_aload_n hx hb dL_law_239 rfl (lv_at hl 0 rfl) ?_
  refine lv_iload_n hx hb dL_law_240 rfl (lv_at hl 3 rfl) ?_
  refine lv_iconst (v := nI 1) hx hb dL_law_241 (by decide) ?_
  refine tc_iadd hx hb dL_law_242 ?_
  refine va_sld hx hb hX hbl hbA hS (vp_in_nI (by omega) (by omega)) dL_law_243 ?_
  refine tc_top (congrArg xs (nI_clamp (by omega))) ?_
  refine lv_aload_n hx hb dL_law_244 rfl (lv_at hl 0 rfl) ?_
  refine lv_iload_n hx hb dL_law_245 rfl (lv_at hl 3 rfl) ?_
  refine lv_iconst (v := nI 2) hx hb dL_law_246 (by decide) ?_
  refine tc_iadd hx hb dL_law_247 ?_
  refine va_sld hx hb hX hbl hbA hS (vp_in_nI (by omega) (by omega)) dL_law_248 ?_
  refine tc_top (congrArg xs (nI_clamp (by omega))) ?_
  refine mu_callV (As := [.int (xs (i + 1)), .int (xs (i + 2))]) (rest := [.int r1]) ⟨hx, hb, hml, hown, hts⟩ hK (hM2 H1 hPM1) (cwV 2 hts (lw_V q227 q228 q229 q22 q230) rfl rfl rfl (by decide +kernel) ⟨hf3, by show 8 + (5 + 11) + n' ≤ 296; omega⟩) (va_recv hK hPM1 (ci := 1) (q0 := 0) rfl rfl) rfl hl.1 rfl (Nat.le_of_ble_eq_true rfl) dL_law_249 ⟨Nat.le_refl _, Nat.le_refl _⟩ hS (tL_A2 hok) (fun r2 u2 H2 locs2 hp2 hPM2 _ hk2 hS => ?_)
  have hPX2 := tL_keepX hok (hw u1) hPX1 hk2
  obtain ⟨hr12, hI2⟩ := fin r1 u1 r2 u2 hp1 hp2
  refine lv_icmp_eq (tgt := 490) hx hb dL_law_252 (by decide) (fun _ => ?_) (fun c_ => absurd hr12 c_)
  exact kk H2 locs2 ls (hI2 H2 hPX2 hPM2) hS hl
set_option maxHeartbeats 4000000 in
set_option maxRecDepth 100000 in
/-- the case says -/
theorem lo_says {p : Program} {e : Env} {s : State} {m : MethodId} {below : List Frame} {meth : Method} {c : Code} (l : Launch) {bb L : Nat} {xs : Nat → Int32} (hL : L ≤ 320) (C0 : lw_At p s m meth c bb L xs) {D : va_G} {dB dZ : ClassId} (hK : tcK D dB dZ s) {a b : Nat → Nat} (hok : tL_ok a b (fun q : Nat => s.heap.size ≤ q)) {i : Nat} (hi : i + 5 ≤ L) {H : Heap} {locs : List Loc} {hs : Nat → Bool} {C X N K B M : Nat → Nat} (hPX : va_P D vwCl (wX a dB C X N K B M) H) (hPM : va_P D vwCl (wM b dZ hs) H) (hS : va_S (fun q : Nat => s.heap.size ≤ q) s.heap H locs) (h2 : tL_2 l D dB dZ a b hs H yX0_says cX0_says 5 yX1_says cX1_says 5 (some .int) [.int (xs (i + 1)), .int (xs (i + 2)), .int (xs (i + 3)), .int (xs (i + 4))]) {ls : Array Slot} (hl : lv_has ls 4 [(0, .ref bb), (1, .ref (a 0)), (2, .ref (b 0)), (3, .int (nI i))])
    (kk : ∀ (H : Heap) (locs : List Loc) (ls : Array Slot), tL_I D dB dZ a b H → va_S (fun q : Nat => s.heap.size ≤ q) s.heap H locs → lv_has ls 4 [(0, .ref bb), (1, .ref (a 0)), (2, .ref (b 0)), (3, .int (nI i))] → W p l e room_1 s m #[Value.ref bb] below meth c H locs 600000 7290000 (lw_Z below #[Value.ref bb] s) (F0 m 490 ls [])) : W p l e room_1 s m #[Value.ref bb] below meth c H locs 600000 7290000 (lw_Z below #[Value.ref bb] s) (F0 m 257 ls []) := by
  obtain ⟨hx, hb, hr, hml, hown, hts0, hX, hbl, hlocks, hgv⟩ := C0
  have hts : ∀ w ∈ lw_all, w.before #[Value.ref bb] s = true := fun w h => hts0 w (lw_all_tbl h)
  have hbA : ¬ (fun q : Nat => s.heap.size ≤ q) bb := Nat.not_le.mpr hbl
  obtain ⟨f, n, f', n', S, S', post, w, post', w', ⟨hf1, hf2, hf3, hf4⟩, hM1, hM2, hw, fin⟩ := h2
  refine lv_aload_n hx hb dL_law_257 rfl (lv_at hl 1 rfl) ?_
  refine lv_aload_n hx hb dL_law_258 rfl (lv_at hl 0 rfl) ?_
  refine lv_iload_n hx hb dL_law_259 rfl (lv_at hl 3 rfl) ?_
  refine lv_iconst (v := nI 1) hx hb dL_law_260 (by decide) ?_
  refine tc_iadd hx hb dL_law_261 ?_
  refine va_sld hx hb hX hbl hbA hS (vp_in_nI (by omega) (by omega)) dL_law_262 ?_
  refine tc_top (congrArg xs (nI_clamp (by omega))) ?_
  refine lv_aload_n hx hb dL_law_263 rfl (lv_at hl 0 rfl) ?_
  refine lv_iload_n hx hb dL_law_264 rfl (lv_at hl 3 rfl) ?_
  refine lv_iconst (v := nI 2) hx hb dL_law_265 (by decide) ?_
  refine tc_iadd hx hb dL_law_266 ?_
  refine va_sld hx hb hX hbl hbA hS (vp_in_nI (by omega) (by omega)) dL_law_267 ?_
  refine tc_top (congrArg xs (nI_clamp (by omega))) ?_
  refine lv_aload_n hx hb dL_law_268 rfl (lv_at hl 0 rfl) ?_
  refine lv_iload_n hx hb dL_law_269 rfl (lv_at hl 3 rfl) ?_
  refine lv_iconst (v := nI 3) hx hb dL_law_270 (by decide) ?_
  refine tc_iadd hx hb dL_law_271 ?_
  refine va_sld hx hb hX hbl hbA hS (vp_in_nI (by omega) (by omega)) dL_law_272 ?_
  refine tc_top (congrArg xs (nI_clamp (by omega))) ?_
  refine lv_aload_n hx hb dL_law_273 rfl (lv_at hl 0 rfl) ?_
  refine lv_iload_n hx hb dL_law_274 rfl (lv_at hl 3 rfl) ?_
  refine lv_iconst (v := nI 4) hx hb dL_law_275 (by decide) ?_
  refine tc_iadd hx hb dL_law_276 ?_
  refine va_sld hx hb hX hbl hbA hS (vp_in_nI (by omega) (by omega)) dL_law_277 ?_
  refine tc_top (congrArg xs (nI_clamp (by omega))) ?_
  refine mu_callV (As := [.int (xs (i + 1)), .int (xs (i + 2)), .int (xs (i + 3)), .int (xs (i + 4))]) (rest := []) ⟨hx, hb, hml, hown, hts⟩ hK hM1 (cwV 4 hts (lw_V q99 q100 q101 q21 q102) rfl rfl rfl (by decide +kernel) ⟨hf1, by show 8 + (5 + 11) + n ≤ 296; omega⟩) (va_recv hK hPX (ci := 0) (q0 := 0) rfl rfl) rfl hl.1 rfl (Nat.le_of_ble_eq_true rfl) dL_law_278 ⟨Nat.le_refl _, Nat.le_refl _⟩ hS (tL_A7 hok) (fun r1 u1 H1 locs1 hp1 hPX1 _ hk1 hS => ?_)
  have hPM1 := tL_keepM hok hPM hk1
  refine lv_aload_n hx hb dL_law_281 rfl (lv_at hl 2 rfl) ?_
  refine lv_aload_n hx hb dL_law_282 rfl (lv_at hl 0 rfl) ?_
  refine lv_iload_n hx hb dL_law_283 rfl (lv_at hl 3 rfl) ?_
  refine lv_iconst (v := nI 1) hx hb dL_law_284 (by decide) ?_
  refine tc_iadd hx hb dL_law_285 ?_
  refine va_sld hx hb hX hbl hbA hS (vp_in_nI (by omega) (by omega)) dL_law_286 ?_
  refine tc_top (congrArg xs (nI_clamp (by omega))) ?_
  refine lv_aload_n hx hb dL_law_287 rfl (lv_at hl 0 rfl) ?_
  refine lv_iload_n hx hb dL_law_288 rfl (lv_at hl 3 rfl) ?_
  refine lv_iconst (v := nI 2) hx hb dL_law_289 (by decide) ?_
  refine tc_iadd hx hb dL_law_290 ?_
  refine va_sld hx hb hX hbl hbA hS (vp_in_nI (by omega) (by omega)) dL_law_291 ?_
  refine tc_top (congrArg xs (nI_clamp (by omega))) ?_
  refine lv_aload_n hx hb dL_law_292 rfl (lv_at hl 0 rfl) ?_
  refine lv_iload_n hx hb dL_law_293 rfl (lv_at hl 3 rfl) ?_
  refine lv_iconst (v := nI 3) hx hb dL_law_294 (by decide) ?_
  refine tc_iadd hx hb dL_law_295 ?_
  refine va_sld hx hb hX hbl hbA hS (vp_in_nI (by omega) (by omega)) dL_law_296 ?_
  refine tc_top (congrArg xs (nI_clamp (by omega))) ?_
  refine lv_aload_n hx hb dL_law_297 rfl (lv_at hl 0 rfl) ?_
  refine lv_iload_n hx hb dL_law_298 rfl (lv_at hl 3 rfl) ?_
  refine lv_iconst (v := nI 4) hx hb dL_law_299 (by decide) ?_
  refine tc_iadd hx hb dL_law_300 ?_
  refine va_sld hx hb hX hbl hbA hS (vp_in_nI (by omega) (by omega)) dL_law_301 ?_
  refine tc_top (congrArg xs (nI_clamp (by omega))) ?_
  refine mu_callV (As := [.int (xs (i + 1)), .int (xs (i + 2)), .int (xs (i + 3)), .int (xs (i + 4))]) (rest := [.int r1]) ⟨hx, hb, hml, hown, hts⟩ hK (hM2 H1 hPM1) (cwV 4 hts (lw_V q231 q232 q233 q22 q234) rfl rfl rfl (by decide +kernel) ⟨hf3, by show 8 + (5 + 11) + n' ≤ 296; omega⟩) (va_recv hK hPM1 (ci := 1) (q0 := 0) rfl rfl) rfl hl.1 rfl (Nat.le_of_ble_eq_true rfl) dL_law_302 ⟨Nat.le_refl _, Nat.le_refl _⟩ hS (tL_A2 hok) (fun r2 u2 H2 locs2 hp2 hPM2 _ hk2 hS => ?_)
  have hPX2 := tL_keepX hok (hw u1) hPX1 hk2
  obtain ⟨hr12, hI2⟩ := fin r1 u1 r2 u2 hp1 hp2
  refine lv_icmp_eq (tgt := 490) hx hb dL_law_305 (by decide) (fun _ => ?_) (fun c_ => absurd hr12 c_)
  exact kk H2 locs2 ls (hI2 H2 hPX2 hPM2) hS hl
set_option maxHeartbeats 4000000 in
set_option maxRecDepth 100000 in
/-- the case decided -/
theorem lo_decided {p : Program} {e : Env} {s : State} {m : MethodId} {below : List Frame} {meth : Method} {c : Code} (l : Launch) {bb L : Nat} {xs : Nat → Int32} (hL : L ≤ 320) (C0 : lw_At p s m meth c bb L xs) {D : va_G} {dB dZ : ClassId} (hK : tcK D dB dZ s) {a b : Nat → Nat} (hok : tL_ok a b (fun q : Nat => s.heap.size ≤ q)) {i : Nat} (hi : i + 5 ≤ L) {H : Heap} {locs : List Loc} {hs : Nat → Bool} {C X N K B M : Nat → Nat} (hPX : va_P D vwCl (wX a dB C X N K B M) H) (hPM : va_P D vwCl (wM b dZ hs) H) (hS : va_S (fun q : Nat => s.heap.size ≤ q) s.heap H locs) (h2 : tL_2 l D dB dZ a b hs H yX0_decided cX0_decided 7 yX1_decided cX1_decided 4 (some .int) [.int (xs (i + 1))]) {ls : Array Slot} (hl : lv_has ls 4 [(0, .ref bb), (1, .ref (a 0)), (2, .ref (b 0)), (3, .int (nI i))])
    (kk : ∀ (H : Heap) (locs : List Loc) (ls : Array Slot), tL_I D dB dZ a b H → va_S (fun q : Nat => s.heap.size ≤ q) s.heap H locs → lv_has ls 4 [(0, .ref bb), (1, .ref (a 0)), (2, .ref (b 0)), (3, .int (nI i))] → W p l e room_1 s m #[Value.ref bb] below meth c H locs 600000 7290000 (lw_Z below #[Value.ref bb] s) (F0 m 490 ls [])) : W p l e room_1 s m #[Value.ref bb] below meth c H locs 600000 7290000 (lw_Z below #[Value.ref bb] s) (F0 m 310 ls []) := by
  obtain ⟨hx, hb, hr, hml, hown, hts0, hX, hbl, hlocks, hgv⟩ := C0
  have hts : ∀ w ∈ lw_all, w.before #[Value.ref bb] s = true := fun w h => hts0 w (lw_all_tbl h)
  have hbA : ¬ (fun q : Nat => s.heap.size ≤ q) bb := Nat.not_le.mpr hbl
  obtain ⟨f, n, f', n', S, S', post, w, post', w', ⟨hf1, hf2, hf3, hf4⟩, hM1, hM2, hw, fin⟩ := h2
  refine lv_aload_n hx hb dL_law_310 rfl (lv_at hl 1 rfl) ?_
  refine lv_aload_n hx hb dL_law_311 rfl (lv_at hl 0 rfl) ?_
  refine lv_iload_n hx hb dL_law_312 rfl (lv_at hl 3 rfl) ?_
  refine lv_iconst (v := nI 1) hx hb dL_law_313 (by decide) ?_
  refine tc_iadd hx hb dL_law_314 ?_
  refine va_sld hx hb hX hbl hbA hS (vp_in_nI (by omega) (by omega)) dL_law_315 ?_
  refine tc_top (congrArg xs (nI_clamp (by omega))) ?_
  refine mu_callV (As := [.int (xs (i + 1))]) (rest := []) ⟨hx, hb, hml, hown, hts⟩ hK hM1 (cwV 1 hts (lw_V q110 q111 q112 q21 q113) rfl rfl rfl (by decide +kernel) ⟨hf1, by show 8 + (7 + 11) + n ≤ 296; omega⟩) (va_recv hK hPX (ci := 0) (q0 := 0) rfl rfl) rfl hl.1 rfl (Nat.le_of_ble_eq_true rfl) dL_law_316 ⟨Nat.le_refl _, Nat.le_refl _⟩ hS (tL_A7 hok) (fun r1 u1 H1 locs1 hp1 hPX1 _ hk1 hS => ?_)
  have hPM1 := tL_keepM hok hPM hk1
  refine lv_aload_n hx hb dL_law_319 rfl (lv_at hl 2 rfl) ?_
  refine lv_aload_n hx hb dL_law_320 rfl (lv_at hl 0 rfl) ?_
  refine lv_iload_n hx hb dL_law_321 rfl (lv_at hl 3 rfl) ?_
  refine lv_iconst (v := nI 1) hx hb dL_law_322 (by decide) ?_
  refine tc_iadd hx hb dL_law_323 ?_
  refine va_sld hx hb hX hbl hbA hS (vp_in_nI (by omega) (by omega)) dL_law_324 ?_
  refine tc_top (congrArg xs (nI_clamp (by omega))) ?_
  refine mu_callV (As := [.int (xs (i + 1))]) (rest := [.int r1]) ⟨hx, hb, hml, hown, hts⟩ hK (hM2 H1 hPM1) (cwV 1 hts (lw_V q243 q244 q245 q22 q246) rfl rfl rfl (by decide +kernel) ⟨hf3, by show 8 + (4 + 11) + n' ≤ 296; omega⟩) (va_recv hK hPM1 (ci := 1) (q0 := 0) rfl rfl) rfl hl.1 rfl (Nat.le_of_ble_eq_true rfl) dL_law_325 ⟨Nat.le_refl _, Nat.le_refl _⟩ hS (tL_A2 hok) (fun r2 u2 H2 locs2 hp2 hPM2 _ hk2 hS => ?_)
  have hPX2 := tL_keepX hok (hw u1) hPX1 hk2
  obtain ⟨hr12, hI2⟩ := fin r1 u1 r2 u2 hp1 hp2
  refine lv_icmp_eq (tgt := 490) hx hb dL_law_328 (by decide) (fun _ => ?_) (fun c_ => absurd hr12 c_)
  exact kk H2 locs2 ls (hI2 H2 hPX2 hPM2) hS hl
set_option maxHeartbeats 4000000 in
set_option maxRecDepth 100000 in
/-- the case groupDistance -/
theorem lo_groupDistance {p : Program} {e : Env} {s : State} {m : MethodId} {below : List Frame} {meth : Method} {c : Code} (l : Launch) {bb L : Nat} {xs : Nat → Int32} (hL : L ≤ 320) (C0 : lw_At p s m meth c bb L xs) {D : va_G} {dB dZ : ClassId} (hK : tcK D dB dZ s) {a b : Nat → Nat} (hok : tL_ok a b (fun q : Nat => s.heap.size ≤ q)) {i : Nat} (hi : i + 5 ≤ L) {H : Heap} {locs : List Loc} {hs : Nat → Bool} {C X N K B M : Nat → Nat} (hPX : va_P D vwCl (wX a dB C X N K B M) H) (hPM : va_P D vwCl (wM b dZ hs) H) (hS : va_S (fun q : Nat => s.heap.size ≤ q) s.heap H locs) (h2 : tL_2 l D dB dZ a b hs H yX0_groupDistance cX0_groupDistance 2 yX1_groupDistance cX1_groupDistance 3 (some .int) []) {ls : Array Slot} (hl : lv_has ls 4 [(0, .ref bb), (1, .ref (a 0)), (2, .ref (b 0)), (3, .int (nI i))])
    (kk : ∀ (H : Heap) (locs : List Loc) (ls : Array Slot), tL_I D dB dZ a b H → va_S (fun q : Nat => s.heap.size ≤ q) s.heap H locs → lv_has ls 4 [(0, .ref bb), (1, .ref (a 0)), (2, .ref (b 0)), (3, .int (nI i))] → W p l e room_1 s m #[Value.ref bb] below meth c H locs 600000 7290000 (lw_Z below #[Value.ref bb] s) (F0 m 490 ls [])) : W p l e room_1 s m #[Value.ref bb] below meth c H locs 600000 7290000 (lw_Z below #[Value.ref bb] s) (F0 m 333 ls []) := by
  obtain ⟨hx, hb, hr, hml, hown, hts0, hX, hbl, hlocks, hgv⟩ := C0
  have hts : ∀ w ∈ lw_all, w.before #[Value.ref bb] s = true := fun w h => hts0 w (lw_all_tbl h)
  have hbA : ¬ (fun q : Nat => s.heap.size ≤ q) bb := Nat.not_le.mpr hbl
  obtain ⟨f, n, f', n', S, S', post, w, post', w', ⟨hf1, hf2, hf3, hf4⟩, hM1, hM2, hw, fin⟩ := h2
  refine lv_aload_n hx hb dL_law_333 rfl (lv_at hl 1 rfl) ?_
  refine mu_callV (As := []) (rest := []) ⟨hx, hb, hml, hown, hts⟩ hK hM1 (cwV 0 hts (lw_V q114 q115 q116 q21 q117) rfl rfl rfl (by decide +kernel) ⟨hf1, by show 8 + (2 + 11) + n ≤ 296; omega⟩) (va_recv hK hPX (ci := 0) (q0 := 0) rfl rfl) rfl hl.1 rfl (Nat.le_of_ble_eq_true rfl) dL_law_334 ⟨Nat.le_refl _, Nat.le_refl _⟩ hS (tL_A7 hok) (fun r1 u1 H1 locs1 hp1 hPX1 _ hk1 hS => ?_)
  have hPM1 := tL_keepM hok hPM hk1
  refine lv_aload_n hx hb dL_law_337 rfl (lv_at hl 2 rfl) ?_
  refine mu_callV (As := []) (rest := [.int r1]) ⟨hx, hb, hml, hown, hts⟩ hK (hM2 H1 hPM1) (cwV 0 hts (lw_V q252 q253 q254 q22 q255) rfl rfl rfl (by decide +kernel) ⟨hf3, by show 8 + (3 + 11) + n' ≤ 296; omega⟩) (va_recv hK hPM1 (ci := 1) (q0 := 0) rfl rfl) rfl hl.1 rfl (Nat.le_of_ble_eq_true rfl) dL_law_338 ⟨Nat.le_refl _, Nat.le_refl _⟩ hS (tL_A2 hok) (fun r2 u2 H2 locs2 hp2 hPM2 _ hk2 hS => ?_)
  have hPX2 := tL_keepX hok (hw u1) hPX1 hk2
  obtain ⟨hr12, hI2⟩ := fin r1 u1 r2 u2 hp1 hp2
  refine lv_icmp_eq (tgt := 490) hx hb dL_law_341 (by decide) (fun _ => ?_) (fun c_ => absurd hr12 c_)
  exact kk H2 locs2 ls (hI2 H2 hPX2 hPM2) hS hl
set_option maxHeartbeats 4000000 in
set_option maxRecDepth 100000 in
/-- the case tripleDistance -/
theorem lo_tripleDistance {p : Program} {e : Env} {s : State} {m : MethodId} {below : List Frame} {meth : Method} {c : Code} (l : Launch) {bb L : Nat} {xs : Nat → Int32} (hL : L ≤ 320) (C0 : lw_At p s m meth c bb L xs) {D : va_G} {dB dZ : ClassId} (hK : tcK D dB dZ s) {a b : Nat → Nat} (hok : tL_ok a b (fun q : Nat => s.heap.size ≤ q)) {i : Nat} (hi : i + 5 ≤ L) {H : Heap} {locs : List Loc} {hs : Nat → Bool} {C X N K B M : Nat → Nat} (hPX : va_P D vwCl (wX a dB C X N K B M) H) (hPM : va_P D vwCl (wM b dZ hs) H) (hS : va_S (fun q : Nat => s.heap.size ≤ q) s.heap H locs) (h2 : tL_2 l D dB dZ a b hs H yX0_tripleDistance cX0_tripleDistance 1 yX1_tripleDistance cX1_tripleDistance 3 (some .int) []) {ls : Array Slot} (hl : lv_has ls 4 [(0, .ref bb), (1, .ref (a 0)), (2, .ref (b 0)), (3, .int (nI i))])
    (kk : ∀ (H : Heap) (locs : List Loc) (ls : Array Slot), tL_I D dB dZ a b H → va_S (fun q : Nat => s.heap.size ≤ q) s.heap H locs → lv_has ls 4 [(0, .ref bb), (1, .ref (a 0)), (2, .ref (b 0)), (3, .int (nI i))] → W p l e room_1 s m #[Value.ref bb] below meth c H locs 600000 7290000 (lw_Z below #[Value.ref bb] s) (F0 m 490 ls [])) : W p l e room_1 s m #[Value.ref bb] below meth c H locs 600000 7290000 (lw_Z below #[Value.ref bb] s) (F0 m 346 ls []) := by
  obtain ⟨hx, hb, hr, hml, hown, hts0, hX, hbl, hlocks, hgv⟩ := C0
  have hts : ∀ w ∈ lw_all, w.before #[Value.ref bb] s = true := fun w h => hts0 w (lw_all_tbl h)
  have hbA : ¬ (fun q : Nat => s.heap.size ≤ q) bb := Nat.not_le.mpr hbl
  obtain ⟨f, n, f', n', S, S', post, w, post', w', ⟨hf1, hf2, hf3, hf4⟩, hM1, hM2, hw, fin⟩ := h2
  refine lv_aload_n hx hb dL_law_346 rfl (lv_at hl 1 rfl) ?_
  refine mu_callV (As := []) (rest := []) ⟨hx, hb, hml, hown, hts⟩ hK hM1 (cwV 0 hts (lw_V q122 q123 q124 q21 q125) rfl rfl rfl (by decide +kernel) ⟨hf1, by show 8 + (1 + 11) + n ≤ 296; omega⟩) (va_recv hK hPX (ci := 0) (q0 := 0) rfl rfl) rfl hl.1 rfl (Nat.le_of_ble_eq_true rfl) dL_law_347 ⟨Nat.le_refl _, Nat.le_refl _⟩ hS (tL_A7 hok) (fun r1 u1 H1 locs1 hp1 hPX1 _ hk1 hS => ?_)
  have hPM1 := tL_keepM hok hPM hk1
  refine lv_aload_n hx hb dL_law_350 rfl (lv_at hl 2 rfl) ?_
  refine mu_callV (As := []) (rest := [.int r1]) ⟨hx, hb, hml, hown, hts⟩ hK (hM2 H1 hPM1) (cwV 0 hts (lw_V q256 q257 q258 q22 q259) rfl rfl rfl (by decide +kernel) ⟨hf3, by show 8 + (3 + 11) + n' ≤ 296; omega⟩) (va_recv hK hPM1 (ci := 1) (q0 := 0) rfl rfl) rfl hl.1 rfl (Nat.le_of_ble_eq_true rfl) dL_law_351 ⟨Nat.le_refl _, Nat.le_refl _⟩ hS (tL_A2 hok) (fun r2 u2 H2 locs2 hp2 hPM2 _ hk2 hS => ?_)
  have hPX2 := tL_keepX hok (hw u1) hPX1 hk2
  obtain ⟨hr12, hI2⟩ := fin r1 u1 r2 u2 hp1 hp2
  refine lv_icmp_eq (tgt := 490) hx hb dL_law_354 (by decide) (fun _ => ?_) (fun c_ => absurd hr12 c_)
  exact kk H2 locs2 ls (hI2 H2 hPX2 hPM2) hS hl
set_option maxHeartbeats 4000000 in
set_option maxRecDepth 100000 in
/-- the case agreement -/
theorem lo_agreement {p : Program} {e : Env} {s : State} {m : MethodId} {below : List Frame} {meth : Method} {c : Code} (l : Launch) {bb L : Nat} {xs : Nat → Int32} (hL : L ≤ 320) (C0 : lw_At p s m meth c bb L xs) {D : va_G} {dB dZ : ClassId} (hK : tcK D dB dZ s) {a b : Nat → Nat} (hok : tL_ok a b (fun q : Nat => s.heap.size ≤ q)) {i : Nat} (hi : i + 5 ≤ L) {H : Heap} {locs : List Loc} {hs : Nat → Bool} {C X N K B M : Nat → Nat} (hPX : va_P D vwCl (wX a dB C X N K B M) H) (hPM : va_P D vwCl (wM b dZ hs) H) (hS : va_S (fun q : Nat => s.heap.size ≤ q) s.heap H locs) (h2 : tL_2 l D dB dZ a b hs H yX0_agreement cX0_agreement 1 yX1_agreement cX1_agreement 4 (some .int) []) {ls : Array Slot} (hl : lv_has ls 4 [(0, .ref bb), (1, .ref (a 0)), (2, .ref (b 0)), (3, .int (nI i))])
    (kk : ∀ (H : Heap) (locs : List Loc) (ls : Array Slot), tL_I D dB dZ a b H → va_S (fun q : Nat => s.heap.size ≤ q) s.heap H locs → lv_has ls 4 [(0, .ref bb), (1, .ref (a 0)), (2, .ref (b 0)), (3, .int (nI i))] → W p l e room_1 s m #[Value.ref bb] below meth c H locs 600000 7290000 (lw_Z below #[Value.ref bb] s) (F0 m 490 ls [])) : W p l e room_1 s m #[Value.ref bb] below meth c H locs 600000 7290000 (lw_Z below #[Value.ref bb] s) (F0 m 359 ls []) := by
  obtain ⟨hx, hb, hr, hml, hown, hts0, hX, hbl, hlocks, hgv⟩ := C0
  have hts : ∀ w ∈ lw_all, w.before #[Value.ref bb] s = true := fun w h => hts0 w (lw_all_tbl h)
  have hbA : ¬ (fun q : Nat => s.heap.size ≤ q) bb := Nat.not_le.mpr hbl
  obtain ⟨f, n, f', n', S, S', post, w, post', w', ⟨hf1, hf2, hf3, hf4⟩, hM1, hM2, hw, fin⟩ := h2
  refine lv_aload_n hx hb dL_law_359 rfl (lv_at hl 1 rfl) ?_
  refine mu_callV (As := []) (rest := []) ⟨hx, hb, hml, hown, hts⟩ hK hM1 (cwV 0 hts (lw_V q130 q131 q132 q21 q133) rfl rfl rfl (by decide +kernel) ⟨hf1, by show 8 + (1 + 11) + n ≤ 296; omega⟩) (va_recv hK hPX (ci := 0) (q0 := 0) rfl rfl) rfl hl.1 rfl (Nat.le_of_ble_eq_true rfl) dL_law_360 ⟨Nat.le_refl _, Nat.le_refl _⟩ hS (tL_A7 hok) (fun r1 u1 H1 locs1 hp1 hPX1 _ hk1 hS => ?_)
  have hPM1 := tL_keepM hok hPM hk1
  refine lv_aload_n hx hb dL_law_363 rfl (lv_at hl 2 rfl) ?_
  refine mu_callV (As := []) (rest := [.int r1]) ⟨hx, hb, hml, hown, hts⟩ hK (hM2 H1 hPM1) (cwV 0 hts (lw_V q260 q261 q262 q22 q263) rfl rfl rfl (by decide +kernel) ⟨hf3, by show 8 + (4 + 11) + n' ≤ 296; omega⟩) (va_recv hK hPM1 (ci := 1) (q0 := 0) rfl rfl) rfl hl.1 rfl (Nat.le_of_ble_eq_true rfl) dL_law_364 ⟨Nat.le_refl _, Nat.le_refl _⟩ hS (tL_A2 hok) (fun r2 u2 H2 locs2 hp2 hPM2 _ hk2 hS => ?_)
  have hPX2 := tL_keepX hok (hw u1) hPX1 hk2
  obtain ⟨hr12, hI2⟩ := fin r1 u1 r2 u2 hp1 hp2
  refine lv_icmp_eq (tgt := 490) hx hb dL_law_367 (by decide) (fun _ => ?_) (fun c_ => absurd hr12 c_)
  exact kk H2 locs2 ls (hI2 H2 hPX2 hPM2) hS hl
set_option maxHeartbeats 4000000 in
set_option maxRecDepth 100000 in
/-- the case agreeingSet -/
theorem lo_agreeingSet {p : Program} {e : Env} {s : State} {m : MethodId} {below : List Frame} {meth : Method} {c : Code} (l : Launch) {bb L : Nat} {xs : Nat → Int32} (hL : L ≤ 320) (C0 : lw_At p s m meth c bb L xs) {D : va_G} {dB dZ : ClassId} (hK : tcK D dB dZ s) {a b : Nat → Nat} (hok : tL_ok a b (fun q : Nat => s.heap.size ≤ q)) {i : Nat} (hi : i + 5 ≤ L) {H : Heap} {locs : List Loc} {hs : Nat → Bool} {C X N K B M : Nat → Nat} (hPX : va_P D vwCl (wX a dB C X N K B M) H) (hPM : va_P D vwCl (wM b dZ hs) H) (hS : va_S (fun q : Nat => s.heap.size ≤ q) s.heap H locs) (h2 : tL_2 l D dB dZ a b hs H yX0_agreeingSet cX0_agreeingSet 3 yX1_agreeingSet cX1_agreeingSet 3 (some .int) []) {ls : Array Slot} (hl : lv_has ls 4 [(0, .ref bb), (1, .ref (a 0)), (2, .ref (b 0)), (3, .int (nI i))])
    (kk : ∀ (H : Heap) (locs : List Loc) (ls : Array Slot), tL_I D dB dZ a b H → va_S (fun q : Nat => s.heap.size ≤ q) s.heap H locs → lv_has ls 4 [(0, .ref bb), (1, .ref (a 0)), (2, .ref (b 0)), (3, .int (nI i))] → W p l e room_1 s m #[Value.ref bb] below meth c H locs 600000 7290000 (lw_Z below #[Value.ref bb] s) (F0 m 490 ls [])) : W p l e room_1 s m #[Value.ref bb] below meth c H locs 600000 7290000 (lw_Z below #[Value.ref bb] s) (F0 m 372 ls []) := by
  obtain ⟨hx, hb, hr, hml, hown, hts0, hX, hbl, hlocks, hgv⟩ := C0
  have hts : ∀ w ∈ lw_all, w.before #[Value.ref bb] s = true := fun w h => hts0 w (lw_all_tbl h)
  have hbA : ¬ (fun q : Nat => s.heap.size ≤ q) bb := Nat.not_le.mpr hbl
  obtain ⟨f, n, f', n', S, S', post, w, post', w', ⟨hf1, hf2, hf3, hf4⟩, hM1, hM2, hw, fin⟩ := h2
  refine lv_aload_n hx hb dL_law_372 rfl (lv_at hl 1 rfl) ?_
  refine mu_callV (As := []) (rest := []) ⟨hx, hb, hml, hown, hts⟩ hK hM1 (cwV 0 hts (lw_V q158 q159 q160 q21 q161) rfl rfl rfl (by decide +kernel) ⟨hf1, by show 8 + (3 + 11) + n ≤ 296; omega⟩) (va_recv hK hPX (ci := 0) (q0 := 0) rfl rfl) rfl hl.1 rfl (Nat.le_of_ble_eq_true rfl) dL_law_373 ⟨Nat.le_refl _, Nat.le_refl _⟩ hS (tL_A7 hok) (fun r1 u1 H1 locs1 hp1 hPX1 _ hk1 hS => ?_)
  have hPM1 := tL_keepM hok hPM hk1
  refine lv_aload_n hx hb dL_law_376 rfl (lv_at hl 2 rfl) ?_
  refine mu_callV (As := []) (rest := [.int r1]) ⟨hx, hb, hml, hown, hts⟩ hK (hM2 H1 hPM1) (cwV 0 hts (lw_V q268 q269 q270 q22 q271) rfl rfl rfl (by decide +kernel) ⟨hf3, by show 8 + (3 + 11) + n' ≤ 296; omega⟩) (va_recv hK hPM1 (ci := 1) (q0 := 0) rfl rfl) rfl hl.1 rfl (Nat.le_of_ble_eq_true rfl) dL_law_377 ⟨Nat.le_refl _, Nat.le_refl _⟩ hS (tL_A2 hok) (fun r2 u2 H2 locs2 hp2 hPM2 _ hk2 hS => ?_)
  have hPX2 := tL_keepX hok (hw u1) hPX1 hk2
  obtain ⟨hr12, hI2⟩ := fin r1 u1 r2 u2 hp1 hp2
  refine lv_icmp_eq (tgt := 490) hx hb dL_law_380 (by decide) (fun _ => ?_) (fun c_ => absurd hr12 c_)
  exact kk H2 locs2 ls (hI2 H2 hPX2 hPM2) hS hl
set_option maxHeartbeats 4000000 in
set_option maxRecDepth 100000 in
/-- the case agree -/
theorem lo_agree {p : Program} {e : Env} {s : State} {m : MethodId} {below : List Frame} {meth : Method} {c : Code} (l : Launch) {bb L : Nat} {xs : Nat → Int32} (hL : L ≤ 320) (C0 : lw_At p s m meth c bb L xs) {D : va_G} {dB dZ : ClassId} (hK : tcK D dB dZ s) {a b : Nat → Nat} (hok : tL_ok a b (fun q : Nat => s.heap.size ≤ q)) {i : Nat} (hi : i + 5 ≤ L) {H : Heap} {locs : List Loc} {hs : Nat → Bool} {C X N K B M : Nat → Nat} (hPX : va_P D vwCl (wX a dB C X N K B M) H) (hPM : va_P D vwCl (wM b dZ hs) H) (hS : va_S (fun q : Nat => s.heap.size ≤ q) s.heap H locs) (h2 : tL_2 l D dB dZ a b hs H yX0_agree cX0_agree 2 yX1_agree cX1_agree 4 (some .boolean) [.int (xs (i + 1))]) {ls : Array Slot} (hl : lv_has ls 4 [(0, .ref bb), (1, .ref (a 0)), (2, .ref (b 0)), (3, .int (nI i))])
    (kk : ∀ (H : Heap) (locs : List Loc) (ls : Array Slot), tL_I D dB dZ a b H → va_S (fun q : Nat => s.heap.size ≤ q) s.heap H locs → lv_has ls 4 [(0, .ref bb), (1, .ref (a 0)), (2, .ref (b 0)), (3, .int (nI i))] → W p l e room_1 s m #[Value.ref bb] below meth c H locs 600000 7290000 (lw_Z below #[Value.ref bb] s) (F0 m 490 ls [])) : W p l e room_1 s m #[Value.ref bb] below meth c H locs 600000 7290000 (lw_Z below #[Value.ref bb] s) (F0 m 385 ls []) := by
  obtain ⟨hx, hb, hr, hml, hown, hts0, hX, hbl, hlocks, hgv⟩ := C0
  have hts : ∀ w ∈ lw_all, w.before #[Value.ref bb] s = true := fun w h => hts0 w (lw_all_tbl h)
  have hbA : ¬ (fun q : Nat => s.heap.size ≤ q) bb := Nat.not_le.mpr hbl
  obtain ⟨f, n, f', n', S, S', post, w, post', w', ⟨hf1, hf2, hf3, hf4⟩, hM1, hM2, hw, fin⟩ := h2
  refine lv_aload_n hx hb dL_law_385 rfl (lv_at hl 1 rfl) ?_
  refine lv_aload_n hx hb dL_law_386 rfl (lv_at hl 0 rfl) ?_
  refine lv_iload_n hx hb dL_law_387 rfl (lv_at hl 3 rfl) ?_
  refine lv_iconst (v := nI 1) hx hb dL_law_388 (by decide) ?_
  refine tc_iadd hx hb dL_law_389 ?_
  refine va_sld hx hb hX hbl hbA hS (vp_in_nI (by omega) (by omega)) dL_law_390 ?_
  refine tc_top (congrArg xs (nI_clamp (by omega))) ?_
  refine mu_callV (As := [.int (xs (i + 1))]) (rest := []) ⟨hx, hb, hml, hown, hts⟩ hK hM1 (cwV 1 hts (lw_V q162 q163 q164 q21 q165) rfl rfl rfl (by decide +kernel) ⟨hf1, by show 8 + (2 + 11) + n ≤ 296; omega⟩) (va_recv hK hPX (ci := 0) (q0 := 0) rfl rfl) rfl hl.1 rfl (Nat.le_of_ble_eq_true rfl) dL_law_391 ⟨Nat.le_refl _, Nat.le_refl _⟩ hS (tL_A7 hok) (fun r1 u1 H1 locs1 hp1 hPX1 _ hk1 hS => ?_)
  have hPM1 := tL_keepM hok hPM hk1
  refine lv_aload_n hx hb dL_law_394 rfl (lv_at hl 2 rfl) ?_
  refine lv_aload_n hx hb dL_law_395 rfl (lv_at hl 0 rfl) ?_
  refine lv_iload_n hx hb dL_law_396 rfl (lv_at hl 3 rfl) ?_
  refine lv_iconst (v := nI 1) hx hb dL_law_397 (by decide) ?_
  refine tc_iadd hx hb dL_law_398 ?_
  refine va_sld hx hb hX hbl hbA hS (vp_in_nI (by omega) (by omega)) dL_law_399 ?_
  refine tc_top (congrArg xs (nI_clamp (by omega))) ?_
  refine mu_callV (As := [.int (xs (i + 1))]) (rest := [.int r1]) ⟨hx, hb, hml, hown, hts⟩ hK (hM2 H1 hPM1) (cwV 1 hts (lw_V q273 q265 q266 q22 q267) rfl rfl rfl (by decide +kernel) ⟨hf3, by show 8 + (4 + 11) + n' ≤ 296; omega⟩) (va_recv hK hPM1 (ci := 1) (q0 := 0) rfl rfl) rfl hl.1 rfl (Nat.le_of_ble_eq_true rfl) dL_law_400 ⟨Nat.le_refl _, Nat.le_refl _⟩ hS (tL_A2 hok) (fun r2 u2 H2 locs2 hp2 hPM2 _ hk2 hS => ?_)
  have hPX2 := tL_keepX hok (hw u1) hPX1 hk2
  obtain ⟨hr12, hI2⟩ := fin r1 u1 r2 u2 hp1 hp2
  refine lv_icmp_eq (tgt := 490) hx hb dL_law_403 (by decide) (fun _ => ?_) (fun c_ => absurd hr12 c_)
  exact kk H2 locs2 ls (hI2 H2 hPX2 hPM2) hS hl
set_option maxHeartbeats 4000000 in
set_option maxRecDepth 100000 in
/-- the case together -/
theorem lo_together {p : Program} {e : Env} {s : State} {m : MethodId} {below : List Frame} {meth : Method} {c : Code} (l : Launch) {bb L : Nat} {xs : Nat → Int32} (hL : L ≤ 320) (C0 : lw_At p s m meth c bb L xs) {D : va_G} {dB dZ : ClassId} (hK : tcK D dB dZ s) {a b : Nat → Nat} (hok : tL_ok a b (fun q : Nat => s.heap.size ≤ q)) {i : Nat} (hi : i + 5 ≤ L) {H : Heap} {locs : List Loc} {hs : Nat → Bool} {C X N K B M : Nat → Nat} (hPX : va_P D vwCl (wX a dB C X N K B M) H) (hPM : va_P D vwCl (wM b dZ hs) H) (hS : va_S (fun q : Nat => s.heap.size ≤ q) s.heap H locs) (h2 : tL_2 l D dB dZ a b hs H yX0_together cX0_together 2 yX1_together cX1_together 3 (some .boolean) []) {ls : Array Slot} (hl : lv_has ls 4 [(0, .ref bb), (1, .ref (a 0)), (2, .ref (b 0)), (3, .int (nI i))])
    (kk : ∀ (H : Heap) (locs : List Loc) (ls : Array Slot), tL_I D dB dZ a b H → va_S (fun q : Nat => s.heap.size ≤ q) s.heap H locs → lv_has ls 4 [(0, .ref bb), (1, .ref (a 0)), (2, .ref (b 0)), (3, .int (nI i))] → W p l e room_1 s m #[Value.ref bb] below meth c H locs 600000 7290000 (lw_Z below #[Value.ref bb] s) (F0 m 490 ls [])) : W p l e room_1 s m #[Value.ref bb] below meth c H locs 600000 7290000 (lw_Z below #[Value.ref bb] s) (F0 m 408 ls []) := by
  obtain ⟨hx, hb, hr, hml, hown, hts0, hX, hbl, hlocks, hgv⟩ := C0
  have hts : ∀ w ∈ lw_all, w.before #[Value.ref bb] s = true := fun w h => hts0 w (lw_all_tbl h)
  have hbA : ¬ (fun q : Nat => s.heap.size ≤ q) bb := Nat.not_le.mpr hbl
  obtain ⟨f, n, f', n', S, S', post, w, post', w', ⟨hf1, hf2, hf3, hf4⟩, hM1, hM2, hw, fin⟩ := h2
  refine lv_aload_n hx hb dL_law_408 rfl (lv_at hl 1 rfl) ?_
  refine mu_callV (As := []) (rest := []) ⟨hx, hb, hml, hown, hts⟩ hK hM1 (cwV 0 hts (lw_V q166 q167 q168 q21 q169) rfl rfl rfl (by decide +kernel) ⟨hf1, by show 8 + (2 + 11) + n ≤ 296; omega⟩) (va_recv hK hPX (ci := 0) (q0 := 0) rfl rfl) rfl hl.1 rfl (Nat.le_of_ble_eq_true rfl) dL_law_409 ⟨Nat.le_refl _, Nat.le_refl _⟩ hS (tL_A7 hok) (fun r1 u1 H1 locs1 hp1 hPX1 _ hk1 hS => ?_)
  have hPM1 := tL_keepM hok hPM hk1
  refine lv_aload_n hx hb dL_law_412 rfl (lv_at hl 2 rfl) ?_
  refine mu_callV (As := []) (rest := [.int r1]) ⟨hx, hb, hml, hown, hts⟩ hK (hM2 H1 hPM1) (cwV 0 hts (lw_V q274 q275 q276 q22 q277) rfl rfl rfl (by decide +kernel) ⟨hf3, by show 8 + (3 + 11) + n' ≤ 296; omega⟩) (va_recv hK hPM1 (ci := 1) (q0 := 0) rfl rfl) rfl hl.1 rfl (Nat.le_of_ble_eq_true rfl) dL_law_413 ⟨Nat.le_refl _, Nat.le_refl _⟩ hS (tL_A2 hok) (fun r2 u2 H2 locs2 hp2 hPM2 _ hk2 hS => ?_)
  have hPX2 := tL_keepX hok (hw u1) hPX1 hk2
  obtain ⟨hr12, hI2⟩ := fin r1 u1 r2 u2 hp1 hp2
  refine lv_icmp_eq (tgt := 490) hx hb dL_law_416 (by decide) (fun _ => ?_) (fun c_ => absurd hr12 c_)
  exact kk H2 locs2 ls (hI2 H2 hPX2 hPM2) hS hl
set_option maxHeartbeats 4000000 in
set_option maxRecDepth 100000 in
/-- the case common -/
theorem lo_common {p : Program} {e : Env} {s : State} {m : MethodId} {below : List Frame} {meth : Method} {c : Code} (l : Launch) {bb L : Nat} {xs : Nat → Int32} (hL : L ≤ 320) (C0 : lw_At p s m meth c bb L xs) {D : va_G} {dB dZ : ClassId} (hK : tcK D dB dZ s) {a b : Nat → Nat} (hok : tL_ok a b (fun q : Nat => s.heap.size ≤ q)) {i : Nat} (hi : i + 5 ≤ L) {H : Heap} {locs : List Loc} {hs : Nat → Bool} {C X N K B M : Nat → Nat} (hPX : va_P D vwCl (wX a dB C X N K B M) H) (hPM : va_P D vwCl (wM b dZ hs) H) (hS : va_S (fun q : Nat => s.heap.size ≤ q) s.heap H locs) (h2 : tL_2 l D dB dZ a b hs H yX0_common cX0_common 3 yX1_common cX1_common 3 (some .int) []) {ls : Array Slot} (hl : lv_has ls 4 [(0, .ref bb), (1, .ref (a 0)), (2, .ref (b 0)), (3, .int (nI i))])
    (kk : ∀ (H : Heap) (locs : List Loc) (ls : Array Slot), tL_I D dB dZ a b H → va_S (fun q : Nat => s.heap.size ≤ q) s.heap H locs → lv_has ls 4 [(0, .ref bb), (1, .ref (a 0)), (2, .ref (b 0)), (3, .int (nI i))] → W p l e room_1 s m #[Value.ref bb] below meth c H locs 600000 7290000 (lw_Z below #[Value.ref bb] s) (F0 m 490 ls [])) : W p l e room_1 s m #[Value.ref bb] below meth c H locs 600000 7290000 (lw_Z below #[Value.ref bb] s) (F0 m 421 ls []) := by
  obtain ⟨hx, hb, hr, hml, hown, hts0, hX, hbl, hlocks, hgv⟩ := C0
  have hts : ∀ w ∈ lw_all, w.before #[Value.ref bb] s = true := fun w h => hts0 w (lw_all_tbl h)
  have hbA : ¬ (fun q : Nat => s.heap.size ≤ q) bb := Nat.not_le.mpr hbl
  obtain ⟨f, n, f', n', S, S', post, w, post', w', ⟨hf1, hf2, hf3, hf4⟩, hM1, hM2, hw, fin⟩ := h2
  refine lv_aload_n hx hb dL_law_421 rfl (lv_at hl 1 rfl) ?_
  refine mu_callV (As := []) (rest := []) ⟨hx, hb, hml, hown, hts⟩ hK hM1 (cwV 0 hts (lw_V q170 q119 q120 q21 q121) rfl rfl rfl (by decide +kernel) ⟨hf1, by show 8 + (3 + 11) + n ≤ 296; omega⟩) (va_recv hK hPX (ci := 0) (q0 := 0) rfl rfl) rfl hl.1 rfl (Nat.le_of_ble_eq_true rfl) dL_law_422 ⟨Nat.le_refl _, Nat.le_refl _⟩ hS (tL_A7 hok) (fun r1 u1 H1 locs1 hp1 hPX1 _ hk1 hS => ?_)
  have hPM1 := tL_keepM hok hPM hk1
  refine lv_aload_n hx hb dL_law_425 rfl (lv_at hl 2 rfl) ?_
  refine mu_callV (As := []) (rest := [.int r1]) ⟨hx, hb, hml, hown, hts⟩ hK (hM2 H1 hPM1) (cwV 0 hts (lw_V q278 q279 q280 q22 q281) rfl rfl rfl (by decide +kernel) ⟨hf3, by show 8 + (3 + 11) + n' ≤ 296; omega⟩) (va_recv hK hPM1 (ci := 1) (q0 := 0) rfl rfl) rfl hl.1 rfl (Nat.le_of_ble_eq_true rfl) dL_law_426 ⟨Nat.le_refl _, Nat.le_refl _⟩ hS (tL_A2 hok) (fun r2 u2 H2 locs2 hp2 hPM2 _ hk2 hS => ?_)
  have hPX2 := tL_keepX hok (hw u1) hPX1 hk2
  obtain ⟨hr12, hI2⟩ := fin r1 u1 r2 u2 hp1 hp2
  refine lv_icmp_eq (tgt := 490) hx hb dL_law_429 (by decide) (fun _ => ?_) (fun c_ => absurd hr12 c_)
  exact kk H2 locs2 ls (hI2 H2 hPX2 hPM2) hS hl
set_option maxHeartbeats 4000000 in
set_option maxRecDepth 100000 in
/-- the case depth -/
theorem lo_depth {p : Program} {e : Env} {s : State} {m : MethodId} {below : List Frame} {meth : Method} {c : Code} (l : Launch) {bb L : Nat} {xs : Nat → Int32} (hL : L ≤ 320) (C0 : lw_At p s m meth c bb L xs) {D : va_G} {dB dZ : ClassId} (hK : tcK D dB dZ s) {a b : Nat → Nat} (hok : tL_ok a b (fun q : Nat => s.heap.size ≤ q)) {i : Nat} (hi : i + 5 ≤ L) {H : Heap} {locs : List Loc} {hs : Nat → Bool} {C X N K B M : Nat → Nat} (hPX : va_P D vwCl (wX a dB C X N K B M) H) (hPM : va_P D vwCl (wM b dZ hs) H) (hS : va_S (fun q : Nat => s.heap.size ≤ q) s.heap H locs) (h2 : tL_2 l D dB dZ a b hs H yX0_depth cX0_depth 5 yX1_depth cX1_depth 5 (some .int) [.int (xs (i + 1)), .int (xs (i + 2))]) {ls : Array Slot} (hl : lv_has ls 4 [(0, .ref bb), (1, .ref (a 0)), (2, .ref (b 0)), (3, .int (nI i))])
    (kk : ∀ (H : Heap) (locs : List Loc) (ls : Array Slot), tL_I D dB dZ a b H → va_S (fun q : Nat => s.heap.size ≤ q) s.heap H locs → lv_has ls 4 [(0, .ref bb), (1, .ref (a 0)), (2, .ref (b 0)), (3, .int (nI i))] → W p l e room_1 s m #[Value.ref bb] below meth c H locs 600000 7290000 (lw_Z below #[Value.ref bb] s) (F0 m 490 ls [])) : W p l e room_1 s m #[Value.ref bb] below meth c H locs 600000 7290000 (lw_Z below #[Value.ref bb] s) (F0 m 434 ls []) := by
  obtain ⟨hx, hb, hr, hml, hown, hts0, hX, hbl, hlocks, hgv⟩ := C0
  have hts : ∀ w ∈ lw_all, w.before #[Value.ref bb] s = true := fun w h => hts0 w (lw_all_tbl h)
  have hbA : ¬ (fun q : Nat => s.heap.size ≤ q) bb := Nat.not_le.mpr hbl
  obtain ⟨f, n, f', n', S, S', post, w, post', w', ⟨hf1, hf2, hf3, hf4⟩, hM1, hM2, hw, fin⟩ := h2
  refine lv_aload_n hx hb dL_law_434 rfl (lv_at hl 1 rfl) ?_
  refine lv_aload_n hx hb dL_law_435 rfl (lv_at hl 0 rfl) ?_
  refine lv_iload_n hx hb dL_law_436 rfl (lv_at hl 3 rfl) ?_
  refine lv_iconst (v := nI 1) hx hb dL_law_437 (by decide) ?_
  refine tc_iadd hx hb dL_law_438 ?_
  refine va_sld hx hb hX hbl hbA hS (vp_in_nI (by omega) (by omega)) dL_law_439 ?_
  refine tc_top (congrArg xs (nI_clamp (by omega))) ?_
  refine lv_aload_n hx hb dL_law_440 rfl (lv_at hl 0 rfl) ?_
  refine lv_iload_n hx hb dL_law_441 rfl (lv_at hl 3 rfl) ?_
  refine lv_iconst (v := nI 2) hx hb dL_law_442 (by decide) ?_
  refine tc_iadd hx hb dL_law_443 ?_
  refine va_sld hx hb hX hbl hbA hS (vp_in_nI (by omega) (by omega)) dL_law_444 ?_
  refine tc_top (congrArg xs (nI_clamp (by omega))) ?_
  refine mu_callV (As := [.int (xs (i + 1)), .int (xs (i + 2))]) (rest := []) ⟨hx, hb, hml, hown, hts⟩ hK hM1 (cwV 2 hts (lw_V q171 q172 q173 q21 q174) rfl rfl rfl (by decide +kernel) ⟨hf1, by show 8 + (5 + 11) + n ≤ 296; omega⟩) (va_recv hK hPX (ci := 0) (q0 := 0) rfl rfl) rfl hl.1 rfl (Nat.le_of_ble_eq_true rfl) dL_law_445 ⟨Nat.le_refl _, Nat.le_refl _⟩ hS (tL_A7 hok) (fun r1 u1 H1 locs1 hp1 hPX1 _ hk1 hS => ?_)
  have hPM1 := tL_keepM hok hPM hk1
  refine lv_aload_n hx hb dL_law_448 rfl (lv_at hl 2 rfl) ?_
  refine lv_aload_n hx hb dL_law_449 rfl (lv_at hl 0 rfl) ?_
  refine lv_iload_n hx hb dL_law_450 rfl (lv_at hl 3 rfl) ?_
  refine lv_iconst (v := nI 1) hx hb dL_law_451 (by decide) ?_
  refine tc_iadd hx hb dL_law_452 ?_
  refine va_sld hx hb hX hbl hbA hS (vp_in_nI (by omega) (by omega)) dL_law_453 ?_
  refine tc_top (congrArg xs (nI_clamp (by omega))) ?_
  refine lv_aload_n hx hb dL_law_454 rfl (lv_at hl 0 rfl) ?_
  refine lv_iload_n hx hb dL_law_455 rfl (lv_at hl 3 rfl) ?_
  refine lv_iconst (v := nI 2) hx hb dL_law_456 (by decide) ?_
  refine tc_iadd hx hb dL_law_457 ?_
  refine va_sld hx hb hX hbl hbA hS (vp_in_nI (by omega) (by omega)) dL_law_458 ?_
  refine tc_top (congrArg xs (nI_clamp (by omega))) ?_
  refine mu_callV (As := [.int (xs (i + 1)), .int (xs (i + 2))]) (rest := [.int r1]) ⟨hx, hb, hml, hown, hts⟩ hK (hM2 H1 hPM1) (cwV 2 hts (lw_V q282 q283 q284 q22 q285) rfl rfl rfl (by decide +kernel) ⟨hf3, by show 8 + (5 + 11) + n' ≤ 296; omega⟩) (va_recv hK hPM1 (ci := 1) (q0 := 0) rfl rfl) rfl hl.1 rfl (Nat.le_of_ble_eq_true rfl) dL_law_459 ⟨Nat.le_refl _, Nat.le_refl _⟩ hS (tL_A2 hok) (fun r2 u2 H2 locs2 hp2 hPM2 _ hk2 hS => ?_)
  have hPX2 := tL_keepX hok (hw u1) hPX1 hk2
  obtain ⟨hr12, hI2⟩ := fin r1 u1 r2 u2 hp1 hp2
  refine lv_icmp_eq (tgt := 490) hx hb dL_law_462 (by decide) (fun _ => ?_) (fun c_ => absurd hr12 c_)
  exact kk H2 locs2 ls (hI2 H2 hPX2 hPM2) hS hl
set_option maxHeartbeats 4000000 in
set_option maxRecDepth 100000 in
/-- the case room -/
theorem lo_room {p : Program} {e : Env} {s : State} {m : MethodId} {below : List Frame} {meth : Method} {c : Code} (l : Launch) {bb L : Nat} {xs : Nat → Int32} (hL : L ≤ 320) (C0 : lw_At p s m meth c bb L xs) {D : va_G} {dB dZ : ClassId} (hK : tcK D dB dZ s) {a b : Nat → Nat} (hok : tL_ok a b (fun q : Nat => s.heap.size ≤ q)) {i : Nat} (hi : i + 5 ≤ L) {H : Heap} {locs : List Loc} {hs : Nat → Bool} {C X N K B M : Nat → Nat} (hPX : va_P D vwCl (wX a dB C X N K B M) H) (hPM : va_P D vwCl (wM b dZ hs) H) (hS : va_S (fun q : Nat => s.heap.size ≤ q) s.heap H locs) (h2 : tL_2 l D dB dZ a b hs H yX0_room cX0_room 4 yX1_room cX1_room 4 (some .int) [.int (xs (i + 1))]) {ls : Array Slot} (hl : lv_has ls 4 [(0, .ref bb), (1, .ref (a 0)), (2, .ref (b 0)), (3, .int (nI i))])
    (kk : ∀ (H : Heap) (locs : List Loc) (ls : Array Slot), tL_I D dB dZ a b H → va_S (fun q : Nat => s.heap.size ≤ q) s.heap H locs → lv_has ls 4 [(0, .ref bb), (1, .ref (a 0)), (2, .ref (b 0)), (3, .int (nI i))] → W p l e room_1 s m #[Value.ref bb] below meth c H locs 600000 7290000 (lw_Z below #[Value.ref bb] s) (F0 m 490 ls [])) : W p l e room_1 s m #[Value.ref bb] below meth c H locs 600000 7290000 (lw_Z below #[Value.ref bb] s) (F0 m 467 ls []) := by
  obtain ⟨hx, hb, hr, hml, hown, hts0, hX, hbl, hlocks, hgv⟩ := C0
  have hts : ∀ w ∈ lw_all, w.before #[Value.ref bb] s = true := fun w h => hts0 w (lw_all_tbl h)
  have hbA : ¬ (fun q : Nat => s.heap.size ≤ q) bb := Nat.not_le.mpr hbl
  obtain ⟨f, n, f', n', S, S', post, w, post', w', ⟨hf1, hf2, hf3, hf4⟩, hM1, hM2, hw, fin⟩ := h2
  refine lv_aload_n hx hb dL_law_467 rfl (lv_at hl 1 rfl) ?_
  refine lv_aload_n hx hb dL_law_468 rfl (lv_at hl 0 rfl) ?_
  refine lv_iload_n hx hb dL_law_469 rfl (lv_at hl 3 rfl) ?_
  refine lv_iconst (v := nI 1) hx hb dL_law_470 (by decide) ?_
  refine tc_iadd hx hb dL_law_471 ?_
  refine va_sld hx hb hX hbl hbA hS (vp_in_nI (by omega) (by omega)) dL_law_472 ?_
  refine tc_top (congrArg xs (nI_clamp (by omega))) ?_
  refine mu_callV (As := [.int (xs (i + 1))]) (rest := []) ⟨hx, hb, hml, hown, hts⟩ hK hM1 (cwV 1 hts (lw_V q175 q176 q177 q21 q178) rfl rfl rfl (by decide +kernel) ⟨hf1, by show 8 + (4 + 11) + n ≤ 296; omega⟩) (va_recv hK hPX (ci := 0) (q0 := 0) rfl rfl) rfl hl.1 rfl (Nat.le_of_ble_eq_true rfl) dL_law_473 ⟨Nat.le_refl _, Nat.le_refl _⟩ hS (tL_A7 hok) (fun r1 u1 H1 locs1 hp1 hPX1 _ hk1 hS => ?_)
  have hPM1 := tL_keepM hok hPM hk1
  refine lv_aload_n hx hb dL_law_476 rfl (lv_at hl 2 rfl) ?_
  refine lv_aload_n hx hb dL_law_477 rfl (lv_at hl 0 rfl) ?_
  refine lv_iload_n hx hb dL_law_478 rfl (lv_at hl 3 rfl) ?_
  refine lv_iconst (v := nI 1) hx hb dL_law_479 (by decide) ?_
  refine tc_iadd hx hb dL_law_480 ?_
  refine va_sld hx hb hX hbl hbA hS (vp_in_nI (by omega) (by omega)) dL_law_481 ?_
  refine tc_top (congrArg xs (nI_clamp (by omega))) ?_
  refine mu_callV (As := [.int (xs (i + 1))]) (rest := [.int r1]) ⟨hx, hb, hml, hown, hts⟩ hK (hM2 H1 hPM1) (cwV 1 hts (lw_V q286 q287 q288 q22 q289) rfl rfl rfl (by decide +kernel) ⟨hf3, by show 8 + (4 + 11) + n' ≤ 296; omega⟩) (va_recv hK hPM1 (ci := 1) (q0 := 0) rfl rfl) rfl hl.1 rfl (Nat.le_of_ble_eq_true rfl) dL_law_482 ⟨Nat.le_refl _, Nat.le_refl _⟩ hS (tL_A2 hok) (fun r2 u2 H2 locs2 hp2 hPM2 _ hk2 hS => ?_)
  have hPX2 := tL_keepX hok (hw u1) hPX1 hk2
  obtain ⟨hr12, hI2⟩ := fin r1 u1 r2 u2 hp1 hp2
  refine lv_icmp_eq (tgt := 490) hx hb dL_law_485 (by decide) (fun _ => ?_) (fun c_ => absurd hr12 c_)
  exact kk H2 locs2 ls (hI2 H2 hPX2 hPM2) hS hl
end
section
/-! THE LAW: its loop -/
theorem tL_and15 (y : Int32) : ∃ k, k < 16 ∧ y &&& nI 15 = nI k := by
  refine ⟨(y.toBitVec &&& 15#32).toNat, ?_, ?_⟩
  · rw [BitVec.toNat_and]
    exact Nat.lt_of_le_of_lt Nat.and_le_right (by decide)
  · apply Int32.toBitVec_inj.1
    show y.toBitVec &&& BitVec.ofNat 32 15 = BitVec.ofNat 32 (y.toBitVec &&& 15#32).toNat
    rw [BitVec.ofNat_toNat, BitVec.setWidth_eq]
theorem tL_neg : ∀ n, n < 5 → nI n - nI 5 < nI 0 := by decide +kernel
theorem tL_inc5 (n : Nat) : nI n + Int32.ofInt 5 = nI (n + 5) := nI_add n 5
theorem tL_16 {k : Nat} (h : k < 16) : k = 0 ∨ k = 1 ∨ k = 2 ∨ k = 3 ∨ k = 4 ∨ k = 5 ∨ k = 6 ∨ k = 7 ∨ k = 8 ∨ k = 9 ∨ k = 10 ∨ k = 11 ∨ k = 12 ∨ k = 13 ∨ k = 14 ∨ k = 15 := by omega
set_option maxHeartbeats 4000000 in
set_option maxRecDepth 100000 in
theorem lo_loop {p : Program} {e : Env} {s : State} {m : MethodId} {below : List Frame} {meth : Method} {c : Code} (l : Launch) {bb L : Nat} {xs : Nat → Int32} (hL : L ≤ 320) (C0 : lw_At p s m meth c bb L xs) {D : va_G} {dB dZ : ClassId} (hK : tcK D dB dZ s) {a b : Nat → Nat} (hok : tL_ok a b (fun q : Nat => s.heap.size ≤ q)) :
    ∀ (n i : Nat), L < i + n → (i = 0 ∨ 5 ≤ L) → i ≤ L → ∀ (H : Heap) (locs : List Loc) (ls : Array Slot), tL_I D dB dZ a b H → va_S (fun q : Nat => s.heap.size ≤ q) s.heap H locs → lv_has ls 4 [(0, .ref bb), (1, .ref (a 0)), (2, .ref (b 0)), (3, .int (nI i))] → W p l e room_1 s m #[Value.ref bb] below meth c H locs 600000 7290000 (lw_Z below #[Value.ref bb] s) (F0 m 18 ls []) := by
  intro n
  induction n with
  | zero =>
    intro i h1 h2 h3
    omega
  | succ n ih =>
    intro i hn h5 hle H locs ls hI hS hl
    obtain ⟨hx, hb, hr, hml, hown, hts0, hX, hbl, hlocks, hgv⟩ := id C0
    have hbA : ¬ (fun q : Nat => s.heap.size ≤ q) bb := Nat.not_le.mpr hbl
    refine lv_iload_n hx hb dL_law_18 rfl (lv_at hl 3 rfl) ?_
    refine lv_aload_n hx hb dL_law_19 rfl (lv_at hl 0 rfl) ?_
    refine va_slen hx hb hX hbl hbA hS dL_law_20 ?_
    refine tc_top (y := nI L) rfl ?_
    refine lv_iconst (v := nI 5) hx hb dL_law_21 (by decide) ?_
    refine lv_isub hx hb dL_law_22 ?_
    refine lv_icmp_gt (tgt := 496) hx hb dL_law_23 (by decide) (fun c_ => ?_) (fun c_ => ?_)
    · refine lv_iconst (v := 1) hx hb dL_law_496 (by decide) ?_
      refine va_forget (fun q hq => hS.2.2 q hq) ?_
      exact lw_ret hx hb hr hlocks dL_law_497
    · have hi : i + 5 ≤ L := by
        rcases Nat.lt_or_ge L 5 with q | q
        · exfalso
          have e : i = 0 := by omega
          subst e
          exact c_ (tL_neg L q)
        · rw [pk_sub q, nI_ltI (by omega) (by omega)] at c_
          omega
      refine lv_aload_n hx hb dL_law_26 rfl (lv_at hl 0 rfl) ?_
      refine lv_iload_n hx hb dL_law_27 rfl (lv_at hl 3 rfl) ?_
      refine va_sld hx hb hX hbl hbA hS (vp_in_nI (by omega) (by omega)) dL_law_28 ?_
      refine lv_bipush (v := nI 15) hx hb dL_law_29 (by decide) ?_
      refine lv_iand hx hb dL_law_31 ?_
      obtain ⟨k, hk, ek⟩ := tL_and15 (xs (nI i).toNatClampNeg)
      refine tc_top ek ?_
      have back : ∀ (H : Heap) (locs : List Loc) (ls : Array Slot), tL_I D dB dZ a b H → va_S (fun q : Nat => s.heap.size ≤ q) s.heap H locs → lv_has ls 4 [(0, .ref bb), (1, .ref (a 0)), (2, .ref (b 0)), (3, .int (nI i))] → W p l e room_1 s m #[Value.ref bb] below meth c H locs 600000 7290000 (lw_Z below #[Value.ref bb] s) (F0 m 490 ls []) := by
        intro H locs ls hI hS hl
        refine lv_iinc (v := nI (i + 5)) (lv' := [(3, .int (nI (i + 5))), (0, .ref bb), (1, .ref (a 0)), (2, .ref (b 0))]) hx hb dL_law_490 hl (k := 3) rfl (tL_inc5 i) (by decide) rfl (fun ls hl => ?_)
        refine lv_goto (tgt := 18) hx hb dL_law_493 (by decide) ?_
        exact ih (i + 5) (by omega) (Or.inr (by omega)) hi H locs ls hI hS (lv_sub hl [1, 2, 3, 0] rfl)
      obtain ⟨C, X, N, K, B, M, hs, hPX, hPM, hI, hN, hKc, hB⟩ := hI
      rcases tL_16 hk with rfl | rfl | rfl | rfl | rfl | rfl | rfl | rfl | rfl | rfl | rfl | rfl | rfl | rfl | rfl | rfl
      · refine lv_tableIn (off := 80) (tgt := 112) hx hb dL_law_32 (by decide) (by decide) (by decide +kernel) (by decide) ?_
        exact lo_add l hL C0 hK hok hi hPX hPM hS (t2_add hPX hI hN hKc hB hok.1 hok.2.1 (xs (i + 1)) (xs (i + 2))) hl back
      · refine lv_tableIn (off := 113) (tgt := 145) hx hb dL_law_32 (by decide) (by decide) (by decide +kernel) (by decide) ?_
        exact lo_remove l hL C0 hK hok hi hPX hPM hS (t2_remove hPX hI hN hKc hB hok.1 hok.2.1 (xs (i + 1)) (xs (i + 2))) hl back
      · refine lv_tableIn (off := 146) (tgt := 178) hx hb dL_law_32 (by decide) (by decide) (by decide +kernel) (by decide) ?_
        exact lo_clear l hL C0 hK hok hi hPX hPM hS (t2_clear hPX hI hN hKc hB hok.1 hok.2.1 (xs (i + 1))) hl back
      · refine lv_tableIn (off := 169) (tgt := 201) hx hb dL_law_32 (by decide) (by decide) (by decide +kernel) (by decide) ?_
        exact lo_groups l hL C0 hK hok hi hPX hPM hS (t2_groups hPX hI hN hKc hB (xs (i + 1))) hl back
      · refine lv_tableIn (off := 192) (tgt := 224) hx hb dL_law_32 (by decide) (by decide) (by decide +kernel) (by decide) ?_
        exact lo_join l hL C0 hK hok hi hPX hPM hS (t2_join hPX hI hN hKc hB (xs (i + 1)) (xs (i + 2))) hl back
      · refine lv_tableIn (off := 225) (tgt := 257) hx hb dL_law_32 (by decide) (by decide) (by decide +kernel) (by decide) ?_
        exact lo_says l hL C0 hK hok hi hPX hPM hS (t2_says hPX hI hN hKc hB (xs (i + 1)) (xs (i + 2)) (xs (i + 3)) (xs (i + 4))) hl back
      · refine lv_tableIn (off := 278) (tgt := 310) hx hb dL_law_32 (by decide) (by decide) (by decide +kernel) (by decide) ?_
        exact lo_decided l hL C0 hK hok hi hPX hPM hS (t2_decided hPX hI hN hKc hB (xs (i + 1))) hl back
      · refine lv_tableIn (off := 301) (tgt := 333) hx hb dL_law_32 (by decide) (by decide) (by decide +kernel) (by decide) ?_
        exact lo_groupDistance l hL C0 hK hok hi hPX hPM hS (t2_groupDistance hPX hI hN hKc hB) hl back
      · refine lv_tableIn (off := 314) (tgt := 346) hx hb dL_law_32 (by decide) (by decide) (by decide +kernel) (by decide) ?_
        exact lo_tripleDistance l hL C0 hK hok hi hPX hPM hS (t2_tripleDistance hPX hI hN hKc hB) hl back
      · refine lv_tableIn (off := 327) (tgt := 359) hx hb dL_law_32 (by decide) (by decide) (by decide +kernel) (by decide) ?_
        exact lo_agreement l hL C0 hK hok hi hPX hPM hS (t2_agreement hPX hI hN hKc hB hok.1) hl back
      · refine lv_tableIn (off := 340) (tgt := 372) hx hb dL_law_32 (by decide) (by decide) (by decide +kernel) (by decide) ?_
        exact lo_agreeingSet l hL C0 hK hok hi hPX hPM hS (t2_agreeingSet hPX hI hN hKc hB hok.1) hl back
      · refine lv_tableIn (off := 353) (tgt := 385) hx hb dL_law_32 (by decide) (by decide) (by decide +kernel) (by decide) ?_
        exact lo_agree l hL C0 hK hok hi hPX hPM hS (t2_agree hPX hI hN hKc hB (xs (i + 1))) hl back
      · refine lv_tableIn (off := 376) (tgt := 408) hx hb dL_law_32 (by decide) (by decide) (by decide +kernel) (by decide) ?_
        exact lo_together l hL C0 hK hok hi hPX hPM hS (t2_together hPX hI hN hKc hB) hl back
      · refine lv_tableIn (off := 389) (tgt := 421) hx hb dL_law_32 (by decide) (by decide) (by decide +kernel) (by decide) ?_
        exact lo_common l hL C0 hK hok hi hPX hPM hS (t2_common hPX hI hN hKc hB) hl back
      · refine lv_tableIn (off := 402) (tgt := 434) hx hb dL_law_32 (by decide) (by decide) (by decide +kernel) (by decide) ?_
        exact lo_depth l hL C0 hK hok hi hPX hPM hS (t2_depth hPX hI hN hKc hB (xs (i + 1)) (xs (i + 2))) hl back
      · refine lv_tableIn (off := 435) (tgt := 467) hx hb dL_law_32 (by decide) (by decide) (by decide +kernel) (by decide) ?_
        exact lo_room l hL C0 hK hok hi hPX hPM hS (t2_room hPX hI hN hKc hB (xs (i + 1))) hl back
end
section
/-! THE LAW: from its entry -/
theorem tL_6 {k : Nat} (h : k < 6) : k = 0 ∨ k = 1 ∨ k = 2 ∨ k = 3 ∨ k = 4 ∨ k = 5 := by omega
set_option maxHeartbeats 4000000 in
set_option maxRecDepth 100000 in
theorem whole_start {p : Program} {e : Env} {s : State} {m : MethodId} {below : List Frame} {meth : Method} {c : Code} (l : Launch) {b L : Nat} {xs : Nat → Int32} (hL : L ≤ 320) (C0 : lw_At p s m meth c b L xs) : W p l e room_1 s m #[Value.ref b] below meth c s.heap [] 0 0 (lw_Z below #[Value.ref b] s) (entryFrame m ([Value.ref b] : List Value).toArray 4) := by
  obtain ⟨hx, hb, hr, hml, hown, hts0, hX, hbl, hlocks, hgv⟩ := id C0
  have hts : ∀ w ∈ lw_all, w.before #[Value.ref b] s = true := fun w h => hts0 w (lw_all_tbl h)
  have hA : ∀ q : Nat, s.heap.size ≤ q → (fun q : Nat => s.heap.size ≤ q) q := fun _ h => h
  obtain ⟨c0, iS0, hKn0⟩ := u_known (C := RX0) (T := TX0) (N := 6) (n := 6) hts in_X0 (hts _ q24)
  obtain ⟨c1, iS1, hKn1⟩ := u_known (C := RX1) (T := TX1) (N := 1) (n := 1) hts in_X1 (hts _ q180)
  obtain ⟨dB, kB, cpB, hfB, hkB, hdB⟩ := Cond.arrayClass_spec (hts _ q50)
  obtain ⟨dZ, kZ, cpZ, hfZ, hkZ, hdZ⟩ := Cond.arrayClass_spec (hts _ q205)
  obtain ⟨D, hKc⟩ : ∃ D : va_G, ∀ (k : Nat) (q : vw_C), vwCl[k]? = some q → u_Kn s q.1 q.2.1 q.2.2 (D.1 k) (D.2 k) := by
    refine ⟨(fun k => if k = 0 then c0 else c1, fun k => if k = 0 then iS0 else iS1), ?_⟩
    intro k q hq
    match k, hq with
    | 0, hq => cases hq; exact hKn0
    | 1, hq => cases hq; exact hKn1
    | k + 2, hq => simp at hq
  have hK : tcK D dB dZ s := by
    refine ⟨hKc, fun k q h => ?_⟩
    match k, h with
    | 0, h => cases h; exact ⟨fun n z => ⟨fun k h => (by cases h), kB, hkB, cpB, hdB⟩, hfB⟩
    | 1, h => cases h; exact ⟨fun n z => ⟨fun k h => (by cases h), kZ, hkZ, cpZ, hdZ⟩, hfZ⟩
    | k + 2, h => simp at h
  have hS : va_S (fun q : Nat => s.heap.size ≤ q) s.heap s.heap [] := va_S.rf
  have hP : va_P D vwCl [] s.heap := fun k q h => by simp at h
  have hD : va_D (fun q : Nat => s.heap.size ≤ q) [] := ⟨fun i j p q h => by simp at h, fun k q h => by simp at h⟩
  have hl := lv_entry ([.ref b]) (n := 4) (Nat.le_of_ble_eq_true rfl)
  rw [lg_entry_eq]
  generalize (lg_sl ([.ref b]) ++ List.replicate (4 - (lg_sl ([.ref b])).length) Slot.unset).toArray = ls at hl ⊢
  have hl : lv_has ls 4 [(0, .ref b)] := hl
  refine va_new (ci := 0) (fs := [.null, .null, .null, .null, .null, .null]) (C := RX0) (T := TX0) (N := 6) hx hb hts in_X0 tyX0 tyX0_ok hown (hts _ q23) (hts _ q24) (hts _ q21) hK hP hD hS hA rfl (fun j hj => by rcases tL_6 hj with rfl | rfl | rfl | rfl | rfl | rfl <;> rfl) (Nat.le_of_ble_eq_true rfl) (Nat.le_of_ble_eq_true rfl) dL_law_0 (fun h0 H hP hD hS => ?_)
  have hP : va_P D vwCl [(h0, .inr (0, [.null, .null, .null, .null, .null, .null]))] H := hP
  have hA0 : s.heap.size ≤ h0 := hD.2 0 _ rfl
  refine lv_dup hx hb dL_law_3 rfl ?_
  refine va_callv (va_runI (g := F0 m 4 ls [.ref h0, .ref h0]) (As := []) (rest := [.ref h0]) ⟨hx, hb, hml, hown, hts⟩ (in_X0c l D dB dZ H h0 hP) (cwI 0 hts (lw_meth q27) rfl rfl rfl (hts _ q21) (hts _ q25) (hts _ q26) rfl (by decide +kernel) ⟨Nat.le_of_ble_eq_true rfl, Nat.le_of_ble_eq_true rfl⟩) ⟨fun a U g mk q => ⟨q.1, q.2.1, va_K.moved (u := U) (U := U.calling g mk a) (Vm.Alike.refl U.vm) q.2.2⟩, fun U hU hW => ⟨rfl, hU, va_K.moved hW.alike hK⟩⟩ rfl rfl hl.1 rfl (lv_room (Nat.le_of_ble_eq_true rfl)) dL_law_4 ⟨Nat.le_of_ble_eq_true rfl, Nat.le_of_ble_eq_true rfl⟩) hS (fun q _ h => h.elim (fun h => by rw [h]; exact hA0) (fun h => Nat.le_trans hS.1 h)) (fun q h => h.elim (fun h => by rw [h]; exact hA0) (fun h => Nat.le_trans hS.1 h)) (fun a t H1 locs ht _ hw hB hz1 hk1 hS1 => ?_)
  obtain ⟨ha0, hap, hai⟩ := hw
  have hPX : va_P D vwCl (wX a dB z0 z0 z0 z0 z0 z0) H1 := by
    rw [← ht]
    exact hB
  have haA : ∀ i, i < 7 → s.heap.size ≤ a i := by
    intro i hi
    by_cases e : i = 0
    · rw [e, ha0]; exact hA0
    · exact Nat.le_trans hS.1 (hai i (by omega) hi)
  have hDX : va_D (fun q : Nat => s.heap.size ≤ q) (wX a dB z0 z0 z0 z0 z0 z0) := (tc_DX hap).weaken (fun k q hk h => by
    obtain ⟨i, hi, e⟩ := h
    rw [e]
    exact haA i hi)
  refine lv_astore_n (lv' := [(1, .ref h0), (0, .ref b)]) hx hb dL_law_7 rfl hl (by decide) rfl (fun ls hl => ?_)
  refine va_new (ci := 1) (fs := [.null]) (C := RX1) (T := TX1) (N := 1) hx hb hts in_X1 tyX1 tyX1_ok hown (hts _ q179) (hts _ q180) (hts _ q22) hK hPX hDX hS1 hA rfl (fun j hj => by rcases (show j = 0 by omega) with rfl; rfl) (Nat.le_of_ble_eq_true rfl) (Nat.le_of_ble_eq_true rfl) dL_law_8 (fun h1 H2 hP2 hD2 hS2 => ?_)
  have hPX2 : va_P D vwCl (wX a dB z0 z0 z0 z0 z0 z0) H2 := hP2.sub [0, 1, 2, 3, 4, 5, 6] rfl
  have hPM2 : va_P D vwCl [(h1, .inr (1, [.null]))] H2 := hP2.sub [7] rfl
  have hA1 : s.heap.size ≤ h1 := hD2.2 7 _ rfl
  have hne : ∀ i, i < 7 → a i ≠ h1 := by
    intro i hi e
    have at_ : ∃ x, (wX a dB z0 z0 z0 z0 z0 z0 ++ [(h1, .inr (1, [.null]))])[i]? = some (a i, x) := by
      match i, hi with
      | 0, _ => exact ⟨_, rfl⟩
      | 1, _ => exact ⟨_, rfl⟩
      | 2, _ => exact ⟨_, rfl⟩
      | 3, _ => exact ⟨_, rfl⟩
      | 4, _ => exact ⟨_, rfl⟩
      | 5, _ => exact ⟨_, rfl⟩
      | 6, _ => exact ⟨_, rfl⟩
      | k + 7, h => omega
    obtain ⟨x, hx'⟩ := at_
    have := hD2.1 i 7 _ _ hx' rfl e
    omega
  have halt : ∀ i, i < 7 → a i < H2.size := by
    intro i hi
    have at_ : ∃ x, (wX a dB z0 z0 z0 z0 z0 z0)[i]? = some (a i, x) := by
      match i, hi with
      | 0, _ => exact ⟨_, rfl⟩
      | 1, _ => exact ⟨_, rfl⟩
      | 2, _ => exact ⟨_, rfl⟩
      | 3, _ => exact ⟨_, rfl⟩
      | 4, _ => exact ⟨_, rfl⟩
      | 5, _ => exact ⟨_, rfl⟩
      | 6, _ => exact ⟨_, rfl⟩
      | k + 7, h => omega
    obtain ⟨x, hx'⟩ := at_
    exact (hPX2 i _ hx').lt
  refine lv_dup hx hb dL_law_11 rfl ?_
  refine va_callv (va_runI (g := F0 m 12 ls [.ref h1, .ref h1]) (As := []) (rest := [.ref h1]) ⟨hx, hb, hml, hown, hts⟩ (in_X1c l D dB dZ H2 h1 hPM2) (cwI 0 hts (lw_meth q183) rfl rfl rfl (hts _ q22) (hts _ q181) (hts _ q182) rfl (by decide +kernel) ⟨Nat.le_of_ble_eq_true rfl, Nat.le_of_ble_eq_true rfl⟩) ⟨fun a U g mk q => ⟨q.1, q.2.1, va_K.moved (u := U) (U := U.calling g mk a) (Vm.Alike.refl U.vm) q.2.2⟩, fun U hU hW => ⟨rfl, hU, va_K.moved hW.alike hK⟩⟩ rfl rfl hl.1 rfl (lv_room (Nat.le_of_ble_eq_true rfl)) dL_law_12 ⟨Nat.le_of_ble_eq_true rfl, Nat.le_of_ble_eq_true rfl⟩) hS2 (fun q _ h => h.elim (fun h => by rw [h]; exact hA1) (fun h => Nat.le_trans hS2.1 h)) (fun q h => h.elim (fun h => by rw [h]; exact hA1) (fun h => Nat.le_trans hS2.1 h)) (fun u t3 H3 locs3 ht3 _ hw3 hB3 hz3 hk3 hS3 => ?_)
  obtain ⟨hu0, hup, hu1, hug⟩ := hw3
  have hPM3 : va_P D vwCl (wM u.1 dZ u.2) H3 := by
    rw [← ht3]
    exact hB3
  have hPX3 : va_P D vwCl (wX a dB z0 z0 z0 z0 z0 z0) H3 := hPX2.kept (fun k x hkx => by
    obtain ⟨k1, k2⟩ := tc_wX k x hkx
    rw [k2]
    refine hk3 _ (halt k k1) (fun h => ?_)
    rcases h with h | h
    · exact hne k k1 h
    · exact absurd h (Nat.not_le.mpr (halt k k1)))
  have hok : tL_ok a u.1 (fun q : Nat => s.heap.size ≤ q) := by
    refine ⟨hap, hup, fun i j hi hj e => ?_, haA, fun j hj => ?_⟩
    · rcases (show j = 0 ∨ j = 1 by omega) with rfl | rfl
      · exact hne i hi (e.trans hu0)
      · have := halt i hi
        omega
    · rcases (show j = 0 ∨ j = 1 by omega) with rfl | rfl
      · show s.heap.size ≤ u.1 0
        rw [hu0]; exact hA1
      · exact Nat.le_trans hS2.1 hu1
  refine lv_astore_n (lv' := [(2, .ref h1), (1, .ref h0), (0, .ref b)]) hx hb dL_law_15 rfl hl (by decide) rfl (fun ls hl => ?_)
  refine lv_iconst (v := nI 0) hx hb dL_law_16 (by decide) ?_
  refine lv_istore_n (lv' := [(3, .int (nI 0)), (2, .ref h1), (1, .ref h0), (0, .ref b)]) hx hb dL_law_17 rfl hl (by decide) rfl (fun ls hl => ?_)
  have hl : lv_has ls 4 [(0, .ref b), (1, .ref h0), (2, .ref h1), (3, .int (nI 0))] := lv_sub hl [3, 2, 1, 0] rfl
  rw [← ha0, ← hu0] at hl
  refine W.widen (k := 600000) (n := 7290000) (Nat.le_of_ble_eq_true rfl) (Nat.le_of_ble_eq_true rfl) ?_
  exact lo_loop l hL C0 hK hok (L + 1) 0 (by omega) (Or.inl rfl) (Nat.zero_le _) H3 locs3 ls ⟨z0, z0, z0, z0, z0, z0, u.2, hPX3, hPM3, tI_init hug, fun _ => (show (0 : Nat) < 128 by decide), fun _ => Nat.zero_le _, fun _ => Nat.zero_le _⟩ hS3 hl
end
section
set_option maxHeartbeats 4000000 in
theorem lw_walk (l : Launch) (b : Addr) (xs : List Int32) : MetFree l x (headSpec (Jvm.Cond.code x code maxLocals ret :: tables_1) room_1) (lw_P b xs) (fun _ _ _ _ _ => True) lw_Q := by
  refine MetFree.of_bodyS (code := code) (maxLocals := maxLocals) (ret := ret) (by decide) ?_ ?_
  · intro args s m h hn
    obtain ⟨meth, c, h1, h2, h3, h4, h5, h6, -, -⟩ := Cond.code_spec hn (atoms_spec (ws := Jvm.Cond.code x code maxLocals ret :: tables_1) h _ List.mem_cons_self)
    exact ⟨meth, c, h1, h2, h3, h4, h5, h6⟩
  · intro p e s m args below meth c s₁ B hml0 hP _
    obtain ⟨rfl, hx, hbd, hgv⟩ := hP
    obtain ⟨scr, harrAt, hlist, hof, hsmall⟩ := hx
    obtain ⟨hcb, hkn, -, -⟩ := State.arrayAt?_spec harrAt
    have hown : s.vm.findClass R_law = some m.cls := findClass_of_methodNamed B.named
    have hts0 : ∀ c ∈ (Jvm.Cond.code x code maxLocals ret :: tables_1), c.before #[Value.ref b] s = true := atoms_spec (ws := Jvm.Cond.code x code maxLocals ret :: tables_1) B.pre
    have hts : ∀ w ∈ lw_tbl, w.before #[Value.ref b] s = true := k2_hts_sels lw_privs (fun w hw => hts0 w (List.mem_cons_of_mem _ hw)) lw_privs_ok
    have hml : c.maxLocals = 4 := B.maxLocals_eq (hts0 _ List.mem_cons_self)
    have X₀ : Stand p l e room_1 s m #[Value.ref b] below meth c s₁ [] 0 0 := Stand.of_body B
    have hh0 : s₁.heap = s.heap := by rw [B.state]; rfl
    have hsz : scr.slots.size = xs.length := by rw [← Array.length_toList, hlist, List.length_map]
    have hval : ∀ j : Nat, j < xs.length → scr.slots[j]? = some (.int (xs.getD j 0)) := fun j hj => by
      rw [← Array.getElem?_toList, hlist]
      simp [hj]
    have hbl : b < s.heap.size := (Array.getElem?_eq_some_iff.mp hcb).1
    have hX : va_X b xs.length (fun j => xs.getD j 0) s s.heap := ⟨scr, hcb, hof, hkn, hsz, hval⟩
    have K : W p l e room_1 s m #[Value.ref b] below meth c s₁.heap [] 0 0 (lw_Z below #[Value.ref b] s) (entryFrame m ([Value.ref b] : List Value).toArray 4) := by
      rw [hh0]
      exact whole_start l hbd ⟨B.exec, B.bytes, B.returns, hml, hown, hts, hX, hbl, B.notSynchronized, hgv⟩
    obtain ⟨t, a1, o, b1, b2, b3⟩ := K s₁ rfl X₀
    exact ⟨t, o, a1, b1, b2, b3⟩
theorem lw_pre_spec {args : Array Value} {s : State} (h : (Jvm.Cond.and given_1 narrow_1).before args s = true) (hr : rest_1_c.before args s = true) : ∃ (b : Addr) (xs : List Int32), lw_P b xs args s := by
  have hs := flat_of_before _ h
  have hq := flat_of_before _ hr
  have hc : (Cond.count 1).before args s = true := hs _ (by decide +kernel)
  have harr : (Cond.arrayOf (.arg 0) .int).before args s = true := hs _ (by decide +kernel)
  have hle : (Cond.le (.length (.arg 0)) (.int 320)).before args s = true := hs _ (by decide +kernel)
  have hlen : (Cond.isInt (.length (.arg 0))).before args s = true := hq _ (by decide +kernel)
  have hall : (Cond.all (.arg 0) (.isInt (.elem (.arg 0) (.index 0)))).before args s = true := hq _ (by decide +kernel)
  obtain ⟨b, xs, hb, hx⟩ := State.ints_of_pre rfl harr hlen hall
  have hsm : xs.length < 2 ^ 31 := hx.choose_spec.2.2.2
  have hev : (Term.length (.arg 0)).eval args s none [] s = some (.int xs.length.toInt32) := hx.length_eval hb
  have hv := Cond.le_ints hev (show (Term.int 320).eval args s none [] s = some (.int 320) from rfl)
  have hd : xs.length.toInt32 ≤ 320 := by
    simpa [Cond.before, Cond.holds, hv] using hle
  have hN : xs.length ≤ 320 := (Int32.ofNat_le_ofNat hsm (by decide)).mp (show Int32.ofNat xs.length ≤ Int32.ofNat 320 from hd)
  exact ⟨b, xs, Cond.one_arg hc (show args[0]? = some (.ref b) from hb), hx, hN, h⟩
theorem lw_comes (l : Launch) : Comes l x (Jvm.Cond.code x code maxLocals ret :: tables_1) room_1 (fun tb e args s => Calls_1 tb e args s ∧ rest_1 tb e args s ∧ Pre_1 tb e args s)
    (fun _ _ args s o t => lw_Q args s o t) := by
  intro p e ha hc hk s m args below hf hfit hheap happ hpre
  obtain ⟨b, xs, hP⟩ := lw_pre_spec hpre.2.2 hpre.2.1
  obtain ⟨k, o, h1, h2, h3, hQ⟩ := lw_walk l b xs p e ha hc hk s m args below hf ((Spec.applies_iff_loose hf).mp happ).1 hP trivial
  exact ⟨k, o, h1, h2, h3, hQ⟩
theorem lw_frame {s t : State} {o : Outcome} {args : Array Value} (h : Framed s o t [] 600000 7290000) :
    Framed s o t (fieldLocs frame_1_writes args s ++ arrayLocs frame_1_arrays args s ++ staticLocs frame_1_statics s) 600000 7290000 := h
theorem lw_limb (L : Cond) (hL : ∀ (args : Array Value) (s t : State), L.after args s (.returned (some (.int 1))) t = true) :
    ArmFor flags0 classFile x code maxLocals ret World_1 tables_1 room_1 Calls_1 rest_1 Pre_1
      (fun tb e a s o t => postC L tb e a s o t ∧ Framed s o t (fieldLocs frame_1_writes a s ++ arrayLocs frame_1_arrays a s ++ staticLocs frame_1_statics s) 600000 7290000) := by
  intro l _ _ _ p e ha hc hk s m args below hf hfit hheap happ hpre
  obtain ⟨k, o, h1, h2, h3, rfl, hF⟩ := lw_comes l p e ha hc hk s m args below hf hfit hheap happ hpre
  exact ⟨k, _, h1, h2, h3, hL args s _, lw_frame hF⟩
theorem i_vc : Claimed_1_1 ∧ Claimed_1_2 := ⟨lw_limb limb_1_1 (fun args s t => by simp [limb_1_1, Cond.after, Cond.holds, Cond.value]), lw_limb limb_1_2 (fun args s t => Cond.after_iff.mpr (by
  first | (rw [show limb_1_2 = Cond.eq .result (.int 1) from rfl, Cond.eq_ints (x := 1) (y := 1) rfl rfl]; simp; done) | (simp [limb_1_2, Cond.value, Term.eval]; done)))⟩
end
